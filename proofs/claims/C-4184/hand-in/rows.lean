section
/-! ===== sets of points as masks ===== -/
/-- the point i is in the set a -/
def mt_in (i a : Nat) : Prop := a.testBit i = true
theorem mt_ext {a b : Nat} (h : ∀ i, mt_in i a ↔ mt_in i b) : a = b := by
  apply Nat.eq_of_testBit_eq
  intro i
  have q := h i
  unfold mt_in at q
  cases ha : a.testBit i <;> cases hb : b.testBit i <;> simp_all
theorem mt_in_or (i a b : Nat) : mt_in i (a ||| b) ↔ mt_in i a ∨ mt_in i b := by
  unfold mt_in; rw [Nat.testBit_or]; simp
theorem mt_in_and (i a b : Nat) : mt_in i (a &&& b) ↔ mt_in i a ∧ mt_in i b := by
  unfold mt_in; rw [Nat.testBit_and]; simp
/-- the points of a that are not in b -/
def mt_df (a b : Nat) : Nat := a &&& (a ^^^ b)
theorem mt_in_df (i a b : Nat) : mt_in i (mt_df a b) ↔ mt_in i a ∧ ¬ mt_in i b := by
  unfold mt_in mt_df
  rw [Nat.testBit_and, Nat.testBit_xor]
  cases a.testBit i <;> cases b.testBit i <;> simp
theorem mt_in_0 (i : Nat) : ¬ mt_in i 0 := by unfold mt_in; simp
theorem mt_in_one (i u : Nat) : mt_in i (2 ^ u) ↔ i = u := by
  unfold mt_in; rw [Nat.testBit_two_pow, decide_eq_true_iff]; exact eq_comm
theorem mt_in_all (i n : Nat) : mt_in i (2 ^ n - 1) ↔ i < n := by
  unfold mt_in; rw [Nat.testBit_two_pow_sub_one, decide_eq_true_iff]
theorem mt_lt {a n : Nat} : a < 2 ^ n ↔ ∀ i, mt_in i a → i < n := by
  constructor
  · intro h i hi
    apply Nat.lt_of_not_le
    intro hn
    have h2 : a < 2 ^ i := Nat.lt_of_lt_of_le h (Nat.pow_le_pow_right (by omega) hn)
    have h3 := Nat.testBit_lt_two_pow h2
    unfold mt_in at hi
    rw [h3] at hi
    exact absurd hi (by simp)
  · intro h
    apply Nat.lt_pow_two_of_testBit
    intro i hi
    have q := h i
    unfold mt_in at q
    cases hb : a.testBit i
    · rfl
    · exact absurd (q hb) (by omega)
theorem mt_ne {a : Nat} : a ≠ 0 ↔ ∃ i, mt_in i a := by
  constructor
  · intro h; exact Nat.exists_testBit_of_ne_zero h
  · intro ⟨i, hi⟩ z
    rw [z] at hi
    exact mt_in_0 i hi
/-- a is a part of b -/
def mt_sub (a b : Nat) : Prop := ∀ i, mt_in i a → mt_in i b
theorem mt_sub_le {a b : Nat} (h : mt_sub a b) : a ≤ b := by
  have e : a &&& b = a := mt_ext fun i => by
    rw [mt_in_and]
    exact ⟨fun q => q.1, fun q => ⟨q, h i q⟩⟩
  rw [← e]
  exact Nat.and_le_right
theorem mt_sub_eq {a b : Nat} (h : mt_sub a b) (k : mt_sub b a) : a = b := mt_ext fun i => ⟨h i, k i⟩
theorem mt_sub_r (a : Nat) : mt_sub a a := fun _ h => h
theorem mt_sub_t {a b c : Nat} (h : mt_sub a b) (k : mt_sub b c) : mt_sub a c := fun i q => k i (h i q)
theorem mt_sub_ne {a b : Nat} (h : mt_sub a b) (k : a ≠ b) : ∃ i, mt_in i b ∧ ¬ mt_in i a := by
  apply Classical.byContradiction
  intro z
  apply k
  apply mt_sub_eq h
  intro i hi
  apply Classical.byContradiction
  intro w
  exact z ⟨i, hi, w⟩
theorem mt_df0 {a b : Nat} : mt_df a b = 0 ↔ mt_sub a b := by
  constructor
  · intro h i hi
    apply Classical.byContradiction
    intro w
    exact mt_in_0 i (h ▸ (mt_in_df i a b).mpr ⟨hi, w⟩)
  · intro h
    apply mt_ext
    intro i
    rw [mt_in_df]
    exact ⟨fun q => absurd (h i q.1) q.2, fun q => absurd q (mt_in_0 i)⟩
theorem mt_and0 {a b : Nat} : a &&& b ≠ 0 ↔ ∃ i, mt_in i a ∧ mt_in i b := by
  rw [mt_ne]
  constructor
  · intro ⟨i, h⟩; exact ⟨i, (mt_in_and i a b).mp h⟩
  · intro ⟨i, h⟩; exact ⟨i, (mt_in_and i a b).mpr h⟩
theorem mt_andE {a b : Nat} : a &&& b = b ↔ mt_sub b a := by
  constructor
  · intro h i hi
    rw [← h, mt_in_and] at hi
    exact hi.1
  · intro h
    apply mt_ext
    intro i
    rw [mt_in_and]
    exact ⟨fun q => q.2, fun q => ⟨h i q, q⟩⟩
/-- a Prop as a Bool -/
noncomputable def mt_b (p : Prop) : Bool := @decide p (Classical.propDecidable p)
theorem mt_b_t {p : Prop} : mt_b p = true ↔ p := by
  unfold mt_b
  exact @decide_eq_true_iff p (Classical.propDecidable p)
/-- the points below n with a property, as a set -/
noncomputable def mt_mk (p : Nat → Prop) : Nat → Nat
  | 0 => 0
  | k + 1 => mt_mk p k ||| (if mt_b (p k) = true then 2 ^ k else 0)
theorem mt_in_mk (p : Nat → Prop) : ∀ n i, mt_in i (mt_mk p n) ↔ i < n ∧ p i := by
  intro n
  induction n with
  | zero => intro i; exact ⟨fun h => absurd h (mt_in_0 i), fun h => absurd h.1 (by omega)⟩
  | succ k ih =>
    intro i
    rw [mt_mk, mt_in_or, ih]
    by_cases hp : p k
    · rw [if_pos (mt_b_t.mpr hp), mt_in_one]
      constructor
      · rintro (⟨h1, h2⟩ | h)
        · exact ⟨by omega, h2⟩
        · exact ⟨by omega, h ▸ hp⟩
      · rintro ⟨h1, h2⟩
        by_cases h : i = k
        · exact Or.inr h
        · exact Or.inl ⟨by omega, h2⟩
    · rw [if_neg (fun z => hp (mt_b_t.mp z))]
      constructor
      · rintro (⟨h1, h2⟩ | h)
        · exact ⟨by omega, h2⟩
        · exact absurd h (mt_in_0 i)
      · rintro ⟨h1, h2⟩
        refine Or.inl ⟨?_, h2⟩
        apply Nat.lt_of_le_of_ne (by omega)
        intro h
        exact hp (h ▸ h2)
/-- a largest and a least number of a bounded property -/
theorem mt_max (P : Nat → Prop) : ∀ N : Nat, (∃ k, k < N ∧ P k) → ∃ k, k < N ∧ P k ∧ ∀ j, j < N → P j → j ≤ k := by
  intro N
  induction N with
  | zero => rintro ⟨k, hk, _⟩; omega
  | succ N ih =>
    rintro ⟨k, hk, pk⟩
    by_cases h : P N
    · exact ⟨N, by omega, h, fun j hj _ => by omega⟩
    · have hkN : k ≠ N := fun e => h (e ▸ pk)
      obtain ⟨m, hm, pm, hmax⟩ := ih ⟨k, by omega, pk⟩
      refine ⟨m, by omega, pm, fun j hj pj => ?_⟩
      have hjN : j ≠ N := fun e => h (e ▸ pj)
      exact hmax j (by omega) pj
theorem mt_min (P : Nat → Prop) (h : ∃ k, P k) : ∃ k, P k ∧ ∀ j, P j → k ≤ j := by
  obtain ⟨k, pk⟩ := h
  induction k using Nat.strongRecOn with
  | _ k ih =>
    by_cases q : ∃ j, j < k ∧ P j
    · obtain ⟨j, hj, pj⟩ := q
      exact ih j hj pj
    · refine ⟨k, pk, fun j pj => ?_⟩
      apply Nat.le_of_not_lt
      intro hj
      exact q ⟨j, hj, pj⟩
/-! ===== sizes ===== -/
/-- how many points below k a set has -/
def mt_sz (m : Nat) : Nat → Nat
  | 0 => 0
  | k + 1 => mt_sz m k + (if m.testBit k = true then 1 else 0)
theorem mt_sz_le {a b : Nat} (h : mt_sub a b) : ∀ k, mt_sz a k ≤ mt_sz b k := by
  intro k
  induction k with
  | zero => exact Nat.le_refl _
  | succ k ih =>
    rw [mt_sz, mt_sz]
    by_cases q : a.testBit k = true
    · have q2 : b.testBit k = true := h k q
      rw [if_pos q, if_pos q2]; omega
    · rw [if_neg q]; omega
theorem mt_sz_lt {a b : Nat} (h : mt_sub a b) {i : Nat} (h1 : mt_in i b) (h2 : ¬ mt_in i a) : ∀ k, i < k → mt_sz a k < mt_sz b k := by
  intro k
  induction k with
  | zero => intro z; omega
  | succ k ih =>
    intro hk
    rw [mt_sz, mt_sz]
    by_cases e : i = k
    · subst e
      have q1 : b.testBit i = true := h1
      have q2 : ¬ a.testBit i = true := h2
      have q3 := mt_sz_le h i
      rw [if_pos q1, if_neg q2]; omega
    · have q3 := ih (by omega)
      by_cases q : a.testBit k = true
      · have q2 : b.testBit k = true := h k q
        rw [if_pos q, if_pos q2]; omega
      · rw [if_neg q]; omega
theorem mt_sz_0 (k : Nat) : mt_sz 0 k = 0 := by
  induction k with
  | zero => rfl
  | succ k ih => rw [mt_sz, ih]; simp
theorem mt_sz_one (u : Nat) : ∀ k, mt_sz (2 ^ u) k = if u < k then 1 else 0 := by
  intro k
  induction k with
  | zero => rfl
  | succ k ih =>
    rw [mt_sz, ih, Nat.testBit_two_pow]
    by_cases h : u = k
    · subst h
      rw [if_neg (by omega), if_pos (by simp), if_pos (by omega)]
    · have q : ¬ (decide (u = k) = true) := by simp [h]
      rw [if_neg q]
      by_cases h2 : u < k
      · rw [if_pos h2, if_pos (by omega)]
      · rw [if_neg h2, if_neg (by omega)]
theorem mt_sz_up {m n : Nat} (h : m < 2 ^ n) : ∀ k, n ≤ k → mt_sz m k = mt_sz m n := by
  intro k
  induction k with
  | zero => intro hk; rw [show n = 0 by omega]
  | succ k ih =>
    intro hk
    by_cases e : n = k + 1
    · rw [e]
    · rw [mt_sz, ih (by omega)]
      have q : m.testBit k = false := Nat.testBit_lt_two_pow (Nat.lt_of_lt_of_le h (Nat.pow_le_pow_right (by omega) (by omega)))
      rw [q]; simp
theorem mt_sz_pos {m i k : Nat} (h : mt_in i m) (hi : i < k) : 0 < mt_sz m k := by
  have q := mt_sz_lt (a := 0) (b := m) (fun j hj => absurd hj (mt_in_0 j)) h (mt_in_0 i) k hi
  rw [mt_sz_0] at q
  exact q
theorem mt_sz_two {m i j k : Nat} (h : mt_in i m) (h2 : mt_in j m) (hij : i ≠ j) (hi : i < k) (hj : j < k) : 1 < mt_sz m k := by
  have q := mt_sz_lt (a := 2 ^ i) (b := m) (fun x hx => by rw [mt_in_one] at hx; exact hx ▸ h) h2 (fun z => hij ((mt_in_one j i).mp z).symm) k hj
  rw [mt_sz_one, if_pos hi] at q
  exact q
theorem mt_sz_single {m i k : Nat} (h : ∀ j, mt_in j m → j = i) : mt_sz m k ≤ 1 := by
  have q := mt_sz_le (a := m) (b := 2 ^ i) (fun x hx => (mt_in_one x i).mpr (h x hx)) k
  rw [mt_sz_one] at q
  by_cases e : i < k
  · rw [if_pos e] at q; exact q
  · rw [if_neg e] at q; omega
/-- a part that is as large is the whole -/
theorem mt_sz_eq {a b k : Nat} (h : mt_sub a b) (hb : b < 2 ^ k) (hs : mt_sz b k ≤ mt_sz a k) : a = b := by
  apply Classical.byContradiction
  intro w
  obtain ⟨i, h1, h2⟩ := mt_sub_ne h w
  have q := mt_sz_lt h h1 h2 k (mt_lt.mp hb i h1)
  omega
end
section
/-! ===== modules and strong modules ===== -/
/-- the graph: only points, no loops, both ways -/
def mt_GR (n : Nat) (g : Nat → Nat) : Prop := ∀ x y, mt_in y (g x) → x < n ∧ y < n ∧ x ≠ y ∧ mt_in x (g y)
/-- a module -/
def mt_MO (n : Nat) (g : Nat → Nat) (m : Nat) : Prop :=
  (∃ i, mt_in i m) ∧ (∀ i, mt_in i m → i < n) ∧ ∀ x, x < n → ¬ mt_in x m → ∀ a b, mt_in a m → mt_in b m → mt_in a (g x) → mt_in b (g x)
def mt_CR (a b : Nat) : Prop := (∃ i, mt_in i a ∧ mt_in i b) ∧ (∃ i, mt_in i a ∧ ¬ mt_in i b) ∧ ∃ i, mt_in i b ∧ ¬ mt_in i a
/-- a strong module -/
def mt_ST (n : Nat) (g : Nat → Nat) (m : Nat) : Prop := mt_MO n g m ∧ ∀ b, mt_MO n g b → ¬ mt_CR m b
section
variable {n : Nat} {g : Nat → Nat}
theorem mt_sy (hg : mt_GR n g) {x y : Nat} : mt_in y (g x) ↔ mt_in x (g y) := ⟨fun h => (hg x y h).2.2.2, fun h => (hg y x h).2.2.2⟩
theorem mt_CR_s {a b : Nat} (h : mt_CR a b) : mt_CR b a := by
  obtain ⟨⟨i, i1, i2⟩, h2, h3⟩ := h
  exact ⟨⟨i, i2, i1⟩, h3, h2⟩
theorem mt_MO_lt {a : Nat} (h : mt_MO n g a) : a < 2 ^ n := mt_lt.mpr h.2.1
theorem mt_MO_or {a b : Nat} (ha : mt_MO n g a) (hb : mt_MO n g b) (h : ∃ i, mt_in i a ∧ mt_in i b) : mt_MO n g (a ||| b) := by
  obtain ⟨i, hia, hib⟩ := h
  obtain ⟨_, a1, a2⟩ := ha
  obtain ⟨_, b1, b2⟩ := hb
  refine ⟨⟨i, (mt_in_or i a b).mpr (Or.inl hia)⟩, fun j hj => ?_, fun x hx hn p q hp hq he => ?_⟩
  · rw [mt_in_or] at hj
    rcases hj with h | h
    · exact a1 j h
    · exact b1 j h
  · rw [mt_in_or] at hn hp hq
    have na : ¬ mt_in x a := fun z => hn (Or.inl z)
    have nb : ¬ mt_in x b := fun z => hn (Or.inr z)
    have hi : mt_in i (g x) := by
      rcases hp with h | h
      · exact a2 x hx na p i h hia he
      · exact b2 x hx nb p i h hib he
    rcases hq with h | h
    · exact a2 x hx na i q hia h hi
    · exact b2 x hx nb i q hib h hi
theorem mt_MO_and {a b : Nat} (ha : mt_MO n g a) (hb : mt_MO n g b) (h : ∃ i, mt_in i a ∧ mt_in i b) : mt_MO n g (a &&& b) := by
  obtain ⟨i, hia, hib⟩ := h
  obtain ⟨_, a1, a2⟩ := ha
  obtain ⟨_, b1, b2⟩ := hb
  refine ⟨⟨i, (mt_in_and i a b).mpr ⟨hia, hib⟩⟩, fun j hj => a1 j ((mt_in_and j a b).mp hj).1, fun x hx hn p q hp hq he => ?_⟩
  rw [mt_in_and] at hn hp hq
  by_cases na : mt_in x a
  · exact b2 x hx (fun z => hn ⟨na, z⟩) p q hp.2 hq.2 he
  · exact a2 x hx na p q hp.1 hq.1 he
theorem mt_MO_df (hg : mt_GR n g) {a b : Nat} (ha : mt_MO n g a) (hb : mt_MO n g b) (h : mt_CR a b) : mt_MO n g (mt_df a b) := by
  obtain ⟨_, ⟨k, hk1, hk2⟩, ⟨y, hy1, hy2⟩⟩ := h
  obtain ⟨_, a1, a2⟩ := ha
  obtain ⟨_, b1, b2⟩ := hb
  refine ⟨⟨k, (mt_in_df k a b).mpr ⟨hk1, hk2⟩⟩, fun j hj => a1 j ((mt_in_df j a b).mp hj).1, fun x hx hn p q hp hq he => ?_⟩
  rw [mt_in_df] at hn hp hq
  by_cases na : mt_in x a
  · have xb : mt_in x b := Classical.byContradiction fun z => hn ⟨na, z⟩
    have e1 : mt_in x (g p) := (mt_sy hg).mp he
    have e2 : mt_in y (g p) := b2 p (a1 p hp.1) hp.2 x y xb hy1 e1
    have e3 : mt_in p (g y) := (mt_sy hg).mp e2
    have e4 : mt_in q (g y) := a2 y (b1 y hy1) hy2 p q hp.1 hq.1 e3
    have e5 : mt_in y (g q) := (mt_sy hg).mp e4
    have e6 : mt_in x (g q) := b2 q (a1 q hq.1) hq.2 y x hy1 xb e5
    exact (mt_sy hg).mp e6
  · exact a2 x hx na p q hp.1 hq.1 he
theorem mt_ST_one {u : Nat} (hu : u < n) : mt_ST n g (2 ^ u) := by
  refine ⟨⟨⟨u, (mt_in_one u u).mpr rfl⟩, fun i hi => ?_, fun x hx hn a b ha hb he => ?_⟩, fun b _ hc => ?_⟩
  · rw [mt_in_one] at hi; omega
  · rw [mt_in_one] at ha hb
    rw [hb, ← ha]; exact he
  · obtain ⟨⟨i, i1, i2⟩, ⟨j, j1, j2⟩, _⟩ := hc
    rw [mt_in_one] at i1 j1
    rw [j1, ← i1] at j2
    exact j2 i2
theorem mt_ST_all (hn : 0 < n) : mt_ST n g (2 ^ n - 1) := by
  refine ⟨⟨⟨0, (mt_in_all 0 n).mpr hn⟩, fun i hi => (mt_in_all i n).mp hi, fun x hx hn a b ha hb he => ?_⟩, fun b hb hc => ?_⟩
  · exact absurd ((mt_in_all x n).mpr hx) hn
  · obtain ⟨_, _, ⟨j, j1, j2⟩⟩ := hc
    exact j2 ((mt_in_all j n).mpr (hb.2.1 j j1))
theorem mt_ST_tri {s m i : Nat} (hs : mt_ST n g s) (hm : mt_MO n g m) (h1 : mt_in i s) (h2 : mt_in i m) : mt_sub s m ∨ mt_sub m s := by
  by_cases h : mt_sub s m
  · exact Or.inl h
  · refine Or.inr fun j hj => Classical.byContradiction fun w => ?_
    apply hs.2 m hm
    refine ⟨⟨i, h1, h2⟩, ?_, ⟨j, hj, w⟩⟩
    exact Classical.byContradiction fun z => h fun k hk => Classical.byContradiction fun w => z ⟨k, hk, w⟩
end
/-- the least strong module around x -/
def mt_LS (n : Nat) (g : Nat → Nat) (x s : Nat) : Prop := mt_ST n g s ∧ mt_sub x s ∧ ∀ t, mt_ST n g t → mt_sub x t → mt_sub s t
noncomputable def mt_cl (n : Nat) (g : Nat → Nat) (x : Nat) : Nat := Classical.epsilon (fun s => mt_LS n g x s)
/-- the least module around x -/
def mt_LM (n : Nat) (g : Nat → Nat) (x s : Nat) : Prop := mt_MO n g s ∧ mt_sub x s ∧ ∀ t, mt_MO n g t → mt_sub x t → mt_sub s t
noncomputable def mt_gm (n : Nat) (g : Nat → Nat) (x : Nat) : Nat := Classical.epsilon (fun s => mt_LM n g x s)
/-- the child of s with the point u -/
def mt_CH (n : Nat) (g : Nat → Nat) (s u c : Nat) : Prop := mt_ST n g c ∧ mt_sub c s ∧ c ≠ s ∧ mt_in u c ∧ ∀ t, mt_ST n g t → mt_sub t s → t ≠ s → mt_in u t → mt_sub t c
noncomputable def mt_ch (n : Nat) (g : Nat → Nat) (s u : Nat) : Nat := Classical.epsilon (fun c => mt_CH n g s u c)
def mt_two (s : Nat) : Prop := ∃ u v, mt_in u s ∧ mt_in v s ∧ u ≠ v
/-- all the same between the children -/
def mt_DG (n : Nat) (g : Nat → Nat) (s : Nat) : Prop := ∃ c : Prop, ∀ u v, mt_in u s → mt_in v s → ¬ mt_in v (mt_ch n g s u) → (mt_in v (g u) ↔ c)
def mt_CS (g : Nat → Nat) (s : Nat) (c : Prop) (A : Nat) : Prop := mt_sub A s ∧ ∀ x y, mt_in x A → mt_in y s → ¬ mt_in y A → (mt_in y (g x) ↔ c)
section
variable {n : Nat} {g : Nat → Nat}
theorem mt_cl_ex {x : Nat} (h : ∃ i, mt_in i x) (hx : ∀ i, mt_in i x → i < n) : mt_LS n g x (mt_cl n g x) := by
  apply Classical.epsilon_spec (p := fun s => mt_LS n g x s)
  obtain ⟨i, hi⟩ := h
  have hn : 0 < n := Nat.lt_of_le_of_lt (Nat.zero_le _) (hx i hi)
  obtain ⟨s, ⟨h1, h2⟩, h3⟩ := mt_min (fun s => mt_ST n g s ∧ mt_sub x s) ⟨2 ^ n - 1, mt_ST_all hn, fun i hi => (mt_in_all i n).mpr (hx i hi)⟩
  refine ⟨s, h1, h2, fun t ht hxt => ?_⟩
  rcases mt_ST_tri h1 ht.1 (h2 i hi) (hxt i hi) with q | q
  · exact q
  · have q1 := h3 t ⟨ht, hxt⟩
    have q2 := mt_sub_le q
    have e : s = t := by omega
    rw [e]
    exact mt_sub_r t
theorem mt_cl_MO {x : Nat} (h : mt_MO n g x) : mt_LS n g x (mt_cl n g x) := mt_cl_ex h.1 h.2.1
theorem mt_LS_u {x s t : Nat} (h : mt_LS n g x s) (k : mt_LS n g x t) : s = t := mt_sub_eq (h.2.2 t k.1 k.2.1) (k.2.2 s h.1 h.2.1)
theorem mt_cl_self {s : Nat} (h : mt_ST n g s) : mt_cl n g s = s := mt_LS_u (mt_cl_MO h.1) ⟨h, mt_sub_r s, fun _ _ q => q⟩
theorem mt_gm_ex {x : Nat} (h : ∃ i, mt_in i x) (hx : ∀ i, mt_in i x → i < n) : mt_LM n g x (mt_gm n g x) := by
  apply Classical.epsilon_spec (p := fun s => mt_LM n g x s)
  obtain ⟨i, hi⟩ := h
  have hn : 0 < n := Nat.lt_of_le_of_lt (Nat.zero_le _) (hx i hi)
  obtain ⟨s, ⟨h1, h2⟩, h3⟩ := mt_min (fun s => mt_MO n g s ∧ mt_sub x s) ⟨2 ^ n - 1, (mt_ST_all hn).1, fun i hi => (mt_in_all i n).mpr (hx i hi)⟩
  refine ⟨s, h1, h2, fun t ht hxt => ?_⟩
  have q1 := h3 (s &&& t) ⟨mt_MO_and h1 ht ⟨i, h2 i hi, hxt i hi⟩, fun j hj => (mt_in_and j s t).mpr ⟨h2 j hj, hxt j hj⟩⟩
  have q2 : s &&& t ≤ s := Nat.and_le_left
  have e : s = s &&& t := by omega
  intro j hj
  rw [e, mt_in_and] at hj
  exact hj.2
theorem mt_LM_u {x s t : Nat} (h : mt_LM n g x s) (k : mt_LM n g x t) : s = t := mt_sub_eq (h.2.2 t k.1 k.2.1) (k.2.2 s h.1 h.2.1)
theorem mt_ch_ex {s u : Nat} (hs : mt_ST n g s) (h2 : mt_two s) (hu : mt_in u s) : mt_CH n g s u (mt_ch n g s u) := by
  apply Classical.epsilon_spec (p := fun s' => mt_CH n g s u s')
  have hv : ∃ v, mt_in v s ∧ v ≠ u := by
    obtain ⟨a, b, ha, hb, hab⟩ := h2
    by_cases e : a = u
    · exact ⟨b, hb, fun z => hab (e.trans z.symm)⟩
    · exact ⟨a, ha, e⟩
  obtain ⟨v, hv, hvu⟩ := hv
  have hun := hs.1.2.1 u hu
  obtain ⟨c, hc, ⟨c1, c2, c3, c4⟩, hmax⟩ := mt_max (fun t => mt_ST n g t ∧ mt_sub t s ∧ t ≠ s ∧ mt_in u t) (2 ^ n) ⟨2 ^ u, mt_MO_lt (mt_ST_one (g := g) hun).1, mt_ST_one hun, fun i hi => by
      rw [mt_in_one] at hi
      rw [hi]; exact hu, fun e => by
      rw [← e, mt_in_one] at hv
      exact hvu hv, (mt_in_one u u).mpr rfl⟩
  refine ⟨c, c1, c2, c3, c4, fun t t1 t2 t3 t4 => ?_⟩
  rcases mt_ST_tri c1 t1.1 c4 t4 with q | q
  · have q1 := hmax t (mt_MO_lt t1.1) ⟨t1, t2, t3, t4⟩
    have q2 := mt_sub_le q
    have e : t = c := by omega
    rw [e]
    exact mt_sub_r c
  · exact q
theorem mt_ch_in {s u : Nat} (hs : mt_ST n g s) (h2 : mt_two s) (hu : mt_in u s) : mt_in u (mt_ch n g s u) := (mt_ch_ex hs h2 hu).2.2.2.1
theorem mt_ch_sub {s u : Nat} (hs : mt_ST n g s) (h2 : mt_two s) (hu : mt_in u s) : mt_sub (mt_ch n g s u) s := (mt_ch_ex hs h2 hu).2.1
theorem mt_ch_eq {s u v : Nat} (hs : mt_ST n g s) (h2 : mt_two s) (hu : mt_in u s) (hv : mt_in v (mt_ch n g s u)) : mt_ch n g s v = mt_ch n g s u := by
  have U := mt_ch_ex hs h2 hu
  have hvs := U.2.1 v hv
  have V := mt_ch_ex hs h2 hvs
  have q := V.2.2.2.2 _ U.1 U.2.1 U.2.2.1 hv
  exact mt_sub_eq (U.2.2.2.2 _ V.1 V.2.1 V.2.2.1 (q u U.2.2.2.1)) q
theorem mt_ch_out {s u : Nat} (hs : mt_ST n g s) (h2 : mt_two s) (hu : mt_in u s) : ∃ v, mt_in v s ∧ ¬ mt_in v (mt_ch n g s u) :=
  mt_sub_ne (mt_ch_ex hs h2 hu).2.1 (mt_ch_ex hs h2 hu).2.2.1
/-- a set that is all c to the rest of s holds a strong one around each of its points -/
theorem mt_K (hg : mt_GR n g) {s A u : Nat} {c : Prop} (hs : mt_ST n g s) (hA : mt_CS g s c A) (hA2 : A ≠ s) (hu : mt_in u A) : ∃ K, mt_ST n g K ∧ mt_sub K s ∧ K ≠ s ∧ mt_in u K ∧ mt_CS g s c K := by
  have hK : ∀ w, mt_in w (mt_mk (fun w => mt_in w s ∧ ∀ B, mt_CS g s c B → mt_in u B → mt_in w B) n) ↔ mt_in w s ∧ ∀ B, mt_CS g s c B → mt_in u B → mt_in w B := by
    intro w
    rw [mt_in_mk]
    exact ⟨fun h => h.2, fun h => ⟨hs.1.2.1 w h.1, h⟩⟩
  generalize mt_mk (fun w => mt_in w s ∧ ∀ B, mt_CS g s c B → mt_in u B → mt_in w B) n = K at hK
  have uK : mt_in u K := (hK u).mpr ⟨hA.1 u hu, fun _ _ h => h⟩
  have Ks : mt_sub K s := fun w hw => ((hK w).mp hw).1
  have KC : mt_CS g s c K := by
    refine ⟨Ks, fun x y hx hy hny => ?_⟩
    have hB : ∃ B, mt_CS g s c B ∧ mt_in u B ∧ ¬ mt_in y B := by
      apply Classical.byContradiction
      intro z
      exact hny ((hK y).mpr ⟨hy, fun B b1 b2 => Classical.byContradiction fun w => z ⟨B, b1, b2, w⟩⟩)
    obtain ⟨B, b1, b2, b3⟩ := hB
    exact b1.2 x y (((hK x).mp hx).2 B b1 b2) hy b3
  have KM : mt_MO n g K := by
    refine ⟨⟨u, uK⟩, fun i hi => hs.1.2.1 i (Ks i hi), fun x hx hn p q hp hq he => ?_⟩
    by_cases xs : mt_in x s
    · have e1 := (KC.2 p x hp xs hn).mp ((mt_sy hg).mp he)
      exact (mt_sy hg).mp ((KC.2 q x hq xs hn).mpr e1)
    · exact hs.1.2.2 x hx xs p q (Ks p hp) (Ks q hq) he
  refine ⟨K, ⟨KM, fun M hM hcr => ?_⟩, Ks, fun e => ?_, uK, KC⟩
  · obtain ⟨⟨i, i1, i2⟩, ⟨j, j1, j2⟩, ⟨k, k1, k2⟩⟩ := hcr
    have Ms : mt_sub M s := by
      rcases mt_ST_tri hs hM (Ks i i1) i2 with q | q
      · exact absurd (q j (Ks j j1)) j2
      · exact q
    have cl : ∀ x y, mt_in x K → ¬ mt_in x M → mt_in y M → (mt_in y (g x) ↔ c) := by
      intro x y x1 x2 y1
      have e := KC.2 x k x1 (Ms k k1) k2
      have xn := hs.1.2.1 x (Ks x x1)
      exact ⟨fun h => e.mp (hM.2.2 x xn x2 y k y1 k1 h), fun h => hM.2.2 x xn x2 k y k1 y1 (e.mpr h)⟩
    by_cases uM : mt_in u M
    · have C1 : mt_CS g s c (K &&& M) := by
        refine ⟨fun w hw => Ks w ((mt_in_and w K M).mp hw).1, fun x y hx hy hny => ?_⟩
        rw [mt_in_and] at hx hny
        by_cases yK : mt_in y K
        · have yM : ¬ mt_in y M := fun z => hny ⟨yK, z⟩
          exact (mt_sy hg).trans (cl y x yK yM hx.2)
        · exact KC.2 x y hx.1 hy yK
      have q := ((hK j).mp j1).2 (K &&& M) C1 ((mt_in_and u K M).mpr ⟨uK, uM⟩)
      exact j2 ((mt_in_and j K M).mp q).2
    · have C2 : mt_CS g s c (mt_df K M) := by
        refine ⟨fun w hw => Ks w ((mt_in_df w K M).mp hw).1, fun x y hx hy hny => ?_⟩
        rw [mt_in_df] at hx hny
        by_cases yK : mt_in y K
        · have yM : mt_in y M := Classical.byContradiction fun z => hny ⟨yK, z⟩
          exact cl x y hx.1 hx.2 yM
        · exact KC.2 x y hx.1 hy yK
      have q := ((hK i).mp i1).2 (mt_df K M) C2 ((mt_in_df u K M).mpr ⟨uK, uM⟩)
      exact ((mt_in_df i K M).mp q).2 i2
  · apply hA2
    apply mt_sub_eq hA.1
    intro w hw
    rw [← e] at hw
    exact ((hK w).mp hw).2 A hA hu
/-- a module inside a strong one, not all of it and in none of its children: it is degenerate -/
theorem mt_T (hg : mt_GR n g) {s a u v : Nat} (hs : mt_ST n g s) (ha : mt_MO n g a) (h1 : mt_sub a s) (h2 : a ≠ s) (hu : mt_in u a) (hv : mt_in v a) (hc : ¬ mt_in v (mt_ch n g s u)) : mt_DG n g s := by
  have two : mt_two s := by
    obtain ⟨w, w1, w2⟩ := mt_sub_ne h1 h2
    exact ⟨u, w, h1 u hu, w1, fun e => w2 (e ▸ hu)⟩
  obtain ⟨P, hP1, ⟨hP2, hP3, hP4, hP5⟩, hmax⟩ := mt_max (fun p => mt_MO n g p ∧ mt_sub a p ∧ mt_sub p s ∧ p ≠ s) (2 ^ n) ⟨a, mt_MO_lt ha, ha, mt_sub_r a, h1, h2⟩
  have hns : ¬ ∀ b, mt_MO n g b → ¬ mt_CR P b := by
    intro z
    exact hc ((mt_ch_ex hs two (h1 u hu)).2.2.2.2 P ⟨hP2, z⟩ hP4 hP5 (hP3 u hu) v (hP3 v hv))
  have hQ0 : ∃ Q, mt_MO n g Q ∧ mt_CR P Q := by
    apply Classical.byContradiction
    intro z
    exact hns fun b hb hc => z ⟨b, hb, hc⟩
  obtain ⟨Q, hQ, hcr⟩ := hQ0
  have hQs : mt_sub Q s := by
    obtain ⟨⟨i, i1, i2⟩, ⟨j, j1, j2⟩, _⟩ := hcr
    rcases mt_ST_tri hs hQ (hP4 i i1) i2 with q | q
    · exact absurd (q j (hP4 j j1)) j2
    · exact q
  have hPQ : P ||| Q = s := by
    apply Classical.byContradiction
    intro z
    have m1 := mt_MO_or hP2 hQ hcr.1
    have q := hmax (P ||| Q) (mt_MO_lt m1) ⟨m1, fun i hi => (mt_in_or i P Q).mpr (Or.inl (hP3 i hi)), fun i hi => ((mt_in_or i P Q).mp hi).elim (hP4 i) (hQs i), z⟩
    have q2 := mt_sub_le (a := P) (b := P ||| Q) (fun i hi => (mt_in_or i P Q).mpr (Or.inl hi))
    have e : P = P ||| Q := by omega
    obtain ⟨_, _, j, j1, j2⟩ := hcr
    apply j2
    rw [e]
    exact (mt_in_or j P Q).mpr (Or.inr j1)
  have hD := mt_MO_df hg hQ hP2 (mt_CR_s hcr)
  have hDi : ∀ i, mt_in i s → ¬ mt_in i P → mt_in i (mt_df Q P) := by
    intro i i1 i2
    rw [← hPQ, mt_in_or] at i1
    exact (mt_in_df i Q P).mpr ⟨i1.resolve_left i2, i2⟩
  have hDn : ∀ i, mt_in i P → ¬ mt_in i (mt_df Q P) := fun i i1 i2 => ((mt_in_df i Q P).mp i2).2 i1
  obtain ⟨⟨p0, p1, _⟩, _, ⟨d0, d1, d2⟩⟩ := hcr
  have ds := hQs d0 d1
  have hc0 : ∀ p d, mt_in p P → mt_in d s → ¬ mt_in d P → (mt_in d (g p) ↔ mt_in d0 (g p0)) := by
    intro p d hp hd hdn
    have pn := hP2.2.1 p hp
    have dn := hs.1.2.1 d0 ds
    constructor
    · intro h
      have e1 := hD.2.2 p pn (hDn p hp) d d0 (hDi d hd hdn) (hDi d0 ds d2) h
      have e2 := hP2.2.2 d0 dn d2 p p0 hp p1 ((mt_sy hg).mp e1)
      exact (mt_sy hg).mp e2
    · intro h
      have e1 := hP2.2.2 d0 dn d2 p0 p p1 hp ((mt_sy hg).mp h)
      exact hD.2.2 p pn (hDn p hp) d0 d (hDi d0 ds d2) (hDi d hd hdn) ((mt_sy hg).mp e1)
  have C1 : mt_CS g s (mt_in d0 (g p0)) P := ⟨hP4, fun x y hx hy hny => hc0 x y hx hy hny⟩
  have C2 : mt_CS g s (mt_in d0 (g p0)) (mt_df s P) := by
    refine ⟨fun i hi => ((mt_in_df i s P).mp hi).1, fun x y hx hy hny => ?_⟩
    rw [mt_in_df] at hx hny
    have yP : mt_in y P := Classical.byContradiction fun z => hny ⟨hy, z⟩
    exact (mt_sy hg).trans (hc0 y x yP hx.1 hx.2)
  refine ⟨mt_in d0 (g p0), fun u0 v0 hu0 hv0 hn0 => ?_⟩
  have hK : ∃ K, mt_ST n g K ∧ mt_sub K s ∧ K ≠ s ∧ mt_in u0 K ∧ mt_CS g s (mt_in d0 (g p0)) K := by
    by_cases uP : mt_in u0 P
    · exact mt_K hg hs C1 hP5 uP
    · refine mt_K hg hs C2 (fun e => ?_) ((mt_in_df u0 s P).mpr ⟨hu0, uP⟩)
      have q := hP4 p0 p1
      rw [← e, mt_in_df] at q
      exact q.2 p1
  obtain ⟨K, k1, k2, k3, k4, k5⟩ := hK
  exact k5.2 u0 v0 k4 hv0 fun z => hn0 ((mt_ch_ex hs two hu0).2.2.2.2 K k1 k2 k3 k4 v0 z)
/-- unions of children of a degenerate one are modules -/
theorem mt_DG_un (hg : mt_GR n g) {s m : Nat} (hs : mt_ST n g s) (hd : mt_DG n g s) (h0 : ∃ i, mt_in i m) (h1 : mt_sub m s) (h2 : ∀ i, mt_in i m → mt_sub (mt_ch n g s i) m) : mt_MO n g m := by
  obtain ⟨c, hc⟩ := hd
  refine ⟨h0, fun i hi => hs.1.2.1 i (h1 i hi), fun x hx hn p q hp hq he => ?_⟩
  by_cases xs : mt_in x s
  · have e1 := hc p x (h1 p hp) xs (fun z => hn (h2 p hp x z))
    have e2 := hc q x (h1 q hq) xs (fun z => hn (h2 q hq x z))
    exact (mt_sy hg).mp (e2.mpr (e1.mp ((mt_sy hg).mp he)))
  · exact hs.1.2.2 x hx xs p q (h1 p hp) (h1 q hq) he
end
end
section
/-! ===== children, small sets ===== -/
/-- c is a child of s -/
def mt_IC (n : Nat) (g : Nat → Nat) (s c : Nat) : Prop := mt_ST n g c ∧ c ≠ s ∧ mt_sub c s ∧ ∀ o, mt_ST n g o → o ≠ s → o ≠ c → mt_sub c o → mt_sub o s → False
/-- a smallest module around a couple -/
def mt_SM (n : Nat) (g : Nat → Nat) (m : Nat) : Prop := ∃ u v, u < n ∧ v < n ∧ m = mt_gm n g (2 ^ u ||| 2 ^ v)
section
variable {n : Nat} {g : Nat → Nat}
theorem mt_IC_ch {s u : Nat} (hs : mt_ST n g s) (h2 : mt_two s) (hu : mt_in u s) : mt_IC n g s (mt_ch n g s u) := by
  have U := mt_ch_ex hs h2 hu
  exact ⟨U.1, U.2.2.1, U.2.1, fun o o1 o2 o3 o4 o5 => o3 (mt_sub_eq (U.2.2.2.2 o o1 o5 o2 (o4 u U.2.2.2.1)) o4)⟩
theorem mt_IC_of {s c u : Nat} (hs : mt_ST n g s) (h2 : mt_two s) (hc : mt_IC n g s c) (hu : mt_in u c) : c = mt_ch n g s u := by
  have us := hc.2.2.1 u hu
  have U := mt_ch_ex hs h2 us
  apply Classical.byContradiction
  intro w
  exact hc.2.2.2 _ U.1 U.2.2.1 (fun e => w e.symm) (U.2.2.2.2 c hc.1 hc.2.2.1 hc.2.1 hu) U.2.1
theorem mt_pair_in (i u v : Nat) : mt_in i (2 ^ u ||| 2 ^ v) ↔ i = u ∨ i = v := by rw [mt_in_or, mt_in_one, mt_in_one]
theorem mt_pair_l (u v : Nat) : mt_in u (2 ^ u ||| 2 ^ v) := (mt_pair_in u u v).mpr (Or.inl rfl)
theorem mt_pair_r (u v : Nat) : mt_in v (2 ^ u ||| 2 ^ v) := (mt_pair_in v u v).mpr (Or.inr rfl)
theorem mt_pair_sub {u v m : Nat} (hu : mt_in u m) (hv : mt_in v m) : mt_sub (2 ^ u ||| 2 ^ v) m := by
  intro i hi
  rcases (mt_pair_in i u v).mp hi with e | e
  · rw [e]; exact hu
  · rw [e]; exact hv
theorem mt_gm_pair {u v : Nat} (hu : u < n) (hv : v < n) : mt_LM n g (2 ^ u ||| 2 ^ v) (mt_gm n g (2 ^ u ||| 2 ^ v)) :=
  mt_gm_ex ⟨u, mt_pair_l u v⟩ fun i hi => by
    rcases (mt_pair_in i u v).mp hi with e | e
    · omega
    · omega
theorem mt_SM_MO {m : Nat} (h : mt_SM n g m) : mt_MO n g m := by
  obtain ⟨u, v, hu, hv, e⟩ := h
  rw [e]
  exact (mt_gm_pair hu hv).1
theorem mt_cr_cl1 {a b : Nat} (ha : mt_MO n g a) (hb : mt_MO n g b) (h : mt_CR a b) : mt_sub (mt_cl n g b) (mt_cl n g a) := by
  have A := mt_cl_MO ha
  have B := mt_cl_MO hb
  obtain ⟨⟨i, i1, i2⟩, ⟨j, j1, j2⟩, _⟩ := h
  rcases mt_ST_tri A.1 hb (A.2.1 i i1) i2 with q | q
  · exact absurd (q j (A.2.1 j j1)) j2
  · exact B.2.2 _ A.1 q
/-- crossing modules lie in one strong module -/
theorem mt_cr_cl {a b : Nat} (ha : mt_MO n g a) (hb : mt_MO n g b) (h : mt_CR a b) : mt_cl n g a = mt_cl n g b :=
  mt_sub_eq (mt_cr_cl1 hb ha (mt_CR_s h)) (mt_cr_cl1 ha hb h)
/-- what crosses a small set, with it, is all of its strong module -/
theorem mt_SM_cov (hg : mt_GR n g) {a w : Nat} (ha : mt_SM n g a) (hw : mt_in w (mt_cl n g a)) : mt_in w a ∨ ∃ b, mt_SM n g b ∧ mt_CR a b ∧ mt_in w b := by
  obtain ⟨u, v, hu, hv, e⟩ := ha
  have L := mt_gm_pair (g := g) hu hv
  rw [← e] at L
  have C := mt_cl_MO L.1
  by_cases wa : mt_in w a
  · exact Or.inl wa
  refine Or.inr ?_
  generalize hse : mt_cl n g a = s at hw C
  have ua : mt_in u a := L.2.1 u (mt_pair_l u v)
  have va : mt_in v a := L.2.1 v (mt_pair_r u v)
  have us : mt_in u s := C.2.1 u ua
  have hne : a ≠ s := fun z => wa (z ▸ hw)
  have two : mt_two s := ⟨u, w, us, hw, fun z => wa (z ▸ ua)⟩
  have hvu : ¬ mt_in v (mt_ch n g s u) := by
    intro z
    have U := mt_ch_ex C.1 two us
    have q := L.2.2 _ U.1.1 (mt_pair_sub U.2.2.2.1 z)
    have q2 := C.2.2 _ U.1 q
    exact U.2.2.1 (mt_sub_eq U.2.1 q2)
  have D := mt_T hg C.1 L.1 C.2.1 hne ua va hvu
  have wn : w < n := C.1.1.2.1 w hw
  have B := mt_gm_pair (g := g) hu wn
  refine ⟨mt_gm n g (2 ^ u ||| 2 ^ w), ⟨u, w, hu, wn, rfl⟩, ⟨⟨u, ua, B.2.1 u (mt_pair_l u w)⟩, ⟨v, va, fun vb => ?_⟩, ⟨w, B.2.1 w (mt_pair_r u w), wa⟩⟩, B.2.1 w (mt_pair_r u w)⟩
  have M : mt_MO n g (mt_ch n g s u ||| mt_ch n g s w) := by
    refine mt_DG_un hg C.1 D ⟨u, (mt_in_or _ _ _).mpr (Or.inl (mt_ch_in C.1 two us))⟩ (fun i hi => ?_) (fun i hi => ?_)
    · rcases (mt_in_or _ _ _).mp hi with z | z
      · exact mt_ch_sub C.1 two us i z
      · exact mt_ch_sub C.1 two hw i z
    · rcases (mt_in_or _ _ _).mp hi with z | z
      · rw [mt_ch_eq C.1 two us z]
        exact fun j hj => (mt_in_or _ _ _).mpr (Or.inl hj)
      · rw [mt_ch_eq C.1 two hw z]
        exact fun j hj => (mt_in_or _ _ _).mpr (Or.inr hj)
  have q := B.2.2 _ M (mt_pair_sub ((mt_in_or _ _ _).mpr (Or.inl (mt_ch_in C.1 two us))) ((mt_in_or _ _ _).mpr (Or.inr (mt_ch_in C.1 two hw)))) v vb
  rcases (mt_in_or _ _ _).mp q with z | z
  · exact hvu z
  · have W := mt_ch_ex C.1 two hw
    rcases mt_ST_tri W.1 L.1 z va with y | y
    · exact wa (y w W.2.2.2.1)
    · have e2 := mt_ch_eq C.1 two hw (y u ua)
      apply hvu
      rw [e2]
      exact z
theorem mt_one_eq {s u : Nat} (hu : mt_in u s) (h : ¬ mt_two s) : s = 2 ^ u := mt_ext fun i => by
  rw [mt_in_one]
  exact ⟨fun q => Classical.byContradiction fun w => h ⟨i, u, q, hu, w⟩, fun q => q ▸ hu⟩
/-- every strong module is around a small set -/
theorem mt_ST_SM {s : Nat} (hs : mt_ST n g s) : ∃ a, mt_SM n g a ∧ mt_cl n g a = s := by
  obtain ⟨u, hu⟩ := hs.1.1
  have un := hs.1.2.1 u hu
  by_cases two : mt_two s
  · obtain ⟨v, hv, hvn⟩ := mt_ch_out hs two hu
    have vn := hs.1.2.1 v hv
    have L := mt_gm_pair (g := g) un vn
    have C := mt_cl_MO L.1
    refine ⟨_, ⟨u, v, un, vn, rfl⟩, ?_⟩
    have q2 := C.2.2 s hs (L.2.2 s hs.1 (mt_pair_sub hu hv))
    apply Classical.byContradiction
    intro w
    exact hvn ((mt_ch_ex hs two hu).2.2.2.2 _ C.1 q2 w (C.2.1 u (L.2.1 u (mt_pair_l u v))) v (C.2.1 v (L.2.1 v (mt_pair_r u v))))
  · have L := mt_gm_pair (g := g) un un
    have e : mt_gm n g (2 ^ u ||| 2 ^ u) = s := by
      apply mt_sub_eq (L.2.2 s hs.1 (mt_pair_sub hu hu))
      intro i hi
      rw [mt_one_eq hu two, mt_in_one] at hi
      rw [hi]
      exact L.2.1 u (mt_pair_l u u)
    exact ⟨_, ⟨u, u, un, un, rfl⟩, by rw [e]; exact mt_cl_self hs⟩
end
end
section
/-! ===== counting ===== -/
theorem mt_b_f {p : Prop} (h : ¬ p) : mt_b p = false := by
  cases e : mt_b p
  · rfl
  · exact absurd (mt_b_t.mp e) h
/-- the numbers below N with a property -/
noncomputable def mt_li (P : Nat → Prop) (N : Nat) : List Nat := (List.range N).filter (fun m => mt_b (P m))
theorem mt_li_mem {P : Nat → Prop} {N m : Nat} : m ∈ mt_li P N ↔ m < N ∧ P m := by
  unfold mt_li
  rw [List.mem_filter, List.mem_range, mt_b_t]
theorem mt_li_nd {P : Nat → Prop} {N : Nat} : (mt_li P N).Nodup := List.Pairwise.filter _ List.nodup_range
theorem mt_li_t {P : Nat → Prop} {N : Nat} (h : P N) : (mt_li P (N + 1)).length = (mt_li P N).length + 1 := by
  unfold mt_li
  rw [List.range_succ, List.filter_append, List.length_append, List.filter_cons, if_pos (mt_b_t.mpr h)]
  rfl
theorem mt_li_f {P : Nat → Prop} {N : Nat} (h : ¬ P N) : (mt_li P (N + 1)).length = (mt_li P N).length := by
  unfold mt_li
  rw [List.range_succ, List.filter_append, List.length_append, List.filter_cons, if_neg (fun z => h (mt_b_t.mp z))]
  rfl
theorem mt_li_le (P : Nat → Prop) (N : Nat) : (mt_li P N).length ≤ N := by
  unfold mt_li
  have q := List.length_filter_le (fun m => mt_b (P m)) (List.range N)
  rw [List.length_range] at q
  exact q
theorem mt_same {l k : List Nat} (hl : l.Nodup) (hk : k.Nodup) (h : ∀ a, a ∈ l ↔ a ∈ k) : l.length = k.length :=
  ((List.perm_ext_iff_of_nodup hl hk).mpr h).length_eq
/-- the unions of some of a list -/
def mt_un : List Nat → List Nat
  | [] => [0]
  | c :: cs => mt_un cs ++ (mt_un cs).map (fun x => c ||| x)
theorem mt_un_len : ∀ cs : List Nat, (mt_un cs).length = 2 ^ cs.length := by
  intro cs
  induction cs with
  | nil => rfl
  | cons c cs ih =>
    rw [mt_un, List.length_append, List.length_map, ih, List.length_cons, Nat.pow_succ]
    omega
theorem mt_join (f : Nat → Prop) : ∀ cs : List Nat, ∃ x, ∀ i, mt_in i x ↔ ∃ d, d ∈ cs ∧ f d ∧ mt_in i d := by
  intro cs
  induction cs with
  | nil => exact ⟨0, fun i => ⟨fun h => absurd h (mt_in_0 i), fun ⟨d, h, _⟩ => absurd h List.not_mem_nil⟩⟩
  | cons c cs ih =>
    obtain ⟨x, hx⟩ := ih
    by_cases hc : f c
    · refine ⟨c ||| x, fun i => ?_⟩
      rw [mt_in_or, hx]
      constructor
      · rintro (h | ⟨d, h1, h2⟩)
        · exact ⟨c, List.mem_cons_self, hc, h⟩
        · exact ⟨d, List.mem_cons_of_mem c h1, h2⟩
      · rintro ⟨d, h1, h2, h3⟩
        rcases List.mem_cons.mp h1 with e | h
        · exact Or.inl (e ▸ h3)
        · exact Or.inr ⟨d, h, h2, h3⟩
    · refine ⟨x, fun i => ?_⟩
      rw [hx]
      constructor
      · rintro ⟨d, h1, h2⟩
        exact ⟨d, List.mem_cons_of_mem c h1, h2⟩
      · rintro ⟨d, h1, h2, h3⟩
        rcases List.mem_cons.mp h1 with e | h
        · exact absurd (e ▸ h2) hc
        · exact ⟨d, h, h2, h3⟩
theorem mt_un_of : ∀ (cs : List Nat) (M : Nat), M ∈ mt_un cs → ∃ f : Nat → Prop, ∀ i, mt_in i M ↔ ∃ d, d ∈ cs ∧ f d ∧ mt_in i d := by
  intro cs
  induction cs with
  | nil =>
    intro M h
    have e : M = 0 := List.mem_singleton.mp h
    rw [e]
    exact ⟨fun _ => True, fun i => ⟨fun h => absurd h (mt_in_0 i), fun ⟨d, h, _⟩ => absurd h List.not_mem_nil⟩⟩
  | cons c cs ih =>
    intro M h
    rw [mt_un, List.mem_append] at h
    rcases h with h | h
    · obtain ⟨f, hf⟩ := ih M h
      refine ⟨fun x => f x ∧ x ∈ cs, fun i => ?_⟩
      rw [hf]
      constructor
      · rintro ⟨d, h1, h2, h3⟩
        exact ⟨d, List.mem_cons_of_mem c h1, ⟨h2, h1⟩, h3⟩
      · rintro ⟨d, _, ⟨h2, h1⟩, h3⟩
        exact ⟨d, h1, h2, h3⟩
    · obtain ⟨x, hx, e⟩ := List.mem_map.mp h
      obtain ⟨f, hf⟩ := ih x hx
      refine ⟨fun y => y = c ∨ (f y ∧ y ∈ cs), fun i => ?_⟩
      rw [← e, mt_in_or, hf]
      constructor
      · rintro (h | ⟨d, h1, h2, h3⟩)
        · exact ⟨c, List.mem_cons_self, Or.inl rfl, h⟩
        · exact ⟨d, List.mem_cons_of_mem c h1, Or.inr ⟨h2, h1⟩, h3⟩
      · rintro ⟨d, _, h2 | ⟨h2, h1⟩, h3⟩
        · exact Or.inl (h2 ▸ h3)
        · exact Or.inr ⟨d, h1, h2, h3⟩
theorem mt_un_to (f : Nat → Prop) : ∀ (cs : List Nat) (M : Nat), (∀ i, mt_in i M ↔ ∃ d, d ∈ cs ∧ f d ∧ mt_in i d) → M ∈ mt_un cs := by
  intro cs
  induction cs with
  | nil =>
    intro M h
    apply List.mem_singleton.mpr
    apply mt_ext
    intro i
    rw [h]
    exact ⟨fun ⟨d, h, _⟩ => absurd h List.not_mem_nil, fun h => absurd h (mt_in_0 i)⟩
  | cons c cs ih =>
    intro M h
    obtain ⟨x, hx⟩ := mt_join f cs
    have hm := ih x hx
    rw [mt_un, List.mem_append]
    by_cases hc : f c
    · refine Or.inr (List.mem_map.mpr ⟨x, hm, ?_⟩)
      apply mt_ext
      intro i
      rw [mt_in_or, hx, h]
      constructor
      · rintro (h | ⟨d, h1, h2⟩)
        · exact ⟨c, List.mem_cons_self, hc, h⟩
        · exact ⟨d, List.mem_cons_of_mem c h1, h2⟩
      · rintro ⟨d, h1, h2, h3⟩
        rcases List.mem_cons.mp h1 with e | h
        · exact Or.inl (e ▸ h3)
        · exact Or.inr ⟨d, h, h2, h3⟩
    · refine Or.inl ?_
      have e : M = x := by
        apply mt_ext
        intro i
        rw [hx, h]
        constructor
        · rintro ⟨d, h1, h2, h3⟩
          rcases List.mem_cons.mp h1 with e | h
          · exact absurd (e ▸ h2) hc
          · exact ⟨d, h, h2, h3⟩
        · rintro ⟨d, h1, h2⟩
          exact ⟨d, List.mem_cons_of_mem c h1, h2⟩
      rw [e]
      exact hm
theorem mt_un_nd : ∀ cs : List Nat, cs.Nodup → (∀ c, c ∈ cs → ∃ i, mt_in i c) → (∀ c d i, c ∈ cs → d ∈ cs → mt_in i c → mt_in i d → c = d) → (mt_un cs).Nodup := by
  intro cs
  induction cs with
  | nil =>
    intro _ _ _
    show [0].Nodup
    simp
  | cons c cs ih =>
    intro h1 h2 h3
    obtain ⟨n1, n2⟩ := List.nodup_cons.mp h1
    have I := ih n2 (fun d hd => h2 d (List.mem_cons_of_mem c hd)) (fun a b i ha hb => h3 a b i (List.mem_cons_of_mem c ha) (List.mem_cons_of_mem c hb))
    have off : ∀ x i, x ∈ mt_un cs → mt_in i x → ¬ mt_in i c := by
      intro x i hx hi z
      obtain ⟨f, hf⟩ := mt_un_of cs x hx
      obtain ⟨d, d1, _, d3⟩ := (hf i).mp hi
      have e := h3 c d i List.mem_cons_self (List.mem_cons_of_mem c d1) z d3
      exact n1 (e ▸ d1)
    rw [mt_un, List.nodup_append]
    refine ⟨I, ?_, fun a ha b hb e => ?_⟩
    · unfold List.Nodup
      rw [List.pairwise_map]
      refine List.Pairwise.imp_of_mem ?_ I
      intro a b ha hb hab z
      apply hab
      apply mt_ext
      intro i
      have q : mt_in i (c ||| a) ↔ mt_in i (c ||| b) := by rw [z]
      rw [mt_in_or, mt_in_or] at q
      constructor
      · intro hi
        exact (q.mp (Or.inr hi)).resolve_left (off a i ha hi)
      · intro hi
        exact (q.mpr (Or.inr hi)).resolve_left (off b i hb hi)
    · obtain ⟨x, _, ex⟩ := List.mem_map.mp hb
      obtain ⟨i, hi⟩ := h2 c List.mem_cons_self
      apply off a i ha ?_ hi
      rw [e, ← ex, mt_in_or]
      exact Or.inl hi
/-- sums over a list, and one more sum for what they count -/
theorem mt_sum_add (p q : Nat → Nat) : ∀ L : List Nat, (L.map (fun s => p s + q s)).sum = (L.map p).sum + (L.map q).sum := by
  intro L
  induction L with
  | nil => rfl
  | cons a L ih =>
    rw [List.map_cons, List.map_cons, List.map_cons, List.sum_cons, List.sum_cons, List.sum_cons, ih]
    omega
theorem mt_sum_z (t : Nat) : ∀ L : List Nat, ¬ t ∈ L → (L.map (fun s => if t = s then 1 else 0)).sum = 0 := by
  intro L
  induction L with
  | nil => intro _; rfl
  | cons a L ih =>
    intro h
    rw [List.mem_cons] at h
    rw [List.map_cons, List.sum_cons, ih (fun z => h (Or.inr z)), if_neg (fun z => h (Or.inl z))]
theorem mt_sum_1 (t : Nat) : ∀ L : List Nat, L.Nodup → t ∈ L → (L.map (fun s => if t = s then 1 else 0)).sum = 1 := by
  intro L
  induction L with
  | nil => intro _ h; exact absurd h List.not_mem_nil
  | cons a L ih =>
    intro hn h
    obtain ⟨n1, n2⟩ := List.nodup_cons.mp hn
    rw [List.map_cons, List.sum_cons]
    by_cases e : t = a
    · rw [if_pos e, mt_sum_z t L (fun z => n1 (e ▸ z))]
    · rw [if_neg e, ih n2 ((List.mem_cons.mp h).resolve_left e)]
theorem mt_sum_c {p q : Nat → Nat} : ∀ L : List Nat, (∀ s, s ∈ L → p s = q s) → (L.map p).sum = (L.map q).sum := by
  intro L h
  rw [List.map_congr_left h]
theorem mt_double (P : Nat → Prop) (f : Nat → Nat) (L : List Nat) (hL : L.Nodup) (h : ∀ x, P x → f x ∈ L) : ∀ N, (mt_li P N).length = (L.map (fun s => (mt_li (fun x => P x ∧ f x = s) N).length)).sum := by
  intro N
  induction N with
  | zero =>
    have q : ∀ L : List Nat, (L.map (fun s => (mt_li (fun x => P x ∧ f x = s) 0).length)).sum = 0 := by
      intro L
      induction L with
      | nil => rfl
      | cons a L ih => rw [List.map_cons, List.sum_cons, ih]; rfl
    rw [q]
    rfl
  | succ N ih =>
    by_cases hp : P N
    · rw [mt_li_t hp, ih]
      have q := mt_sum_add (fun s => (mt_li (fun x => P x ∧ f x = s) N).length) (fun s => if f N = s then 1 else 0) L
      rw [mt_sum_1 (f N) L hL (h N hp)] at q
      rw [← q]
      apply mt_sum_c
      intro s _
      by_cases e : f N = s
      · rw [mt_li_t (P := fun x => P x ∧ f x = s) ⟨hp, e⟩, if_pos e]
      · rw [mt_li_f (P := fun x => P x ∧ f x = s) (fun z => e z.2), if_neg e]
        rfl
    · rw [mt_li_f hp, ih]
      apply mt_sum_c
      intro s _
      rw [mt_li_f (P := fun x => P x ∧ f x = s) (fun z => hp z.1)]
end
section
/-! ===== how many modules, kinds, growth, parents ===== -/
/-- how many children -/
noncomputable def mt_kc (n : Nat) (g : Nat → Nat) (s : Nat) : Nat := (mt_li (mt_IC n g s) (2 ^ n)).length
/-- how many modules have s as their least strong one -/
noncomputable def mt_F (n : Nat) (g : Nat → Nat) (s : Nat) : Nat := (mt_li (fun m => mt_MO n g m ∧ mt_cl n g m = s) (2 ^ n)).length
noncomputable def mt_ad (n : Nat) (g : Nat → Nat) (s : Nat) : Nat := if mt_b (mt_two s ∧ mt_DG n g s) = true then 2 ^ mt_kc n g s - mt_kc n g s - 2 else 0
def mt_SL (n : Nat) (g : Nat → Nat) (c : Nat) (a : Nat → Nat) : Prop := (∀ k, k < c → mt_ST n g (a k)) ∧ (∀ m, mt_ST n g m → ∃ k, k < c ∧ a k = m) ∧ ∀ i j, i < j → j < c → a i ≠ a j
def mt_sumf (f : Nat → Nat) : Nat → Nat
  | 0 => 0
  | k + 1 => mt_sumf f k + f k
section
variable {n : Nat} {g : Nat → Nat}
theorem mt_F_DG (hg : mt_GR n g) {s : Nat} (hs : mt_ST n g s) (two : mt_two s) (hd : mt_DG n g s) : mt_F n g s + 1 + mt_kc n g s = 2 ^ mt_kc n g s := by
  unfold mt_F mt_kc
  rw [← mt_un_len]
  have chm : ∀ u, mt_in u s → mt_ch n g s u ∈ mt_li (mt_IC n g s) (2 ^ n) := fun u hu =>
    mt_li_mem.mpr ⟨mt_MO_lt (mt_ch_ex hs two hu).1.1, mt_IC_ch hs two hu⟩
  have nd := mt_un_nd (mt_li (mt_IC n g s) (2 ^ n)) mt_li_nd (fun c hc => (mt_li_mem.mp hc).2.1.1.1) (fun c d i hc hd h1 h2 =>
    (mt_IC_of hs two (mt_li_mem.mp hc).2 h1).trans (mt_IC_of hs two (mt_li_mem.mp hd).2 h2).symm)
  have q := mt_same (l := mt_li (fun m => mt_MO n g m ∧ mt_cl n g m = s) (2 ^ n) ++ 0 :: mt_li (mt_IC n g s) (2 ^ n)) (k := mt_un (mt_li (mt_IC n g s) (2 ^ n))) ?_ nd ?_
  · rw [List.length_append, List.length_cons] at q
    omega
  · rw [List.nodup_append]
    refine ⟨mt_li_nd, List.nodup_cons.mpr ⟨fun z => ?_, mt_li_nd⟩, fun a ha b hb e => ?_⟩
    · obtain ⟨i, hi⟩ := (mt_li_mem.mp z).2.1.1.1
      exact mt_in_0 i hi
    · have A := (mt_li_mem.mp ha).2
      rcases List.mem_cons.mp hb with z | z
      · obtain ⟨i, hi⟩ := A.1.1
        rw [e, z] at hi
        exact mt_in_0 i hi
      · have B := (mt_li_mem.mp z).2
        rw [e, mt_cl_self B.1] at A
        exact B.2.1 A.2
  · intro M
    rw [List.mem_append, List.mem_cons]
    constructor
    · rintro (h | h | h)
      · have A := (mt_li_mem.mp h).2
        have C := mt_cl_MO A.1
        rw [A.2] at C
        apply mt_un_to (fun c => mt_sub c M)
        intro i
        constructor
        · intro hi
          have his := C.2.1 i hi
          have U := mt_ch_ex hs two his
          refine ⟨_, chm i his, ?_, U.2.2.2.1⟩
          rcases mt_ST_tri U.1 A.1 U.2.2.2.1 hi with y | y
          · exact y
          · exact absurd (mt_sub_eq U.2.1 (C.2.2 _ U.1 y)) U.2.2.1
        · rintro ⟨d, _, h2, h3⟩
          exact h2 i h3
      · apply mt_un_to (fun _ => False)
        intro i
        rw [h]
        exact ⟨fun z => absurd z (mt_in_0 i), fun ⟨_, _, z, _⟩ => z.elim⟩
      · apply mt_un_to (fun d => d = M)
        intro i
        constructor
        · intro hi
          exact ⟨M, h, rfl, hi⟩
        · rintro ⟨d, _, h2, h3⟩
          exact h2 ▸ h3
    · intro h
      obtain ⟨f, hf⟩ := mt_un_of _ M h
      by_cases z : M = 0
      · exact Or.inr (Or.inl z)
      have hne := mt_ne.mp z
      have Ms : mt_sub M s := by
        intro i hi
        obtain ⟨d, d1, _, d3⟩ := (hf i).mp hi
        exact (mt_li_mem.mp d1).2.2.2.1 i d3
      have Mc : ∀ i, mt_in i M → mt_sub (mt_ch n g s i) M := by
        intro i hi
        obtain ⟨d, d1, d2, d3⟩ := (hf i).mp hi
        rw [← mt_IC_of hs two (mt_li_mem.mp d1).2 d3]
        intro j hj
        exact (hf j).mpr ⟨d, d1, d2, hj⟩
      have MM := mt_DG_un hg hs hd hne Ms Mc
      have C := mt_cl_MO MM
      by_cases e : mt_cl n g M = s
      · exact Or.inl (mt_li_mem.mpr ⟨mt_MO_lt MM, MM, e⟩)
      · obtain ⟨u, hu⟩ := hne
        have us := Ms u hu
        have q := (mt_ch_ex hs two us).2.2.2.2 _ C.1 (C.2.2 s hs Ms) e (C.2.1 u hu)
        have e2 : M = mt_ch n g s u := mt_sub_eq (mt_sub_t C.2.1 q) (Mc u hu)
        rw [e2]
        exact Or.inr (Or.inr (chm u us))
theorem mt_F_1 (hg : mt_GR n g) {s : Nat} (hs : mt_ST n g s) (h : ¬ (mt_two s ∧ mt_DG n g s)) : mt_F n g s = 1 := by
  unfold mt_F
  have q := mt_same (l := mt_li (fun m => mt_MO n g m ∧ mt_cl n g m = s) (2 ^ n)) (k := [s]) mt_li_nd (by simp) ?_
  · exact q
  · intro M
    rw [mt_li_mem, List.mem_singleton]
    constructor
    · rintro ⟨_, h1, h2⟩
      have C := mt_cl_MO h1
      rw [h2] at C
      apply Classical.byContradiction
      intro w
      obtain ⟨u, hu⟩ := h1.1
      have us := C.2.1 u hu
      have two : mt_two s := by
        obtain ⟨x, x1, x2⟩ := mt_sub_ne C.2.1 w
        exact ⟨u, x, us, x1, fun e => x2 (e ▸ hu)⟩
      have U := mt_ch_ex hs two us
      have hv : ∃ v, mt_in v M ∧ ¬ mt_in v (mt_ch n g s u) := by
        apply Classical.byContradiction
        intro z
        have q : mt_sub M (mt_ch n g s u) := fun i hi => Classical.byContradiction fun y => z ⟨i, hi, y⟩
        exact U.2.2.1 (mt_sub_eq U.2.1 (C.2.2 _ U.1 q))
      obtain ⟨v, v1, v2⟩ := hv
      exact h ⟨two, mt_T hg hs h1 C.2.1 w hu v1 v2⟩
    · intro e
      rw [e]
      exact ⟨mt_MO_lt hs.1, hs.1, mt_cl_self hs⟩
theorem mt_F_pos {s : Nat} (hs : mt_ST n g s) : 0 < mt_F n g s := List.length_pos_of_mem (mt_li_mem.mpr ⟨mt_MO_lt hs.1, hs.1, mt_cl_self hs⟩)
theorem mt_F_ad (hg : mt_GR n g) {s : Nat} (hs : mt_ST n g s) : mt_F n g s = 1 + mt_ad n g s := by
  unfold mt_ad
  by_cases h : mt_two s ∧ mt_DG n g s
  · have q := mt_F_DG hg hs h.1 h.2
    have p := mt_F_pos hs
    rw [if_pos (mt_b_t.mpr h)]
    generalize 2 ^ mt_kc n g s = z at q
    omega
  · rw [mt_F_1 hg hs h, if_neg (fun z => h (mt_b_t.mp z))]
/-- room for the shift -/
theorem mt_kc_DG (hg : mt_GR n g) (hn : n ≤ 8) {s : Nat} (hs : mt_ST n g s) (two : mt_two s) (hd : mt_DG n g s) : mt_kc n g s < 31 ∧ mt_kc n g s + 2 ≤ 2 ^ mt_kc n g s := by
  have q := mt_F_DG hg hs two hd
  have p := mt_F_pos hs
  have b1 : mt_F n g s ≤ 2 ^ n := mt_li_le _ _
  have b2 : mt_kc n g s ≤ 2 ^ n := mt_li_le _ _
  have b3 : 2 ^ n ≤ 2 ^ 8 := Nat.pow_le_pow_right (by omega) hn
  refine ⟨?_, by omega⟩
  apply Nat.lt_of_not_le
  intro z
  have b4 : 2 ^ 31 ≤ 2 ^ mt_kc n g s := Nat.pow_le_pow_right (by omega) z
  generalize 2 ^ mt_kc n g s = z at *
  omega
theorem mt_SL_nd {c : Nat} {a : Nat → Nat} (h : mt_SL n g c a) : ((List.range c).map a).Nodup := by
  unfold List.Nodup
  rw [List.pairwise_map]
  refine List.Pairwise.imp_of_mem ?_ List.pairwise_lt_range
  intro i j _ hj hij
  exact h.2.2 i j hij (List.mem_range.mp hj)
theorem mt_SL_mem {c : Nat} {a : Nat → Nat} (h : mt_SL n g c a) (m : Nat) : m ∈ (List.range c).map a ↔ mt_ST n g m := by
  rw [List.mem_map]
  constructor
  · rintro ⟨k, h1, h2⟩
    rw [← h2]
    exact h.1 k (List.mem_range.mp h1)
  · intro q
    obtain ⟨k, h1, h2⟩ := h.2.1 m q
    exact ⟨k, List.mem_range.mpr h1, h2⟩
theorem mt_SL_c {c : Nat} {a : Nat → Nat} (h : mt_SL n g c a) : c = (mt_li (mt_ST n g) (2 ^ n)).length := by
  have q := mt_same (mt_SL_nd h) (mt_li_nd (P := mt_ST n g) (N := 2 ^ n)) fun m => by
    rw [mt_SL_mem h, mt_li_mem]
    exact ⟨fun z => ⟨mt_MO_lt z.1, z⟩, fun z => z.2⟩
  rw [List.length_map, List.length_range] at q
  exact q
theorem mt_sumf_r (f a : Nat → Nat) : ∀ c, (((List.range c).map a).map f).sum = mt_sumf (fun k => f (a k)) c := by
  intro c
  induction c with
  | zero => rfl
  | succ c ih =>
    rw [List.range_succ, List.map_append, List.map_append, List.sum_append, ih, mt_sumf]
    rfl
theorem mt_sumf_1 (f : Nat → Nat) : ∀ c, mt_sumf (fun k => 1 + f k) c = c + mt_sumf f c := by
  intro c
  induction c with
  | zero => rfl
  | succ c ih => rw [mt_sumf, mt_sumf, ih]; omega
theorem mt_SL_m (hg : mt_GR n g) {c : Nat} {a : Nat → Nat} (h : mt_SL n g c a) : c + mt_sumf (fun k => mt_ad n g (a k)) c = (mt_li (mt_MO n g) (2 ^ n)).length := by
  rw [mt_double (mt_MO n g) (mt_cl n g) _ (mt_SL_nd h) (fun x hx => (mt_SL_mem h _).mpr (mt_cl_MO hx).1) (2 ^ n)]
  have q := mt_sum_c (p := fun s => mt_F n g s) (q := fun s => 1 + mt_ad n g s) _ (fun s hs => mt_F_ad hg ((mt_SL_mem h s).mp hs))
  rw [mt_sumf_r (fun s => 1 + mt_ad n g s), mt_sumf_1] at q
  exact q.symm
end
/-! ===== kinds ===== -/
def mt_sm (n : Nat) (g : Nat → Nat) (s : Nat) : Prop := ∃ u v, mt_in u s ∧ mt_in v s ∧ ¬ mt_in v (mt_ch n g s u) ∧ mt_in v (g u)
def mt_ev (n : Nat) (g : Nat → Nat) (s : Nat) : Prop := ∀ u v, mt_in u s → mt_in v s → ¬ mt_in v (mt_ch n g s u) → mt_in v (g u)
noncomputable def mt_kd (n : Nat) (g : Nat → Nat) (s : Nat) : Nat := if mt_b (mt_sm n g s) = true then (if mt_b (mt_ev n g s) = true then 1 else 2) else 0
theorem mt_kd_DG {n : Nat} {g : Nat → Nat} {s : Nat} : mt_kd n g s ≠ 2 ↔ mt_DG n g s := by
  unfold mt_kd
  by_cases h1 : mt_sm n g s
  · rw [if_pos (mt_b_t.mpr h1)]
    by_cases h2 : mt_ev n g s
    · rw [if_pos (mt_b_t.mpr h2)]
      exact ⟨fun _ => ⟨True, fun u v a b c => ⟨fun _ => trivial, fun _ => h2 u v a b c⟩⟩, fun _ => by omega⟩
    · rw [if_neg (fun z => h2 (mt_b_t.mp z))]
      refine ⟨fun z => absurd rfl z, fun ⟨c, hc⟩ => absurd ?_ h2⟩
      obtain ⟨u, v, a1, a2, a3, a4⟩ := h1
      have q := (hc u v a1 a2 a3).mp a4
      exact fun u v a b d => (hc u v a b d).mpr q
  · rw [if_neg (fun z => h1 (mt_b_t.mp z))]
    exact ⟨fun _ => ⟨False, fun u v a b c => ⟨fun d => h1 ⟨u, v, a, b, c, d⟩, fun d => d.elim⟩⟩, fun _ => by omega⟩
/-! ===== growth ===== -/
noncomputable def mt_tl (n : Nat) (g : Nat → Nat) (m : Nat) : Nat := mt_mk (fun x => ¬ mt_in x m ∧ g x &&& m ≠ 0 ∧ g x &&& m ≠ m) n
section
variable {n : Nat} {g : Nat → Nat}
theorem mt_look {m x : Nat} : g x &&& m ≠ 0 ∧ g x &&& m ≠ m ↔ (∃ p, mt_in p m ∧ mt_in p (g x)) ∧ ∃ q, mt_in q m ∧ ¬ mt_in q (g x) := by
  constructor
  · rintro ⟨h1, h2⟩
    obtain ⟨p, p1, p2⟩ := mt_and0.mp h1
    refine ⟨⟨p, p2, p1⟩, ?_⟩
    apply Classical.byContradiction
    intro z
    exact h2 (mt_andE.mpr fun q hq => Classical.byContradiction fun y => z ⟨q, hq, y⟩)
  · rintro ⟨⟨p, p1, p2⟩, ⟨q, q1, q2⟩⟩
    exact ⟨mt_and0.mpr ⟨p, p2, p1⟩, fun z => q2 (mt_andE.mp z q q1)⟩
theorem mt_MO_look {m : Nat} (h0 : ∃ i, mt_in i m) (h1 : ∀ i, mt_in i m → i < n) : mt_MO n g m ↔ ∀ x, x < n → ¬ (¬ mt_in x m ∧ g x &&& m ≠ 0 ∧ g x &&& m ≠ m) := by
  constructor
  · rintro h x hx ⟨h2, h3⟩
    obtain ⟨⟨p, p1, p2⟩, ⟨q, q1, q2⟩⟩ := mt_look.mp h3
    exact q2 (h.2.2 x hx h2 p q p1 q1 p2)
  · intro h
    refine ⟨h0, h1, fun x hx hn a b ha hb hab => ?_⟩
    apply Classical.byContradiction
    intro w
    exact h x hx ⟨hn, mt_look.mpr ⟨⟨a, ha, hab⟩, ⟨b, hb, w⟩⟩⟩
theorem mt_tl_0 {m : Nat} (h0 : ∃ i, mt_in i m) (h1 : ∀ i, mt_in i m → i < n) : mt_tl n g m = 0 ↔ mt_MO n g m := by
  rw [mt_MO_look h0 h1]
  constructor
  · intro h x hx hh
    have q : mt_in x (mt_tl n g m) := (mt_in_mk _ n x).mpr ⟨hx, hh⟩
    rw [h] at q
    exact mt_in_0 x q
  · intro h
    apply mt_ext
    intro x
    unfold mt_tl
    rw [mt_in_mk]
    exact ⟨fun z => absurd z.2 (h x z.1), fun z => absurd z (mt_in_0 x)⟩
theorem mt_tl_sub {m M : Nat} (hM : mt_MO n g M) (h : mt_sub m M) : mt_sub (mt_tl n g m) M := by
  intro x hx
  obtain ⟨h1, h2, h3⟩ := (mt_in_mk _ n x).mp hx
  obtain ⟨⟨p, p1, p2⟩, ⟨q, q1, q2⟩⟩ := mt_look.mp h3
  apply Classical.byContradiction
  intro w
  exact q2 (hM.2.2 x h1 w p q (h p p1) (h q q1) p2)
end
/-! ===== parents ===== -/
def mt_PA (n : Nat) (g : Nat → Nat) (s p : Nat) : Prop := mt_ST n g p ∧ mt_sub s p ∧ p ≠ s ∧ ∀ t, mt_ST n g t → mt_sub s t → t ≠ s → mt_sub p t
noncomputable def mt_pa (n : Nat) (g : Nat → Nat) (s : Nat) : Nat := Classical.epsilon (fun p => mt_PA n g s p)
theorem mt_pa_ex {n : Nat} {g : Nat → Nat} {s : Nat} (hs : mt_ST n g s) (h : s ≠ 2 ^ n - 1) : mt_PA n g s (mt_pa n g s) := by
  apply Classical.epsilon_spec (p := fun p => mt_PA n g s p)
  obtain ⟨i, hi⟩ := hs.1.1
  have hn : 0 < n := Nat.lt_of_le_of_lt (Nat.zero_le _) (hs.1.2.1 i hi)
  obtain ⟨p, ⟨h1, h2, h3⟩, h4⟩ := mt_min (fun p => mt_ST n g p ∧ mt_sub s p ∧ p ≠ s) ⟨2 ^ n - 1, mt_ST_all hn, fun i hi => (mt_in_all i n).mpr (hs.1.2.1 i hi), fun e => h e.symm⟩
  refine ⟨p, h1, h2, h3, fun t t1 t2 t3 => ?_⟩
  rcases mt_ST_tri h1 t1.1 (h2 i hi) (t2 i hi) with q | q
  · exact q
  · have q1 := h4 t ⟨t1, t2, t3⟩
    have q2 := mt_sub_le q
    have e : p = t := by omega
    rw [e]
    exact mt_sub_r t
end
section
/-! ===== rows pasted from the given starting texts PURE-ROWS and BITS (pk_, bt, b_, s_l, nx_and) ===== -/
theorem pk_us {f : Nat → Int32} {k : Nat} {x : Int32} : upd f k x k = x := if_pos rfl
theorem pk_un {f : Nat → Int32} {k j : Nat} {x : Int32} (h : j ≠ k) : upd f k x j = f j := if_neg h
theorem pk_sub {a b : Nat} (h : b ≤ a) : nI a - nI b = nI (a - b) := by
  obtain ⟨c, rfl⟩ : ∃ c, a = c + b := ⟨a - b, by omega⟩
  rw [← nI_add, Int32.add_sub_cancel, Nat.add_sub_cancel]
theorem pk_m1 (n : Nat) : nI (n + 1) + (-1) = nI n := by
  rw [← nI_1, Int32.add_assoc, show (1 : Int32) + (-1) = 0 from rfl, Int32.add_zero]
theorem pk_ix (x : Int32) {n : Nat} (hn : n < 2 ^ 31) : x < 0 ∨ nI n ≤ x ∨ ∃ j : Nat, j < n ∧ x = nI j := by
  by_cases h : x < 0
  · exact Or.inl h
  · obtain ⟨j, hj, rfl⟩ := nI_of h
    by_cases h2 : j < n
    · exact Or.inr (Or.inr ⟨j, h2, rfl⟩)
    · exact Or.inr (Or.inl (nI_le (by omega) hj))
theorem pk_le {x y : Int32} {A B : Prop} (a b : Nat) (f : a ≤ b → A) (g : b < a → B) (hx : x = nI a := by rfl) (hy : y = nI b := by rfl) (ha : a < 2 ^ 31 := by omega) (hb : b < 2 ^ 31 := by omega) : (x ≤ y → A) ∧ (¬ x ≤ y → B) := by
  subst hx hy
  rw [nI_leI ha hb]
  exact ⟨f, fun z => g (by omega)⟩
theorem pk_lt {x y : Int32} {A B : Prop} (a b : Nat) (f : a < b → A) (g : b ≤ a → B) (hx : x = nI a := by rfl) (hy : y = nI b := by rfl) (ha : a < 2 ^ 31 := by omega) (hb : b < 2 ^ 31 := by omega) : (x < y → A) ∧ (¬ x < y → B) := by
  subst hx hy
  rw [nI_ltI ha hb]
  exact ⟨f, fun z => g (by omega)⟩
theorem pk_eq {x y : Int32} {A B : Prop} (a b : Nat) (f : a = b → A) (g : a ≠ b → B) (hx : x = nI a := by rfl) (hy : y = nI b := by rfl) (ha : a < 2 ^ 31 := by omega) (hb : b < 2 ^ 31 := by omega) : (x = y → A) ∧ (¬ x = y → B) := by
  subst hx hy
  rw [nI_eq ha hb]
  exact ⟨f, g⟩
theorem pk_tn {n : Nat} (h : n < 2 ^ 32) : (nI n).toBitVec.toNat = n := Nat.mod_eq_of_lt h
theorem pk_shl (a s : Int32) (k : Nat) (hs : (s.toBitVec.smod 32).toNat = k) : (a <<< s).toBitVec.toNat = a.toBitVec.toNat * 2 ^ k % 2 ^ 32 := by
  show (a.toBitVec <<< (s.toBitVec.smod 32).toNat).toNat = _
  rw [hs, BitVec.toNat_shiftLeft, Nat.shiftLeft_eq]
theorem pk_shlN {n : Nat} (s : Int32) (k : Nat) (hs : (s.toBitVec.smod 32).toNat = k) (h : n * 2 ^ k < 2 ^ 32) : nI n <<< s = nI (n * 2 ^ k) := by
  apply Int32.toBitVec_inj.mp
  apply BitVec.eq_of_toNat_eq
  have hn : n < 2 ^ 32 := Nat.lt_of_le_of_lt (Nat.le_mul_of_pos_right n (Nat.two_pow_pos k)) h
  rw [pk_shl _ _ k hs, pk_tn hn, pk_tn h, Nat.mod_eq_of_lt h]
theorem pk_shr (a s : Int32) (k : Nat) (hs : (s.toBitVec.smod 32).toNat = k) : (a >>> s).toInt = a.toInt >>> k := by
  show (a.toBitVec.sshiftRight (s.toBitVec.smod 32).toNat).toInt = _
  rw [hs, BitVec.toInt_sshiftRight]
  rfl
theorem pk_shrN {n : Nat} (h : n < 2 ^ 31) (s : Int32) (k : Nat) (hs : (s.toBitVec.smod 32).toNat = k) : nI n >>> s = nI (n / 2 ^ k) := by
  apply Int32.toInt_inj.mp
  have h2 : n / 2 ^ k ≤ n := Nat.div_le_self _ _
  rw [pk_shr _ _ k hs, nI_toInt h, nI_toInt (by omega), Int.shiftRight_eq_div_pow]
  rfl
def bt (x : Int32) (i : Nat) : Bool := x.toBitVec.getLsbD i
theorem b_ext {x y : Int32} (h : ∀ i, i < 32 → bt x i = bt y i) : x = y := Int32.toBitVec_inj.mp (BitVec.eq_of_getLsbD_eq (fun i hi => h i hi))
theorem b_or (x y : Int32) (i : Nat) : bt (x ||| y) i = (bt x i || bt y i) := by unfold bt; rw [Int32.toBitVec_or, BitVec.getLsbD_or]
theorem b_and (x y : Int32) (i : Nat) : bt (x &&& y) i = (bt x i && bt y i) := by unfold bt; rw [Int32.toBitVec_and, BitVec.getLsbD_and]
theorem b_xor (x y : Int32) (i : Nat) : bt (x ^^^ y) i = (bt x i ^^ bt y i) := by unfold bt; rw [Int32.toBitVec_xor, BitVec.getLsbD_xor]
theorem b_m1 : ∀ i, i < 32 → bt (-1) i = true := by decide +kernel
theorem s_l : ∀ n, n < 32 → ((nI n &&& 31).toBitVec.smod 32).toNat = n := by decide +kernel
theorem nx_and (a b : Nat) : nI a &&& nI b = nI (a &&& b) := by
  apply Int32.toBitVec_inj.1
  show BitVec.ofNat 32 a &&& BitVec.ofNat 32 b = BitVec.ofNat 32 (a &&& b)
  apply BitVec.eq_of_getLsbD_eq
  intro i hi
  simp [hi]
/-! ===== masks as Int32 ===== -/
theorem mb_256 {n m : Nat} (hn : n ≤ 8) (h : m < 2 ^ n) : m < 256 := Nat.lt_of_lt_of_le h (Nat.pow_le_pow_right (by omega) hn : 2 ^ n ≤ 2 ^ 8)
theorem mb_bt {a i : Nat} (hi : i < 32) : bt (nI a) i = a.testBit i := by
  show (BitVec.ofNat 32 a).getLsbD i = _
  rw [BitVec.getLsbD_ofNat]
  simp [hi]
theorem mb_or (a b : Nat) : nI a ||| nI b = nI (a ||| b) := by
  apply b_ext
  intro i hi
  rw [b_or, mb_bt hi, mb_bt hi, mb_bt hi, Nat.testBit_or]
theorem mb_df (a b : Nat) : nI a &&& (nI b ^^^ (-1)) = nI (mt_df a b) := by
  apply b_ext
  intro i hi
  unfold mt_df
  rw [b_and, b_xor, b_m1 i hi, mb_bt hi, mb_bt hi, mb_bt hi, Nat.testBit_and, Nat.testBit_xor]
  cases a.testBit i <;> cases b.testBit i <;> rfl
theorem mb_one {x : Nat} (hx : x < 31) : (1 : Int32) <<< (nI x &&& 31) = nI (2 ^ x) := by
  have h : 1 * 2 ^ x < 2 ^ 32 := by
    rw [Nat.one_mul]
    exact Nat.pow_lt_pow_right (by omega) (by omega)
  have q := pk_shlN (n := 1) (nI x &&& 31) x (s_l x (by omega)) h
  rw [Nat.one_mul] at q
  exact q
theorem mb_all {n : Nat} (hn : n ≤ 8) : ((1 : Int32) <<< (nI n &&& 31)) - 1 = nI (2 ^ n - 1) := by
  rw [mb_one (by omega)]
  exact pk_sub (a := 2 ^ n) (b := 1) (Nat.two_pow_pos n)
theorem mb_bitN {m x : Nat} (hm : m < 256) (hx : x < 8) : (nI m >>> (nI x &&& 31)) &&& 1 = nI (if m.testBit x = true then 1 else 0) := by
  rw [pk_shrN (by omega) (nI x &&& 31) x (s_l x (by omega))]
  show nI (m / 2 ^ x) &&& nI 1 = _
  rw [nx_and, Nat.and_one_is_mod, Nat.testBit_eq_decide_div_mod_eq]
  generalize m / 2 ^ x = z
  by_cases h : z % 2 = 1
  · rw [if_pos (by simp [h]), h]
  · rw [if_neg (by simp [h]), show z % 2 = 0 by omega]
theorem mb_bit0 {m x : Nat} (hm : m < 256) (hx : x < 8) : ((nI m >>> (nI x &&& 31)) &&& 1) = 0 ↔ ¬ mt_in x m := by
  rw [mb_bitN hm hx]
  unfold mt_in
  by_cases h : m.testBit x = true
  · rw [if_pos h]
    exact ⟨fun z => absurd z (by decide), fun z => absurd h z⟩
  · rw [if_neg h]
    exact ⟨fun _ => h, fun _ => rfl⟩
theorem mb_bit1 {m x : Nat} (hm : m < 256) (hx : x < 8) : ((nI m >>> (nI x &&& 31)) &&& 1) = 1 ↔ mt_in x m := by
  rw [mb_bitN hm hx]
  unfold mt_in
  by_cases h : m.testBit x = true
  · rw [if_pos h]
    exact ⟨fun _ => h, fun _ => rfl⟩
  · rw [if_neg h]
    exact ⟨fun z => absurd z (by decide), fun z => absurd z h⟩
theorem mb_0 {m : Nat} (hm : m < 256) : nI m = 0 ↔ m = 0 := by
  rw [← nI_0]
  exact nI_eq (by omega) (by omega)
theorem mb_eq {a b : Nat} (ha : a < 256) (hb : b < 256) : nI a = nI b ↔ a = b := nI_eq (by omega) (by omega)
theorem mb_low : ∀ m : Fin 256, m.val ≠ 0 → (m.val &&& (m.val - 1) = 0 ↔ mt_sz m.val 8 ≤ 1) := by decide +kernel
theorem mb_two {m : Nat} (hm : m < 256) : mt_sz m 8 ≤ 1 ↔ ¬ mt_two m := by
  have hl : ∀ i, mt_in i m → i < 8 := mt_lt.mp (by omega)
  constructor
  · rintro h ⟨u, v, hu, hv, huv⟩
    have q := mt_sz_two hu hv huv (hl u hu) (hl v hv)
    omega
  · intro h
    by_cases z : m = 0
    · rw [z, mt_sz_0]; omega
    · obtain ⟨u, hu⟩ := mt_ne.mp z
      exact mt_sz_single (i := u) fun j hj => Classical.byContradiction fun w => h ⟨j, u, hj, hu, w⟩
theorem mb_single {m : Nat} (h0 : 0 < m) (hm : m < 256) : (nI m &&& (nI m - 1)) = 0 ↔ ¬ mt_two m := by
  have e : nI m - 1 = nI (m - 1) := pk_sub (a := m) (b := 1) h0
  rw [e, nx_and, mb_0 (Nat.lt_of_le_of_lt Nat.and_le_left hm), ← mb_two hm]
  exact mb_low ⟨m, hm⟩ (by show m ≠ 0; omega)
theorem mb_byte0 : ∀ x : Fin 128, ((nI x.val).toInt8.toInt32).toInt8.toInt32 = nI x.val := by decide +kernel
theorem mb_byte {x : Nat} (hx : x < 128) : vp_nar .byte (nI x).toInt8.toInt32 = nI x := by
  rw [vp_nar_byte]
  exact mb_byte0 ⟨x, hx⟩
theorem mb_bool0 : vp_nar .boolean 0 = 0 := rfl
theorem mb_bool1 : vp_nar .boolean 1 = 1 := rfl
/-- the graph as the array of both classes -/
def mt_G (g : Nat → Nat) : Nat → Int32 := fun i => nI (g i)
theorem mb_G {g : Nat → Nat} {x : Nat} (hx : x < 8) : mt_G g (nI x).toNatClampNeg = nI (g x) := by
  rw [nI_clamp (by omega)]
  rfl
theorem mb_at {f : Nat → Int32} {x N : Nat} (hx : x < N) (hN : N ≤ 256) : f (nI x).toNatClampNeg = f x := by
  rw [nI_clamp (by omega)]
theorem mb_pc {n : Nat} (hn : n ≤ 8) (x : Int32) : (x < 0 ∨ nI n ≤ x) ∨ ∃ j : Nat, j < n ∧ x = nI j := by
  rcases pk_ix x (n := n) (by omega) with h | h | h
  · exact Or.inl (Or.inl h)
  · exact Or.inl (Or.inr h)
  · exact Or.inr h
theorem mb_sc {n : Nat} (hn : n ≤ 8) (x : Int32) : (x ≤ 0 ∨ nI (2 ^ n - 1) < x) ∨ ∃ m : Nat, 0 < m ∧ m < 2 ^ n ∧ x = nI m := by
  have b : 2 ^ n ≤ 2 ^ 8 := Nat.pow_le_pow_right (by omega) hn
  have p : 0 < 2 ^ n := Nat.two_pow_pos n
  by_cases h : x < 0
  · exact Or.inl (Or.inl (Int32.le_of_lt h))
  · obtain ⟨j, hj, e⟩ := nI_of h
    rw [e]
    by_cases h1 : j = 0
    · refine Or.inl (Or.inl ?_)
      rw [h1]
      exact nI_le (a := 0) (b := 0) (by omega) (by omega)
    · by_cases h2 : j < 2 ^ n
      · exact Or.inr ⟨j, by omega, h2, rfl⟩
      · exact Or.inl (Or.inr (nI_lt (by omega) hj))
theorem mt_df_b {a b : Nat} (h : a < 256) : mt_df a b < 256 := Nat.lt_of_le_of_lt Nat.and_le_left h
end
section
/-! ===== the component's small methods ===== -/
section
variable {n : Nat} {g : Nat → Nat} {pc rd sc smc : Int32} {jt ss sm co : Nat → Int32} {post : Int32 → Prop}
theorem mx_isPoint_f {x : Int32} (h : x < 0 ∨ nI n ≤ x) (hp : post 0) : wpX_isPoint post (nI n, rd, sc, smc, jt, ss, sm, co) x := by
  by_cases z : x < 0
  · exact br_t z hp
  · exact br_f z (br_t (h.resolve_left z) hp)
theorem mx_isPoint_t {j : Nat} (hn : n ≤ 8) (hj : j < n) (hp : post 1) : wpX_isPoint post (nI n, rd, sc, smc, jt, ss, sm, co) (nI j) :=
  br_f (nI_pos (by omega)) (br_f (nI_ge hj (by omega)) hp)
theorem mx_all (hn : n ≤ 8) (hp : post (nI (2 ^ n - 1))) : wpX_everything post (nI n, rd, sc, smc, jt, ss, sm, co) := by
  show post (((1 : Int32) <<< (nI n &&& 31)) - 1)
  rw [mb_all hn]
  exact hp
theorem mx_isSet_f {x : Int32} (hn : n ≤ 8) (h : x ≤ 0 ∨ nI (2 ^ n - 1) < x) (hp : post 0) : wpX_isSet post (nI n, rd, sc, smc, jt, ss, sm, co) x := by
  unfold wpX_isSet
  dsimp only
  refine mx_all hn ?_
  by_cases z : x ≤ 0
  · exact br_t z hp
  · exact br_f z (br_t (h.resolve_left z) hp)
theorem mx_isSet_t {m : Nat} (hn : n ≤ 8) (h0 : 0 < m) (hm : m < 2 ^ n) (hp : post 1) : wpX_isSet post (nI n, rd, sc, smc, jt, ss, sm, co) (nI m) := by
  have h := mb_256 hn hm
  unfold wpX_isSet
  dsimp only
  refine mx_all hn ?_
  exact br_f (nI_nle h0 (by omega)) (br_f (nI_nlt (by omega) (by have := Nat.pow_le_pow_right (n := 2) (by omega) hn; omega)) hp)
theorem mx_bits_l {m : Nat} (hm : m < 256) (hp : post (nI (mt_sz m 8))) : ∀ d x, x + d = 8 → wX_bitsIn_4 post (nI m) pc rd sc smc jt ss sm co (d + 1) (nI (mt_sz m x)) (nI x) := by
  intro d
  induction d with
  | zero =>
    intro x hx
    have e : x = 8 := by omega
    rw [e]
    exact br_t (nI_le (a := 8) (b := 8) (by omega) (by omega)) hp
  | succ d ih =>
    intro x hx
    refine br_f (nI_ge (a := x) (b := 8) (by omega) (by omega)) ?_
    refine nm_r (e' := nI (mt_sz m (x + 1))) ?_ (nm_r (nI_1 x) (ih (x + 1) (by omega)))
    rw [mb_bitN hm (by omega), nI_add]
    rfl
theorem mx_bits {m : Nat} (hm : m < 256) (hp : post (nI (mt_sz m 8))) : wpX_bitsIn post (pc, rd, sc, smc, jt, ss, sm, co) (nI m) :=
  ⟨9, mx_bits_l hm hp 8 0 rfl⟩
theorem mx_tel_l (hn : n ≤ 8) {m : Nat} (hm : m < 2 ^ n) (hp : post (nI (mt_tl n g m))) : ∀ d x t, x + d = n → (∀ i, mt_in i t ↔ i < x ∧ ¬ mt_in i m ∧ g i &&& m ≠ 0 ∧ g i &&& m ≠ m) → wX_tellers_4 post (nI m) (nI n) rd sc smc (mt_G g) ss sm co (d + 1) (nI t) (nI x) := by
  have hm2 := mb_256 hn hm
  intro d
  induction d with
  | zero =>
    intro x t hx ht
    have e : x = n := by omega
    have e2 : t = mt_tl n g m := by
      apply mt_ext
      intro i
      unfold mt_tl
      rw [ht, mt_in_mk, e]
    rw [e, e2]
    exact br_t (nI_le (Nat.le_refl n) (by omega)) hp
  | succ d ih =>
    intro x t hx ht
    refine br_f (nI_ge (by omega) (by omega)) ?_
    have stay : ¬ (¬ mt_in x m ∧ g x &&& m ≠ 0 ∧ g x &&& m ≠ m) → wX_tellers_4 post (nI m) (nI n) rd sc smc (mt_G g) ss sm co (d + 1) (nI t) (nI (x + 1)) := by
      intro z
      refine ih (x + 1) t (by omega) fun i => ?_
      rw [ht]
      constructor
      · rintro ⟨h1, h2⟩
        exact ⟨by omega, h2⟩
      · rintro ⟨h1, h2⟩
        refine ⟨?_, h2⟩
        apply Nat.lt_of_le_of_ne (by omega)
        intro e
        exact z (e ▸ h2)
    by_cases hx2 : mt_in x m
    · refine br_f (fun z => (mb_bit0 hm2 (by omega)).mp z hx2) ?_
      exact nm_r (nI_1 x) (stay fun z => z.1 hx2)
    · refine br_t ((mb_bit0 hm2 (by omega)).mpr hx2) ⟨vp_in_nI (by omega) (by omega), ?_⟩
      have ea : mt_G g (nI x).toNatClampNeg &&& nI m = nI (g x &&& m) := by
        rw [mb_G (by omega), nx_and]
      have hb : g x &&& m < 256 := Nat.lt_of_le_of_lt Nat.and_le_right hm2
      refine nm_r ea ?_
      by_cases h0 : g x &&& m = 0
      · refine br_t ((mb_0 hb).mpr h0) ?_
        exact nm_r (nI_1 x) (stay fun z => z.2.1 h0)
      · refine br_f (fun z => h0 ((mb_0 hb).mp z)) ?_
        by_cases h1 : g x &&& m = m
        · refine br_t ((mb_eq hb hm2).mpr h1) ?_
          exact nm_r (nI_1 x) (stay fun z => z.2.2 h1)
        · refine br_f (fun z => h1 ((mb_eq hb hm2).mp z)) ?_
          refine nm_r (e' := nI (t ||| 2 ^ x)) ?_ (nm_r (nI_1 x) (ih (x + 1) (t ||| 2 ^ x) (by omega) fun i => ?_))
          · rw [mb_one (by omega), mb_or]
          · rw [mt_in_or, mt_in_one, ht]
            constructor
            · rintro (⟨a, b⟩ | a)
              · exact ⟨by omega, b⟩
              · rw [a]
                exact ⟨by omega, hx2, h0, h1⟩
            · rintro ⟨a, b⟩
              by_cases e : i = x
              · exact Or.inr e
              · exact Or.inl ⟨by omega, b⟩
theorem mx_tel (hn : n ≤ 8) {m : Nat} (hm : m < 2 ^ n) (hp : post (nI (mt_tl n g m))) : wpX_tellers post (nI n, rd, sc, smc, mt_G g, ss, sm, co) (nI m) :=
  ⟨n + 1, mx_tel_l hn hm hp n 0 0 (by omega) fun i => ⟨fun z => absurd z (mt_in_0 i), fun z => absurd z.1 (by omega)⟩⟩
theorem mx_grown_l (hn : n ≤ 8) {M st : Nat} (hM : mt_LM n g st M) (h0 : ∃ i, mt_in i st) (hp : post (nI M)) : ∀ d s, mt_sub st s → mt_sub s M → 2 ^ n ≤ s + d → wX_grown_8 post (nI n) rd sc smc (mt_G g) ss sm co (d + 1) (nI s) (nI (mt_tl n g s)) := by
  intro d
  induction d with
  | zero =>
    intro s _ h2 h3
    have a := mt_sub_le h2
    have b := mt_MO_lt hM.1
    omega
  | succ d ih =>
    intro s h1 h2 h3
    have sn : ∀ i, mt_in i s → i < n := fun i hi => hM.1.2.1 i (h2 i hi)
    have tM := mt_tl_sub hM.1 h2
    have tb : mt_tl n g s < 256 := Nat.lt_of_le_of_lt (mt_sub_le tM) (mb_256 hn (mt_MO_lt hM.1))
    by_cases z : mt_tl n g s = 0
    · obtain ⟨i, hi⟩ := h0
      have q := hM.2.2 s ((mt_tl_0 ⟨i, h1 i hi⟩ sn).mp z) h1
      refine br_t ((mb_0 tb).mpr z) ?_
      rw [mt_sub_eq h2 q]
      exact hp
    · refine br_f (fun y => z ((mb_0 tb).mp y)) ?_
      have hs2 : mt_sub (s ||| mt_tl n g s) M := fun i hi => ((mt_in_or _ _ _).mp hi).elim (h2 i) (tM i)
      refine nm_r (mb_or _ _) ?_
      refine mx_tel hn (mt_lt.mpr fun i hi => hM.1.2.1 i (hs2 i hi)) ?_
      refine ih (s ||| mt_tl n g s) (fun i hi => (mt_in_or _ _ _).mpr (Or.inl (h1 i hi))) hs2 ?_
      have lt : s ≠ s ||| mt_tl n g s := by
        intro e
        obtain ⟨x, hx⟩ := mt_ne.mp z
        have q : mt_in x s := by
          rw [e]
          exact (mt_in_or _ _ _).mpr (Or.inr hx)
        exact ((mt_in_mk _ n x).mp hx).2.1 q
      have le := mt_sub_le (a := s) (b := s ||| mt_tl n g s) (fun i hi => (mt_in_or _ _ _).mpr (Or.inl hi))
      omega
theorem mx_grown (hn : n ≤ 8) {st : Nat} (h0 : ∃ i, mt_in i st) (h1 : ∀ i, mt_in i st → i < n) (hp : post (nI (mt_gm n g st))) : wpX_grown post (nI n, rd, sc, smc, mt_G g, ss, sm, co) (nI st) := by
  have hM := mt_gm_ex (g := g) h0 h1
  unfold wpX_grown
  dsimp only
  refine mx_tel hn (mt_lt.mpr h1) ?_
  exact ⟨2 ^ n + 1, mx_grown_l hn hM h0 hp (2 ^ n) st (mt_sub_r st) hM.2.1 (by omega)⟩
theorem mx_crosses_t {a b : Nat} (ha : a < 256) (hb : b < 256) (h : mt_CR a b) (hp : post 1) : wpX_crosses post (pc, rd, sc, smc, jt, ss, sm, co) (nI a) (nI b) := by
  obtain ⟨h1, ⟨i, i1, i2⟩, ⟨j, j1, j2⟩⟩ := h
  refine br_f ?_ (br_f ?_ (br_f ?_ hp))
  · rw [nx_and, mb_0 (Nat.lt_of_le_of_lt Nat.and_le_left ha)]
    exact mt_and0.mpr h1
  · rw [mb_df, mb_0 (mt_df_b ha)]
    exact fun z => i2 (mt_df0.mp z i i1)
  · rw [mb_df, mb_0 (mt_df_b hb)]
    exact fun z => j2 (mt_df0.mp z j j1)
theorem mt_CR_of {a b : Nat} (h1 : a &&& b ≠ 0) (h2 : mt_df a b ≠ 0) (h3 : mt_df b a ≠ 0) : mt_CR a b := by
  refine ⟨mt_and0.mp h1, ?_, ?_⟩
  · obtain ⟨i, hi⟩ := mt_ne.mp h2
    exact ⟨i, (mt_in_df _ _ _).mp hi⟩
  · obtain ⟨i, hi⟩ := mt_ne.mp h3
    exact ⟨i, (mt_in_df _ _ _).mp hi⟩
theorem mx_crosses_f {a b : Nat} (ha : a < 256) (hb : b < 256) (h : ¬ mt_CR a b) (hp : post 0) : wpX_crosses post (pc, rd, sc, smc, jt, ss, sm, co) (nI a) (nI b) := by
  refine br_c (fun _ => hp) fun z1 => br_c (fun _ => hp) fun z2 => br_c (fun _ => hp) fun z3 => ?_
  rw [nx_and, mb_0 (Nat.lt_of_le_of_lt Nat.and_le_left ha)] at z1
  rw [mb_df, mb_0 (mt_df_b ha)] at z2
  rw [mb_df, mb_0 (mt_df_b hb)] at z3
  exact absurd (mt_CR_of z1 z2 z3) h
end
end
section
/-! ===== the component's list of strong modules, read ===== -/
def mt_AR (c : Nat) (a : Nat → Nat) (ss : Nat → Int32) : Prop := c ≤ 36 ∧ (∀ k, k < c → ss k = nI (a k)) ∧ ∀ k, k < c → a k < 256
def mt_SO (n : Nat) (g : Nat → Nat) (c : Nat) (a : Nat → Nat) (ss : Nat → Int32) : Prop := mt_AR c a ss ∧ mt_SL n g c a ∧ ∀ i j, i < j → j < c → mt_sz (a i) 8 ≤ mt_sz (a j) 8
section
variable {n c : Nat} {g a : Nat → Nat} {pc rd smc : Int32} {jt ss sm co : Nat → Int32} {post : Int32 → Prop}
theorem mx_ar {k : Nat} (h : mt_AR c a ss) (hk : k < c) : ss (nI k).toNatClampNeg = nI (a k) := by
  have q := h.1
  rw [nI_clamp (by omega)]
  exact h.2.1 k hk
theorem mx_place_l (h : mt_AR c a ss) {m : Nat} (hm : m < 256) (hy : ∀ k, k < c → a k = m → post (nI k)) (hno : (∀ k, k < c → a k ≠ m) → post (-1)) : ∀ d x, x + d = c → (∀ k, k < x → a k ≠ m) → wX_placeOf_2 post (nI m) pc rd (nI c) smc jt ss sm co (d + 1) (nI x) := by
  have hc := h.1
  intro d
  induction d with
  | zero =>
    intro x hx hk
    have e : x = c := by omega
    rw [e] at hk ⊢
    exact br_t (nI_le (Nat.le_refl c) (by omega)) (hno hk)
  | succ d ih =>
    intro x hx hk
    refine br_f (nI_ge (by omega) (by omega)) ⟨vp_in_nI (by omega) (by omega), ?_⟩
    have e := mx_ar h (k := x) (by omega)
    have b := h.2.2 x (by omega)
    by_cases z : a x = m
    · refine br_t ?_ (hy x (by omega) z)
      rw [e, z]
    · refine br_f ?_ (nm_r (nI_1 x) (ih (x + 1) (by omega) fun k h1 => ?_))
      · rw [e, mb_eq b hm]
        exact z
      · by_cases y : k = x
        · rw [y]; exact z
        · exact hk k (by omega)
theorem mx_place (h : mt_AR c a ss) {m : Nat} (hm : m < 256) (hy : ∀ k, k < c → a k = m → post (nI k)) (hno : (∀ k, k < c → a k ≠ m) → post (-1)) : wpX_placeOf post (pc, rd, nI c, smc, jt, ss, sm, co) (nI m) :=
  ⟨c + 1, mx_place_l h hm hy hno c 0 (by omega) fun k z => absurd z (by omega)⟩
theorem mx_least_l (h : mt_AR c a ss) {m lo : Nat} (hm : m < 256) (hl : lo < 256) (hy : ∀ k, k < c → mt_sub m (a k) → a k ≠ lo → (∀ j, j < k → mt_sub m (a j) → a j = lo) → post (nI (a k))) (hno : (∀ k, k < c → mt_sub m (a k) → a k = lo) → post (-2)) : ∀ d x, x + d = c → (∀ k, k < x → mt_sub m (a k) → a k = lo) → wX_smallestWith_2 post (nI m) (nI lo) pc rd (nI c) smc jt ss sm co (d + 1) (nI x) := by
  have hc := h.1
  intro d
  induction d with
  | zero =>
    intro x hx hk
    have e : x = c := by omega
    rw [e] at hk ⊢
    exact br_t (nI_le (Nat.le_refl c) (by omega)) (hno hk)
  | succ d ih =>
    intro x hx hk
    have iv : vp_in (nI x) 36 := vp_in_nI (by omega) (by omega)
    refine br_f (nI_ge (by omega) (by omega)) ⟨iv, ?_⟩
    have e := mx_ar h (k := x) (by omega)
    have b := h.2.2 x (by omega)
    have e2 : (nI m &&& (ss (nI x).toNatClampNeg ^^^ (-1)) = 0) ↔ mt_sub m (a x) := by
      rw [e, mb_df, mb_0 (mt_df_b hm), mt_df0]
    by_cases z : mt_sub m (a x)
    · refine br_t (e2.mpr z) ⟨iv, ?_⟩
      by_cases y : a x = lo
      · refine br_t ?_ (nm_r (nI_1 x) (ih (x + 1) (by omega) fun k h1 h2 => ?_))
        · rw [e, y]
        · by_cases w : k = x
          · rw [w]; exact y
          · exact hk k (by omega) h2
      · refine br_f ?_ ⟨iv, ?_⟩
        · rw [e, mb_eq b hl]
          exact y
        · rw [e]
          exact hy x (by omega) z y hk
    · refine br_f (fun y => z (e2.mp y)) (nm_r (nI_1 x) (ih (x + 1) (by omega) fun k h1 h2 => ?_))
      by_cases w : k = x
      · rw [w] at h2; exact absurd h2 z
      · exact hk k (by omega) h2
/-- the least strong module with a property that holds m's points, by the order of sizes -/
theorem mx_least (h : mt_SO n g c a ss) {m lo m0 : Nat} (hn : n ≤ 8) (hm : m < 256) (hl : lo < 256) (h0 : mt_ST n g m0) (h1 : mt_sub m m0) (h2 : m0 ≠ lo) (h3 : ∀ t, mt_ST n g t → mt_sub m t → t ≠ lo → mt_sub m0 t) (hp : post (nI m0)) : wpX_smallestWith post (pc, rd, nI c, smc, jt, ss, sm, co) (nI m) (nI lo) := by
  obtain ⟨k0, k1, k2⟩ := h.2.1.2.1 m0 h0
  refine ⟨c + 1, mx_least_l h.1 hm hl (fun k hk q1 q2 q3 => ?_) (fun q => ?_) c 0 (by omega) fun k z => absurd z (by omega)⟩
  · have S := h.2.1.1 k hk
    have s0 := h3 (a k) S q1 q2
    have e : m0 = a k := by
      by_cases y : k0 < k
      · have w := q3 k0 y (k2.symm ▸ h1)
        rw [k2] at w
        exact absurd w h2
      · have w : mt_sz (a k) 8 ≤ mt_sz m0 8 := by
          by_cases y2 : k = k0
          · rw [y2, k2]; exact Nat.le_refl _
          · have v := h.2.2 k k0 (by omega) k1
            rw [k2] at v
            exact v
        exact mt_sz_eq s0 (mb_256 hn (mt_MO_lt S.1)) w
    rw [← e]
    exact hp
  · exact absurd (k2 ▸ q k0 k1 (k2.symm ▸ h1)) h2
theorem mx_child_l (h : mt_AR c a ss) {s u t0 : Nat} (hs : s < 256) (hu : u < 8) (ht0 : ∀ k, k < c → a k = t0 → mt_in u (a k) ∧ a k ≠ s ∧ mt_sub (a k) s) (hF : ∀ k j, k < j → j < c → a k = t0 → mt_in u (a j) → a j ≠ s → mt_sub (a j) s → a j = t0) (hex : ∃ k, k < c ∧ a k = t0) (hp : post (nI t0)) : ∀ d x t, x + d = c → (∀ k, k < x → a k = t0 → t = t0) → wX_childWith_5 post (nI s) (nI u) pc rd (nI c) smc jt ss sm co (d + 1) (nI t) (nI x) := by
  have hc := h.1
  intro d
  induction d with
  | zero =>
    intro x t hx hk
    have e : x = c := by omega
    rw [e] at hk ⊢
    obtain ⟨k, k1, k2⟩ := hex
    rw [hk k k1 k2]
    exact br_t (nI_le (Nat.le_refl c) (by omega)) hp
  | succ d ih =>
    intro x t hx hk
    have iv : vp_in (nI x) 36 := vp_in_nI (by omega) (by omega)
    refine br_f (nI_ge (by omega) (by omega)) ⟨iv, ?_⟩
    have b := h.2.2 x (by omega)
    refine nm_r (mx_ar h (k := x) (by omega)) ?_
    have stay : ¬ (mt_in u (a x) ∧ a x ≠ s ∧ mt_sub (a x) s) → wX_childWith_5 post (nI s) (nI u) pc rd (nI c) smc jt ss sm co (d + 1) (nI t) (nI (x + 1)) := by
      intro z
      refine ih (x + 1) t (by omega) fun k h1 h2 => ?_
      by_cases w : k = x
      · rw [w] at h2
        exact absurd (ht0 x (by omega) h2) z
      · exact hk k (by omega) h2
    by_cases z1 : mt_in u (a x)
    · refine br_f (fun y => (mb_bit0 b hu).mp y z1) ?_
      by_cases z2 : a x = s
      · refine br_t (by rw [z2]) ?_
        exact nm_r (nI_1 x) (stay fun y => y.2.1 z2)
      · refine br_f (fun y => z2 ((mb_eq b hs).mp y)) ?_
        have e2 : (nI (a x) &&& (nI s ^^^ (-1)) = 0) ↔ mt_sub (a x) s := by
          rw [mb_df, mb_0 (mt_df_b b), mt_df0]
        by_cases z3 : mt_sub (a x) s
        · refine br_t (e2.mpr z3) ?_
          refine nm_r (nI_1 x) (ih (x + 1) (a x) (by omega) fun k h1 h2 => ?_)
          by_cases w : k = x
          · rw [w] at h2; exact h2
          · exact hF k x (by omega) (by omega) h2 z1 z2 z3
        · refine br_f (fun y => z3 (e2.mp y)) ?_
          exact nm_r (nI_1 x) (stay fun y => z3 y.2.2)
    · refine br_t ((mb_bit0 b hu).mpr z1) ?_
      exact nm_r (nI_1 x) (stay fun y => z1 y.1)
theorem mx_child (h : mt_SO n g c a ss) (hn : n ≤ 8) {s u : Nat} (hs : mt_ST n g s) (two : mt_two s) (hu : mt_in u s) (hp : post (nI (mt_ch n g s u))) : wpX_childWith post (pc, rd, nI c, smc, jt, ss, sm, co) (nI s) (nI u) := by
  have U := mt_ch_ex hs two hu
  have un := hs.1.2.1 u hu
  refine ⟨c + 1, mx_child_l h.1 (t0 := mt_ch n g s u) (mb_256 hn (mt_MO_lt hs.1)) (by omega) (fun k _ e => ?_) (fun k j h1 h2 e q1 q2 q3 => ?_) (h.2.1.2.1 _ U.1) hp c 0 0 (by omega) fun k z => absurd z (by omega)⟩
  · rw [e]
    exact ⟨U.2.2.2.1, U.2.2.1, U.2.1⟩
  · have S := h.2.1.1 j h2
    have w := h.2.2 k j h1 h2
    rw [e] at w
    exact mt_sz_eq (U.2.2.2.2 _ S q3 q2 q1) (mb_256 hn (mt_MO_lt U.1.1)) w
/-! ===== kinds and children ===== -/
theorem mx_kind_l (h : mt_SO n g c a ss) (hn : n ≤ 8) {s : Nat} (hs : mt_ST n g s) (two : mt_two s) (hp : post (nI (mt_kd n g s))) : ∀ d x (p q : Int32), x + d = n → (p = 0 ↔ ¬ ∃ u v, u < x ∧ mt_in u s ∧ mt_in v s ∧ ¬ mt_in v (mt_ch n g s u) ∧ mt_in v (g u)) → (q = 0 ↔ ¬ ∀ u v, u < x → mt_in u s → mt_in v s → ¬ mt_in v (mt_ch n g s u) → mt_in v (g u)) → wX_kindOf_7 post (nI s) (nI n) rd (nI c) smc (mt_G g) ss sm co (d + 1) p q (nI x) := by
  have hs2 := mb_256 hn (mt_MO_lt hs.1)
  intro d
  induction d with
  | zero =>
    intro x p q hx h1 h2
    have e : x = n := by omega
    rw [e] at h1 h2 ⊢
    have f1 : (p = 0 ↔ ¬ mt_sm n g s) := by
      rw [h1]
      exact ⟨fun z ⟨u, v, a1, a2, a3, a4⟩ => z ⟨u, v, hs.1.2.1 u a1, a1, a2, a3, a4⟩, fun z ⟨u, v, _, a1, a2, a3, a4⟩ => z ⟨u, v, a1, a2, a3, a4⟩⟩
    have f2 : (q = 0 ↔ ¬ mt_ev n g s) := by
      rw [h2]
      exact ⟨fun z y => z fun u v _ => y u v, fun z y => z fun u v a1 => y u v (hs.1.2.1 u a1) a1⟩
    refine br_t (nI_le (Nat.le_refl n) (by omega)) ?_
    unfold mt_kd at hp
    by_cases z1 : mt_sm n g s
    · rw [if_pos (mt_b_t.mpr z1)] at hp
      refine br_f (fun y => f1.mp y z1) ?_
      by_cases z2 : mt_ev n g s
      · rw [if_pos (mt_b_t.mpr z2)] at hp
        exact br_f (fun y => f2.mp y z2) hp
      · rw [if_neg (fun y => z2 (mt_b_t.mp y))] at hp
        exact br_t (f2.mpr z2) hp
    · rw [if_neg (fun y => z1 (mt_b_t.mp y))] at hp
      exact br_t (f1.mpr z1) hp
  | succ d ih =>
    intro x p q hx h1 h2
    refine br_f (nI_ge (by omega) (by omega)) ?_
    by_cases xs : mt_in x s
    · refine br_f (fun y => (mb_bit0 hs2 (by omega)).mp y xs) ?_
      refine mx_child h hn hs two xs ?_
      refine nm_r (mb_df _ _) ⟨vp_in_nI (by omega) (by omega), ?_⟩
      have iv : vp_in (nI x) 8 := vp_in_nI (by omega) (by omega)
      have lb : mt_df s (mt_ch n g s x) < 256 := mt_df_b hs2
      have e0 : mt_G g (nI x).toNatClampNeg &&& nI (mt_df s (mt_ch n g s x)) = nI (g x &&& mt_df s (mt_ch n g s x)) := by
        rw [mb_G (by omega), nx_and]
      have b0 : g x &&& mt_df s (mt_ch n g s x) < 256 := Nat.lt_of_le_of_lt Nat.and_le_right lb
      have c1 : (mt_G g (nI x).toNatClampNeg &&& nI (mt_df s (mt_ch n g s x)) = 0) ↔ ¬ ∃ v, mt_in v s ∧ ¬ mt_in v (mt_ch n g s x) ∧ mt_in v (g x) := by
        rw [e0, mb_0 b0]
        constructor
        · rintro z ⟨v, v1, v2, v3⟩
          exact mt_and0.mpr ⟨v, v3, (mt_in_df _ _ _).mpr ⟨v1, v2⟩⟩ z
        · intro z
          apply Classical.byContradiction
          intro y
          obtain ⟨v, v1, v2⟩ := mt_and0.mp y
          have v3 := (mt_in_df _ _ _).mp v2
          exact z ⟨v, v3.1, v3.2, v1⟩
      have c2 : (mt_G g (nI x).toNatClampNeg &&& nI (mt_df s (mt_ch n g s x)) = nI (mt_df s (mt_ch n g s x))) ↔ ∀ v, mt_in v s → ¬ mt_in v (mt_ch n g s x) → mt_in v (g x) := by
        rw [e0, mb_eq b0 lb, mt_andE]
        exact ⟨fun z v v1 v2 => z v ((mt_in_df _ _ _).mpr ⟨v1, v2⟩), fun z v v1 => z v ((mt_in_df _ _ _).mp v1).1 ((mt_in_df _ _ _).mp v1).2⟩
      have go : ∀ p' : Int32, (p' = 0 ↔ ¬ ∃ u v, u < x + 1 ∧ mt_in u s ∧ mt_in v s ∧ ¬ mt_in v (mt_ch n g s u) ∧ mt_in v (g u)) → wX_kindOf_56 post (wX_kindOf_7 post (nI s) (nI n) rd (nI c) smc (mt_G g) ss sm co (d + 1)) (nI s) p' q (nI x) (nI (mt_df s (mt_ch n g s x))) (nI n) rd (nI c) smc (mt_G g) ss sm co := by
        intro p' hp'
        refine ⟨iv, ?_⟩
        by_cases z : ∀ v, mt_in v s → ¬ mt_in v (mt_ch n g s x) → mt_in v (g x)
        · refine br_t (c2.mpr z) (nm_r (nI_1 x) (ih (x + 1) p' q (by omega) hp' ?_))
          rw [h2]
          refine not_congr ⟨fun y u v a1 a2 a3 a4 => ?_, fun y u v a1 => y u v (by omega)⟩
          by_cases w : u = x
          · rw [w] at a4 ⊢; exact z v a3 a4
          · exact y u v (by omega) a2 a3 a4
        · refine br_f (fun y => z (c2.mp y)) (nm_r (nI_1 x) (ih (x + 1) p' 0 (by omega) hp' ?_))
          exact ⟨fun _ y => z fun v v1 v2 => y x v (by omega) xs v1 v2, fun _ => rfl⟩
      by_cases z : ∃ v, mt_in v s ∧ ¬ mt_in v (mt_ch n g s x) ∧ mt_in v (g x)
      · refine br_f (fun y => c1.mp y z) (go 1 ?_)
        obtain ⟨v, v1, v2, v3⟩ := z
        exact ⟨fun y => absurd y (by decide), fun y => absurd ⟨x, v, by omega, xs, v1, v2, v3⟩ y⟩
      · refine br_t (c1.mpr z) (go p ?_)
        rw [h1]
        refine not_congr ⟨fun ⟨u, v, a1, a2⟩ => ⟨u, v, by omega, a2⟩, fun ⟨u, v, a1, a2, a3, a4, a5⟩ => ⟨u, v, ?_, a2, a3, a4, a5⟩⟩
        apply Nat.lt_of_le_of_ne (by omega)
        intro w
        rw [w] at a4 a5
        exact z ⟨v, a3, a4, a5⟩
    · refine br_t ((mb_bit0 hs2 (by omega)).mpr xs) (nm_r (nI_1 x) (ih (x + 1) p q (by omega) ?_ ?_))
      · rw [h1]
        refine not_congr ⟨fun ⟨u, v, a1, a2⟩ => ⟨u, v, by omega, a2⟩, fun ⟨u, v, a1, a2, a3⟩ => ⟨u, v, ?_, a2, a3⟩⟩
        apply Nat.lt_of_le_of_ne (by omega)
        intro w
        exact xs (w ▸ a2)
      · rw [h2]
        refine not_congr ⟨fun y u v a1 a2 a3 a4 => ?_, fun y u v a1 => y u v (by omega)⟩
        by_cases w : u = x
        · exact absurd (w ▸ a2) xs
        · exact y u v (by omega) a2 a3 a4
theorem mx_kind (h : mt_SO n g c a ss) (hn : n ≤ 8) {s : Nat} (hs : mt_ST n g s) (two : mt_two s) (hp : post (nI (mt_kd n g s))) : wpX_kindOf post (nI n, rd, nI c, smc, mt_G g, ss, sm, co) (nI s) :=
  ⟨n + 1, mx_kind_l h hn hs two hp n 0 0 1 (by omega) ⟨fun _ ⟨_, _, z, _⟩ => absurd z (by omega), fun _ => rfl⟩ ⟨fun z => absurd z (by decide), fun z => absurd (fun u v a1 => absurd a1 (by omega)) z⟩⟩
theorem mx_cc_l (h : mt_SO n g c a ss) (hn : n ≤ 8) {s : Nat} (hs : mt_ST n g s) (two : mt_two s) (hp : post (nI (mt_kc n g s))) : ∀ d x r (l : List Nat), x + d = n → l.Nodup → (∀ e, e ∈ l → mt_IC n g s e) → (∀ i, mt_in i r ↔ mt_in i s ∧ ∀ e, e ∈ l → ¬ mt_in i e) → (∀ i, i < x → ¬ mt_in i r) → wX_childCount_7 post (nI s) (nI n) rd (nI c) smc (mt_G g) ss sm co (d + 1) (nI r) (nI l.length) (nI x) := by
  have hs2 := mb_256 hn (mt_MO_lt hs.1)
  intro d
  induction d with
  | zero =>
    intro x r l hx l1 l2 l3 l4
    have e : x = n := by omega
    rw [e] at l4 ⊢
    have q : l.length = mt_kc n g s := by
      apply mt_same l1 mt_li_nd
      intro m
      rw [mt_li_mem]
      constructor
      · intro z
        exact ⟨mt_MO_lt (l2 m z).1.1, l2 m z⟩
      · rintro ⟨_, z⟩
        obtain ⟨i, hi⟩ := z.1.1.1
        have his := z.2.2.1 i hi
        have y : ∃ e, e ∈ l ∧ mt_in i e := by
          apply Classical.byContradiction
          intro w
          exact l4 i (hs.1.2.1 i his) ((l3 i).mpr ⟨his, fun e e1 e2 => w ⟨e, e1, e2⟩⟩)
        obtain ⟨e, e1, e2⟩ := y
        rw [mt_IC_of hs two z hi, ← mt_IC_of hs two (l2 e e1) e2]
        exact e1
    rw [q]
    exact br_t (nI_le (Nat.le_refl n) (by omega)) hp
  | succ d ih =>
    intro x r l hx l1 l2 l3 l4
    have rs : mt_sub r s := fun i hi => ((l3 i).mp hi).1
    have rb : r < 256 := Nat.lt_of_le_of_lt (mt_sub_le rs) hs2
    refine br_f (nI_ge (by omega) (by omega)) ?_
    by_cases xr : mt_in x r
    · refine br_f (fun y => (mb_bit0 rb (by omega)).mp y xr) ?_
      have xs := rs x xr
      have U := mt_ch_ex hs two xs
      refine mx_child h hn hs two xs ?_
      refine nm_r (mb_df _ _) (nm_r (nI_1 l.length) (nm_r (nI_1 x) ?_))
      refine ih (x + 1) (mt_df r (mt_ch n g s x)) (mt_ch n g s x :: l) (by omega) (List.nodup_cons.mpr ⟨fun z => ?_, l1⟩) (fun e he => ?_) (fun i => ?_) (fun i hi z => ?_)
      · exact ((l3 x).mp xr).2 _ z U.2.2.2.1
      · rcases List.mem_cons.mp he with z | z
        · rw [z]; exact mt_IC_ch hs two xs
        · exact l2 e z
      · rw [mt_in_df, l3]
        constructor
        · rintro ⟨⟨z1, z2⟩, z3⟩
          refine ⟨z1, fun e he => ?_⟩
          rcases List.mem_cons.mp he with y | y
          · rw [y]; exact z3
          · exact z2 e y
        · rintro ⟨z1, z2⟩
          exact ⟨⟨z1, fun e he => z2 e (List.mem_cons_of_mem _ he)⟩, z2 _ List.mem_cons_self⟩
      · have z' := (mt_in_df _ _ _).mp z
        by_cases w : i = x
        · rw [w] at z'
          exact z'.2 U.2.2.2.1
        · exact l4 i (by omega) z'.1
    · refine br_t ((mb_bit0 rb (by omega)).mpr xr) (nm_r (nI_1 x) (ih (x + 1) r l (by omega) l1 l2 l3 fun i hi => ?_))
      by_cases w : i = x
      · rw [w]; exact xr
      · exact l4 i (by omega)
theorem mx_cc (h : mt_SO n g c a ss) (hn : n ≤ 8) {s : Nat} (hs : mt_ST n g s) (two : mt_two s) (hp : post (nI (mt_kc n g s))) : wpX_childCount post (nI n, rd, nI c, smc, mt_G g, ss, sm, co) (nI s) :=
  ⟨n + 1, mx_cc_l h hn hs two hp n 0 s [] (by omega) (by simp) (fun e z => absurd z List.not_mem_nil) (fun i => ⟨fun z => ⟨z, fun e y => absurd y List.not_mem_nil⟩, fun z => z.1⟩) fun i z => absurd z (by omega)⟩
end
section
variable {n c : Nat} {g a : Nat → Nat} {rd smc : Int32} {ss sm co : Nat → Int32} {post : Int32 → SX → Prop}
theorem mx_mods_l (h : mt_SO n g c a ss) (hg : mt_GR n g) (hn : n ≤ 8) (hp : post (nI (mt_li (mt_MO n g) (2 ^ n)).length) (nI n, rd, nI c, smc, mt_G g, ss, sm, co)) : ∀ d x, x + d = c → wX_modules_11 post (nI n) rd (nI c) smc (mt_G g) ss sm co (d + 1) (nI (c + mt_sumf (fun k => mt_ad n g (a k)) x)) (nI x) := by
  have hc := h.1.1
  intro d
  induction d with
  | zero =>
    intro x hx
    have e : x = c := by omega
    rw [e, mt_SL_m hg h.2.1]
    exact br_t (nI_le (Nat.le_refl c) (by omega)) hp
  | succ d ih =>
    intro x hx
    have iv : vp_in (nI x) 36 := vp_in_nI (by omega) (by omega)
    refine br_f (nI_ge (by omega) (by omega)) ⟨iv, nm_r (mx_ar h.1 (k := x) (by omega)) ?_⟩
    have S := h.2.1.1 x (by omega)
    have b := h.1.2.2 x (by omega)
    have pos : 0 < a x := Nat.pos_of_ne_zero (mt_ne.mpr S.1.1)
    have nx := ih (x + 1) (by omega)
    rw [mt_sumf] at nx
    by_cases two : mt_two (a x)
    · refine br_f (fun z => (mb_single pos b).mp z two) ?_
      refine mx_kind h hn S two ?_
      refine mx_cc h hn S two ?_
      by_cases D : mt_DG n g (a x)
      · have K := mt_kd_DG.mpr D
        have kb := mt_kc_DG hg hn S two D
        have kle : mt_kd n g (a x) < 3 := by
          unfold mt_kd
          split
          · split <;> omega
          · omega
        refine br_f ?_ ?_
        · intro z
          exact K ((nI_eq (b := 2) (by omega) (by omega)).mp z)
        · refine nm_r (e' := nI (c + (mt_sumf (fun k => mt_ad n g (a k)) x + mt_ad n g (a x)))) ?_ (nm_r (nI_1 x) nx)
          have ea : mt_ad n g (a x) = 2 ^ mt_kc n g (a x) - mt_kc n g (a x) - 2 := by
            unfold mt_ad
            rw [if_pos (mt_b_t.mpr ⟨two, D⟩)]
          have e2 : ((1 : Int32) <<< (nI (mt_kc n g (a x)) &&& 31)) - nI (mt_kc n g (a x)) - 2 = nI (mt_ad n g (a x)) := by
            rw [mb_one kb.1, pk_sub (by omega), ea]
            exact pk_sub (b := 2) (by omega)
          rw [e2, nI_add, Nat.add_assoc]
      · refine br_t ?_ ?_
        · have K : mt_kd n g (a x) = 2 := Classical.byContradiction fun z => D (mt_kd_DG.mp z)
          rw [K]
          rfl
        · have ea : mt_ad n g (a x) = 0 := by
            unfold mt_ad
            rw [if_neg (fun z => D (mt_b_t.mp z).2)]
          rw [ea] at nx
          exact nm_r (nI_1 x) nx
    · refine br_t ((mb_single pos b).mpr two) ?_
      have ea : mt_ad n g (a x) = 0 := by
        unfold mt_ad
        rw [if_neg (fun z => two (mt_b_t.mp z).1)]
      rw [ea] at nx
      exact nm_r (nI_1 x) nx
end
end
section
/-! ===== findStrong, first: the small sets ===== -/
/-- how many couples begin below u -/
def mt_tr (n : Nat) : Nat → Nat
  | 0 => 0
  | u + 1 => mt_tr n u + (n - u)
theorem mt_tr_b0 : ∀ n : Fin 9, ∀ u : Fin 9, mt_tr n.val u.val + (n.val - u.val) ≤ 36 := by decide +kernel
theorem mt_tr_b {n u : Nat} (hn : n ≤ 8) (hu : u ≤ n) : mt_tr n u + (n - u) ≤ 36 := mt_tr_b0 ⟨n, by omega⟩ ⟨u, by omega⟩
def mt_P1 (n : Nat) (g : Nat → Nat) (k : Nat) (C : Nat → Nat → Prop) (sm co : Nat → Int32) : Prop :=
  (∀ i, i < k → ∃ m, mt_SM n g m ∧ sm i = nI m) ∧ (∀ i, i < k → co i = nI i) ∧ ∀ u v, C u v → ∃ i, i < k ∧ sm i = nI (mt_gm n g (2 ^ u ||| 2 ^ v))
section
variable {n : Nat} {g : Nat → Nat}
theorem mt_P1_s {k u v : Nat} {C D : Nat → Nat → Prop} {sm co : Nat → Int32} (h : mt_P1 n g k C sm co) (hu : u < n) (hv : v < n) (hD : ∀ a b, D a b → C a b ∨ (a = u ∧ b = v)) : mt_P1 n g (k + 1) D (upd sm k (nI (mt_gm n g (2 ^ u ||| 2 ^ v)))) (upd co k (nI k)) := by
  refine ⟨fun i hi => ?_, fun i hi => ?_, fun a b hab => ?_⟩
  · by_cases e : i = k
    · rw [e, pk_us]
      exact ⟨_, ⟨u, v, hu, hv, rfl⟩, rfl⟩
    · rw [pk_un e]
      exact h.1 i (by omega)
  · by_cases e : i = k
    · rw [e, pk_us]
    · rw [pk_un e]
      exact h.2.1 i (by omega)
  · rcases hD a b hab with z | ⟨z1, z2⟩
    · obtain ⟨i, i1, i2⟩ := h.2.2 a b z
      refine ⟨i, by omega, ?_⟩
      rw [pk_un (by omega)]
      exact i2
    · refine ⟨k, by omega, ?_⟩
      rw [pk_us, z1, z2]
theorem mt_P1_w {k : Nat} {C D : Nat → Nat → Prop} {sm co : Nat → Int32} (h : mt_P1 n g k C sm co) (hD : ∀ a b, D a b → C a b) : mt_P1 n g k D sm co :=
  ⟨h.1, h.2.1, fun a b z => h.2.2 a b (hD a b z)⟩
variable {rd sc : Int32} {ss : Nat → Int32} {post : SX → Prop}
theorem mf_30 (hn : n ≤ 8) {u : Nat} (hu : u < n) {J : Int32 → Int32 → (Nat → Int32) → (Nat → Int32) → (Nat → Int32) → (Nat → Int32) → Prop} (hJ : ∀ sm co : Nat → Int32, mt_P1 n g (mt_tr n (u + 1)) (fun a b => a < u + 1 ∧ a ≤ b ∧ b < n) sm co → J (nI (u + 1)) (nI (mt_tr n (u + 1))) (mt_G g) ss sm co) : ∀ d v sm co, v + d = n → u ≤ v → mt_P1 n g (mt_tr n u + (v - u)) (fun a b => (a < u ∧ a ≤ b ∧ b < n) ∨ (a = u ∧ u ≤ b ∧ b < v)) sm co → wX_findStrong_30 post J (nI u) (nI n) rd sc (d + 1) (nI v) (nI (mt_tr n u + (v - u))) (mt_G g) ss sm co := by
  have tb := mt_tr_b hn (Nat.le_of_lt hu)
  intro d
  induction d with
  | zero =>
    intro v sm co hv huv h
    have e : v = n := by omega
    rw [e] at h ⊢
    refine br_t (nI_le (Nat.le_refl n) (by omega)) (nm_r (nI_1 u) (hJ sm co (mt_P1_w h fun a b z => ?_)))
    by_cases w : a = u
    · exact Or.inr ⟨w, by omega, z.2.2⟩
    · exact Or.inl ⟨by omega, z.2⟩
  | succ d ih =>
    intro v sm co hv huv h
    have kb : mt_tr n u + (v - u) < 36 := by omega
    refine br_f (nI_ge (by omega) (by omega)) ?_
    have ea : ((1 : Int32) <<< (nI u &&& 31)) ||| ((1 : Int32) <<< (nI v &&& 31)) = nI (2 ^ u ||| 2 ^ v) := by
      rw [mb_one (by omega), mb_one (by omega), mb_or]
    rw [ea]
    refine mx_grown hn ⟨u, mt_pair_l u v⟩ (fun i hi => ?_) ?_
    · rcases (mt_pair_in i u v).mp hi with z | z <;> omega
    have iv : vp_in (nI (mt_tr n u + (v - u))) 36 := vp_in_nI kb (by omega)
    have ek : mt_tr n u + (v - u) + 1 = mt_tr n u + (v + 1 - u) := by omega
    have nx := ih (v + 1) (upd sm (mt_tr n u + (v - u)) (nI (mt_gm n g (2 ^ u ||| 2 ^ v)))) (upd co (mt_tr n u + (v - u)) (nI (mt_tr n u + (v - u)))) (by omega) (by omega) (by
      rw [← ek]
      refine mt_P1_s h hu (by omega) fun a b z => ?_
      rcases z with z | z
      · exact Or.inl (Or.inl z)
      · by_cases w : b = v
        · exact Or.inr ⟨z.1, w⟩
        · exact Or.inl (Or.inr ⟨z.1, z.2.1, by omega⟩))
    rw [← ek] at nx
    generalize mt_tr n u + (v - u) = k at *
    refine ⟨iv, nm_r (e' := upd sm k (nI (mt_gm n g (2 ^ u ||| 2 ^ v)))) ?_ ⟨iv, nm_r (e' := upd co k (nI k)) ?_ (nm_r (nI_1 k) (nm_r (nI_1 v) nx))⟩⟩
    · rw [nI_clamp (by omega)]
    · rw [nI_clamp (by omega), mb_byte (by omega)]
theorem mf_20 (hn : n ≤ 8) (hK : ∀ sm co : Nat → Int32, mt_P1 n g (mt_tr n n) (fun a b => a < n ∧ a ≤ b ∧ b < n) sm co → ∃ f, wX_findStrong_96 post f 0 (nI n) rd sc (nI (mt_tr n n)) (mt_G g) ss sm co) : ∀ d u sm co, u + d = n → mt_P1 n g (mt_tr n u) (fun a b => a < u ∧ a ≤ b ∧ b < n) sm co → wX_findStrong_20 post (nI n) rd sc (d + 1) (nI u) (nI (mt_tr n u)) (mt_G g) ss sm co := by
  intro d
  induction d with
  | zero =>
    intro u sm co hu h
    have e : u = n := by omega
    rw [e] at h ⊢
    exact br_t (nI_le (Nat.le_refl n) (by omega)) (hK sm co h)
  | succ d ih =>
    intro u sm co hu h
    refine br_f (nI_ge (by omega) (by omega)) ⟨n - u + 1, ?_⟩
    have q := mf_30 (g := g) (rd := rd) (sc := sc) (ss := ss) (post := post) (J := wX_findStrong_20 post (nI n) rd sc (d + 1)) hn (u := u) (by omega) (fun sm' co' h' => ih (u + 1) sm' co' (by omega) h') (n - u) u sm co (by omega) (Nat.le_refl u) (by
      rw [Nat.sub_self, Nat.add_zero]
      refine mt_P1_w h fun a b z => ?_
      rcases z with z | z
      · exact z
      · omega)
    rw [Nat.sub_self, Nat.add_zero] at q
    exact q
end
end
section
/-! ===== findStrong, second: the companies ===== -/
/-- small sets q, their labels: a label names a member that has itself as its label; one label, one strong module; what has crossed has one label -/
def mt_P2 (n : Nat) (g : Nat → Nat) (N : Nat) (q lab : Nat → Nat) (Z : Nat → Nat → Prop) : Prop :=
  (∀ i, i < N → lab i < N ∧ lab (lab i) = lab i) ∧ (∀ i j, i < N → j < N → lab i = lab j → mt_cl n g (q i) = mt_cl n g (q j)) ∧ ∀ i j, i < N → j < N → Z i j → mt_CR (q i) (q j) → lab i = lab j
/-- what the arrays hold -/
def mt_Q2 (n : Nat) (g : Nat → Nat) (N : Nat) (q : Nat → Nat) (sm : Nat → Int32) : Prop :=
  N ≤ 36 ∧ (∀ i, i < N → mt_SM n g (q i) ∧ sm i = nI (q i) ∧ q i < 256) ∧ ∀ m, mt_SM n g m → ∃ i, i < N ∧ q i = m
section
variable {n N : Nat} {g q : Nat → Nat}
theorem mt_P2_join {lab : Nat → Nat} {Z Y : Nat → Nat → Prop} {i j : Nat} (hq : ∀ i, i < N → mt_SM n g (q i)) (h : mt_P2 n g N q lab Z) (hi : i < N) (hj : j < N) (hc : mt_CR (q i) (q j)) (hY : ∀ a b, Y a b → Z a b ∨ (a = i ∧ b = j)) : mt_P2 n g N q (fun k => if lab k = lab i then lab j else lab k) Y := by
  obtain ⟨h1, h2, h3⟩ := h
  have cij : mt_cl n g (q i) = mt_cl n g (q j) := mt_cr_cl (mt_SM_MO (hq i hi)) (mt_SM_MO (hq j hj)) hc
  refine ⟨fun k hk => ?_, fun a b ha hb hab => ?_, fun a b ha hb hab hcr => ?_⟩
  · dsimp only
    by_cases e : lab k = lab i
    · rw [if_pos e]
      refine ⟨(h1 j hj).1, ?_⟩
      rw [(h1 j hj).2]
      by_cases e2 : lab j = lab i
      · rw [if_pos e2]
      · rw [if_neg e2]
    · rw [if_neg e]
      refine ⟨(h1 k hk).1, ?_⟩
      rw [(h1 k hk).2, if_neg e]
  · dsimp only at hab
    by_cases ea : lab a = lab i
    · rw [if_pos ea] at hab
      have qa := h2 a i ha hi ea
      by_cases eb : lab b = lab i
      · rw [qa, ← h2 b i hb hi eb]
      · rw [if_neg eb] at hab
        rw [qa, cij]
        exact h2 j b hj hb hab
    · rw [if_neg ea] at hab
      by_cases eb : lab b = lab i
      · rw [if_pos eb] at hab
        rw [h2 b i hb hi eb, cij]
        exact h2 a j ha hj hab
      · rw [if_neg eb] at hab
        exact h2 a b ha hb hab
  · dsimp only
    rcases hY a b hab with z | ⟨z1, z2⟩
    · rw [h3 a b ha hb z hcr]
    · rw [z1, z2, if_pos rfl]
      by_cases e2 : lab j = lab i
      · rw [if_pos e2]
      · rw [if_neg e2]
theorem mt_P2_w {lab : Nat → Nat} {Z Y : Nat → Nat → Prop} (h : mt_P2 n g N q lab Z) (hY : ∀ a b, Y a b → mt_CR (q a) (q b) → Z a b) : mt_P2 n g N q lab Y :=
  ⟨h.1, h.2.1, fun a b ha hb z c => h.2.2 a b ha hb (hY a b z c) c⟩
/-- a company together is its strong module -/
theorem mt_P2_un (hg : mt_GR n g) {lab : Nat → Nat} (hq : ∀ i, i < N → mt_SM n g (q i)) (hs : ∀ m, mt_SM n g m → ∃ i, i < N ∧ q i = m) (h : mt_P2 n g N q lab (fun a b => b < a)) {i : Nat} (hi : i < N) (hl : lab i = i) (w : Nat) : (∃ k, k < N ∧ lab k = i ∧ mt_in w (q k)) ↔ mt_in w (mt_cl n g (q i)) := by
  constructor
  · rintro ⟨k, k1, k2, k3⟩
    rw [← h.2.1 k i k1 hi (k2.trans hl.symm)]
    exact (mt_cl_MO (mt_SM_MO (hq k k1))).2.1 w k3
  · intro hw
    rcases mt_SM_cov hg (hq i hi) hw with z | ⟨b, b1, b2, b3⟩
    · exact ⟨i, hi, hl, z⟩
    · obtain ⟨k, k1, k2⟩ := hs b b1
      rw [← k2] at b2 b3
      refine ⟨k, k1, ?_, b3⟩
      rcases Nat.lt_trichotomy k i with y | y | y
      · rw [← h.2.2 i k hi k1 y b2]; exact hl
      · rw [y]; exact hl
      · rw [h.2.2 k i k1 hi y (mt_CR_s b2)]; exact hl
variable {pc rd sc : Int32} {jt ss sm : Nat → Int32} {post : SX → Prop}
theorem mf_jc_l {A B : Nat} (hA : A < 36) (hB : B < 36) (hN : N ≤ 36) {lab : Nat → Nat} (hl : ∀ i, i < N → lab i < N) (hp : ∀ co : Nat → Int32, (∀ i, i < N → co i = nI (if lab i = A then B else lab i)) → post (pc, rd, sc, nI N, jt, ss, sm, co)) : ∀ d x co, x + d = N → (∀ i, i < x → co i = nI (if lab i = A then B else lab i)) → (∀ i, x ≤ i → i < N → co i = nI (lab i)) → wX_joinCompanies_2 post (nI A) (nI B) pc rd sc (nI N) (d + 1) (nI x) jt ss sm co := by
  intro d
  induction d with
  | zero =>
    intro x co hx h1 h2
    have e : x = N := by omega
    rw [e] at h1 ⊢
    exact br_t (nI_le (Nat.le_refl N) (by omega)) (hp co h1)
  | succ d ih =>
    intro x co hx h1 h2
    have iv : vp_in (nI x) 36 := vp_in_nI (by omega) (by omega)
    refine br_f (nI_ge (by omega) (by omega)) ⟨iv, ?_⟩
    have e : co (nI x).toNatClampNeg = nI (lab x) := by
      rw [nI_clamp (by omega)]
      exact h2 x (Nat.le_refl x) (by omega)
    have lb := hl x (by omega)
    by_cases z : lab x = A
    · refine br_t (by rw [e, z]) ⟨iv, nm_r (e' := upd co x (nI B)) ?_ (nm_r (nI_1 x) (ih (x + 1) _ (by omega) (fun i hi => ?_) fun i hi1 hi2 => ?_))⟩
      · rw [nI_clamp (by omega), mb_byte (by omega)]
      · by_cases w : i = x
        · rw [w, pk_us, if_pos z]
        · rw [pk_un w]
          exact h1 i (by omega)
      · rw [pk_un (by omega)]
        exact h2 i (by omega) hi2
    · refine br_f ?_ (nm_r (nI_1 x) (ih (x + 1) co (by omega) (fun i hi => ?_) fun i hi1 hi2 => h2 i (by omega) hi2))
      · rw [e, nI_eq (by omega) (by omega)]
        exact z
      · by_cases w : i = x
        · rw [w, if_neg z]
          exact h2 x (Nat.le_refl x) (by omega)
        · exact h1 i (by omega)
theorem mf_106 (hQ : mt_Q2 n g N q sm) {i : Nat} (hi : i < N) {J : Int32 → Int32 → Int32 → Int32 → Int32 → (Nat → Int32) → (Nat → Int32) → (Nat → Int32) → (Nat → Int32) → Prop} (hJ : ∀ (co : Nat → Int32) (lab : Nat → Nat), (∀ k, k < N → co k = nI (lab k)) → mt_P2 n g N q lab (fun a b => b < a ∧ a < i + 1) → J (nI (i + 1)) pc rd sc (nI N) jt ss sm co) : ∀ d j (co : Nat → Int32) (lab : Nat → Nat), j + d = i → (∀ k, k < N → co k = nI (lab k)) → mt_P2 n g N q lab (fun a b => b < a ∧ (a < i ∨ (a = i ∧ b < j))) → wX_findStrong_106 post J (nI i) (d + 1) (nI j) pc rd sc (nI N) jt ss sm co := by
  obtain ⟨hN, hQ1, hQ2⟩ := hQ
  intro d
  induction d with
  | zero =>
    intro j co lab hj h1 h2
    have e : j = i := by omega
    rw [e] at h2 ⊢
    refine br_t (nI_le (Nat.le_refl i) (by omega)) (nm_r (nI_1 i) (hJ co lab h1 (mt_P2_w h2 fun a b z _ => ?_)))
    refine ⟨z.1, ?_⟩
    by_cases w : a = i
    · exact Or.inr ⟨w, by omega⟩
    · exact Or.inl (by omega)
  | succ d ih =>
    intro j co lab hj h1 h2
    have iv : vp_in (nI i) 36 := vp_in_nI (by omega) (by omega)
    have jv : vp_in (nI j) 36 := vp_in_nI (by omega) (by omega)
    have jN : j < N := by omega
    refine br_f (nI_ge (by omega) (by omega)) ⟨iv, jv, ?_⟩
    have ei : sm (nI i).toNatClampNeg = nI (q i) := by
      rw [nI_clamp (by omega)]
      exact (hQ1 i hi).2.1
    have ej : sm (nI j).toNatClampNeg = nI (q j) := by
      rw [nI_clamp (by omega)]
      exact (hQ1 j jN).2.1
    have ci : co (nI i).toNatClampNeg = nI (lab i) := by
      rw [nI_clamp (by omega)]
      exact h1 i hi
    have cj : co (nI j).toNatClampNeg = nI (lab j) := by
      rw [nI_clamp (by omega)]
      exact h1 j jN
    have li := (h2.1 i hi).1
    have lj := (h2.1 j jN).1
    rw [ei, ej]
    by_cases hc : mt_CR (q i) (q j)
    · refine mx_crosses_t (hQ1 i hi).2.2 (hQ1 j jN).2.2 hc ?_
      refine br_f (by decide) ⟨iv, jv, ?_⟩
      rw [ci, cj]
      refine ⟨N + 1, mf_jc_l (lab := lab) (by omega) (by omega) hN (fun k hk => (h2.1 k hk).1) (fun co' hco' => ?_) N 0 co (by omega) (fun k hk => absurd hk (by omega)) fun k _ hk => h1 k hk⟩
      refine nm_r (nI_1 j) (ih (j + 1) co' _ (by omega) hco' (mt_P2_join (fun k hk => (hQ1 k hk).1) h2 hi jN hc fun a b z => ?_))
      by_cases w : a = i ∧ b = j
      · exact Or.inr w
      · refine Or.inl ⟨z.1, ?_⟩
        rcases z.2 with y | y
        · exact Or.inl y
        · exact Or.inr ⟨y.1, by omega⟩
    · refine mx_crosses_f (hQ1 i hi).2.2 (hQ1 j jN).2.2 hc ?_
      refine br_t rfl (nm_r (nI_1 j) (ih (j + 1) co lab (by omega) h1 (mt_P2_w h2 fun a b z y => ?_)))
      refine ⟨z.1, ?_⟩
      rcases z.2 with w | w
      · exact Or.inl w
      · refine Or.inr ⟨w.1, ?_⟩
        apply Nat.lt_of_le_of_ne (by omega)
        intro e
        rw [w.1, e] at y
        exact hc y
theorem mf_96 (hQ : mt_Q2 n g N q sm) (hK : ∀ (co : Nat → Int32) (lab : Nat → Nat), (∀ k, k < N → co k = nI (lab k)) → mt_P2 n g N q lab (fun a b => b < a) → ∃ f, wX_findStrong_165 post f 0 pc rd 0 (nI N) jt ss sm co) : ∀ d i (co : Nat → Int32) (lab : Nat → Nat), i + d = N → (∀ k, k < N → co k = nI (lab k)) → mt_P2 n g N q lab (fun a b => b < a ∧ a < i) → wX_findStrong_96 post (d + 1) (nI i) pc rd sc (nI N) jt ss sm co := by
  have hN := hQ.1
  intro d
  induction d with
  | zero =>
    intro i co lab hi h1 h2
    have e : i = N := by omega
    rw [e] at h2 ⊢
    refine br_t (nI_le (Nat.le_refl N) (by omega)) (hK co lab h1 ⟨h2.1, h2.2.1, fun a b ha hb z c => h2.2.2 a b ha hb ⟨z, ha⟩ c⟩)
  | succ d ih =>
    intro i co lab hi h1 h2
    refine br_f (nI_ge (by omega) (by omega)) ⟨i + 1, ?_⟩
    exact mf_106 hQ (by omega) (J := wX_findStrong_96 post (d + 1)) (fun co' lab' h1' h2' => ih (i + 1) co' lab' (by omega) h1' h2') i 0 co lab (by omega) h1 (mt_P2_w h2 fun a b z _ => ⟨z.1, by omega⟩)
end
end
section
/-! ===== findStrong, last: the sort by size ===== -/
def mt_up (a : Nat → Nat) (k x : Nat) : Nat → Nat := fun j => if j = k then x else a j
theorem mt_up_s {a : Nat → Nat} {k x : Nat} : mt_up a k x k = x := if_pos rfl
theorem mt_up_n {a : Nat → Nat} {k x j : Nat} (h : j ≠ k) : mt_up a k x j = a j := if_neg h
def mt_so (b : Nat → Nat) (i : Nat) : Prop := ∀ p r, p < r → r < i → mt_sz (b p) 8 ≤ mt_sz (b r) 8
theorem mt_sz_b (m : Nat) : ∀ k, mt_sz m k ≤ k := by
  intro k
  induction k with
  | zero => exact Nat.le_refl _
  | succ k ih =>
    rw [mt_sz]
    split <;> omega
section
variable {n c : Nat} {g : Nat → Nat}
theorem mt_AR_up {b : Nat → Nat} {ss : Nat → Int32} {k s : Nat} (h : mt_AR c b ss) (hs : s < 256) : mt_AR c (mt_up b k s) (upd ss k (nI s)) := by
  refine ⟨h.1, fun j hj => ?_, fun j hj => ?_⟩
  · by_cases e : j = k
    · rw [e, pk_us, mt_up_s]
    · rw [pk_un e, mt_up_n e]
      exact h.2.1 j hj
  · by_cases e : j = k
    · rw [e, mt_up_s]; exact hs
    · rw [mt_up_n e]
      exact h.2.2 j hj
theorem mt_SL_cg {a b : Nat → Nat} (h : mt_SL n g c a) (e : ∀ k, k < c → b k = a k) : mt_SL n g c b := by
  refine ⟨fun k hk => ?_, fun m hm => ?_, fun i j hij hj => ?_⟩
  · rw [e k hk]; exact h.1 k hk
  · obtain ⟨k, k1, k2⟩ := h.2.1 m hm
    exact ⟨k, k1, by rw [e k k1]; exact k2⟩
  · rw [e i (by omega), e j hj]
    exact h.2.2 i j hij hj
theorem mt_SL_sw {a b : Nat → Nat} {p : Nat} (h : mt_SL n g c a) (hp : p + 1 < c) (e1 : b p = a (p + 1)) (e2 : b (p + 1) = a p) (e3 : ∀ k, k ≠ p → k ≠ p + 1 → b k = a k) : mt_SL n g c b := by
  have inj : ∀ x y, x < c → y < c → x ≠ y → a x ≠ a y := by
    intro x y hx hy hxy
    rcases Nat.lt_or_ge x y with z | z
    · exact h.2.2 x y z hy
    · exact fun w => h.2.2 y x (by omega) hx w.symm
  refine ⟨fun k hk => ?_, fun m hm => ?_, fun i j hij hj => ?_⟩
  · by_cases z1 : k = p
    · rw [z1, e1]; exact h.1 _ hp
    · by_cases z2 : k = p + 1
      · rw [z2, e2]; exact h.1 _ (by omega)
      · rw [e3 k z1 z2]; exact h.1 k hk
  · obtain ⟨k, k1, k2⟩ := h.2.1 m hm
    by_cases z1 : k = p
    · exact ⟨p + 1, hp, by rw [e2, ← z1]; exact k2⟩
    · by_cases z2 : k = p + 1
      · exact ⟨p, by omega, by rw [e1, ← z2]; exact k2⟩
      · exact ⟨k, k1, by rw [e3 k z1 z2]; exact k2⟩
  · by_cases i1 : i = p
    · rw [i1, e1]
      by_cases j2 : j = p + 1
      · rw [j2, e2]; exact inj _ _ hp (by omega) (by omega)
      · rw [e3 j (by omega) j2]; exact inj _ _ hp hj (by omega)
    · by_cases i2 : i = p + 1
      · rw [i2, e2, e3 j (by omega) (by omega)]; exact inj _ _ (by omega) hj (by omega)
      · rw [e3 i i1 i2]
        by_cases j1 : j = p
        · rw [j1, e1]; exact inj _ _ (by omega) hp (by omega)
        · by_cases j2 : j = p + 1
          · rw [j2, e2]; exact inj _ _ (by omega) (by omega) (by omega)
          · rw [e3 j j1 j2]; exact inj _ _ (by omega) hj (by omega)
variable {pc rd smc : Int32} {jt sm co : Nat → Int32} {post : SX → Prop}
theorem mf_26 (hc : c ≤ 36) {i s : Nat} (hi : i < c) (hs : s < 256) {J : Int32 → (Nat → Int32) → (Nat → Int32) → (Nat → Int32) → (Nat → Int32) → Prop} (hJ : ∀ (ss : Nat → Int32) (b : Nat → Nat), mt_AR c b ss → mt_SL n g c b → mt_so b (i + 1) → J (nI (i + 1)) jt ss sm co) : ∀ (t : Nat) (ss : Nat → Int32) (b : Nat → Nat), t ≤ i → mt_AR c b ss → mt_SL n g c (mt_up b t s) → (∀ p r, p < r → r ≤ i → p ≠ t → r ≠ t → mt_sz (b p) 8 ≤ mt_sz (b r) 8) → (∀ r, t < r → r ≤ i → mt_sz s 8 ≤ mt_sz (b r) 8) → wX_sortBySize_26 post J (nI i) (nI s) (nI (mt_sz s 8)) pc rd (nI c) smc (t + 1) (nI t) jt ss sm co := by
  have sb := mt_sz_b s 8
  intro t
  induction t with
  | zero =>
    intro ss b ht h1 h2 h3 h4
    refine br_t (nI_le (a := 0) (b := 0) (by omega) (by omega)) ⟨vp_in_nI (by omega) (by omega), nm_r (e' := upd ss 0 (nI s)) ?_ (nm_r (nI_1 i) (hJ _ _ (mt_AR_up h1 hs) h2 ?_))⟩
    · rw [nI_clamp (by omega)]
    · intro p r hpr hr
      rw [mt_up_n (a := b) (k := 0) (x := s) (j := r) (by omega)]
      by_cases e : p = 0
      · rw [e, mt_up_s]
        exact h4 r (by omega) (by omega)
      · rw [mt_up_n e]
        exact h3 p r hpr (by omega) e (by omega)
  | succ t ih =>
    intro ss b ht h1 h2 h3 h4
    have iv : vp_in (nI t) 36 := vp_in_nI (by omega) (by omega)
    have iv2 : vp_in (nI (t + 1)) 36 := vp_in_nI (by omega) (by omega)
    have bb := h1.2.2 t (by omega)
    have e := mx_ar h1 (k := t) (by omega)
    refine br_f (nI_nle (by omega) (by omega)) ?_
    rw [nI_pred, e]
    refine ⟨iv, mx_bits bb ?_⟩
    have bz := mt_sz_b (b t) 8
    by_cases z : mt_sz (b t) 8 ≤ mt_sz s 8
    · refine br_t (nI_le z (by omega)) ⟨iv2, nm_r (e' := upd ss (t + 1) (nI s)) ?_ (nm_r (nI_1 i) (hJ _ _ (mt_AR_up h1 hs) h2 ?_))⟩
      · rw [nI_clamp (by omega)]
      · intro p r hpr hr
        by_cases ep : p = t + 1
        · rw [ep, mt_up_s, mt_up_n (by omega)]
          exact h4 r (by omega) (by omega)
        · rw [mt_up_n ep]
          by_cases er : r = t + 1
          · rw [er, mt_up_s]
            by_cases e2 : p = t
            · rw [e2]; exact z
            · exact Nat.le_trans (h3 p t (by omega) (by omega) ep (by omega)) z
          · rw [mt_up_n er]
            exact h3 p r hpr (by omega) ep er
    · refine br_f (nI_ge (by omega) (by omega)) ⟨iv, iv2, nm_r (e' := upd ss (t + 1) (nI (b t))) ?_ (nm_r (pk_m1 t) (ih _ (mt_up b (t + 1) (b t)) (by omega) (mt_AR_up h1 bb) ?_ ?_ ?_))⟩
      · rw [nI_clamp (by omega)]
      · refine mt_SL_sw (p := t) h2 (by omega) ?_ ?_ ?_
        · rw [mt_up_s, mt_up_s]
        · rw [mt_up_n (by omega), mt_up_s, mt_up_n (by omega)]
        · intro k k1 k2
          rw [mt_up_n k1, mt_up_n k2, mt_up_n k2]
      · intro p r hpr hr hp1 hr1
        by_cases ep : p = t + 1
        · rw [ep, mt_up_s, mt_up_n (by omega)]
          exact h3 t r (by omega) hr (by omega) (by omega)
        · rw [mt_up_n ep]
          by_cases er : r = t + 1
          · rw [er, mt_up_s]
            exact h3 p t (by omega) (by omega) ep (by omega)
          · rw [mt_up_n er]
            exact h3 p r hpr hr ep er
      · intro r hr1 hr2
        by_cases er : r = t + 1
        · rw [er, mt_up_s]; omega
        · rw [mt_up_n er]
          exact h4 r (by omega) hr2
theorem mf_so_l (hc : c ≤ 36) (hp : ∀ (ss : Nat → Int32) (b : Nat → Nat), mt_SO n g c b ss → post (pc, rd, nI c, smc, jt, ss, sm, co)) : ∀ (d i : Nat) (ss : Nat → Int32) (b : Nat → Nat), c ≤ i + d → i ≤ 37 → mt_AR c b ss → mt_SL n g c b → mt_so b i → wX_sortBySize_2 post pc rd (nI c) smc (d + 1) (nI i) jt ss sm co := by
  intro d
  induction d with
  | zero =>
    intro i ss b h0 h37 h1 h2 h3
    exact br_t (nI_le (by omega) (by omega)) (hp ss b ⟨h1, h2, fun p r a1 a2 => h3 p r a1 (by omega)⟩)
  | succ d ih =>
    intro i ss b h0 h37 h1 h2 h3
    by_cases z : c ≤ i
    · exact br_t (nI_le (by omega) (by omega)) (hp ss b ⟨h1, h2, fun p r a1 a2 => h3 p r a1 (by omega)⟩)
    · refine br_f (nI_ge (by omega) (by omega)) ⟨vp_in_nI (by omega) (by omega), nm_r (mx_ar h1 (k := i) (by omega)) ?_⟩
      refine mx_bits (h1.2.2 i (by omega)) ⟨i + 1, ?_⟩
      refine mf_26 hc (by omega) (h1.2.2 i (by omega)) (J := wX_sortBySize_2 post pc rd (nI c) smc (d + 1)) (fun ss' b' a1 a2 a3 => ih (i + 1) ss' b' (by omega) (by omega) a1 a2 a3) i ss b (Nat.le_refl i) h1 (mt_SL_cg h2 fun k hk => ?_) (fun p r a1 a2 a3 a4 => h3 p r a1 (by omega)) (fun r a1 a2 => absurd a1 (by omega))
      by_cases e : k = i
      · rw [e, mt_up_s]
      · rw [mt_up_n e]
theorem mf_sort {ss : Nat → Int32} {b : Nat → Nat} (h1 : mt_AR c b ss) (h2 : mt_SL n g c b) (hp : ∀ (ss : Nat → Int32) (b : Nat → Nat), mt_SO n g c b ss → post (pc, rd, nI c, smc, jt, ss, sm, co)) : wpX_sortBySize post (pc, rd, nI c, smc, jt, ss, sm, co) :=
  ⟨c + 1, mf_so_l h1.1 hp c 1 ss b (by omega) (by omega) h1 h2 fun p r a1 a2 => absurd a1 (by omega)⟩
end
end
section
/-! ===== findStrong, third: the companies' unions; all of it ===== -/
def mt_P3 (n : Nat) (g q lab : Nat → Nat) (i c : Nat) (a : Nat → Nat) : Prop :=
  c ≤ i ∧ (∀ k, k < c → mt_ST n g (a k)) ∧ (∀ k, k < i → lab k = k → ∃ j, j < c ∧ a j = mt_cl n g (q k)) ∧ ∀ x y, x < y → y < c → a x ≠ a y
section
variable {n N c : Nat} {g q lab a : Nat → Nat} {pc rd : Int32} {jt ss sm co : Nat → Int32} {post : SX → Prop}
theorem mf_add_l (hQ : mt_Q2 n g N q sm) (hl : ∀ k, k < N → co k = nI (lab k)) (hlN : ∀ k, k < N → lab k < N) (hA : mt_AR c a ss) (hc : c < 36) {i m : Nat} (hi : i < N) (hm : m < 256) (hu : ∀ w, (∃ k, k < N ∧ lab k = i ∧ mt_in w (q k)) ↔ mt_in w m) (hp1 : ∀ k, k < c → a k = m → post (pc, rd, nI c, nI N, jt, ss, sm, co)) (hp2 : (∀ k, k < c → a k ≠ m) → post (pc, rd, nI (c + 1), nI N, jt, upd ss c (nI m), sm, co)) : ∀ d x t, x + d = N → (∀ w, mt_in w t ↔ ∃ k, k < x ∧ lab k = i ∧ mt_in w (q k)) → wX_addCompany_4 post (nI i) pc rd (nI c) (nI N) jt ss sm co (d + 1) (nI t) (nI x) := by
  obtain ⟨hN, hQ1, hQ2⟩ := hQ
  intro d
  induction d with
  | zero =>
    intro x t hx ht
    have e : x = N := by omega
    rw [e] at ht ⊢
    have e2 : t = m := mt_ext fun w => (ht w).trans (hu w)
    rw [e2]
    refine br_t (nI_le (Nat.le_refl N) (by omega)) ?_
    refine mx_place hA hm (fun k k1 k2 => ?_) (fun hno => ?_)
    · exact br_f (nI_pos (by omega)) (hp1 k k1 k2)
    · refine br_t (by decide) ⟨vp_in_nI hc (by omega), nm_r (e' := upd ss c (nI m)) ?_ (nm_r (nI_1 c) (hp2 hno))⟩
      rw [nI_clamp (by omega)]
  | succ d ih =>
    intro x t hx ht
    have iv : vp_in (nI x) 36 := vp_in_nI (by omega) (by omega)
    refine br_f (nI_ge (by omega) (by omega)) ⟨iv, ?_⟩
    have e : co (nI x).toNatClampNeg = nI (lab x) := by
      rw [nI_clamp (by omega)]
      exact hl x (by omega)
    have lb := hlN x (by omega)
    by_cases z : lab x = i
    · refine br_t (by rw [e, z]) ⟨iv, nm_r (e' := nI (t ||| q x)) ?_ (nm_r (nI_1 x) (ih (x + 1) _ (by omega) fun w => ?_))⟩
      · rw [nI_clamp (by omega), (hQ1 x (by omega)).2.1, mb_or]
      · rw [mt_in_or, ht]
        constructor
        · rintro (⟨k, k1, k2⟩ | y)
          · exact ⟨k, by omega, k2⟩
          · exact ⟨x, by omega, z, y⟩
        · rintro ⟨k, k1, k2, k3⟩
          by_cases y : k = x
          · exact Or.inr (y ▸ k3)
          · exact Or.inl ⟨k, by omega, k2, k3⟩
    · refine br_f ?_ (nm_r (nI_1 x) (ih (x + 1) t (by omega) fun w => ?_))
      · rw [e, nI_eq (by omega) (by omega)]
        exact z
      · rw [ht]
        constructor
        · rintro ⟨k, k1, k2⟩
          exact ⟨k, by omega, k2⟩
        · rintro ⟨k, k1, k2, k3⟩
          refine ⟨k, ?_, k2, k3⟩
          apply Nat.lt_of_le_of_ne (by omega)
          intro y
          exact z (y ▸ k2)
end
section
variable {n N : Nat} {g q lab : Nat → Nat} {rd : Int32} {jt sm co : Nat → Int32} {post : SX → Prop} {pc : Int32}
theorem mf_165 (hn : n ≤ 8) (hg : mt_GR n g) (hQ : mt_Q2 n g N q sm) (hl : ∀ k, k < N → co k = nI (lab k)) (hP : mt_P2 n g N q lab (fun a b => b < a)) (hp : ∀ (c : Nat) (ss : Nat → Int32) (b : Nat → Nat), mt_SO n g c b ss → post (pc, rd, nI c, nI N, jt, ss, sm, co)) : ∀ (d i c : Nat) (a : Nat → Nat) (ss : Nat → Int32), i + d = N → mt_AR c a ss → mt_P3 n g q lab i c a → wX_findStrong_165 post (d + 1) (nI i) pc rd (nI c) (nI N) jt ss sm co := by
  have hN := hQ.1
  have hlN : ∀ k, k < N → lab k < N := fun k hk => (hP.1 k hk).1
  intro d
  induction d with
  | zero =>
    intro i c a ss hi hA h3
    have e : i = N := by omega
    rw [e] at h3 ⊢
    refine br_t (nI_le (Nat.le_refl N) (by omega)) ?_
    refine mf_sort (n := n) (g := g) hA ⟨h3.2.1, fun m hm => ?_, h3.2.2.2⟩ (fun ss' b' h' => hp c ss' b' h')
    obtain ⟨s, s1, s2⟩ := mt_ST_SM hm
    obtain ⟨k, k1, k2⟩ := hQ.2.2 s s1
    have L := hP.1 k k1
    obtain ⟨j, j1, j2⟩ := h3.2.2.1 (lab k) L.1 L.2
    refine ⟨j, j1, ?_⟩
    rw [j2, ← s2, ← k2]
    exact hP.2.1 _ _ L.1 k1 L.2
  | succ d ih =>
    intro i c a ss hi hA h3
    have iN : i < N := by omega
    have iv : vp_in (nI i) 36 := vp_in_nI (by omega) (by omega)
    refine br_f (nI_ge (by omega) (by omega)) ⟨iv, ?_⟩
    have e : co (nI i).toNatClampNeg = nI (lab i) := by
      rw [nI_clamp (by omega)]
      exact hl i iN
    have lb := hlN i iN
    have cb := h3.1
    by_cases z : lab i = i
    · refine br_t (by rw [e, z]) ?_
      have C := mt_cl_MO (mt_SM_MO (hQ.2.1 i iN).1)
      have mb := mb_256 hn (mt_MO_lt C.1.1)
      refine ⟨N + 1, mf_add_l hQ hl hlN hA (by omega) iN mb (mt_P2_un hg (fun k hk => (hQ.2.1 k hk).1) hQ.2.2 hP iN z) (fun k k1 k2 => ?_) (fun hno => ?_) N 0 0 (by omega) fun w => ⟨fun y => absurd y (mt_in_0 w), fun ⟨_, y, _⟩ => absurd y (by omega)⟩⟩
      · refine nm_r (nI_1 i) (ih (i + 1) c a ss (by omega) hA ⟨by omega, h3.2.1, fun k' hk' hl' => ?_, h3.2.2.2⟩)
        by_cases y : k' = i
        · rw [y]; exact ⟨k, k1, k2⟩
        · exact h3.2.2.1 k' (by omega) hl'
      · refine nm_r (nI_1 i) (ih (i + 1) (c + 1) (mt_up a c (mt_cl n g (q i))) _ (by omega) ?_ ⟨by omega, fun k hk => ?_, fun k' hk' hl' => ?_, fun x y hxy hy => ?_⟩)
        · refine ⟨by omega, fun k hk => ?_, fun k hk => ?_⟩
          · by_cases y : k = c
            · rw [y, pk_us, mt_up_s]
            · rw [pk_un y, mt_up_n y]
              exact hA.2.1 k (by omega)
          · by_cases y : k = c
            · rw [y, mt_up_s]; exact mb
            · rw [mt_up_n y]
              exact hA.2.2 k (by omega)
        · by_cases y : k = c
          · rw [y, mt_up_s]; exact C.1
          · rw [mt_up_n y]
            exact h3.2.1 k (by omega)
        · by_cases y : k' = i
          · exact ⟨c, by omega, by rw [y, mt_up_s]⟩
          · obtain ⟨j, j1, j2⟩ := h3.2.2.1 k' (by omega) hl'
            exact ⟨j, by omega, by rw [mt_up_n (by omega)]; exact j2⟩
        · rw [mt_up_n (a := a) (j := x) (by omega)]
          by_cases w : y = c
          · rw [w, mt_up_s]
            exact hno x (by omega)
          · rw [mt_up_n w]
            exact h3.2.2.2 x y hxy (by omega)
    · refine br_f ?_ (nm_r (nI_1 i) (ih (i + 1) c a ss (by omega) hA ⟨by omega, h3.2.1, fun k' hk' hl' => ?_, h3.2.2.2⟩))
      · rw [e, nI_eq (by omega) (by omega)]
        exact z
      · by_cases y : k' = i
        · rw [y] at hl'
          exact absurd hl' z
        · exact h3.2.2.1 k' (by omega) hl'
end
/-- what the component's list is, once it is ready -/
def mt_SOK (n : Nat) (g : Nat → Nat) (sc : Int32) (ss : Nat → Int32) : Prop := ∃ (c : Nat) (a : Nat → Nat), sc = nI c ∧ mt_SO n g c a ss
section
variable {n : Nat} {g : Nat → Nat} {rd sc smc : Int32} {ss sm co : Nat → Int32} {post : SX → Prop}
theorem mf_find (hn : n ≤ 8) (hg : mt_GR n g) (hr : rd ≠ 0 → mt_SOK n g sc ss) (hp : ∀ (rd' : Int32) (c : Nat) (a : Nat → Nat) (smc' : Int32) (ss' sm' co' : Nat → Int32), rd' ≠ 0 → mt_SO n g c a ss' → post (nI n, rd', nI c, smc', mt_G g, ss', sm', co')) : wpX_findStrong post (nI n, rd, sc, smc, mt_G g, ss, sm, co) := by
  by_cases z : rd = 0
  · refine br_t z ⟨n + 1, ?_⟩
    refine mf_20 (g := g) hn (fun sm1 co1 h1 => ?_) n 0 sm co (by omega) ⟨fun i hi => absurd hi (by simp [mt_tr]), fun i hi => absurd hi (by simp [mt_tr]), fun a b y => absurd y.1 (by omega)⟩
    have tb := mt_tr_b hn (Nat.le_refl n)
    rw [Nat.sub_self, Nat.add_zero] at tb
    have hQ : mt_Q2 n g (mt_tr n n) (fun i => (sm1 i).toNatClampNeg) sm1 := by
      refine ⟨tb, fun i hi => ?_, fun m hm => ?_⟩
      · obtain ⟨m, m1, m2⟩ := h1.1 i hi
        have mb := mb_256 hn (mt_MO_lt (mt_SM_MO m1))
        dsimp only
        rw [m2, nI_clamp (by omega)]
        exact ⟨m1, rfl, mb⟩
      · have mb := mb_256 hn (mt_MO_lt (mt_SM_MO hm))
        obtain ⟨u, v, hu, hv, e⟩ := hm
        have y : ∃ i, i < mt_tr n n ∧ sm1 i = nI m := by
          rw [e]
          rcases Nat.le_total u v with w | w
          · exact h1.2.2 u v ⟨hu, w, hv⟩
          · rw [Nat.or_comm]
            exact h1.2.2 v u ⟨hv, w, hu⟩
        obtain ⟨i, i1, i2⟩ := y
        refine ⟨i, i1, ?_⟩
        dsimp only
        rw [i2, nI_clamp (by omega)]
    refine ⟨mt_tr n n + 1, mf_96 hQ (fun co2 lab2 h2 h3 => ?_) (mt_tr n n) 0 co1 (fun i => i) (by omega) h1.2.1 ⟨fun i hi => ⟨hi, rfl⟩, fun i j _ _ e => by rw [show i = j from e], fun i j _ _ y => absurd y.2 (by omega)⟩⟩
    exact ⟨mt_tr n n + 1, mf_165 hn hg hQ h2 h3 (fun c ss' b h' => hp 1 c b _ ss' sm1 co2 (by decide) h') (mt_tr n n) 0 0 (fun _ => 0) ss (by omega) ⟨by omega, fun k hk => absurd hk (by omega), fun k hk => absurd hk (by omega)⟩ ⟨by omega, fun k hk => absurd hk (by omega), fun k hk => absurd hk (by omega), fun x y _ hy => absurd hy (by omega)⟩⟩
  · refine br_f z ?_
    obtain ⟨c, a, e, h⟩ := hr z
    rw [e]
    exact hp rd c a smc ss sm co z h
end
end
section
/-! ===== the reference's methods ===== -/
/-- what the reference's tables are, once they are known -/
def mt_YM (n : Nat) (g : Nat → Nat) (mo : Nat → Int32) : Prop := ∀ m, 0 < m → m < 2 ^ n → (mo m = 0 ↔ ¬ mt_MO n g m)
def mt_YF (n : Nat) (g : Nat → Nat) (fi : Nat → Int32) : Prop := ∀ m, 0 < m → m < 2 ^ n → (fi m = 0 ↔ ¬ mt_ST n g m)
section
variable {n : Nat} {g : Nat → Nat} {kn : Int32} {ne mo fi : Nat → Int32} {post : Int32 → Prop}
theorem my_isPoint_f {x : Int32} (h : x < 0 ∨ nI n ≤ x) (hp : post 0) : wpY_isPoint post (nI n, kn, ne, mo, fi) x := by
  by_cases z : x < 0
  · exact br_t z hp
  · exact br_f z (br_t (h.resolve_left z) hp)
theorem my_isPoint_t {j : Nat} (hn : n ≤ 8) (hj : j < n) (hp : post 1) : wpY_isPoint post (nI n, kn, ne, mo, fi) (nI j) :=
  br_f (nI_pos (by omega)) (br_f (nI_ge hj (by omega)) hp)
theorem my_all (hn : n ≤ 8) (hp : post (nI (2 ^ n - 1))) : wpY_all post (nI n, kn, ne, mo, fi) := by
  show post (((1 : Int32) <<< (nI n &&& 31)) - 1)
  rw [mb_all hn]
  exact hp
theorem my_in_t {m x : Nat} (hm : m < 256) (hx : x < 8) (h : mt_in x m) (hp : post 1) : wpY_in post (nI n, kn, ne, mo, fi) (nI m) (nI x) :=
  br_t ((mb_bit1 hm hx).mpr h) hp
theorem my_in_f {m x : Nat} (hm : m < 256) (hx : x < 8) (h : ¬ mt_in x m) (hp : post 0) : wpY_in post (nI n, kn, ne, mo, fi) (nI m) (nI x) :=
  br_f (fun z => h ((mb_bit1 hm hx).mp z)) hp
theorem my_pow (hn : n ≤ 8) : 0 < 2 ^ n ∧ 2 ^ n ≤ 256 := ⟨Nat.two_pow_pos n, (Nat.pow_le_pow_right (by omega) hn : 2 ^ n ≤ 2 ^ 8)⟩
theorem my_isSet_f {x : Int32} (hn : n ≤ 8) (h : x ≤ 0 ∨ nI (2 ^ n - 1) < x) (hp : post 0) : wpY_isSet post (nI n, kn, ne, mo, fi) x := by
  by_cases z : x ≤ 0
  · exact br_t z hp
  · exact br_f z (my_all hn (br_t (h.resolve_left z) hp))
theorem my_isSet_t {m : Nat} (hn : n ≤ 8) (h0 : 0 < m) (hm : m < 2 ^ n) (hp : post 1) : wpY_isSet post (nI n, kn, ne, mo, fi) (nI m) := by
  have h := my_pow hn
  exact br_f (nI_nle h0 (by omega)) (my_all hn (br_f (nI_nlt (by omega) (by omega)) hp))
theorem my_size_l (hn : n ≤ 8) {m : Nat} (hm : m < 256) (hp : post (nI (mt_sz m n))) : ∀ d x, x + d = n → wY_sizeOf_4 post (nI m) (nI n) kn ne mo fi (d + 1) (nI (mt_sz m x)) (nI x) := by
  intro d
  induction d with
  | zero =>
    intro x hx
    have e : x = n := by omega
    rw [e]
    exact br_t (nI_le (Nat.le_refl n) (by omega)) hp
  | succ d ih =>
    intro x hx
    have nx := ih (x + 1) (by omega)
    refine br_f (nI_ge (by omega) (by omega)) ?_
    rw [mt_sz] at nx
    by_cases z : mt_in x m
    · refine my_in_t hm (by omega) z ?_
      have z2 : m.testBit x = true := z
      rw [if_pos z2] at nx
      exact br_f (by decide) (nm_r (nI_1 _) (nm_r (nI_1 x) nx))
    · refine my_in_f hm (by omega) z ?_
      have z2 : ¬ m.testBit x = true := z
      rw [if_neg z2] at nx
      exact br_t rfl (nm_r (nI_1 x) nx)
theorem my_size (hn : n ≤ 8) {m : Nat} (hm : m < 256) (hp : post (nI (mt_sz m n))) : wpY_sizeOf post (nI n, kn, ne, mo, fi) (nI m) :=
  ⟨n + 1, my_size_l hn hm hp n 0 (by omega)⟩
theorem my_same_l (hn : n ≤ 8) {m : Nat} (h0 : 0 < m) (hm : m < 2 ^ n) (hp1 : mt_MO n g m → post 1) (hp0 : ¬ mt_MO n g m → post 0) : ∀ d x, x + d = n → (∀ i, i < x → ¬ (¬ mt_in i m ∧ g i &&& m ≠ 0 ∧ g i &&& m ≠ m)) → wY_lookSame_2 post (nI m) (nI n) kn (mt_G g) mo fi (d + 1) (nI x) := by
  have hm2 := mb_256 hn hm
  have L := mt_MO_look (g := g) (mt_ne.mp (by omega : m ≠ 0)) (mt_lt.mp hm)
  intro d
  induction d with
  | zero =>
    intro x hx hk
    have e : x = n := by omega
    rw [e] at hk ⊢
    exact br_t (nI_le (Nat.le_refl n) (by omega)) (hp1 (L.mpr hk))
  | succ d ih =>
    intro x hx hk
    have go : ¬ (¬ mt_in x m ∧ g x &&& m ≠ 0 ∧ g x &&& m ≠ m) → wY_lookSame_2 post (nI m) (nI n) kn (mt_G g) mo fi (d + 1) (nI (x + 1)) := by
      intro z
      refine ih (x + 1) (by omega) fun i hi => ?_
      by_cases w : i = x
      · rw [w]; exact z
      · exact hk i (by omega)
    refine br_f (nI_ge (by omega) (by omega)) ⟨vp_in_nI (by omega) (by omega), ?_⟩
    have ea : mt_G g (nI x).toNatClampNeg &&& nI m = nI (g x &&& m) := by
      rw [mb_G (by omega), nx_and]
    have hb : g x &&& m < 256 := Nat.lt_of_le_of_lt Nat.and_le_right hm2
    refine nm_r ea ?_
    by_cases xm : mt_in x m
    · refine my_in_t hm2 (by omega) xm ?_
      exact br_f (by decide) (nm_r (nI_1 x) (go fun z => z.1 xm))
    · refine my_in_f hm2 (by omega) xm ?_
      refine br_t rfl ?_
      by_cases z0 : g x &&& m = 0
      · exact br_t ((mb_0 hb).mpr z0) (nm_r (nI_1 x) (go fun z => z.2.1 z0))
      · refine br_f (fun z => z0 ((mb_0 hb).mp z)) ?_
        by_cases z1 : g x &&& m = m
        · exact br_t ((mb_eq hb hm2).mpr z1) (nm_r (nI_1 x) (go fun z => z.2.2 z1))
        · exact br_f (fun z => z1 ((mb_eq hb hm2).mp z)) (hp0 fun z => L.mp z x (by omega) ⟨xm, z0, z1⟩)
theorem my_same (hn : n ≤ 8) {m : Nat} (h0 : 0 < m) (hm : m < 2 ^ n) (hp1 : mt_MO n g m → post 1) (hp0 : ¬ mt_MO n g m → post 0) : wpY_lookSame post (nI n, kn, mt_G g, mo, fi) (nI m) :=
  ⟨n + 1, my_same_l hn h0 hm hp1 hp0 n 0 (by omega) fun i hi => absurd hi (by omega)⟩
theorem my_cross_t {a b : Nat} (ha : a < 256) (hb : b < 256) (h : mt_CR a b) (hp : post 1) : wpY_cross post (nI n, kn, ne, mo, fi) (nI a) (nI b) := by
  obtain ⟨h1, ⟨i, i1, i2⟩, ⟨j, j1, j2⟩⟩ := h
  refine br_f ?_ (br_f ?_ (br_f ?_ hp))
  · rw [nx_and, mb_0 (Nat.lt_of_le_of_lt Nat.and_le_left ha)]
    exact mt_and0.mpr h1
  · rw [mb_df, mb_0 (mt_df_b ha)]
    exact fun z => i2 (mt_df0.mp z i i1)
  · rw [mb_df, mb_0 (mt_df_b hb)]
    exact fun z => j2 (mt_df0.mp z j j1)
theorem my_cross_f {a b : Nat} (ha : a < 256) (hb : b < 256) (h : ¬ mt_CR a b) (hp : post 0) : wpY_cross post (nI n, kn, ne, mo, fi) (nI a) (nI b) := by
  refine br_c (fun _ => hp) fun z1 => br_c (fun _ => hp) fun z2 => br_c (fun _ => hp) fun z3 => ?_
  rw [nx_and, mb_0 (Nat.lt_of_le_of_lt Nat.and_le_left ha)] at z1
  rw [mb_df, mb_0 (mt_df_b ha)] at z2
  rw [mb_df, mb_0 (mt_df_b hb)] at z3
  exact absurd (mt_CR_of z1 z2 z3) h
theorem my_none_l (hn : n ≤ 8) (hM : mt_YM n g mo) {m : Nat} (hm : m < 256) (hp1 : (∀ b, mt_MO n g b → ¬ mt_CR m b) → post 1) (hp0 : (¬ ∀ b, mt_MO n g b → ¬ mt_CR m b) → post 0) : ∀ d x, x + d = 2 ^ n → 0 < x → (∀ b, b < x → mt_MO n g b → ¬ mt_CR m b) → wY_crossesNone_2 post (nI m) (nI n) kn ne mo fi (d + 1) (nI x) := by
  have pw := my_pow hn
  intro d
  induction d with
  | zero =>
    intro x hx x0 hk
    have e : x = 2 ^ n := by omega
    rw [wY_crossesNone_2]
    refine my_all hn ?_
    refine br_t (nI_lt (by omega) (by omega)) (hp1 fun b hb => hk b ?_ hb)
    rw [e]
    exact mt_MO_lt hb
  | succ d ih =>
    intro x hx x0 hk
    have go : (mt_MO n g x → ¬ mt_CR m x) → wY_crossesNone_2 post (nI m) (nI n) kn ne mo fi (d + 1) (nI (x + 1)) := by
      intro z
      refine ih (x + 1) (by omega) (by omega) fun b hb => ?_
      by_cases w : b = x
      · rw [w]; exact z
      · exact hk b (by omega)
    rw [wY_crossesNone_2]
    refine my_all hn ?_
    refine br_f (nI_nlt (by omega) (by omega)) ⟨vp_in_nI (by omega) (by omega), ?_⟩
    have e : mo (nI x).toNatClampNeg = mo x := mb_at (N := 256) (by omega) (by omega)
    have M := hM x x0 (by omega)
    rw [← e] at M
    by_cases z : mt_MO n g x
    · refine br_f (fun y => M.mp y z) ?_
      by_cases c : mt_CR m x
      · exact my_cross_t hm (by omega) c (br_f (by decide) (hp0 fun y => y x z c))
      · exact my_cross_f hm (by omega) c (br_t rfl (nm_r (nI_1 x) (go fun _ => c)))
    · exact br_t (M.mpr z) (nm_r (nI_1 x) (go fun y => absurd y z))
theorem my_none (hn : n ≤ 8) (hM : mt_YM n g mo) {m : Nat} (hm : m < 256) (hp1 : (∀ b, mt_MO n g b → ¬ mt_CR m b) → post 1) (hp0 : (¬ ∀ b, mt_MO n g b → ¬ mt_CR m b) → post 0) : wpY_crossesNone post (nI n, kn, ne, mo, fi) (nI m) := by
  have pw := my_pow hn
  refine ⟨2 ^ n - 1 + 1, my_none_l hn hM hm hp1 hp0 (2 ^ n - 1) 1 (by omega) (by omega) fun b hb hB => ?_⟩
  have q := mt_ne.mpr hB.1
  omega
end
section
variable {n : Nat} {g : Nat → Nat} {kn : Int32} {mo fi : Nat → Int32} {post : SY → Prop}
theorem my_look37 (hn : n ≤ 8) (hM : mt_YM n g mo) (hp : ∀ fi, mt_YF n g fi → post (nI n, 1, mt_G g, mo, fi)) : ∀ d x fi, x + d = 2 ^ n → 0 < x → (∀ m, 0 < m → m < x → (fi m = 0 ↔ ¬ mt_ST n g m)) → wY_look_37 post (nI n) kn (d + 1) (nI x) (mt_G g) mo fi := by
  have pw := my_pow hn
  intro d
  induction d with
  | zero =>
    intro x fi hx x0 hk
    rw [wY_look_37]
    refine my_all hn ?_
    refine br_t (nI_lt (by omega) (by omega)) (hp fi fun m a1 a2 => hk m a1 (by omega))
  | succ d ih =>
    intro x fi hx x0 hk
    have go : ∀ y : Int32, (y = 0 ↔ ¬ mt_ST n g x) → wY_look_37 post (nI n) kn (d + 1) (nI (x + 1)) (mt_G g) mo (upd fi x y) := by
      intro y hy
      refine ih (x + 1) (upd fi x y) (by omega) (by omega) fun m a1 a2 => ?_
      by_cases w : m = x
      · rw [w, pk_us]; exact hy
      · rw [pk_un w]; exact hk m a1 (by omega)
    have iv : vp_in (nI x) 256 := vp_in_nI (by omega) (by omega)
    rw [wY_look_37]
    refine my_all hn ?_
    refine br_f (nI_nlt (by omega) (by omega)) ⟨iv, ?_⟩
    have e : mo (nI x).toNatClampNeg = mo x := mb_at (N := 256) (by omega) (by omega)
    have M := hM x x0 (by omega)
    rw [← e] at M
    have eu : ∀ y : Int32, upd fi (nI x).toNatClampNeg y = upd fi x y := fun y => by rw [nI_clamp (by omega)]
    by_cases z : mt_MO n g x
    · refine br_f (fun y => M.mp y z) ?_
      refine my_none hn hM (by omega) (fun q => ?_) (fun q => ?_)
      · exact br_f (by decide) ⟨iv, nm_r (eu _) (nm_r (nI_1 x) (go _ ⟨fun y => absurd y (by rw [mb_bool1]; decide), fun y => absurd ⟨z, q⟩ y⟩))⟩
      · exact br_t rfl ⟨iv, nm_r (eu _) (nm_r (nI_1 x) (go _ ⟨fun _ y => q y.2, fun _ => mb_bool0⟩))⟩
    · exact br_t (M.mpr z) ⟨iv, nm_r (eu _) (nm_r (nI_1 x) (go _ ⟨fun _ y => z y.1, fun _ => mb_bool0⟩))⟩
theorem my_look10 (hn : n ≤ 8) (hp : ∀ mo fi, mt_YM n g mo → mt_YF n g fi → post (nI n, 1, mt_G g, mo, fi)) : ∀ d x mo, x + d = 2 ^ n → 0 < x → (∀ m, 0 < m → m < x → (mo m = 0 ↔ ¬ mt_MO n g m)) → wY_look_10 post (nI n) kn (d + 1) (nI x) (mt_G g) mo fi := by
  have pw := my_pow hn
  intro d
  induction d with
  | zero =>
    intro x mo hx x0 hk
    have hM : mt_YM n g mo := fun m a1 a2 => hk m a1 (by omega)
    rw [wY_look_10]
    refine my_all hn ?_
    refine br_t (nI_lt (by omega) (by omega)) ⟨2 ^ n - 1 + 1, ?_⟩
    exact my_look37 hn hM (fun fi' hF => hp mo fi' hM hF) (2 ^ n - 1) 1 fi (by omega) (by omega) fun m a1 a2 => absurd a1 (by omega)
  | succ d ih =>
    intro x mo hx x0 hk
    have go : ∀ y : Int32, (y = 0 ↔ ¬ mt_MO n g x) → wY_look_10 post (nI n) kn (d + 1) (nI (x + 1)) (mt_G g) (upd mo x y) fi := by
      intro y hy
      refine ih (x + 1) (upd mo x y) (by omega) (by omega) fun m a1 a2 => ?_
      by_cases w : m = x
      · rw [w, pk_us]; exact hy
      · rw [pk_un w]; exact hk m a1 (by omega)
    have iv : vp_in (nI x) 256 := vp_in_nI (by omega) (by omega)
    have eu : ∀ y : Int32, upd mo (nI x).toNatClampNeg y = upd mo x y := fun y => by rw [nI_clamp (by omega)]
    rw [wY_look_10]
    refine my_all hn ?_
    refine br_f (nI_nlt (by omega) (by omega)) ?_
    refine my_same hn x0 (by omega) (fun z => ?_) (fun z => ?_)
    · exact ⟨iv, nm_r (eu _) (nm_r (nI_1 x) (go _ ⟨fun y => absurd y (by rw [mb_bool1]; decide), fun y => absurd z y⟩))⟩
    · exact ⟨iv, nm_r (eu _) (nm_r (nI_1 x) (go _ ⟨fun _ => z, fun _ => mb_bool0⟩))⟩
theorem my_look (hn : n ≤ 8) (hr : kn ≠ 0 → mt_YM n g mo ∧ mt_YF n g fi) (hp : ∀ kn' mo' fi', kn' ≠ 0 → mt_YM n g mo' → mt_YF n g fi' → post (nI n, kn', mt_G g, mo', fi')) : wpY_look post (nI n, kn, mt_G g, mo, fi) := by
  have pw := my_pow hn
  by_cases z : kn = 0
  · exact br_t z ⟨2 ^ n - 1 + 1, my_look10 hn (fun mo' fi' h1 h2 => hp 1 mo' fi' (by decide) h1 h2) (2 ^ n - 1) 1 mo (by omega) (by omega) fun m a1 a2 => absurd a1 (by omega)⟩
  · exact br_f z (hp kn mo fi z (hr z).1 (hr z).2)
end
end
section
/-! ===== the reference's smallest, counts, children, kinds ===== -/
section
variable {n : Nat} {g : Nat → Nat} {kn : Int32} {ne mo fi : Nat → Int32} {post : Int32 → SY → Prop}
/-- the smallest set of a kind K around p with more than l points, if there is one inside all others -/
theorem my_sm_l (hn : n ≤ 8) {K : Nat → Prop} {x2 : Int32} (hx2 : (x2 = 0 ∧ ∀ m, 0 < m → m < 2 ^ n → (mo m = 0 ↔ ¬ K m)) ∨ (x2 ≠ 0 ∧ ∀ m, 0 < m → m < 2 ^ n → (fi m = 0 ↔ ¬ K m))) {p l m0 : Nat} (hp : p < 256) (hl : l ≤ 8) (m00 : 0 < m0) (m01 : m0 < 2 ^ n) (hm0 : K m0 ∧ mt_sub p m0 ∧ l < mt_sz m0 n) (hmin : ∀ t, 0 < t → t < 2 ^ n → K t → mt_sub p t → l < mt_sz t n → mt_sub m0 t) (hpost : post (nI m0) (nI n, kn, ne, mo, fi)) : ∀ d x b, x + d = 2 ^ n → 0 < x → (b ≠ 0 → b < 2 ^ n ∧ K b ∧ mt_sub p b ∧ l < mt_sz b n) → (m0 < x → b = m0) → wY_smallest_10 post (nI p) x2 (nI l) (nI n) kn ne mo fi (d + 1) (nI b) (nI x) := by
  have pw := my_pow hn
  intro d
  induction d with
  | zero =>
    intro x b hx x0 h1 h2
    have e : b = m0 := h2 (by omega)
    rw [wY_smallest_10]
    refine my_all hn ?_
    refine br_t (nI_lt (by omega) (by omega)) ?_
    rw [e]
    exact hpost
  | succ d ih =>
    intro x b hx x0 h1 h2
    have iv : vp_in (nI x) 256 := vp_in_nI (by omega) (by omega)
    have xb : x < 256 := by omega
    have szx := mt_sz_b x n
    have szb := mt_sz_b b n
    have bb : b < 256 := by
      by_cases z : b = 0
      · omega
      · have q := (h1 z).1
        omega
    have stay : ¬ (K x ∧ mt_sub p x ∧ l < mt_sz x n) → wY_smallest_10 post (nI p) x2 (nI l) (nI n) kn ne mo fi (d + 1) (nI b) (nI (x + 1)) := by
      intro z
      refine ih (x + 1) b (by omega) (by omega) h1 fun w => h2 ?_
      apply Nat.lt_of_le_of_ne (by omega)
      intro e
      exact z (e ▸ hm0)
    have s69 : ¬ (K x ∧ mt_sub p x ∧ l < mt_sz x n) → wY_smallest_69 post (wY_smallest_10 post (nI p) x2 (nI l) (nI n) kn ne mo fi (d + 1)) (nI p) x2 (nI l) (nI b) (nI x) (nI n) kn ne mo fi := by
      intro z
      unfold wY_smallest_69 wY_smallest_70
      exact br_t rfl (nm_r (nI_1 x) (stay z))
    have s70 : (K x ∧ mt_sub p x ∧ l < mt_sz x n) → wY_smallest_70 post (wY_smallest_10 post (nI p) x2 (nI l) (nI n) kn ne mo fi (d + 1)) (nI p) x2 (nI l) (nI b) (nI x) 1 (nI n) kn ne mo fi := by
      intro z
      have sx := hmin x x0 (by omega) z.1 z.2.1 z.2.2
      unfold wY_smallest_70
      refine br_f (by decide) ?_
      by_cases b0 : b = 0
      · refine br_t ((mb_0 bb).mpr b0) (nm_r (nI_1 x) (ih (x + 1) x (by omega) (by omega) (fun _ => ⟨by omega, z⟩) fun w => ?_))
        by_cases e : m0 = x
        · exact e.symm
        · have q := h2 (by omega)
          omega
      · refine br_f (fun y => b0 ((mb_0 bb).mp y)) ?_
        refine my_size hn xb ?_
        refine my_size hn bb ?_
        have B := h1 b0
        by_cases c : mt_sz b n ≤ mt_sz x n
        · refine br_t (nI_le c (by omega)) (nm_r (nI_1 x) (ih (x + 1) b (by omega) (by omega) h1 fun w => ?_))
          by_cases e : m0 = x
          · have q := hmin b (by omega) B.1 B.2.1 B.2.2.1 B.2.2.2
            rw [e] at q ⊢
            exact (mt_sz_eq q B.1 c).symm
          · exact h2 (by omega)
        · refine br_f (nI_ge (by omega) (by omega)) (nm_r (nI_1 x) (ih (x + 1) x (by omega) (by omega) (fun _ => ⟨by omega, z⟩) fun w => ?_))
          by_cases e : m0 = x
          · exact e.symm
          · have q := h2 (by omega)
            have q2 := mt_sz_le sx n
            rw [q] at c
            omega
    have s46 : K x → wY_smallest_46 post (wY_smallest_10 post (nI p) x2 (nI l) (nI n) kn ne mo fi (d + 1)) (nI p) x2 (nI l) (nI b) (nI x) (nI n) kn ne mo fi := by
      intro k
      unfold wY_smallest_46
      have e2 : (nI p &&& (nI x ^^^ (-1)) = 0) ↔ mt_sub p x := by
        rw [mb_df, mb_0 (mt_df_b hp), mt_df0]
      by_cases c : mt_sub p x
      · refine br_t (e2.mpr c) ?_
        refine my_size hn xb ?_
        by_cases y : mt_sz x n ≤ l
        · exact br_t (nI_le y (by omega)) (s69 fun w => by omega)
        · exact br_f (nI_ge (by omega) (by omega)) (s70 ⟨k, c, by omega⟩)
      · exact br_f (fun y => c (e2.mp y)) (s69 fun w => c w.2.1)
    rw [wY_smallest_10]
    refine my_all hn ?_
    refine br_f (nI_nlt (by omega) (by omega)) ?_
    have eo : mo (nI x).toNatClampNeg = mo x := mb_at (N := 256) (by omega) (by omega)
    have ef : fi (nI x).toNatClampNeg = fi x := mb_at (N := 256) (by omega) (by omega)
    rcases hx2 with ⟨y1, y2⟩ | ⟨y1, y2⟩
    · have M := y2 x x0 (by omega)
      rw [← eo] at M
      refine br_t y1 ⟨iv, ?_⟩
      by_cases k : K x
      · exact br_f (fun y => M.mp y k) (s46 k)
      · exact br_t (M.mpr k) (s69 fun w => k w.1)
    · have M := y2 x x0 (by omega)
      rw [← ef] at M
      refine br_f y1 ⟨iv, ?_⟩
      by_cases k : K x
      · exact br_f (fun y => M.mp y k) (s46 k)
      · exact br_t (M.mpr k) (s69 fun w => k w.1)
end
section
variable {n : Nat} {g : Nat → Nat} {kn : Int32} {mo fi : Nat → Int32} {post : Int32 → SY → Prop}
theorem my_smM (hn : n ≤ 8) (hr : kn ≠ 0 → mt_YM n g mo ∧ mt_YF n g fi) {p m0 : Nat} (hp : p < 256) (hm0 : mt_LM n g p m0) (hpost : ∀ kn' mo' fi', kn' ≠ 0 → mt_YM n g mo' → mt_YF n g fi' → post (nI m0) (nI n, kn', mt_G g, mo', fi')) : wpY_smallest post (nI n, kn, mt_G g, mo, fi) (nI p) 0 0 := by
  have pw := my_pow hn
  unfold wpY_smallest
  dsimp only
  refine my_look hn hr fun kn' mo' fi' a1 a2 a3 => ?_
  have pos : 0 < m0 := Nat.pos_of_ne_zero (mt_ne.mpr hm0.1.1)
  have psz : ∀ t, mt_MO n g t → 0 < mt_sz t n := fun t ht => by
    obtain ⟨i, hi⟩ := ht.1
    exact mt_sz_pos hi (ht.2.1 i hi)
  exact ⟨2 ^ n - 1 + 1, my_sm_l hn (K := mt_MO n g) (x2 := 0) (l := 0) (m0 := m0) (Or.inl ⟨rfl, a2⟩) hp (by omega) pos (mt_MO_lt hm0.1) ⟨hm0.1, hm0.2.1, psz m0 hm0.1⟩ (fun t _ _ h1 h2 _ => hm0.2.2 t h1 h2) (hpost kn' mo' fi' a1 a2 a3) (2 ^ n - 1) 1 0 (by omega) (by omega) (fun z => absurd rfl z) fun z => absurd z (by omega)⟩
theorem my_smS (hn : n ≤ 8) (hr : kn ≠ 0 → mt_YM n g mo ∧ mt_YF n g fi) {p l m0 : Nat} (hp : p < 256) (hl : l ≤ 8) (hm0 : mt_ST n g m0) (h1 : mt_sub p m0) (h2 : l < mt_sz m0 n) (h3 : ∀ t, mt_ST n g t → mt_sub p t → l < mt_sz t n → mt_sub m0 t) (hpost : ∀ kn' mo' fi', kn' ≠ 0 → mt_YM n g mo' → mt_YF n g fi' → post (nI m0) (nI n, kn', mt_G g, mo', fi')) : wpY_smallest post (nI n, kn, mt_G g, mo, fi) (nI p) 1 (nI l) := by
  have pw := my_pow hn
  unfold wpY_smallest
  dsimp only
  refine my_look hn hr fun kn' mo' fi' a1 a2 a3 => ?_
  have pos : 0 < m0 := Nat.pos_of_ne_zero (mt_ne.mpr hm0.1.1)
  exact ⟨2 ^ n - 1 + 1, my_sm_l hn (K := mt_ST n g) (x2 := 1) (l := l) (m0 := m0) (Or.inr ⟨by decide, a3⟩) hp hl pos (mt_MO_lt hm0.1) ⟨hm0, h1, h2⟩ (fun t _ _ q1 q2 q3 => h3 t q1 q2 q3) (hpost kn' mo' fi' a1 a2 a3) (2 ^ n - 1) 1 0 (by omega) (by omega) (fun z => absurd rfl z) fun z => absurd z (by omega)⟩
theorem mt_li_1 {P : Nat → Prop} (h : ¬ P 0) : (mt_li P 1).length = 0 := mt_li_f (N := 0) h
theorem mt_no0 : ¬ mt_MO n g 0 := fun z => by
  obtain ⟨i, hi⟩ := z.1
  exact mt_in_0 i hi
theorem my_strong_l (hn : n ≤ 8) (hF : mt_YF n g fi) (hp : post (nI (mt_li (mt_ST n g) (2 ^ n)).length) (nI n, kn, mt_G g, mo, fi)) : ∀ d x, x + d = 2 ^ n → 0 < x → wY_strong_8 post (nI n) kn (mt_G g) mo fi (d + 1) (nI (mt_li (mt_ST n g) x).length) (nI x) := by
  have pw := my_pow hn
  intro d
  induction d with
  | zero =>
    intro x hx x0
    rw [wY_strong_8]
    refine my_all hn ?_
    refine br_t (nI_lt (by omega) (by omega)) ?_
    rw [show x = 2 ^ n by omega]
    exact hp
  | succ d ih =>
    intro x hx x0
    have nx := ih (x + 1) (by omega) (by omega)
    rw [wY_strong_8]
    refine my_all hn ?_
    refine br_f (nI_nlt (by omega) (by omega)) ⟨vp_in_nI (by omega) (by omega), ?_⟩
    have ef : fi (nI x).toNatClampNeg = fi x := mb_at (N := 256) (by omega) (by omega)
    have M := hF x x0 (by omega)
    rw [← ef] at M
    by_cases k : mt_ST n g x
    · rw [mt_li_t k] at nx
      exact br_f (fun y => M.mp y k) (nm_r (nI_1 _) (nm_r (nI_1 x) nx))
    · rw [mt_li_f k] at nx
      exact br_t (M.mpr k) (nm_r (nI_1 x) nx)
theorem my_mods_l (hn : n ≤ 8) (hM : mt_YM n g mo) (hp : post (nI (mt_li (mt_MO n g) (2 ^ n)).length) (nI n, kn, mt_G g, mo, fi)) : ∀ d x, x + d = 2 ^ n → 0 < x → wY_modules_8 post (nI n) kn (mt_G g) mo fi (d + 1) (nI (mt_li (mt_MO n g) x).length) (nI x) := by
  have pw := my_pow hn
  intro d
  induction d with
  | zero =>
    intro x hx x0
    rw [wY_modules_8]
    refine my_all hn ?_
    refine br_t (nI_lt (by omega) (by omega)) ?_
    rw [show x = 2 ^ n by omega]
    exact hp
  | succ d ih =>
    intro x hx x0
    have nx := ih (x + 1) (by omega) (by omega)
    rw [wY_modules_8]
    refine my_all hn ?_
    refine br_f (nI_nlt (by omega) (by omega)) ⟨vp_in_nI (by omega) (by omega), ?_⟩
    have ef : mo (nI x).toNatClampNeg = mo x := mb_at (N := 256) (by omega) (by omega)
    have M := hM x x0 (by omega)
    rw [← ef] at M
    by_cases k : mt_MO n g x
    · rw [mt_li_t k] at nx
      exact br_f (fun y => M.mp y k) (nm_r (nI_1 _) (nm_r (nI_1 x) nx))
    · rw [mt_li_f k] at nx
      exact br_t (M.mpr k) (nm_r (nI_1 x) nx)
end
section
variable {n : Nat} {g : Nat → Nat} {kn : Int32} {mo fi : Nat → Int32} {post : Int32 → Prop}
theorem my_ic_l (hn : n ≤ 8) (hF : mt_YF n g fi) {s c : Nat} (hs : s < 256) (hc : c < 256) (hp1 : (∀ o, mt_ST n g o → o ≠ s → o ≠ c → mt_sub c o → mt_sub o s → False) → post 1) (hp0 : (¬ ∀ o, mt_ST n g o → o ≠ s → o ≠ c → mt_sub c o → mt_sub o s → False) → post 0) : ∀ d x, x + d = 2 ^ n → 0 < x → (∀ o, o < x → mt_ST n g o → o ≠ s → o ≠ c → mt_sub c o → mt_sub o s → False) → wY_isChild_26 post (nI c) (nI s) (nI n) kn (mt_G g) mo fi (d + 1) (nI x) := by
  have pw := my_pow hn
  intro d
  induction d with
  | zero =>
    intro x hx x0 hk
    rw [wY_isChild_26]
    refine my_all hn ?_
    refine br_t (nI_lt (by omega) (by omega)) (hp1 fun o ho => hk o ?_ ho)
    rw [show x = 2 ^ n by omega]
    exact mt_MO_lt ho.1
  | succ d ih =>
    intro x hx x0 hk
    have xb : x < 256 := by omega
    have go : ¬ (mt_ST n g x ∧ x ≠ s ∧ x ≠ c ∧ mt_sub c x ∧ mt_sub x s) → wY_isChild_73 post (wY_isChild_26 post (nI c) (nI s) (nI n) kn (mt_G g) mo fi (d + 1)) (nI c) (nI s) (nI x) (nI n) kn (mt_G g) mo fi := by
      intro z
      unfold wY_isChild_73 wY_isChild_74
      refine br_t rfl (nm_r (nI_1 x) (ih (x + 1) (by omega) (by omega) fun o ho b1 b2 b3 b4 b5 => ?_))
      by_cases w : o = x
      · rw [w] at b1 b2 b3 b4 b5
        exact z ⟨b1, b2, b3, b4, b5⟩
      · exact hk o (by omega) b1 b2 b3 b4 b5
    rw [wY_isChild_26]
    refine my_all hn ?_
    refine br_f (nI_nlt (by omega) (by omega)) ⟨vp_in_nI (by omega) (by omega), ?_⟩
    have ef : fi (nI x).toNatClampNeg = fi x := mb_at (N := 256) (by omega) (by omega)
    have M := hF x x0 (by omega)
    rw [← ef] at M
    have e1 : (nI c &&& (nI x ^^^ (-1)) = 0) ↔ mt_sub c x := by rw [mb_df, mb_0 (mt_df_b hc), mt_df0]
    have e2 : (nI x &&& (nI s ^^^ (-1)) = 0) ↔ mt_sub x s := by rw [mb_df, mb_0 (mt_df_b xb), mt_df0]
    by_cases k : mt_ST n g x
    · refine br_f (fun y => M.mp y k) ?_
      by_cases k1 : x = s
      · exact br_t ((mb_eq xb hs).mpr k1) (go fun z => z.2.1 k1)
      · refine br_f (fun y => k1 ((mb_eq xb hs).mp y)) ?_
        by_cases k2 : x = c
        · exact br_t ((mb_eq xb hc).mpr k2) (go fun z => z.2.2.1 k2)
        · refine br_f (fun y => k2 ((mb_eq xb hc).mp y)) ?_
          by_cases k3 : mt_sub c x
          · refine br_t (e1.mpr k3) ?_
            by_cases k4 : mt_sub x s
            · refine br_t (e2.mpr k4) ?_
              unfold wY_isChild_74
              exact br_f (by decide) (hp0 fun y => y x k k1 k2 k3 k4)
            · exact br_f (fun y => k4 (e2.mp y)) (go fun z => k4 z.2.2.2.2)
          · exact br_f (fun y => k3 (e1.mp y)) (go fun z => k3 z.2.2.2.1)
    · exact br_t (M.mpr k) (go fun z => k z.1)
theorem my_ic (hn : n ≤ 8) (hF : mt_YF n g fi) {s c : Nat} (hs : s < 256) (c0 : 0 < c) (hc : c < 2 ^ n) (hp1 : mt_IC n g s c → post 1) (hp0 : ¬ mt_IC n g s c → post 0) : wpY_isChild post (nI n, kn, mt_G g, mo, fi) (nI c) (nI s) := by
  have pw := my_pow hn
  have cb : c < 256 := by omega
  have ef : fi (nI c).toNatClampNeg = fi c := mb_at (N := 256) (by omega) (by omega)
  have M := hF c c0 hc
  rw [← ef] at M
  have e2 : (nI c &&& (nI s ^^^ (-1)) = 0) ↔ mt_sub c s := by rw [mb_df, mb_0 (mt_df_b cb), mt_df0]
  refine ⟨vp_in_nI cb (by omega), ?_⟩
  by_cases k : mt_ST n g c
  · refine br_f (fun y => M.mp y k) ?_
    by_cases k1 : c = s
    · exact br_t ((mb_eq cb hs).mpr k1) (hp0 fun z => z.2.1 k1)
    · refine br_f (fun y => k1 ((mb_eq cb hs).mp y)) ?_
      by_cases k2 : mt_sub c s
      · refine br_t (e2.mpr k2) ⟨2 ^ n - 1 + 1, my_ic_l hn hF hs cb (fun z => hp1 ⟨k, k1, k2, z⟩) (fun z => hp0 fun y => z y.2.2.2) (2 ^ n - 1) 1 (by omega) (by omega) fun o ho b => ?_⟩
        have q := mt_ne.mpr b.1.1
        omega
      · exact br_f (fun y => k2 (e2.mp y)) (hp0 fun z => k2 z.2.2.1)
  · exact br_t (M.mpr k) (hp0 fun z => k z.1)
end
section
variable {n : Nat} {g : Nat → Nat} {kn : Int32} {mo fi : Nat → Int32} {post : Int32 → SY → Prop}
theorem my_cc_l (hn : n ≤ 8) (hF : mt_YF n g fi) {s : Nat} (hs : s < 256) (hp : post (nI (mt_kc n g s)) (nI n, kn, mt_G g, mo, fi)) : ∀ d x, x + d = 2 ^ n → 0 < x → wY_children_15 post (nI s) (nI n) kn (mt_G g) mo fi (d + 1) (nI (mt_li (mt_IC n g s) x).length) (nI x) := by
  have pw := my_pow hn
  intro d
  induction d with
  | zero =>
    intro x hx x0
    rw [wY_children_15]
    refine my_all hn ?_
    refine br_t (nI_lt (by omega) (by omega)) ?_
    rw [show x = 2 ^ n by omega]
    exact hp
  | succ d ih =>
    intro x hx x0
    have nx := ih (x + 1) (by omega) (by omega)
    rw [wY_children_15]
    refine my_all hn ?_
    refine br_f (nI_nlt (by omega) (by omega)) ?_
    refine my_ic hn hF hs x0 (by omega) (fun k => ?_) (fun k => ?_)
    · rw [mt_li_t k] at nx
      exact br_f (by decide) (nm_r (nI_1 _) (nm_r (nI_1 x) nx))
    · rw [mt_li_f k] at nx
      exact br_t rfl (nm_r (nI_1 x) nx)
end
end
section
/-! ===== the reference's kind ===== -/
def mt_A (g : Nat → Nat) (s c u : Nat) : Prop := ∃ v, mt_in u c ∧ mt_in v s ∧ ¬ mt_in v c ∧ mt_in v (g u)
def mt_E (g : Nat → Nat) (s c u : Nat) : Prop := ∀ v, mt_in u c → mt_in v s → ¬ mt_in v c → mt_in v (g u)
section
variable {n : Nat} {g : Nat → Nat} {kn : Int32} {mo fi : Nat → Int32} {post : Int32 → SY → Prop}
theorem my_k70 {J18 J40 : Int32 → Int32 → Int32 → Prop} {s c y w : Nat} {p q : Int32} {R : Prop} {S : Prop} {A E : Prop} (hy : y < 8) (hw : w < 256) (h1 : g y &&& w = 0 ↔ ¬ A) (h2 : g y &&& w = w ↔ E) (hp : p = 0 ↔ ¬ R) (hq : q = 0 ↔ ¬ S) (hJ : ∀ p q : Int32, (p = 0 ↔ ¬ (R ∨ A)) → (q = 0 ↔ ¬ (S ∧ E)) → J40 p q (nI (y + 1))) : wY_kind_70 post J18 J40 (nI s) p q (nI c) (nI y) (nI w) (nI n) kn (mt_G g) mo fi := by
  have iv : vp_in (nI y) 8 := vp_in_nI hy (by omega)
  have e0 : mt_G g (nI y).toNatClampNeg &&& nI w = nI (g y &&& w) := by
    rw [mb_G hy, nx_and]
  have b0 : g y &&& w < 256 := Nat.lt_of_le_of_lt Nat.and_le_right hw
  have c1 : (mt_G g (nI y).toNatClampNeg &&& nI w = 0) ↔ ¬ A := by rw [e0, mb_0 b0, h1]
  have c2 : (mt_G g (nI y).toNatClampNeg &&& nI w = nI w) ↔ E := by rw [e0, mb_eq b0 hw, h2]
  have go : ∀ p' : Int32, (p' = 0 ↔ ¬ (R ∨ A)) → wY_kind_87 post J18 J40 (nI s) p' q (nI c) (nI y) (nI w) (nI n) kn (mt_G g) mo fi := by
    intro p' hp'
    unfold wY_kind_87
    refine ⟨iv, ?_⟩
    by_cases z : E
    · refine br_t (c2.mpr z) (nm_r (nI_1 y) (hJ p' q hp' ?_))
      rw [hq]
      exact not_congr ⟨fun a => ⟨a, z⟩, fun a => a.1⟩
    · refine br_f (fun a => z (c2.mp a)) (nm_r (nI_1 y) (hJ p' 0 hp' ?_))
      exact ⟨fun _ a => z a.2, fun _ => rfl⟩
  unfold wY_kind_70
  refine ⟨iv, ?_⟩
  by_cases z : A
  · exact br_f (fun a => c1.mp a z) (go 1 ⟨fun a => absurd a (by decide), fun a => absurd (Or.inr z) a⟩)
  · refine br_t (c1.mpr z) (go p ?_)
    rw [hp]
    exact not_congr ⟨fun a => Or.inl a, fun a => a.resolve_right z⟩
theorem my_k40 (hn : n ≤ 8) {s c : Nat} (hs : s < 256) (hc : c < 2 ^ n) {R S : Prop} {J18 : Int32 → Int32 → Int32 → Prop} (hJ : ∀ p q : Int32, (p = 0 ↔ ¬ (R ∨ ∃ u, mt_A g s c u)) → (q = 0 ↔ ¬ (S ∧ ∀ u, mt_E g s c u)) → J18 p q (nI (c + 1))) : ∀ d y (p q : Int32), y + d = n → (p = 0 ↔ ¬ (R ∨ ∃ u, u < y ∧ mt_A g s c u)) → (q = 0 ↔ ¬ (S ∧ ∀ u, u < y → mt_E g s c u)) → wY_kind_40 post J18 (nI s) (nI c) (nI n) kn (mt_G g) mo fi (d + 1) p q (nI y) := by
  have cn := mt_lt.mp hc
  have cb := mb_256 hn hc
  intro d
  induction d with
  | zero =>
    intro y p q hy hp hq
    have e : y = n := by omega
    rw [e] at hp hq ⊢
    refine br_t (nI_le (Nat.le_refl n) (by omega)) (nm_r (nI_1 c) (hJ p q ?_ ?_))
    · rw [hp]
      refine not_congr (or_congr Iff.rfl ⟨fun ⟨u, _, a⟩ => ⟨u, a⟩, fun ⟨u, v, a⟩ => ⟨u, cn u a.1, v, a⟩⟩)
    · rw [hq]
      refine not_congr (and_congr Iff.rfl ⟨fun a u v b1 => a u (cn u b1) v b1, fun a u _ => a u⟩)
  | succ d ih =>
    intro y p q hy hp hq
    have go : ∀ p q : Int32, (p = 0 ↔ ¬ ((R ∨ ∃ u, u < y ∧ mt_A g s c u) ∨ mt_A g s c y)) → (q = 0 ↔ ¬ ((S ∧ ∀ u, u < y → mt_E g s c u) ∧ mt_E g s c y)) → wY_kind_40 post J18 (nI s) (nI c) (nI n) kn (mt_G g) mo fi (d + 1) p q (nI (y + 1)) := by
      intro p q hp hq
      refine ih (y + 1) p q (by omega) ?_ ?_
      · rw [hp, or_assoc]
        refine not_congr (or_congr Iff.rfl ⟨?_, ?_⟩)
        · rintro (⟨u, u1, u2⟩ | a)
          · exact ⟨u, by omega, u2⟩
          · exact ⟨y, by omega, a⟩
        · rintro ⟨u, u1, u2⟩
          by_cases w : u = y
          · exact Or.inr (w ▸ u2)
          · exact Or.inl ⟨u, by omega, u2⟩
      · rw [hq, and_assoc]
        refine not_congr (and_congr Iff.rfl ⟨?_, ?_⟩)
        · rintro ⟨a1, a2⟩ u hu
          by_cases w : u = y
          · rw [w]; exact a2
          · exact a1 u (by omega)
        · intro a
          exact ⟨fun u hu => a u (by omega), a y (by omega)⟩
    refine br_f (nI_ge (by omega) (by omega)) ?_
    by_cases yc : mt_in y c
    · refine my_in_t cb (by omega) yc ?_
      refine br_f (by decide) ?_
      rw [mb_df]
      refine my_k70 (by omega) (mt_df_b hs) (A := mt_A g s c y) (E := mt_E g s c y) ?_ ?_ hp hq go
      · constructor
        · rintro z ⟨v, _, v1, v2, v3⟩
          exact mt_and0.mpr ⟨v, v3, (mt_in_df _ _ _).mpr ⟨v1, v2⟩⟩ z
        · intro z
          apply Classical.byContradiction
          intro w
          obtain ⟨v, v1, v2⟩ := mt_and0.mp w
          have v3 := (mt_in_df _ _ _).mp v2
          exact z ⟨v, yc, v3.1, v3.2, v1⟩
      · rw [mt_andE]
        exact ⟨fun z v _ v1 v2 => z v ((mt_in_df _ _ _).mpr ⟨v1, v2⟩), fun z v v1 => z v yc ((mt_in_df _ _ _).mp v1).1 ((mt_in_df _ _ _).mp v1).2⟩
    · refine my_in_f cb (by omega) yc ?_
      refine br_t rfl ?_
      refine my_k70 (w := 0) (by omega) (by omega) (A := mt_A g s c y) (E := mt_E g s c y) ?_ ?_ hp hq go
      · rw [Nat.and_zero]
        exact ⟨fun _ ⟨v, a, _⟩ => yc a, fun _ => rfl⟩
      · rw [Nat.and_zero]
        exact ⟨fun _ v a => absurd a yc, fun _ => rfl⟩
theorem my_k18 (hn : n ≤ 8) (hF : mt_YF n g fi) {s : Nat} (hs : mt_ST n g s) (two : mt_two s) (hp : post (nI (mt_kd n g s)) (nI n, kn, mt_G g, mo, fi)) : ∀ d x (p q : Int32), x + d = 2 ^ n → 0 < x → (p = 0 ↔ ¬ ∃ c u, c < x ∧ mt_IC n g s c ∧ mt_A g s c u) → (q = 0 ↔ ¬ ∀ c u, c < x → mt_IC n g s c → mt_E g s c u) → wY_kind_18 post (nI s) (nI n) kn (mt_G g) mo fi (d + 1) p q (nI x) := by
  have pw := my_pow hn
  have hs2 := mb_256 hn (mt_MO_lt hs.1)
  intro d
  induction d with
  | zero =>
    intro x p q hx x0 h1 h2
    rw [wY_kind_18]
    refine my_all hn ?_
    refine br_t (nI_lt (by omega) (by omega)) ?_
    have ex : x = 2 ^ n := by omega
    have f1 : (p = 0 ↔ ¬ mt_sm n g s) := by
      rw [h1]
      refine not_congr ⟨?_, ?_⟩
      · rintro ⟨c, u, _, c2, v, v1, v2, v3, v4⟩
        rw [mt_IC_of hs two c2 v1] at v3
        exact ⟨u, v, c2.2.2.1 u v1, v2, v3, v4⟩
      · rintro ⟨u, v, a1, a2, a3, a4⟩
        have U := mt_ch_ex hs two a1
        exact ⟨mt_ch n g s u, u, by rw [ex]; exact mt_MO_lt U.1.1, mt_IC_ch hs two a1, v, U.2.2.2.1, a2, a3, a4⟩
    have f2 : (q = 0 ↔ ¬ mt_ev n g s) := by
      rw [h2]
      refine not_congr ⟨?_, ?_⟩
      · intro z u v a1 a2 a3
        have U := mt_ch_ex hs two a1
        exact z (mt_ch n g s u) u (by rw [ex]; exact mt_MO_lt U.1.1) (mt_IC_ch hs two a1) v U.2.2.2.1 a2 a3
      · intro z c u _ c2 v v1 v2 v3
        rw [mt_IC_of hs two c2 v1] at v3
        exact z u v (c2.2.2.1 u v1) v2 v3
    unfold mt_kd at hp
    by_cases z1 : mt_sm n g s
    · rw [if_pos (mt_b_t.mpr z1)] at hp
      refine br_f (fun y => f1.mp y z1) ?_
      by_cases z2 : mt_ev n g s
      · rw [if_pos (mt_b_t.mpr z2)] at hp
        exact br_f (fun y => f2.mp y z2) hp
      · rw [if_neg (fun y => z2 (mt_b_t.mp y))] at hp
        exact br_t (f2.mpr z2) hp
    · rw [if_neg (fun y => z1 (mt_b_t.mp y))] at hp
      exact br_t (f1.mpr z1) hp
  | succ d ih =>
    intro x p q hx x0 h1 h2
    rw [wY_kind_18]
    refine my_all hn ?_
    refine br_f (nI_nlt (by omega) (by omega)) ?_
    refine my_ic hn hF hs2 x0 (by omega) (fun k => ?_) (fun k => ?_)
    · refine br_f (by decide) ⟨n + 1, ?_⟩
      refine my_k40 hn hs2 (by omega) (R := ∃ c u, c < x ∧ mt_IC n g s c ∧ mt_A g s c u) (S := ∀ c u, c < x → mt_IC n g s c → mt_E g s c u) (J18 := wY_kind_18 post (nI s) (nI n) kn (mt_G g) mo fi (d + 1)) (fun p' q' hp' hq' => ih (x + 1) p' q' (by omega) (by omega) ?_ ?_) n 0 p q (by omega) ?_ ?_
      · rw [hp']
        refine not_congr ⟨?_, ?_⟩
        · rintro (⟨c, u, c1, c2⟩ | ⟨u, a⟩)
          · exact ⟨c, u, by omega, c2⟩
          · exact ⟨x, u, by omega, k, a⟩
        · rintro ⟨c, u, c1, c2, c3⟩
          by_cases w : c = x
          · exact Or.inr ⟨u, w ▸ c3⟩
          · exact Or.inl ⟨c, u, by omega, c2, c3⟩
      · rw [hq']
        refine not_congr ⟨?_, ?_⟩
        · rintro ⟨a1, a2⟩ c u c1 c2
          by_cases w : c = x
          · rw [w]; exact a2 u
          · exact a1 c u (by omega) c2
        · intro a
          exact ⟨fun c u c1 => a c u (by omega), fun u => a x u (by omega) k⟩
      · rw [h1]
        exact not_congr ⟨fun a => Or.inl a, fun a => a.resolve_right fun ⟨u, u1, _⟩ => absurd u1 (by omega)⟩
      · rw [h2]
        exact not_congr ⟨fun a => ⟨a, fun u u1 => absurd u1 (by omega)⟩, fun a => a.1⟩
    · refine br_t rfl (nm_r (nI_1 x) (ih (x + 1) p q (by omega) (by omega) ?_ ?_))
      · rw [h1]
        refine not_congr ⟨fun ⟨c, u, c1, c2⟩ => ⟨c, u, by omega, c2⟩, fun ⟨c, u, c1, c2, c3⟩ => ⟨c, u, ?_, c2, c3⟩⟩
        apply Nat.lt_of_le_of_ne (by omega)
        intro w
        exact k (w ▸ c2)
      · rw [h2]
        refine not_congr ⟨fun a c u c1 c2 => ?_, fun a c u c1 => a c u (by omega)⟩
        by_cases w : c = x
        · exact absurd (w ▸ c2) k
        · exact a c u (by omega) c2
end
end
section
/-! ===== the two classes' strong and inner sets; joins; complements ===== -/
section
variable {n : Nat} {g : Nat → Nat} {rd sc smc : Int32} {ss sm co : Nat → Int32} {post : Int32 → SX → Prop}
theorem mx_isStrong_f {x : Int32} (hn : n ≤ 8) (h : x ≤ 0 ∨ nI (2 ^ n - 1) < x) (hp : post 0 (nI n, rd, sc, smc, mt_G g, ss, sm, co)) : wpX_isStrong post (nI n, rd, sc, smc, mt_G g, ss, sm, co) x := by
  unfold wpX_isStrong
  dsimp only
  refine mx_isSet_f hn h ?_
  exact br_t rfl hp
theorem mx_isStrong (hn : n ≤ 8) (hg : mt_GR n g) (hr : rd ≠ 0 → mt_SOK n g sc ss) {m : Nat} (m0 : 0 < m) (m1 : m < 2 ^ n) (hp1 : mt_ST n g m → ∀ (rd' : Int32) (c : Nat) (a : Nat → Nat) (smc' : Int32) (ss' sm' co' : Nat → Int32), rd' ≠ 0 → mt_SO n g c a ss' → post 1 (nI n, rd', nI c, smc', mt_G g, ss', sm', co')) (hp0 : ¬ mt_ST n g m → ∀ (rd' : Int32) (c : Nat) (a : Nat → Nat) (smc' : Int32) (ss' sm' co' : Nat → Int32), rd' ≠ 0 → mt_SO n g c a ss' → post 0 (nI n, rd', nI c, smc', mt_G g, ss', sm', co')) : wpX_isStrong post (nI n, rd, sc, smc, mt_G g, ss, sm, co) (nI m) := by
  unfold wpX_isStrong
  dsimp only
  refine mx_isSet_t hn m0 m1 ?_
  refine br_f (by decide) ?_
  refine mf_find hn hg hr fun rd' c a smc' ss' sm' co' q1 q2 => ?_
  refine mx_place q2.1 (mb_256 hn m1) (fun k k1 k2 => ?_) (fun k => ?_)
  · have hc := q2.1.1
    exact br_f (nI_pos (by omega)) (hp1 (k2 ▸ q2.2.1.1 k k1) rd' c a smc' ss' sm' co' q1 q2)
  · refine br_t (by decide) (hp0 (fun z => ?_) rd' c a smc' ss' sm' co' q1 q2)
    obtain ⟨j, j1, j2⟩ := q2.2.1.2.1 m z
    exact k j j1 j2
theorem mx_isInner_f {x : Int32} (hn : n ≤ 8) (h : x ≤ 0 ∨ nI (2 ^ n - 1) < x) (hp : post 0 (nI n, rd, sc, smc, mt_G g, ss, sm, co)) : wpX_isInner post (nI n, rd, sc, smc, mt_G g, ss, sm, co) x := by
  unfold wpX_isInner
  dsimp only
  refine mx_isStrong_f hn h ?_
  exact br_t rfl hp
theorem mx_isInner (hn : n ≤ 8) (hg : mt_GR n g) (hr : rd ≠ 0 → mt_SOK n g sc ss) {m : Nat} (m0 : 0 < m) (m1 : m < 2 ^ n) (hp1 : mt_ST n g m → mt_two m → ∀ (rd' : Int32) (c : Nat) (a : Nat → Nat) (smc' : Int32) (ss' sm' co' : Nat → Int32), rd' ≠ 0 → mt_SO n g c a ss' → post 1 (nI n, rd', nI c, smc', mt_G g, ss', sm', co')) (hp0 : ¬ (mt_ST n g m ∧ mt_two m) → ∀ (rd' : Int32) (c : Nat) (a : Nat → Nat) (smc' : Int32) (ss' sm' co' : Nat → Int32), rd' ≠ 0 → mt_SO n g c a ss' → post 0 (nI n, rd', nI c, smc', mt_G g, ss', sm', co')) : wpX_isInner post (nI n, rd, sc, smc, mt_G g, ss, sm, co) (nI m) := by
  unfold wpX_isInner
  dsimp only
  refine mx_isStrong hn hg hr m0 m1 (fun hS rd' c a smc' ss' sm' co' q1 q2 => ?_) (fun hS rd' c a smc' ss' sm' co' q1 q2 => ?_)
  · refine br_f (by decide) ?_
    by_cases two : mt_two m
    · exact br_f (fun z => (mb_single m0 (mb_256 hn m1)).mp z two) (hp1 hS two rd' c a smc' ss' sm' co' q1 q2)
    · exact br_t ((mb_single m0 (mb_256 hn m1)).mpr two) (hp0 (fun z => two z.2) rd' c a smc' ss' sm' co' q1 q2)
  · exact br_t rfl (hp0 (fun z => hS z.1) rd' c a smc' ss' sm' co' q1 q2)
end
section
variable {n : Nat} {g : Nat → Nat} {kn : Int32} {mo fi : Nat → Int32} {post : Int32 → SY → Prop}
theorem my_isStrong_f {x : Int32} (hn : n ≤ 8) (hr : kn ≠ 0 → mt_YM n g mo ∧ mt_YF n g fi) (h : x ≤ 0 ∨ nI (2 ^ n - 1) < x) (hp : ∀ kn' mo' fi', kn' ≠ 0 → mt_YM n g mo' → mt_YF n g fi' → post 0 (nI n, kn', mt_G g, mo', fi')) : wpY_isStrong post (nI n, kn, mt_G g, mo, fi) x := by
  unfold wpY_isStrong
  dsimp only
  refine my_look hn hr fun kn' mo' fi' a1 a2 a3 => ?_
  refine my_isSet_f hn h ?_
  exact br_t rfl (hp kn' mo' fi' a1 a2 a3)
theorem my_isStrong (hn : n ≤ 8) (hr : kn ≠ 0 → mt_YM n g mo ∧ mt_YF n g fi) {m : Nat} (m0 : 0 < m) (m1 : m < 2 ^ n) (hp1 : mt_ST n g m → ∀ kn' mo' fi', kn' ≠ 0 → mt_YM n g mo' → mt_YF n g fi' → post 1 (nI n, kn', mt_G g, mo', fi')) (hp0 : ¬ mt_ST n g m → ∀ kn' mo' fi', kn' ≠ 0 → mt_YM n g mo' → mt_YF n g fi' → post 0 (nI n, kn', mt_G g, mo', fi')) : wpY_isStrong post (nI n, kn, mt_G g, mo, fi) (nI m) := by
  have mb := mb_256 hn m1
  unfold wpY_isStrong
  dsimp only
  refine my_look hn hr fun kn' mo' fi' a1 a2 a3 => ?_
  refine my_isSet_t hn m0 m1 ?_
  refine br_f (by decide) ⟨vp_in_nI mb (by omega), ?_⟩
  have ef : fi' (nI m).toNatClampNeg = fi' m := mb_at (N := 256) mb (by omega)
  have M := a3 m m0 m1
  rw [← ef] at M
  by_cases k : mt_ST n g m
  · exact br_f (fun y => M.mp y k) (hp1 k kn' mo' fi' a1 a2 a3)
  · exact br_t (M.mpr k) (hp0 k kn' mo' fi' a1 a2 a3)
theorem my_isInner_f {x : Int32} (hn : n ≤ 8) (hr : kn ≠ 0 → mt_YM n g mo ∧ mt_YF n g fi) (h : x ≤ 0 ∨ nI (2 ^ n - 1) < x) (hp : ∀ kn' mo' fi', kn' ≠ 0 → mt_YM n g mo' → mt_YF n g fi' → post 0 (nI n, kn', mt_G g, mo', fi')) : wpY_isInner post (nI n, kn, mt_G g, mo, fi) x := by
  unfold wpY_isInner
  dsimp only
  refine my_look hn hr fun kn' mo' fi' a1 a2 a3 => ?_
  refine my_isSet_f hn h ?_
  exact br_t rfl (hp kn' mo' fi' a1 a2 a3)
theorem my_isInner (hn : n ≤ 8) (hr : kn ≠ 0 → mt_YM n g mo ∧ mt_YF n g fi) {m : Nat} (m0 : 0 < m) (m1 : m < 2 ^ n) (hp1 : mt_ST n g m → mt_two m → ∀ kn' mo' fi', kn' ≠ 0 → mt_YM n g mo' → mt_YF n g fi' → post 1 (nI n, kn', mt_G g, mo', fi')) (hp0 : ¬ (mt_ST n g m ∧ mt_two m) → ∀ kn' mo' fi', kn' ≠ 0 → mt_YM n g mo' → mt_YF n g fi' → post 0 (nI n, kn', mt_G g, mo', fi')) : wpY_isInner post (nI n, kn, mt_G g, mo, fi) (nI m) := by
  have mb := mb_256 hn m1
  unfold wpY_isInner
  dsimp only
  refine my_look hn hr fun kn' mo' fi' a1 a2 a3 => ?_
  refine my_isSet_t hn m0 m1 ?_
  refine br_f (by decide) ⟨vp_in_nI mb (by omega), ?_⟩
  have ef : fi' (nI m).toNatClampNeg = fi' m := mb_at (N := 256) mb (by omega)
  have M := a3 m m0 m1
  rw [← ef] at M
  by_cases k : mt_ST n g m
  · refine br_f (fun y => M.mp y k) ?_
    refine my_size hn mb ?_
    have sb := mt_sz_b m n
    have e : mt_sz m n = mt_sz m 8 := (mt_sz_up m1 8 hn).symm
    have T := mb_two mb
    rw [← e] at T
    by_cases two : mt_two m
    · have q : 1 < mt_sz m n := by
        apply Nat.lt_of_not_le
        intro z
        exact T.mp z two
      exact br_f (nI_ge (a := 1) q (by omega)) (hp1 k two kn' mo' fi' a1 a2 a3)
    · exact br_t (nI_le (b := 1) (T.mpr two) (by omega)) (hp0 (fun z => two z.2) kn' mo' fi' a1 a2 a3)
  · exact br_t (M.mpr k) (hp0 (fun z => k z.1) kn' mo' fi' a1 a2 a3)
end
/-! ===== joins ===== -/
theorem mj_up {g : Nat → Nat} {j x : Nat} (hj : j < 8) : upd (mt_G g) (nI j).toNatClampNeg (nI x) = mt_G (mt_up g j x) := by
  rw [nI_clamp (by omega)]
  funext k
  by_cases e : k = j
  · rw [e, pk_us]
    show _ = nI (mt_up g j x j)
    rw [mt_up_s]
  · rw [pk_un e]
    show _ = nI (mt_up g j x k)
    rw [mt_up_n e]
    rfl
theorem mj_rm0 {g : Nat → Nat} {j v : Nat} (hj : j < 8) (hv : v < 8) : (mt_G g (nI j).toNatClampNeg) &&& (((1 : Int32) <<< (nI v &&& 31)) ^^^ (-1)) = nI (mt_df (g j) (2 ^ v)) := by
  rw [mb_G hj, mb_one (by omega), mb_df]
theorem mj_ad0 {g : Nat → Nat} {j v : Nat} (hj : j < 8) (hv : v < 8) : (mt_G g (nI j).toNatClampNeg) ||| ((1 : Int32) <<< (nI v &&& 31)) = nI (g j ||| 2 ^ v) := by
  rw [mb_G hj, mb_one (by omega), mb_or]
theorem mj_rm {g : Nat → Nat} {j v : Nat} (hj : j < 8) (hv : v < 8) : upd (mt_G g) (nI j).toNatClampNeg ((mt_G g (nI j).toNatClampNeg) &&& (((1 : Int32) <<< (nI v &&& 31)) ^^^ (-1))) = mt_G (mt_up g j (mt_df (g j) (2 ^ v))) := by
  rw [mj_rm0 hj hv, mj_up hj]
theorem mj_ad {g : Nat → Nat} {j v : Nat} (hj : j < 8) (hv : v < 8) : upd (mt_G g) (nI j).toNatClampNeg ((mt_G g (nI j).toNatClampNeg) ||| ((1 : Int32) <<< (nI v &&& 31))) = mt_G (mt_up g j (g j ||| 2 ^ v)) := by
  rw [mj_ad0 hj hv, mj_up hj]
def mj_R (g : Nat → Nat) (a b : Nat) : Nat → Nat := mt_up (mt_up g a (mt_df (g a) (2 ^ b))) b (mt_df (mt_up g a (mt_df (g a) (2 ^ b)) b) (2 ^ a))
def mj_J (g : Nat → Nat) (a b : Nat) : Nat → Nat := mt_up (mt_up g a (g a ||| 2 ^ b)) b (mt_up g a (g a ||| 2 ^ b) b ||| 2 ^ a)
theorem mj_R_in {g : Nat → Nat} {a b : Nat} (hab : a ≠ b) (x y : Nat) : mt_in y (mj_R g a b x) ↔ mt_in y (g x) ∧ ¬ (x = a ∧ y = b) ∧ ¬ (x = b ∧ y = a) := by
  unfold mj_R
  by_cases xb : x = b
  · rw [xb, mt_up_s, mt_up_n (Ne.symm hab), mt_in_df, mt_in_one]
    exact ⟨fun h => ⟨h.1, fun z => hab z.1.symm, fun z => h.2 z.2⟩, fun h => ⟨h.1, fun z => h.2.2 ⟨rfl, z⟩⟩⟩
  · rw [mt_up_n xb]
    by_cases xa : x = a
    · rw [xa, mt_up_s, mt_in_df, mt_in_one]
      exact ⟨fun h => ⟨h.1, fun z => h.2 z.2, fun z => hab z.1⟩, fun h => ⟨h.1, fun z => h.2.1 ⟨rfl, z⟩⟩⟩
    · rw [mt_up_n xa]
      exact ⟨fun h => ⟨h, fun z => xa z.1, fun z => xb z.1⟩, fun h => h.1⟩
theorem mj_J_in {g : Nat → Nat} {a b : Nat} (hab : a ≠ b) (x y : Nat) : mt_in y (mj_J g a b x) ↔ mt_in y (g x) ∨ (x = a ∧ y = b) ∨ (x = b ∧ y = a) := by
  unfold mj_J
  by_cases xb : x = b
  · rw [xb, mt_up_s, mt_up_n (Ne.symm hab), mt_in_or, mt_in_one]
    exact ⟨fun h => h.imp id fun z => Or.inr ⟨rfl, z⟩, fun h => h.imp id fun z => z.elim (fun w => absurd w.1.symm hab) fun w => w.2⟩
  · rw [mt_up_n xb]
    by_cases xa : x = a
    · rw [xa, mt_up_s, mt_in_or, mt_in_one]
      exact ⟨fun h => h.imp id fun z => Or.inl ⟨rfl, z⟩, fun h => h.imp id fun z => z.elim (fun w => w.2) fun w => absurd w.1 hab⟩
    · rw [mt_up_n xa]
      exact ⟨fun h => Or.inl h, fun h => h.elim id fun z => z.elim (fun w => absurd w.1 xa) fun w => absurd w.1 xb⟩
theorem mj_R_GR {n : Nat} {g : Nat → Nat} {a b : Nat} (hg : mt_GR n g) (hab : a ≠ b) : mt_GR n (mj_R g a b) := by
  intro x y h
  rw [mj_R_in hab] at h
  have q := hg x y h.1
  refine ⟨q.1, q.2.1, q.2.2.1, ?_⟩
  rw [mj_R_in hab]
  exact ⟨q.2.2.2, fun z => h.2.2 ⟨z.2, z.1⟩, fun z => h.2.1 ⟨z.2, z.1⟩⟩
theorem mj_J_GR {n : Nat} {g : Nat → Nat} {a b : Nat} (hg : mt_GR n g) (hab : a ≠ b) (ha : a < n) (hb : b < n) : mt_GR n (mj_J g a b) := by
  intro x y h
  rw [mj_J_in hab] at h
  rcases h with h | ⟨h1, h2⟩ | ⟨h1, h2⟩
  · have q := hg x y h
    exact ⟨q.1, q.2.1, q.2.2.1, (mj_J_in hab y x).mpr (Or.inl q.2.2.2)⟩
  · refine ⟨by omega, by omega, by omega, (mj_J_in hab y x).mpr (Or.inr (Or.inr ⟨h2, h1⟩))⟩
  · refine ⟨by omega, by omega, by omega, (mj_J_in hab y x).mpr (Or.inr (Or.inl ⟨h2, h1⟩))⟩
/-! ===== complements ===== -/
def mj_C (n : Nat) (g : Nat → Nat) (k : Nat) : Nat → Nat := fun i => if i < k then mt_df (mt_df (2 ^ n - 1) (g i)) (2 ^ i) else g i
theorem mj_C_GR {n : Nat} {g : Nat → Nat} (hg : mt_GR n g) : mt_GR n (mj_C n g n) := by
  have q : ∀ x y, mt_in y (mj_C n g n x) ↔ x < n ∧ y < n ∧ x ≠ y ∧ ¬ mt_in y (g x) := by
    intro x y
    unfold mj_C
    by_cases hx : x < n
    · rw [if_pos hx, mt_in_df, mt_in_df, mt_in_all, mt_in_one]
      exact ⟨fun h => ⟨hx, h.1.1, fun e => h.2 e.symm, h.1.2⟩, fun h => ⟨⟨h.2.1, h.2.2.2⟩, fun e => h.2.2.1 e.symm⟩⟩
    · rw [if_neg hx]
      exact ⟨fun h => absurd (hg x y h).1 hx, fun h => absurd h.1 hx⟩
  intro x y h
  have h' := (q x y).mp h
  refine ⟨h'.1, h'.2.1, h'.2.2.1, (q y x).mpr ⟨h'.2.1, h'.1, fun e => h'.2.2.1 e.symm, fun z => h'.2.2.2 ((mt_sy hg).mp z)⟩⟩
theorem mj_C0 {n : Nat} {g : Nat → Nat} : mj_C n g 0 = g := by
  funext i
  unfold mj_C
  rw [if_neg (by omega)]
theorem mj_C_up {n : Nat} {g : Nat → Nat} {x : Nat} (hx : x < 8) : upd (mt_G (mj_C n g x)) (nI x).toNatClampNeg ((nI (2 ^ n - 1) &&& ((mt_G (mj_C n g x) (nI x).toNatClampNeg) ^^^ (-1))) &&& (((1 : Int32) <<< (nI x &&& 31)) ^^^ (-1))) = mt_G (mj_C n g (x + 1)) := by
  rw [mb_G hx, mb_df, mb_one (by omega), mb_df, mj_up hx]
  apply congrArg
  funext k
  by_cases e : k = x
  · rw [e, mt_up_s]
    unfold mj_C
    rw [if_neg (by omega), if_pos (by omega)]
  · rw [mt_up_n e]
    unfold mj_C
    by_cases h : k < x
    · rw [if_pos h, if_pos (by omega)]
    · rw [if_neg h, if_neg (by omega)]
theorem mx_comp_l {n : Nat} {g : Nat → Nat} {rd sc smc : Int32} {ss sm co : Nat → Int32} {post : SX → Prop} (hn : n ≤ 8) (hp : post (nI n, 0, sc, smc, mt_G (mj_C n g n), ss, sm, co)) : ∀ d x, x + d = n → wX_complement_2 post (nI n) rd sc smc (d + 1) (nI x) (mt_G (mj_C n g x)) ss sm co := by
  intro d
  induction d with
  | zero =>
    intro x hx
    have e : x = n := by omega
    rw [e]
    exact br_t (nI_le (Nat.le_refl n) (by omega)) hp
  | succ d ih =>
    intro x hx
    have iv : vp_in (nI x) 8 := vp_in_nI (by omega) (by omega)
    refine br_f (nI_ge (by omega) (by omega)) ?_
    refine mx_all hn ?_
    exact ⟨iv, iv, nm_r (mj_C_up (by omega)) (nm_r (nI_1 x) (ih (x + 1) (by omega)))⟩
theorem my_comp_l {n : Nat} {g : Nat → Nat} {kn : Int32} {mo fi : Nat → Int32} {post : SY → Prop} (hn : n ≤ 8) (hp : post (nI n, 0, mt_G (mj_C n g n), mo, fi)) : ∀ d x, x + d = n → wY_complement_2 post (nI n) kn (d + 1) (nI x) (mt_G (mj_C n g x)) mo fi := by
  intro d
  induction d with
  | zero =>
    intro x hx
    have e : x = n := by omega
    rw [e]
    exact br_t (nI_le (Nat.le_refl n) (by omega)) hp
  | succ d ih =>
    intro x hx
    have iv : vp_in (nI x) 8 := vp_in_nI (by omega) (by omega)
    refine br_f (nI_ge (by omega) (by omega)) ?_
    refine my_all hn ?_
    exact ⟨iv, iv, nm_r (mj_C_up (by omega)) (nm_r (nI_1 x) (ih (x + 1) (by omega)))⟩
end
section
/-! ===== what is owed ===== -/
/-- the relation at the head of a turn: one graph g on n points; a ready list is right; known tables are right -/
def i_Rel (k : Nat) (u : SX) (v : SY) : Prop := ∃ (n : Nat) (g : Nat → Nat) (rd sc smc : Int32) (ss sm co : Nat → Int32) (kn : Int32) (mo fi : Nat → Int32), u = (nI n, rd, sc, smc, mt_G g, ss, sm, co) ∧ v = (nI n, kn, mt_G g, mo, fi) ∧ 1 ≤ n ∧ n ≤ 8 ∧ mt_GR n g ∧ (rd ≠ 0 → mt_SOK n g sc ss) ∧ (kn ≠ 0 → mt_YM n g mo ∧ mt_YF n g fi)
theorem i_up {k : Nat} {u : SX} {v : SY} (h : i_Rel k u v) : i_Rel (k + 4) u v := h
theorem mi_mk {k n : Nat} {g : Nat → Nat} {rd sc smc : Int32} {ss sm co : Nat → Int32} {kn : Int32} {mo fi : Nat → Int32} (h1 : 1 ≤ n) (h8 : n ≤ 8) (hg : mt_GR n g) (hX : rd ≠ 0 → mt_SOK n g sc ss) (hY : kn ≠ 0 → mt_YM n g mo ∧ mt_YF n g fi) : i_Rel k (nI n, rd, sc, smc, mt_G g, ss, sm, co) (nI n, kn, mt_G g, mo, fi) :=
  ⟨n, g, rd, sc, smc, ss, sm, co, kn, mo, fi, rfl, rfl, h1, h8, hg, hX, hY⟩
theorem mi_mkS {k n c : Nat} {g a : Nat → Nat} {rd smc : Int32} {ss sm co : Nat → Int32} {kn : Int32} {mo fi : Nat → Int32} (h1 : 1 ≤ n) (h8 : n ≤ 8) (hg : mt_GR n g) (hX : mt_SO n g c a ss) (hM : mt_YM n g mo) (hF : mt_YF n g fi) : i_Rel k (nI n, rd, nI c, smc, mt_G g, ss, sm, co) (nI n, kn, mt_G g, mo, fi) :=
  mi_mk h1 h8 hg (fun _ => ⟨c, a, rfl, hX⟩) fun _ => ⟨hM, hF⟩
theorem mi_0 {n : Nat} (h1 : 1 ≤ n) (h8 : n ≤ 8) : i_Rel 1 (nI n, 0, 0, 0, (fun _ => 0), (fun _ => 0), (fun _ => 0), (fun _ => 0)) (nI n, 0, (fun _ => 0), (fun _ => 0), (fun _ => 0)) :=
  mi_mk (g := fun _ => 0) h1 h8 (fun _ y h => absurd h (mt_in_0 y)) (fun z => absurd rfl z) (fun z => absurd rfl z)
theorem i_vc0 (k0 : Int32) : wpX_init (fun u => wpY_init (fun v => i_Rel 1 u v) k0) k0 := by
  by_cases a : 1 ≤ k0
  · by_cases b : k0 ≤ 8
    · have nn : ¬ k0 < 0 := by
        intro z
        rw [Int32.lt_iff_toInt_lt] at z
        rw [Int32.le_iff_toInt_le] at a
        have e1 : (1 : Int32).toInt = 1 := by decide
        have e0 : (0 : Int32).toInt = 0 := by decide
        omega
      obtain ⟨j, j1, j2⟩ := nI_of2 (x := k0) (M := 8) (n := 8) (by decide) nn b
      have j0 : 1 ≤ j := by
        apply Nat.lt_of_not_le
        intro z
        have e : j = 0 := by omega
        rw [j2, e] at a
        exact absurd a (by decide)
      refine br_t a (br_t b (br_t a (br_t b ?_)))
      rw [j2]
      exact mi_0 j0 j1
    · exact br_t a (br_f b (br_t a (br_f b (mi_0 (n := 8) (by omega) (by omega)))))
  · exact br_f a (br_f a (mi_0 (n := 1) (by omega) (by omega)))
theorem i_vc_join {k : Nat} {u : SX} {v : SY} (I : i_Rel k u v) (hk : k + 4 ≤ 2049) (v1 : Int32) (v2 : Int32) (v3 : Int32) : wpX_join (fun r u' => wpY_join (fun r' v' => r' = r ∧ i_Rel (k + 4) u' v') v v1 v2 (lw_bz v3)) u v1 v2 (lw_bz v3) := by
  obtain ⟨n, g, rd, sc, smc, ss, sm, co, kn, mo, fi, rfl, rfl, h1, h8, hg, hX, hY⟩ := I
  generalize lw_bz v3 = z
  unfold wpX_join wpY_join
  dsimp only
  rcases mb_pc h8 v1 with a | ⟨i, hi, rfl⟩
  · refine mx_isPoint_f a ?_
    refine br_t rfl ?_
    refine my_isPoint_f a ?_
    exact br_t rfl ⟨rfl, mi_mk h1 h8 hg hX hY⟩
  · refine mx_isPoint_t h8 hi ?_
    refine br_f (by decide) ?_
    rcases mb_pc h8 v2 with a | ⟨j, hj, rfl⟩
    · refine mx_isPoint_f a ?_
      refine br_t rfl ?_
      refine my_isPoint_t h8 hi ?_
      refine br_f (by decide) ?_
      refine my_isPoint_f a ?_
      exact br_t rfl ⟨rfl, mi_mk h1 h8 hg hX hY⟩
    · refine mx_isPoint_t h8 hj ?_
      refine br_f (by decide) ?_
      have iv : vp_in (nI i) 8 := vp_in_nI (by omega) (by omega)
      have jv : vp_in (nI j) 8 := vp_in_nI (by omega) (by omega)
      by_cases e : i = j
      · refine br_t (by rw [e]) ?_
        refine my_isPoint_t h8 hi ?_
        refine br_f (by decide) ?_
        refine my_isPoint_t h8 hj ?_
        refine br_f (by decide) ?_
        exact br_t (by rw [e]) ⟨rfl, mi_mk h1 h8 hg hX hY⟩
      · have ne : ¬ nI i = nI j := fun y => e ((nI_eq (by omega) (by omega)).mp y)
        refine br_f ne ?_
        by_cases hz : z = 0
        · refine br_t hz ⟨iv, iv, nm_r (mj_rm (by omega) (by omega)) ⟨jv, jv, nm_r (mj_rm (by omega) (by omega)) ?_⟩⟩
          refine my_isPoint_t h8 hi ?_
          refine br_f (by decide) ?_
          refine my_isPoint_t h8 hj ?_
          refine br_f (by decide) (br_f ne (br_t hz ⟨iv, ?_⟩))
          unfold wY_join_57
          refine ⟨iv, nm_r (mj_rm (by omega) (by omega)) (br_t hz ⟨jv, jv, nm_r (mj_rm (by omega) (by omega)) ?_⟩)⟩
          exact ⟨rfl, mi_mk (g := mj_R g i j) h1 h8 (mj_R_GR hg e) (fun y => absurd rfl y) (fun y => absurd rfl y)⟩
        · refine br_f hz ⟨iv, iv, nm_r (mj_ad (by omega) (by omega)) ⟨jv, jv, nm_r (mj_ad (by omega) (by omega)) ?_⟩⟩
          refine my_isPoint_t h8 hi ?_
          refine br_f (by decide) ?_
          refine my_isPoint_t h8 hj ?_
          refine br_f (by decide) (br_f ne (br_f hz ⟨iv, ?_⟩))
          unfold wY_join_57
          refine ⟨iv, nm_r (mj_ad (by omega) (by omega)) (br_f hz ⟨jv, jv, nm_r (mj_ad (by omega) (by omega)) ?_⟩)⟩
          exact ⟨rfl, mi_mk (g := mj_J g i j) h1 h8 (mj_J_GR hg e hi hj) (fun y => absurd rfl y) (fun y => absurd rfl y)⟩
theorem i_vc_complement {k : Nat} {u : SX} {v : SY} (I : i_Rel k u v) (hk : k + 4 ≤ 2049) : wpX_complement (fun u' => wpY_complement (fun v' => i_Rel (k + 4) u' v') v) u := by
  obtain ⟨n, g, rd, sc, smc, ss, sm, co, kn, mo, fi, rfl, rfl, h1, h8, hg, hX, hY⟩ := I
  refine ⟨n + 1, ?_⟩
  have q := mx_comp_l (n := n) (g := g) (rd := rd) (sc := sc) (smc := smc) (ss := ss) (sm := sm) (co := co) (post := fun u' => wpY_complement (fun v' => i_Rel (k + 4) u' v') (nI n, kn, mt_G g, mo, fi)) h8 ?_ n 0 (by omega)
  · rw [mj_C0] at q
    exact q
  · refine ⟨n + 1, ?_⟩
    have q := my_comp_l (n := n) (g := g) (kn := kn) (mo := mo) (fi := fi) (post := fun v' => i_Rel (k + 4) (nI n, 0, sc, smc, mt_G (mj_C n g n), ss, sm, co) v') h8 (mi_mk h1 h8 (mj_C_GR hg) (fun y => absurd rfl y) (fun y => absurd rfl y)) n 0 (by omega)
    rw [mj_C0] at q
    exact q
theorem i_vc_isModule {k : Nat} {u : SX} {v : SY} (I : i_Rel k u v) (hk : k + 4 ≤ 2049) (v1 : Int32) : wpX_isModule (fun r => wpY_isModule (fun r' v' => r' = r ∧ i_Rel (k + 4) u v') v v1) u v1 := by
  obtain ⟨n, g, rd, sc, smc, ss, sm, co, kn, mo, fi, rfl, rfl, h1, h8, hg, hX, hY⟩ := I
  unfold wpX_isModule wpY_isModule
  dsimp only
  rcases mb_sc h8 v1 with a | ⟨m, m0, m1, rfl⟩
  · refine mx_isSet_f h8 a ?_
    refine br_t rfl ?_
    refine my_look h8 hY fun kn' mo' fi' a1 a2 a3 => ?_
    refine my_isSet_f h8 a ?_
    exact br_t rfl ⟨rfl, mi_mk h1 h8 hg hX fun _ => ⟨a2, a3⟩⟩
  · have mb := mb_256 h8 m1
    have nz := mt_ne.mp (by omega : m ≠ 0)
    refine mx_isSet_t h8 m0 m1 ?_
    refine br_f (by decide) ?_
    refine mx_tel h8 m1 ?_
    have T := mt_tl_0 (g := g) nz (mt_lt.mp m1)
    have tb : mt_tl n g m < 256 := mb_256 h8 (mt_lt.mpr fun i hi => ((mt_in_mk _ n i).mp hi).1)
    by_cases z : mt_MO n g m
    · refine br_t ((mb_0 tb).mpr (T.mpr z)) ?_
      refine my_look h8 hY fun kn' mo' fi' a1 a2 a3 => ?_
      refine my_isSet_t h8 m0 m1 ?_
      refine br_f (by decide) ⟨vp_in_nI mb (by omega), ?_⟩
      have ef : mo' (nI m).toNatClampNeg = mo' m := mb_at (N := 256) mb (by omega)
      have M := a2 m m0 m1
      rw [← ef] at M
      exact br_f (fun y => M.mp y z) ⟨rfl, mi_mk h1 h8 hg hX fun _ => ⟨a2, a3⟩⟩
    · refine br_f (fun y => z (T.mp ((mb_0 tb).mp y))) ?_
      refine my_look h8 hY fun kn' mo' fi' a1 a2 a3 => ?_
      refine my_isSet_t h8 m0 m1 ?_
      refine br_f (by decide) ⟨vp_in_nI mb (by omega), ?_⟩
      have ef : mo' (nI m).toNatClampNeg = mo' m := mb_at (N := 256) mb (by omega)
      have M := a2 m m0 m1
      rw [← ef] at M
      exact br_t (M.mpr z) ⟨rfl, mi_mk h1 h8 hg hX fun _ => ⟨a2, a3⟩⟩
theorem i_vc_isStrong {k : Nat} {u : SX} {v : SY} (I : i_Rel k u v) (hk : k + 4 ≤ 2049) (v1 : Int32) : wpX_isStrong (fun r u' => wpY_isStrong (fun r' v' => r' = r ∧ i_Rel (k + 4) u' v') v v1) u v1 := by
  obtain ⟨n, g, rd, sc, smc, ss, sm, co, kn, mo, fi, rfl, rfl, h1, h8, hg, hX, hY⟩ := I
  rcases mb_sc h8 v1 with a | ⟨m, m0, m1, rfl⟩
  · refine mx_isStrong_f h8 a ?_
    refine my_isStrong_f h8 hY a fun kn' mo' fi' a1 a2 a3 => ?_
    exact ⟨rfl, mi_mk h1 h8 hg hX fun _ => ⟨a2, a3⟩⟩
  · refine mx_isStrong h8 hg hX m0 m1 (fun hS rd' c a smc' ss' sm' co' q1 q2 => ?_) (fun hS rd' c a smc' ss' sm' co' q1 q2 => ?_)
    · exact my_isStrong h8 hY m0 m1 (fun _ kn' mo' fi' a1 a2 a3 => ⟨rfl, mi_mkS h1 h8 hg q2 a2 a3⟩) (fun z => absurd hS z)
    · exact my_isStrong h8 hY m0 m1 (fun z => absurd z hS) (fun _ kn' mo' fi' a1 a2 a3 => ⟨rfl, mi_mkS h1 h8 hg q2 a2 a3⟩)
theorem mi_pair {i j : Nat} (hi : i < 8) (hj : j < 8) : ((1 : Int32) <<< (nI i &&& 31)) ||| ((1 : Int32) <<< (nI j &&& 31)) = nI (2 ^ i ||| 2 ^ j) := by
  rw [mb_one (by omega), mb_one (by omega), mb_or]
theorem mi_pl {n i j : Nat} (hi : i < n) (hj : j < n) : ∀ x, mt_in x (2 ^ i ||| 2 ^ j) → x < n := fun x hx => by
  rcases (mt_pair_in x i j).mp hx with e | e <;> omega
theorem i_vc_around {k : Nat} {u : SX} {v : SY} (I : i_Rel k u v) (hk : k + 4 ≤ 2049) (v1 : Int32) (v2 : Int32) : wpX_around (fun r => wpY_around (fun r' v' => r' = r ∧ i_Rel (k + 4) u v') v v1 v2) u v1 v2 := by
  obtain ⟨n, g, rd, sc, smc, ss, sm, co, kn, mo, fi, rfl, rfl, h1, h8, hg, hX, hY⟩ := I
  unfold wpX_around wpY_around
  dsimp only
  rcases mb_pc h8 v1 with a | ⟨i, hi, rfl⟩
  · refine mx_isPoint_f a ?_
    refine br_t rfl ?_
    refine my_isPoint_f a ?_
    exact br_t rfl ⟨rfl, mi_mk h1 h8 hg hX hY⟩
  · refine mx_isPoint_t h8 hi ?_
    refine br_f (by decide) ?_
    rcases mb_pc h8 v2 with a | ⟨j, hj, rfl⟩
    · refine mx_isPoint_f a ?_
      refine br_t rfl ?_
      refine my_isPoint_t h8 hi ?_
      refine br_f (by decide) ?_
      refine my_isPoint_f a ?_
      exact br_t rfl ⟨rfl, mi_mk h1 h8 hg hX hY⟩
    · refine mx_isPoint_t h8 hj ?_
      refine br_f (by decide) ?_
      rw [mi_pair (by omega) (by omega)]
      have pl := mi_pl hi hj
      refine mx_grown h8 ⟨i, mt_pair_l i j⟩ pl ?_
      refine my_isPoint_t h8 hi ?_
      refine br_f (by decide) ?_
      refine my_isPoint_t h8 hj ?_
      refine br_f (by decide) ?_
      refine my_smM h8 hY (mb_256 h8 (mt_lt.mpr pl)) (mt_gm_pair hi hj) fun kn' mo' fi' a1 a2 a3 => ?_
      exact ⟨rfl, mi_mk h1 h8 hg hX fun _ => ⟨a2, a3⟩⟩
theorem i_vc_strongAround {k : Nat} {u : SX} {v : SY} (I : i_Rel k u v) (hk : k + 4 ≤ 2049) (v1 : Int32) (v2 : Int32) : wpX_strongAround (fun r u' => wpY_strongAround (fun r' v' => r' = r ∧ i_Rel (k + 4) u' v') v v1 v2) u v1 v2 := by
  obtain ⟨n, g, rd, sc, smc, ss, sm, co, kn, mo, fi, rfl, rfl, h1, h8, hg, hX, hY⟩ := I
  unfold wpX_strongAround wpY_strongAround
  dsimp only
  rcases mb_pc h8 v1 with a | ⟨i, hi, rfl⟩
  · refine mx_isPoint_f a ?_
    refine br_t rfl ?_
    refine my_isPoint_f a ?_
    exact br_t rfl ⟨rfl, mi_mk h1 h8 hg hX hY⟩
  · refine mx_isPoint_t h8 hi ?_
    refine br_f (by decide) ?_
    rcases mb_pc h8 v2 with a | ⟨j, hj, rfl⟩
    · refine mx_isPoint_f a ?_
      refine br_t rfl ?_
      refine my_isPoint_t h8 hi ?_
      refine br_f (by decide) ?_
      refine my_isPoint_f a ?_
      exact br_t rfl ⟨rfl, mi_mk h1 h8 hg hX hY⟩
    · refine mx_isPoint_t h8 hj ?_
      refine br_f (by decide) ?_
      have pl := mi_pl hi hj
      have C := mt_cl_ex (g := g) ⟨i, mt_pair_l i j⟩ pl
      have pb := mb_256 h8 (mt_lt.mpr pl)
      have psz : ∀ t, mt_ST n g t → 0 < mt_sz t n := fun t ht => by
        obtain ⟨x, hx⟩ := ht.1.1
        exact mt_sz_pos hx (ht.1.2.1 x hx)
      rw [mi_pair (by omega) (by omega)]
      refine mf_find h8 hg hX fun rd' c a smc' ss' sm' co' q1 q2 => ?_
      refine mx_least (lo := 0) q2 h8 pb (by omega) C.1 C.2.1 (mt_ne.mpr C.1.1.1) (fun t t1 t2 _ => C.2.2 t t1 t2) ?_
      refine my_isPoint_t h8 hi ?_
      refine br_f (by decide) ?_
      refine my_isPoint_t h8 hj ?_
      refine br_f (by decide) ?_
      refine my_smS (l := 0) h8 hY pb (by omega) C.1 C.2.1 (psz _ C.1) (fun t t1 t2 _ => C.2.2 t t1 t2) fun kn' mo' fi' a1 a2 a3 => ?_
      exact ⟨rfl, mi_mkS h1 h8 hg q2 a2 a3⟩
theorem i_vc_strong {k : Nat} {u : SX} {v : SY} (I : i_Rel k u v) (hk : k + 4 ≤ 2049) : wpX_strong (fun r u' => wpY_strong (fun r' v' => r' = r ∧ i_Rel (k + 4) u' v') v) u := by
  obtain ⟨n, g, rd, sc, smc, ss, sm, co, kn, mo, fi, rfl, rfl, h1, h8, hg, hX, hY⟩ := I
  have pw := my_pow h8
  unfold wpX_strong wpY_strong
  dsimp only
  refine mf_find h8 hg hX fun rd' c a smc' ss' sm' co' q1 q2 => ?_
  refine my_look h8 hY fun kn' mo' fi' a1 a2 a3 => ?_
  refine ⟨2 ^ n - 1 + 1, ?_⟩
  have q := my_strong_l (n := n) (g := g) (kn := kn') (mo := mo') (fi := fi') (post := fun r' v' => r' = nI c ∧ i_Rel (k + 4) (nI n, rd', nI c, smc', mt_G g, ss', sm', co') v') h8 a3 ⟨by rw [← mt_SL_c q2.2.1], mi_mkS h1 h8 hg q2 a2 a3⟩ (2 ^ n - 1) 1 (by omega) (by omega)
  rw [mt_li_1 (fun z => mt_no0 z.1)] at q
  exact q
theorem i_vc_modules {k : Nat} {u : SX} {v : SY} (I : i_Rel k u v) (hk : k + 4 ≤ 2049) : wpX_modules (fun r u' => wpY_modules (fun r' v' => r' = r ∧ i_Rel (k + 4) u' v') v) u := by
  obtain ⟨n, g, rd, sc, smc, ss, sm, co, kn, mo, fi, rfl, rfl, h1, h8, hg, hX, hY⟩ := I
  have pw := my_pow h8
  unfold wpX_modules wpY_modules
  dsimp only
  refine mf_find h8 hg hX fun rd' c a smc' ss' sm' co' q1 q2 => ?_
  refine ⟨c + 1, mx_mods_l q2 hg h8 ?_ c 0 (by omega)⟩
  refine my_look h8 hY fun kn' mo' fi' a1 a2 a3 => ?_
  refine ⟨2 ^ n - 1 + 1, ?_⟩
  have q := my_mods_l (n := n) (g := g) (kn := kn') (mo := mo') (fi := fi') (post := fun r' v' => r' = nI (mt_li (mt_MO n g) (2 ^ n)).length ∧ i_Rel (k + 4) (nI n, rd', nI c, smc', mt_G g, ss', sm', co') v') h8 a2 ⟨rfl, mi_mkS h1 h8 hg q2 a2 a3⟩ (2 ^ n - 1) 1 (by omega) (by omega)
  rw [mt_li_1 mt_no0] at q
  exact q
theorem i_vc_kind {k : Nat} {u : SX} {v : SY} (I : i_Rel k u v) (hk : k + 4 ≤ 2049) (v1 : Int32) : wpX_kind (fun r u' => wpY_kind (fun r' v' => r' = r ∧ i_Rel (k + 4) u' v') v v1) u v1 := by
  obtain ⟨n, g, rd, sc, smc, ss, sm, co, kn, mo, fi, rfl, rfl, h1, h8, hg, hX, hY⟩ := I
  have pw := my_pow h8
  unfold wpX_kind wpY_kind
  dsimp only
  rcases mb_sc h8 v1 with a | ⟨m, m0, m1, rfl⟩
  · refine mx_isInner_f h8 a ?_
    refine br_t rfl ?_
    refine my_isInner_f h8 hY a fun kn' mo' fi' a1 a2 a3 => ?_
    exact br_t rfl ⟨rfl, mi_mk h1 h8 hg hX fun _ => ⟨a2, a3⟩⟩
  · refine mx_isInner h8 hg hX m0 m1 (fun hS two rd' c a smc' ss' sm' co' q1 q2 => ?_) (fun hS rd' c a smc' ss' sm' co' q1 q2 => ?_)
    · refine br_f (by decide) ?_
      refine mx_kind q2 h8 hS two ?_
      refine my_isInner h8 hY m0 m1 (fun _ _ kn' mo' fi' a1 a2 a3 => ?_) (fun z => absurd ⟨hS, two⟩ z)
      refine br_f (by decide) ⟨2 ^ n - 1 + 1, ?_⟩
      refine my_k18 h8 a3 hS two ?_ (2 ^ n - 1) 1 0 1 (by omega) (by omega) ⟨fun _ ⟨x, _, x1, x2, _⟩ => ?_, fun _ => rfl⟩ ⟨fun z => absurd z (by decide), fun z => absurd (fun x y x1 x2 => ?_) z⟩
      · exact ⟨rfl, mi_mkS h1 h8 hg q2 a2 a3⟩
      · rw [show x = 0 by omega] at x2
        exact mt_no0 x2.1.1
      · rw [show x = 0 by omega] at x2
        exact absurd x2.1.1 mt_no0
    · refine br_t rfl ?_
      refine my_isInner h8 hY m0 m1 (fun z y => absurd ⟨z, y⟩ hS) (fun _ kn' mo' fi' a1 a2 a3 => ?_)
      exact br_t rfl ⟨rfl, mi_mkS h1 h8 hg q2 a2 a3⟩
theorem i_vc_children {k : Nat} {u : SX} {v : SY} (I : i_Rel k u v) (hk : k + 4 ≤ 2049) (v1 : Int32) : wpX_children (fun r u' => wpY_children (fun r' v' => r' = r ∧ i_Rel (k + 4) u' v') v v1) u v1 := by
  obtain ⟨n, g, rd, sc, smc, ss, sm, co, kn, mo, fi, rfl, rfl, h1, h8, hg, hX, hY⟩ := I
  have pw := my_pow h8
  unfold wpX_children wpY_children
  dsimp only
  rcases mb_sc h8 v1 with a | ⟨m, m0, m1, rfl⟩
  · refine mx_isInner_f h8 a ?_
    refine br_t rfl ?_
    refine my_isInner_f h8 hY a fun kn' mo' fi' a1 a2 a3 => ?_
    exact br_t rfl ⟨rfl, mi_mk h1 h8 hg hX fun _ => ⟨a2, a3⟩⟩
  · refine mx_isInner h8 hg hX m0 m1 (fun hS two rd' c a smc' ss' sm' co' q1 q2 => ?_) (fun hS rd' c a smc' ss' sm' co' q1 q2 => ?_)
    · refine br_f (by decide) ?_
      refine mx_cc q2 h8 hS two ?_
      refine my_isInner h8 hY m0 m1 (fun _ _ kn' mo' fi' a1 a2 a3 => ?_) (fun z => absurd ⟨hS, two⟩ z)
      refine br_f (by decide) ⟨2 ^ n - 1 + 1, ?_⟩
      have q := my_cc_l (n := n) (g := g) (kn := kn') (mo := mo') (fi := fi') (s := m) (post := fun r' v' => r' = nI (mt_kc n g m) ∧ i_Rel (k + 4) (nI n, rd', nI c, smc', mt_G g, ss', sm', co') v') h8 a3 (mb_256 h8 m1) ⟨rfl, mi_mkS h1 h8 hg q2 a2 a3⟩ (2 ^ n - 1) 1 (by omega) (by omega)
      rw [mt_li_1 (fun z => mt_no0 z.1.1)] at q
      exact q
    · refine br_t rfl ?_
      refine my_isInner h8 hY m0 m1 (fun z y => absurd ⟨z, y⟩ hS) (fun _ kn' mo' fi' a1 a2 a3 => ?_)
      exact br_t rfl ⟨rfl, mi_mkS h1 h8 hg q2 a2 a3⟩
theorem i_vc_parent {k : Nat} {u : SX} {v : SY} (I : i_Rel k u v) (hk : k + 4 ≤ 2049) (v1 : Int32) : wpX_parent (fun r u' => wpY_parent (fun r' v' => r' = r ∧ i_Rel (k + 4) u' v') v v1) u v1 := by
  obtain ⟨n, g, rd, sc, smc, ss, sm, co, kn, mo, fi, rfl, rfl, h1, h8, hg, hX, hY⟩ := I
  have pw := my_pow h8
  unfold wpX_parent wpY_parent
  dsimp only
  rcases mb_sc h8 v1 with a | ⟨m, m0, m1, rfl⟩
  · refine mx_isStrong_f h8 a ?_
    refine br_t rfl ?_
    refine my_isStrong_f h8 hY a fun kn' mo' fi' a1 a2 a3 => ?_
    exact br_t rfl ⟨rfl, mi_mk h1 h8 hg hX fun _ => ⟨a2, a3⟩⟩
  · have mb := mb_256 h8 m1
    refine mx_isStrong h8 hg hX m0 m1 (fun hS rd' c a smc' ss' sm' co' q1 q2 => ?_) (fun hS rd' c a smc' ss' sm' co' q1 q2 => ?_)
    · refine br_f (by decide) ?_
      refine mx_all h8 ?_
      by_cases e : m = 2 ^ n - 1
      · have ee : nI m = nI (2 ^ n - 1) := by rw [e]
        refine br_t ee ?_
        refine my_isStrong h8 hY m0 m1 (fun _ kn' mo' fi' a1 a2 a3 => ?_) (fun z => absurd hS z)
        refine br_f (by decide) ?_
        refine my_all h8 ?_
        exact br_t ee ⟨rfl, mi_mkS h1 h8 hg q2 a2 a3⟩
      · have ee : ¬ nI m = nI (2 ^ n - 1) := fun y => e ((mb_eq mb (by omega)).mp y)
        have P := mt_pa_ex hS e
        refine br_f ee ?_
        refine mx_least (lo := m) q2 h8 mb mb P.1 P.2.1 P.2.2.1 (fun t t1 t2 t3 => P.2.2.2 t t1 t2 t3) ?_
        refine my_isStrong h8 hY m0 m1 (fun _ kn' mo' fi' a1 a2 a3 => ?_) (fun z => absurd hS z)
        refine br_f (by decide) ?_
        refine my_all h8 ?_
        refine br_f ee ?_
        refine my_size h8 mb ?_
        have sb := mt_sz_b m n
        have lt : mt_sz m n < mt_sz (mt_pa n g m) n := by
          obtain ⟨i, i1, i2⟩ := mt_sub_ne P.2.1 (Ne.symm P.2.2.1)
          exact mt_sz_lt P.2.1 i1 i2 n (P.1.1.2.1 i i1)
        refine my_smS h8 (fun _ => ⟨a2, a3⟩) mb (by omega) P.1 P.2.1 lt (fun t t1 t2 t3 => P.2.2.2 t t1 t2 fun z => ?_) fun kn2 mo2 fi2 b1 b2 b3 => ?_
        · rw [z] at t3
          omega
        · exact ⟨rfl, mi_mkS h1 h8 hg q2 b2 b3⟩
    · refine br_t rfl ?_
      refine my_isStrong h8 hY m0 m1 (fun z => absurd z hS) (fun _ kn' mo' fi' a1 a2 a3 => ?_)
      exact br_t rfl ⟨rfl, mi_mkS h1 h8 hg q2 a2 a3⟩
end
