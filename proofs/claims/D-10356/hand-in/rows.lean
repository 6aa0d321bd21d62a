section
/-! counting -/
noncomputable def fp_cnt (p : Nat → Prop) : Nat → Nat
  | 0 => 0
  | m + 1 => fp_cnt p m + @ite Nat (p m) (Classical.propDecidable _) 1 0
theorem fp_cnt_t {p : Nat → Prop} {m : Nat} (h : p m) : fp_cnt p (m + 1) = fp_cnt p m + 1 := by
  have e : @ite Nat (p m) (Classical.propDecidable _) 1 0 = 1 := if_pos h
  show fp_cnt p m + @ite Nat (p m) (Classical.propDecidable _) 1 0 = _
  rw [e]
theorem fp_cnt_f {p : Nat → Prop} {m : Nat} (h : ¬ p m) : fp_cnt p (m + 1) = fp_cnt p m := by
  have e : @ite Nat (p m) (Classical.propDecidable _) 1 0 = 0 := if_neg h
  show fp_cnt p m + @ite Nat (p m) (Classical.propDecidable _) 1 0 = _
  rw [e, Nat.add_zero]
theorem fp_cnt_le {p q : Nat → Prop} {m : Nat} (h : ∀ i, i < m → p i → q i) : fp_cnt p m ≤ fp_cnt q m := by
  induction m with
  | zero => exact Nat.le_refl _
  | succ m ih =>
    have ih' := ih (fun i hi => h i (by omega))
    by_cases hq : q m
    · rw [fp_cnt_t hq]
      by_cases hp : p m
      · rw [fp_cnt_t hp]; omega
      · rw [fp_cnt_f hp]; omega
    · rw [fp_cnt_f hq, fp_cnt_f (fun z => hq (h m (by omega) z))]
      exact ih'
theorem fp_cnt_eq {p q : Nat → Prop} {m : Nat} (h : ∀ i, i < m → (p i ↔ q i)) : fp_cnt p m = fp_cnt q m :=
  Nat.le_antisymm (fp_cnt_le (fun i hi => (h i hi).mp)) (fp_cnt_le (fun i hi => (h i hi).mpr))
theorem fp_cnt_split (p q : Nat → Prop) (m : Nat) : fp_cnt p m = fp_cnt (fun i => p i ∧ q i) m + fp_cnt (fun i => p i ∧ ¬ q i) m := by
  induction m with
  | zero => rfl
  | succ m ih =>
    by_cases hp : p m
    · rw [fp_cnt_t hp]
      by_cases hq : q m
      · rw [fp_cnt_t (p := fun i => p i ∧ q i) ⟨hp, hq⟩, fp_cnt_f (p := fun i => p i ∧ ¬ q i) (fun z => z.2 hq)]
        omega
      · rw [fp_cnt_f (p := fun i => p i ∧ q i) (fun z => hq z.2), fp_cnt_t (p := fun i => p i ∧ ¬ q i) ⟨hp, hq⟩]
        omega
    · rw [fp_cnt_f hp, fp_cnt_f (p := fun i => p i ∧ q i) (fun z => hp z.1), fp_cnt_f (p := fun i => p i ∧ ¬ q i) (fun z => hp z.1)]
      exact ih
theorem fp_cnt_none {p : Nat → Prop} {m : Nat} (h : ∀ i, i < m → ¬ p i) : fp_cnt p m = 0 := by
  induction m with
  | zero => rfl
  | succ m ih => rw [fp_cnt_f (h m (by omega)), ih (fun i hi => h i (by omega))]
theorem fp_cnt_full {p : Nat → Prop} {m : Nat} (h : ∀ i, i < m → p i) : fp_cnt p m = m := by
  induction m with
  | zero => rfl
  | succ m ih => rw [fp_cnt_t (h m (by omega)), ih (fun i hi => h i (by omega))]
theorem fp_cnt_max (p : Nat → Prop) (m : Nat) : fp_cnt p m ≤ m := by
  have h := fp_cnt_le (p := p) (q := fun _ => True) (m := m) (fun _ _ _ => trivial)
  rw [fp_cnt_full (p := fun _ => True) (fun _ _ => trivial)] at h
  exact h
theorem fp_cnt_one {m i : Nat} (hi : i < m) : fp_cnt (fun j => j = i) m = 1 := by
  induction m with
  | zero => omega
  | succ m ih =>
    by_cases e : m = i
    · rw [fp_cnt_t (p := fun j => j = i) e, fp_cnt_none (fun j hj => by omega)]
    · rw [fp_cnt_f (p := fun j => j = i) e, ih (by omega)]
theorem fp_cnt_ins {p q : Nat → Prop} {m i : Nat} (hi : i < m) (hp : ¬ p i) (h : ∀ j, j < m → (q j ↔ p j ∨ j = i)) : fp_cnt q m = fp_cnt p m + 1 := by
  rw [fp_cnt_split q (fun j => j = i) m]
  have e1 : fp_cnt (fun j => q j ∧ j = i) m = 1 := by
    rw [← fp_cnt_one hi]
    exact fp_cnt_eq (fun j hj => ⟨fun z => z.2, fun z => ⟨(h j hj).mpr (Or.inr z), z⟩⟩)
  have e2 : fp_cnt (fun j => q j ∧ ¬ j = i) m = fp_cnt p m :=
    fp_cnt_eq (fun j hj => ⟨fun z => ((h j hj).mp z.1).resolve_right z.2, fun z => ⟨(h j hj).mpr (Or.inl z), fun g => hp (g ▸ z)⟩⟩)
  rw [e1, e2, Nat.add_comm]
theorem fp_cnt_pos {p : Nat → Prop} {m i : Nat} (hi : i < m) (h : p i) : 1 ≤ fp_cnt p m := by
  rw [← fp_cnt_one hi]
  exact fp_cnt_le (fun j _ e => e ▸ h)
def fp_sum (f : Nat → Nat) : Nat → Nat
  | 0 => 0
  | k + 1 => fp_sum f k + f k
theorem fp_sum_le {f : Nat → Nat} {k r : Nat} (h : ∀ i, i < k → f i ≤ r) : fp_sum f k ≤ k * r := by
  induction k with
  | zero => exact Nat.zero_le _
  | succ k ih =>
    have h1 := ih (fun i hi => h i (by omega))
    have h2 := h k (by omega)
    rw [Nat.succ_mul]
    show fp_sum f k + f k ≤ _
    omega
theorem fp_sum_all {f : Nat → Nat} {k r : Nat} (h : ∀ i, i < k → f i = r) : fp_sum f k = k * r := by
  induction k with
  | zero => show 0 = 0 * r; rw [Nat.zero_mul]
  | succ k ih =>
    have h1 := ih (fun i hi => h i (by omega))
    have h2 := h k (by omega)
    rw [Nat.succ_mul]
    show fp_sum f k + f k = _
    omega
theorem fp_sum_eq {f : Nat → Nat} {k r : Nat} (h : ∀ i, i < k → f i ≤ r) (hk : k * r ≤ fp_sum f k) : ∀ i, i < k → f i = r := by
  induction k with
  | zero => intro i hi; omega
  | succ k ih =>
    have h0 := fp_sum_le (fun i hi => h i (Nat.lt_succ_of_lt hi))
    have h2 := h k (by omega)
    rw [Nat.succ_mul] at hk
    have hk' : k * r + r ≤ fp_sum f k + f k := hk
    intro i hi
    by_cases e : i = k
    · rw [e]; omega
    · exact ih (fun i hi => h i (by omega)) (by omega) i (by omega)
/-! joined by the edges of S -/
def fp_cn (fr tt : Nat → Nat) (S : Nat → Prop) (u v : Nat) : Prop := ∀ P : Nat → Prop, (∀ e, S e → (P (fr e) ↔ P (tt e))) → P u → P v
def fp_rm (S : Nat → Prop) (z : Nat) : Nat → Prop := fun e => S e ∧ e ≠ z
def fp_ad (S : Nat → Prop) (z : Nat) : Nat → Prop := fun e => S e ∨ e = z
def fp_ce (fr tt : Nat → Nat) (S : Nat → Prop) (e : Nat) : Prop := fp_cn fr tt S (fr e) (tt e)
def fp_for (fr tt : Nat → Nat) (S : Nat → Prop) : Prop := ∀ z, S z → ¬ fp_cn fr tt (fp_rm S z) (fr z) (tt z)
theorem fp_cn_r {fr tt : Nat → Nat} {S : Nat → Prop} {u : Nat} : fp_cn fr tt S u u := fun _ _ h => h
theorem fp_cn_t {fr tt : Nat → Nat} {S : Nat → Prop} {u v w : Nat} (h1 : fp_cn fr tt S u v) (h2 : fp_cn fr tt S v w) : fp_cn fr tt S u w :=
  fun P hP hu => h2 P hP (h1 P hP hu)
theorem fp_cn_s {fr tt : Nat → Nat} {S : Nat → Prop} {u v : Nat} (h : fp_cn fr tt S u v) : fp_cn fr tt S v u :=
  fun P hP hv => h (fun x => P x → P u) (fun e he => ⟨fun g z => g ((hP e he).mpr z), fun g z => g ((hP e he).mp z)⟩) (fun z => z) hv
theorem fp_cn_m {fr tt : Nat → Nat} {S T : Nat → Prop} {u v : Nat} (h : fp_cn fr tt S u v) (hS : ∀ e, S e → T e) : fp_cn fr tt T u v :=
  fun P hP => h P (fun e he => hP e (hS e he))
theorem fp_cn_e {fr tt : Nat → Nat} {S : Nat → Prop} {e : Nat} (he : S e) : fp_cn fr tt S (fr e) (tt e) := fun _ hP h => (hP e he).mp h
theorem fp_cn_sub {fr tt : Nat → Nat} {S T : Nat → Prop} {u v : Nat} (h : fp_cn fr tt S u v) (hS : ∀ e, S e → fp_cn fr tt T (fr e) (tt e)) : fp_cn fr tt T u v :=
  h (fun x => fp_cn fr tt T u x) (fun e he => ⟨fun z => fp_cn_t z (hS e he), fun z => fp_cn_t z (fp_cn_s (hS e he))⟩) fp_cn_r
theorem fp_cn_b {fr tt : Nat → Nat} {S : Nat → Prop} {u v : Nat} (z : Nat) (h : fp_cn fr tt S u v) :
    fp_cn fr tt (fp_rm S z) u v ∨ (fp_cn fr tt (fp_rm S z) u (fr z) ∧ fp_cn fr tt (fp_rm S z) (tt z) v) ∨ (fp_cn fr tt (fp_rm S z) u (tt z) ∧ fp_cn fr tt (fp_rm S z) (fr z) v) := by
  refine h (fun x => fp_cn fr tt (fp_rm S z) u x ∨ (fp_cn fr tt (fp_rm S z) u (fr z) ∧ fp_cn fr tt (fp_rm S z) (tt z) x) ∨ (fp_cn fr tt (fp_rm S z) u (tt z) ∧ fp_cn fr tt (fp_rm S z) (fr z) x)) ?_ (Or.inl fp_cn_r)
  intro e he
  by_cases ez : e = z
  · subst ez
    constructor
    · rintro (h1 | ⟨h1, h2⟩ | ⟨h1, h2⟩)
      · exact Or.inr (Or.inl ⟨h1, fp_cn_r⟩)
      · exact Or.inr (Or.inl ⟨h1, fp_cn_r⟩)
      · exact Or.inl h1
    · rintro (h1 | ⟨h1, h2⟩ | ⟨h1, h2⟩)
      · exact Or.inr (Or.inr ⟨h1, fp_cn_r⟩)
      · exact Or.inl h1
      · exact Or.inr (Or.inr ⟨h1, fp_cn_r⟩)
  · have c1 : fp_cn fr tt (fp_rm S z) (fr e) (tt e) := fp_cn_e ⟨he, ez⟩
    have c2 := fp_cn_s c1
    constructor
    · rintro (h1 | ⟨h1, h2⟩ | ⟨h1, h2⟩)
      · exact Or.inl (fp_cn_t h1 c1)
      · exact Or.inr (Or.inl ⟨h1, fp_cn_t h2 c1⟩)
      · exact Or.inr (Or.inr ⟨h1, fp_cn_t h2 c1⟩)
    · rintro (h1 | ⟨h1, h2⟩ | ⟨h1, h2⟩)
      · exact Or.inl (fp_cn_t h1 c2)
      · exact Or.inr (Or.inl ⟨h1, fp_cn_t h2 c2⟩)
      · exact Or.inr (Or.inr ⟨h1, fp_cn_t h2 c2⟩)
theorem fp_for_m {fr tt : Nat → Nat} {S T : Nat → Prop} (h : fp_for fr tt S) (hT : ∀ e, T e → S e) : fp_for fr tt T :=
  fun z hz hc => h z (hT z hz) (fp_cn_m hc (fun e he => ⟨hT e he.1, he.2⟩))
theorem fp_for_lb {fr tt : Nat → Nat} {F S : Nat → Prop} {z u v : Nat} (hF : fp_for fr tt F) (hz : F z) (hS : ∀ e, S e → F e)
    (h1 : fp_cn fr tt S u v) (h2 : fp_cn fr tt (fp_rm F z) u v) : fp_cn fr tt (fp_rm S z) u v := by
  have hm : ∀ e, fp_rm S z e → fp_rm F z e := fun e he => ⟨hS e he.1, he.2⟩
  rcases fp_cn_b z h1 with h | ⟨ha, hb⟩ | ⟨ha, hb⟩
  · exact h
  · exact absurd (fp_cn_t (fp_cn_t (fp_cn_s (fp_cn_m ha hm)) h2) (fp_cn_s (fp_cn_m hb hm))) (hF z hz)
  · exact absurd (fp_cn_s (fp_cn_t (fp_cn_t (fp_cn_s (fp_cn_m ha hm)) h2) (fp_cn_s (fp_cn_m hb hm)))) (hF z hz)
theorem fp_for_ad {fr tt : Nat → Nat} {S : Nat → Prop} {z : Nat} (hS : fp_for fr tt S) (hz : ¬ fp_cn fr tt S (fr z) (tt z)) : fp_for fr tt (fp_ad S z) := by
  intro w hw hc
  by_cases e : w = z
  · subst e
    exact hz (fp_cn_m hc (fun x hx => hx.1.resolve_right hx.2))
  · have hw' : S w := hw.resolve_right e
    have hm : ∀ x, fp_rm (fp_rm (fp_ad S z) w) z x → fp_rm S w x := fun x hx => ⟨hx.1.1.resolve_right hx.2, hx.1.2⟩
    have hm' : ∀ x, fp_rm (fp_rm (fp_ad S z) w) z x → S x := fun x hx => hx.1.1.resolve_right hx.2
    have hww : fp_cn fr tt S (fr w) (tt w) := fp_cn_e hw'
    rcases fp_cn_b z hc with h | ⟨ha, hb⟩ | ⟨ha, hb⟩
    · exact hS w hw' (fp_cn_m h hm)
    · exact hz (fp_cn_t (fp_cn_t (fp_cn_s (fp_cn_m ha hm')) hww) (fp_cn_s (fp_cn_m hb hm')))
    · exact hz (fp_cn_s (fp_cn_t (fp_cn_t (fp_cn_s (fp_cn_m ha hm')) hww) (fp_cn_s (fp_cn_m hb hm'))))
/-! components -/
def fp_rep (fr tt : Nat → Nat) (S : Nat → Prop) (v : Nat) : Prop := ∀ u, u < v → ¬ fp_cn fr tt S u v
noncomputable def fp_cmp (fr tt : Nat → Nat) (n : Nat) (S : Nat → Prop) : Nat := fp_cnt (fp_rep fr tt S) n
theorem fp_cmp_m {fr tt : Nat → Nat} {n : Nat} {S T : Nat → Prop} (h : ∀ e, S e → fp_cn fr tt T (fr e) (tt e)) : fp_cmp fr tt n T ≤ fp_cmp fr tt n S :=
  fp_cnt_le (fun _ _ hv u hu hc => hv u hu (fp_cn_sub hc h))
theorem fp_cmp_le {fr tt : Nat → Nat} {n : Nat} {S : Nat → Prop} : fp_cmp fr tt n S ≤ n := fp_cnt_max _ _
theorem fp_rep_ex (fr tt : Nat → Nat) (S : Nat → Prop) (p : Nat) : ∃ p0, p0 ≤ p ∧ fp_cn fr tt S p0 p ∧ fp_rep fr tt S p0 := by
  obtain ⟨k, h1, h2⟩ := pk_least (fun x => fp_cn fr tt S x p) ⟨p, fp_cn_r⟩
  refine ⟨k, ?_, h1, fun u hu hc => h2 u hu (fp_cn_t hc h1)⟩
  rcases Nat.lt_or_ge p k with g | g
  · exact absurd fp_cn_r (h2 p g)
  · exact g
theorem fp_rep_u {fr tt : Nat → Nat} {S : Nat → Prop} {a b : Nat} (ha : fp_rep fr tt S a) (hb : fp_rep fr tt S b) (h : fp_cn fr tt S a b) : a = b := by
  rcases Nat.lt_trichotomy a b with g | g | g
  · exact absurd h (hb a g)
  · exact g
  · exact absurd (fp_cn_s h) (ha b g)
theorem fp_cmp_ad0 {fr tt : Nat → Nat} {n : Nat} {S T : Nat → Prop} {a b a0 b0 : Nat} (hST : ∀ e, S e → T e) (hb : b < n)
    (hT : ∀ u v, fp_cn fr tt T u v → fp_cn fr tt S u v ∨ (fp_cn fr tt S u a ∧ fp_cn fr tt S b v) ∨ (fp_cn fr tt S u b ∧ fp_cn fr tt S a v))
    (hab : fp_cn fr tt T a b) (ca : fp_cn fr tt S a0 a) (ra : fp_rep fr tt S a0) (lb : b0 ≤ b) (cb : fp_cn fr tt S b0 b) (rb : fp_rep fr tt S b0) (hlt : a0 < b0) :
    fp_cmp fr tt n T + 1 = fp_cmp fr tt n S := by
  have key : ∀ v, v < n → (fp_rep fr tt S v ↔ fp_rep fr tt T v ∨ v = b0) := by
    intro v _
    constructor
    · intro hv
      by_cases e : v = b0
      · exact Or.inr e
      · left
        intro u hu hc
        rcases hT u v hc with h | ⟨h1, h2⟩ | ⟨h1, h2⟩
        · exact hv u hu h
        · exact e (fp_rep_u hv rb (fp_cn_s (fp_cn_t cb h2)))
        · have e2 : v = a0 := fp_rep_u hv ra (fp_cn_s (fp_cn_t ca h2))
          have h3 : fp_cn fr tt S u b0 := fp_cn_t h1 (fp_cn_s cb)
          exact rb u (by omega) h3
    · rintro (h | e)
      · exact fun u hu hc => h u hu (fp_cn_m hc hST)
      · rw [e]; exact rb
  have hn : ¬ fp_rep fr tt T b0 := fun h => h a0 hlt (fp_cn_t (fp_cn_t (fp_cn_m ca hST) hab) (fp_cn_m (fp_cn_s cb) hST))
  exact (fp_cnt_ins (i := b0) (by omega) hn key).symm
theorem fp_cmp_ad {fr tt : Nat → Nat} {n z : Nat} {S T : Nat → Prop} (hT : ∀ e, T e ↔ fp_ad S z e) (h1 : fr z < n) (h2 : tt z < n) (hz : ¬ fp_cn fr tt S (fr z) (tt z)) :
    fp_cmp fr tt n T + 1 = fp_cmp fr tt n S := by
  obtain ⟨a0, la, ca, ra⟩ := fp_rep_ex fr tt S (fr z)
  obtain ⟨b0, lb, cb, rb⟩ := fp_rep_ex fr tt S (tt z)
  have hST : ∀ e, S e → T e := fun e he => (hT e).mpr (Or.inl he)
  have hm : ∀ x, fp_rm T z x → S x := fun x hx => ((hT x).mp hx.1).resolve_right hx.2
  have hzT : fp_cn fr tt T (fr z) (tt z) := fp_cn_e ((hT z).mpr (Or.inr rfl))
  have hb : ∀ u v, fp_cn fr tt T u v → fp_cn fr tt S u v ∨ (fp_cn fr tt S u (fr z) ∧ fp_cn fr tt S (tt z) v) ∨ (fp_cn fr tt S u (tt z) ∧ fp_cn fr tt S (fr z) v) := by
    intro u v h
    rcases fp_cn_b z h with h | ⟨ha, hb⟩ | ⟨ha, hb⟩
    · exact Or.inl (fp_cn_m h hm)
    · exact Or.inr (Or.inl ⟨fp_cn_m ha hm, fp_cn_m hb hm⟩)
    · exact Or.inr (Or.inr ⟨fp_cn_m ha hm, fp_cn_m hb hm⟩)
  rcases Nat.lt_trichotomy a0 b0 with g | g | g
  · exact fp_cmp_ad0 hST h2 hb hzT ca ra lb cb rb g
  · subst g
    exact absurd (fp_cn_t (fp_cn_s ca) cb) hz
  · refine fp_cmp_ad0 hST h1 (fun u v h => ?_) (fp_cn_s hzT) cb rb la ca ra g
    rcases hb u v h with h | h | h
    · exact Or.inl h
    · exact Or.inr (Or.inr h)
    · exact Or.inr (Or.inl h)
theorem fp_cmp_0 {fr tt : Nat → Nat} {n : Nat} {S : Nat → Prop} (h : ∀ e, ¬ S e) : fp_cmp fr tt n S = n :=
  fp_cnt_full (fun v _ u hu hc => by
    have := hc (fun x => x = u) (fun e he => absurd he (h e)) rfl
    omega)
theorem fp_cmp_c {fr tt : Nat → Nat} {n : Nat} {S T : Nat → Prop} (h : ∀ e, S e ↔ T e) : fp_cmp fr tt n S = fp_cmp fr tt n T :=
  Nat.le_antisymm (fp_cmp_m (fun e he => fp_cn_e ((h e).mpr he))) (fp_cmp_m (fun e he => fp_cn_e ((h e).mp he)))
/-- a forest of j edges has n - j components -/
theorem fp_for_cnt0 {fr tt : Nat → Nat} {n : Nat} {S : Nat → Prop} (hS : fp_for fr tt S) (m : Nat) (hE : ∀ e, e < m → fr e < n ∧ tt e < n) :
    fp_cnt S m + fp_cmp fr tt n (fun e => S e ∧ e < m) = n := by
  induction m with
  | zero => rw [fp_cmp_0 (fun e he => absurd he.2 (by omega))]; exact Nat.zero_add n
  | succ m ih =>
    have ih' := ih (fun e he => hE e (by omega))
    by_cases h : S m
    · rw [fp_cnt_t h]
      have hc := fp_cmp_ad (fr := fr) (tt := tt) (n := n) (z := m) (S := fun e => S e ∧ e < m) (T := fun e => S e ∧ e < m + 1) (fun e => ?_) (hE m (by omega)).1 (hE m (by omega)).2 (fun g => hS m h (fp_cn_m g (fun x hx => ⟨hx.1, by have := hx.2; omega⟩)))
      · omega
      · constructor
        · intro z
          by_cases g : e = m
          · exact Or.inr g
          · exact Or.inl ⟨z.1, by have := z.2; omega⟩
        · rintro (z | z)
          · exact ⟨z.1, by have := z.2; omega⟩
          · rw [z]; exact ⟨h, by omega⟩
    · rw [fp_cnt_f h]
      rw [fp_cmp_c (T := fun e => S e ∧ e < m) (fun e => ⟨fun z => ⟨z.1, ?_⟩, fun z => ⟨z.1, by have := z.2; omega⟩⟩)]
      · exact ih'
      · rcases Nat.lt_or_ge e m with g | g
        · exact g
        · have g2 : e = m := by have := z.2; omega
          exact absurd (g2 ▸ z.1) h
theorem fp_for_cnt {fr tt : Nat → Nat} {n c : Nat} {S : Nat → Prop} (hS : fp_for fr tt S) (hc : ∀ e, S e → e < c) (hE : ∀ e, e < c → fr e < n ∧ tt e < n) :
    fp_cnt S c + fp_cmp fr tt n S = n := by
  have h := fp_for_cnt0 hS c hE
  rw [fp_cmp_c (T := S) (fun e => ⟨fun z => z.1, fun z => ⟨z, hc e z⟩⟩)] at h
  exact h
theorem fp_rk_le {fr tt : Nat → Nat} {n c : Nat} {G A : Nat → Prop} (hG : fp_for fr tt G) (hGA : ∀ e, G e → A e) (hA : ∀ e, A e → e < c) (hE : ∀ e, e < c → fr e < n ∧ tt e < n) :
    fp_cnt G c + fp_cmp fr tt n A ≤ n := by
  have h1 := fp_for_cnt hG (fun e he => hA e (hGA e he)) hE
  have h2 := fp_cmp_m (n := n) (fun e he => fp_cn_e (fr := fr) (tt := tt) (hGA e he))
  omega
theorem fp_rk_span {fr tt : Nat → Nat} {n c : Nat} {G A : Nat → Prop} (hG : fp_for fr tt G) (hGA : ∀ e, G e → A e) (hA : ∀ e, A e → e < c) (hE : ∀ e, e < c → fr e < n ∧ tt e < n)
    (hs : ∀ e, A e → fp_cn fr tt G (fr e) (tt e)) : fp_cnt G c + fp_cmp fr tt n A = n := by
  have h1 := fp_for_cnt hG (fun e he => hA e (hGA e he)) hE
  have h2 := fp_cmp_m (n := n) (fun e he => fp_cn_e (fr := fr) (tt := tt) (hGA e he))
  have h3 := fp_cmp_m (n := n) hs
  omega
theorem fp_rk_max {fr tt : Nat → Nat} {n c : Nat} {G A : Nat → Prop} (hG : fp_for fr tt G) (hGA : ∀ e, G e → A e) (hA : ∀ e, A e → e < c) (hE : ∀ e, e < c → fr e < n ∧ tt e < n)
    (hs : fp_cnt G c + fp_cmp fr tt n A = n) : ∀ e, A e → fp_cn fr tt G (fr e) (tt e) := by
  intro e he
  by_cases hc : fp_cn fr tt G (fr e) (tt e)
  · exact hc
  · exfalso
    have h1 := fp_for_cnt hG (fun e he => hA e (hGA e he)) hE
    have h2 := fp_cmp_ad (n := n) (z := e) (S := G) (T := fp_ad G e) (fun _ => Iff.rfl) (hE e (hA e he)).1 (hE e (hA e he)).2 hc
    have h3 := fp_cmp_m (fr := fr) (tt := tt) (n := n) (S := fp_ad G e) (T := A) (fun x hx => fp_cn_e (hx.elim (hGA x) (fun z => z ▸ he)))
    omega
end
section
/-! the k forests that a home array gives -/
def fp_F (c : Nat) (h : Nat → Int32) (f : Nat) : Nat → Prop := fun e => e < c ∧ h e = nI f
def fp_H (c k : Nat) (h : Nat → Int32) : Nat → Prop := fun e => e < c ∧ ∃ f, f < k ∧ h e = nI f
def fp_ok (fr tt : Nat → Nat) (c k : Nat) (h : Nat → Int32) : Prop := ∀ f, f < k → fp_for fr tt (fp_F c h f)
def fp_gd (fr tt : Nat → Nat) (c k : Nat) (h : Nat → Int32) (A : Nat → Prop) : Prop :=
  (∀ e, A e → e < c) ∧ ∀ f, f < k → ∀ e, A e → fp_cn fr tt (fun x => fp_F c h f x ∧ A x) (fr e) (tt e)
theorem fp_cntH {c k : Nat} (hk : k < 2 ^ 31) (h : Nat → Int32) (B : Nat → Prop) :
    fp_cnt (fun e => fp_H c k h e ∧ B e) c = fp_sum (fun f => fp_cnt (fun e => fp_F c h f e ∧ B e) c) k := by
  induction k with
  | zero => exact fp_cnt_none (fun e _ z => by obtain ⟨⟨_, f, hf, _⟩, _⟩ := z; omega)
  | succ k ih =>
    have ih' := ih (by omega)
    show _ = fp_sum (fun f => fp_cnt (fun e => fp_F c h f e ∧ B e) c) k + fp_cnt (fun e => fp_F c h k e ∧ B e) c
    rw [← ih', fp_cnt_split (fun e => fp_H c (k + 1) h e ∧ B e) (fun e => h e = nI k) c]
    rw [fp_cnt_eq (p := fun e => (fp_H c (k + 1) h e ∧ B e) ∧ h e = nI k) (q := fun e => fp_F c h k e ∧ B e), fp_cnt_eq (p := fun e => (fp_H c (k + 1) h e ∧ B e) ∧ ¬ h e = nI k) (q := fun e => fp_H c k h e ∧ B e)]
    · exact Nat.add_comm _ _
    · intro e _
      constructor
      · rintro ⟨⟨⟨h1, f, h2, h3⟩, h4⟩, h5⟩
        refine ⟨⟨h1, f, ?_, h3⟩, h4⟩
        rcases Nat.lt_or_ge f k with g | g
        · exact g
        · have g2 : f = k := by omega
          exact absurd (g2 ▸ h3) h5
      · rintro ⟨⟨h1, f, h2, h3⟩, h4⟩
        refine ⟨⟨⟨h1, f, by omega, h3⟩, h4⟩, fun g => ?_⟩
        have g2 := (nI_eq (a := f) (b := k) (by omega) (by omega)).mp (h3.symm.trans g)
        omega
    · intro e _
      constructor
      · rintro ⟨⟨⟨h1, _⟩, h4⟩, h5⟩
        exact ⟨⟨h1, h5⟩, h4⟩
      · rintro ⟨⟨h1, h5⟩, h4⟩
        exact ⟨⟨⟨h1, k, by omega, h5⟩, h4⟩, h5⟩
theorem fp_gd_keep {fr tt : Nat → Nat} {n c k : Nat} {h h' : Nat → Int32} {A : Nat → Prop} (hk : k < 2 ^ 31) (hE : ∀ e, e < c → fr e < n ∧ tt e < n)
    (ok : fp_ok fr tt c k h) (ok' : fp_ok fr tt c k h') (g : fp_gd fr tt c k h A) (hH : ∀ e, fp_H c k h e → fp_H c k h' e) : fp_gd fr tt c k h' A := by
  have hle := fp_cmp_le (fr := fr) (tt := tt) (n := n) (S := A)
  have s1 : ∀ f, f < k → (fun f => fp_cnt (fun e => fp_F c h f e ∧ A e) c) f = n - fp_cmp fr tt n A := by
    intro f hf
    have := fp_rk_span (G := fun e => fp_F c h f e ∧ A e) (A := A) (fp_for_m (ok f hf) (fun e he => he.1)) (fun e he => he.2) g.1 hE (g.2 f hf)
    show fp_cnt (fun e => fp_F c h f e ∧ A e) c = _
    omega
  have s2 : ∀ f, f < k → (fun f => fp_cnt (fun e => fp_F c h' f e ∧ A e) c) f ≤ n - fp_cmp fr tt n A := by
    intro f hf
    have := fp_rk_le (G := fun e => fp_F c h' f e ∧ A e) (A := A) (fp_for_m (ok' f hf) (fun e he => he.1)) (fun e he => he.2) g.1 hE
    show fp_cnt (fun e => fp_F c h' f e ∧ A e) c ≤ _
    omega
  have s3 : fp_cnt (fun e => fp_H c k h e ∧ A e) c ≤ fp_cnt (fun e => fp_H c k h' e ∧ A e) c := fp_cnt_le (fun e _ he => ⟨hH e he.1, he.2⟩)
  rw [fp_cntH hk, fp_cntH hk, fp_sum_all s1] at s3
  have s5 := fp_sum_eq s2 s3
  refine ⟨g.1, fun f hf => fp_rk_max (G := fun e => fp_F c h' f e ∧ A e) (n := n) (A := A) (fp_for_m (ok' f hf) (fun e he => he.1)) (fun e he => he.2) g.1 hE ?_⟩
  have s6 : fp_cnt (fun e => fp_F c h' f e ∧ A e) c = n - fp_cmp fr tt n A := s5 f hf
  omega
theorem fp_gd_un {fr tt : Nat → Nat} {c k : Nat} {h : Nat → Int32} {A B : Nat → Prop} (g1 : fp_gd fr tt c k h A) (g2 : fp_gd fr tt c k h B) : fp_gd fr tt c k h (fun e => A e ∨ B e) :=
  ⟨fun e he => he.elim (g1.1 e) (g2.1 e), fun f hf e he => he.elim
    (fun a => fp_cn_m (g1.2 f hf e a) (fun _ hx => ⟨hx.1, Or.inl hx.2⟩))
    (fun a => fp_cn_m (g2.2 f hf e a) (fun _ hx => ⟨hx.1, Or.inr hx.2⟩))⟩
/-- the number r is the least of |E - A| + k rank(A) -/
def fp_HH (fr tt : Nat → Nat) (n c k r : Nat) : Prop :=
  (∃ A : Nat → Prop, (∀ e, A e → e < c) ∧ r = fp_cnt (fun e => ¬ A e) c + k * (n - fp_cmp fr tt n A)) ∧
  ∀ A : Nat → Prop, (∀ e, A e → e < c) → r ≤ fp_cnt (fun e => ¬ A e) c + k * (n - fp_cmp fr tt n A)
theorem fp_HH_mk {fr tt : Nat → Nat} {n c k : Nat} {h : Nat → Int32} {A : Nat → Prop} (hk : k < 2 ^ 31) (hE : ∀ e, e < c → fr e < n ∧ tt e < n)
    (ok : fp_ok fr tt c k h) (g : fp_gd fr tt c k h A) (hA : ∀ e, e < c → ¬ fp_H c k h e → A e) : fp_HH fr tt n c k (fp_cnt (fp_H c k h) c) := by
  constructor
  · refine ⟨A, g.1, ?_⟩
    have hle := fp_cmp_le (fr := fr) (tt := tt) (n := n) (S := A)
    have s1 : ∀ f, f < k → (fun f => fp_cnt (fun e => fp_F c h f e ∧ A e) c) f = n - fp_cmp fr tt n A := by
      intro f hf
      have := fp_rk_span (G := fun e => fp_F c h f e ∧ A e) (A := A) (fp_for_m (ok f hf) (fun e he => he.1)) (fun e he => he.2) g.1 hE (g.2 f hf)
      show fp_cnt (fun e => fp_F c h f e ∧ A e) c = _
      omega
    rw [fp_cnt_split (fp_H c k h) A c, fp_cntH hk, fp_sum_all s1, Nat.add_comm]
    rw [fp_cnt_eq (p := fun e => fp_H c k h e ∧ ¬ A e) (q := fun e => ¬ A e)]
    intro e he
    refine ⟨fun z => z.2, fun z => ⟨?_, z⟩⟩
    by_cases hh : fp_H c k h e
    · exact hh
    · exact absurd (hA e he hh) z
  · intro B hB
    have hle := fp_cmp_le (fr := fr) (tt := tt) (n := n) (S := B)
    have s2 : ∀ f, f < k → (fun f => fp_cnt (fun e => fp_F c h f e ∧ B e) c) f ≤ n - fp_cmp fr tt n B := by
      intro f hf
      have := fp_rk_le (G := fun e => fp_F c h f e ∧ B e) (A := B) (fp_for_m (ok f hf) (fun e he => he.1)) (fun e he => he.2) hB hE
      show fp_cnt (fun e => fp_F c h f e ∧ B e) c ≤ _
      omega
    have s3 := fp_sum_le s2
    have s4 : fp_cnt (fun e => fp_H c k h e ∧ ¬ B e) c ≤ fp_cnt (fun e => ¬ B e) c := fp_cnt_le (fun e _ he => he.2)
    rw [fp_cnt_split (fp_H c k h) B c, fp_cntH hk]
    omega
theorem fp_HH_u {fr tt : Nat → Nat} {n c k r r' : Nat} (h : fp_HH fr tt n c k r) (h' : fp_HH fr tt n c k r') : r = r' := by
  obtain ⟨⟨A, hA, e⟩, m⟩ := h
  obtain ⟨⟨A', hA', e'⟩, m'⟩ := h'
  have h1 := m A' hA'
  have h2 := m' A hA
  omega
theorem fp_HH_mono {fr tt : Nat → Nat} {n c k r r' : Nat} (h : fp_HH fr tt n c k r) (h' : fp_HH fr tt n c (k + 1) r') : r ≤ r' := by
  obtain ⟨_, m⟩ := h
  obtain ⟨⟨A', hA', e'⟩, _⟩ := h'
  have h1 := m A' hA'
  rw [Nat.succ_mul] at e'
  omega
theorem fp_HH_conc {fr tt : Nat → Nat} {n c k r r' r'' : Nat} (h : fp_HH fr tt n c k r) (h' : fp_HH fr tt n c (k + 1) r') (h'' : fp_HH fr tt n c (k + 1 + 1) r'') : r + r'' ≤ r' + r' := by
  obtain ⟨_, m⟩ := h
  obtain ⟨⟨A', hA', e'⟩, _⟩ := h'
  obtain ⟨_, m''⟩ := h''
  have h1 := m A' hA'
  have h2 := m'' A' hA'
  rw [Nat.succ_mul] at e'
  rw [Nat.succ_mul, Nat.succ_mul] at h2
  omega
theorem fp_HH_0 {fr tt : Nat → Nat} {n c r : Nat} (h : fp_HH fr tt n c 0 r) : r = 0 := by
  have h1 := h.2 (fun e => e < c) (fun e he => he)
  rw [fp_cnt_none (p := fun e => ¬ e < c) (fun e he z => z he), Nat.zero_mul] at h1
  omega
theorem fp_HH_le {fr tt : Nat → Nat} {n c k r : Nat} (h : fp_HH fr tt n c k r) : r ≤ c := by
  have h1 := h.2 (fun _ => False) (fun e he => absurd he (fun z => z))
  rw [fp_cmp_0 (fun _ z => z), Nat.sub_self, Nat.mul_zero] at h1
  exact Nat.le_trans h1 (fp_cnt_max _ _)
theorem fp_HH_all {fr tt : Nat → Nat} {n c k : Nat} (hE : ∀ e, e < c → fr e < n ∧ tt e < n ∧ fr e ≠ tt e) (hk : c ≤ k) : fp_HH fr tt n c k c := by
  constructor
  · refine ⟨fun _ => False, fun e he => absurd he (fun z => z), ?_⟩
    rw [fp_cmp_0 (fun _ z => z), Nat.sub_self, Nat.mul_zero, fp_cnt_full (p := fun _ => ¬ False) (fun _ _ z => z)]
    rfl
  · intro B hB
    by_cases hx : ∃ e, B e
    · obtain ⟨e, he⟩ := hx
      obtain ⟨e1, e2, e3⟩ := hE e (hB e he)
      have h1 := fp_cmp_ad (fr := fr) (tt := tt) (n := n) (z := e) (S := fun _ => False) (T := fp_ad (fun _ => False) e) (fun _ => Iff.rfl) e1 e2 (fun hc => e3 (hc (fun x => x = fr e) (fun _ z => absurd z (fun w => w)) rfl).symm)
      rw [fp_cmp_0 (S := fun _ => False) (fun _ z => z)] at h1
      have h2 := fp_cmp_m (fr := fr) (tt := tt) (n := n) (S := fp_ad (fun _ => False) e) (T := B) (fun x hx => fp_cn_e (hx.elim (fun z => absurd z (fun w => w)) (fun z => z ▸ he)))
      have h3 : 0 < n - fp_cmp fr tt n B := by omega
      have h4 := Nat.le_mul_of_pos_right k h3
      omega
    · rw [fp_cnt_full (p := fun e => ¬ B e) (fun e _ z => hx ⟨e, z⟩)]
      omega
/-! shifting along a chain keeps the forests -/
theorem fp_F_ad {c g z e : Nat} {h : Nat → Int32} (hz : z < c) : fp_F c (upd h z (nI g)) g e ↔ fp_ad (fp_F c h g) z e := by
  by_cases ez : e = z
  · subst ez
    exact ⟨fun _ => Or.inr rfl, fun _ => ⟨hz, pk_us⟩⟩
  · constructor
    · intro w
      exact Or.inl ⟨w.1, (pk_un ez).symm.trans w.2⟩
    · rintro (w | w)
      · exact ⟨w.1, (pk_un ez).trans w.2⟩
      · exact absurd w ez
theorem fp_F_rm {c f g z e : Nat} {h : Nat → Int32} (hf : f < 2 ^ 31) (hg : g < 2 ^ 31) (fg : f ≠ g) : fp_F c (upd h z (nI g)) f e ↔ fp_rm (fp_F c h f) z e := by
  by_cases ez : e = z
  · subst ez
    constructor
    · intro w
      have w2 := w.2
      rw [pk_us] at w2
      exact absurd ((nI_eq hg hf).mp w2).symm fg
    · intro w
      exact absurd rfl w.2
  · constructor
    · intro w
      exact ⟨⟨w.1, (pk_un ez).symm.trans w.2⟩, ez⟩
    · intro w
      exact ⟨w.1.1, (pk_un ez).trans w.1.2⟩
def fp_ch (fr tt : Nat → Nat) (c k : Nat) (h bf : Nat → Int32) (q : Nat → Nat) (j : Nat) : Prop :=
  ∃ b, b < j ∧ bf (q j) = nI (q b) ∧ ∃ f, f < k ∧ h (q j) = nI f ∧ ¬ fp_ce fr tt (fp_rm (fp_F c h f) (q j)) (q b) ∧
    ∀ i, i < b → ∀ f, f < k → fp_ce fr tt (fp_rm (fp_F c h f) (q j)) (q i)
def fp_L (fr tt : Nat → Nat) (c k : Nat) (h bf : Nat → Int32) (q : Nat → Nat) (j g : Nat) : Prop :=
  fp_ok fr tt c k h ∧ g < k ∧ ¬ fp_ce fr tt (fp_F c h g) (q j) ∧ (∀ i, i ≤ j → q i < c) ∧ (∀ i i', i < i' → i' ≤ j → q i ≠ q i') ∧
  (∀ i, i < j → ∀ f, f < k → fp_ce fr tt (fp_F c h f) (q i)) ∧ ∀ j', 0 < j' → j' ≤ j → fp_ch fr tt c k h bf q j'
theorem fp_L_ok {fr tt : Nat → Nat} {c k z g : Nat} {h : Nat → Int32} (hk : k < 2 ^ 31) (ok : fp_ok fr tt c k h) (hg : g < k) (hz : z < c) (hn : ¬ fp_ce fr tt (fp_F c h g) z) :
    fp_ok fr tt c k (upd h z (nI g)) := by
  intro f' hf'
  by_cases e : f' = g
  · subst e
    exact fp_for_m (fp_for_ad (ok f' hf') hn) (fun e he => (fp_F_ad hz).mp he)
  · exact fp_for_m (ok f' hf') (fun x hx => ((fp_F_rm (by omega) (by omega) e).mp hx).1)
theorem fp_L_step {fr tt : Nat → Nat} {c k j g : Nat} {h bf : Nat → Int32} {q : Nat → Nat} (hk : k < 2 ^ 31) (L : fp_L fr tt c k h bf q j g) (hj : 0 < j) :
    ∃ b f, b < j ∧ bf (q j) = nI (q b) ∧ h (q j) = nI f ∧ fp_L fr tt c k (upd h (q j) (nI g)) bf q b f ∧ ∀ e, (fp_H c k (upd h (q j) (nI g)) e ↔ fp_H c k h e) := by
  obtain ⟨ok, hg, hn, hq, hi, hc, hch⟩ := L
  obtain ⟨b, hb, hbf, f, hf, hh, hnb, hsc⟩ := hch j hj (Nat.le_refl j)
  have hz := hq j (Nat.le_refl j)
  have inF : fp_F c h f (q j) := ⟨hz, hh⟩
  have fg : f ≠ g := by
    intro e
    subst e
    exact hn (fp_cn_e inF)
  have hf31 : f < 2 ^ 31 := by omega
  have hg31 : g < 2 ^ 31 := by omega
  have ok' := fp_L_ok hk ok hg hz hn
  have sub : ∀ f', f' < k → ∀ x, fp_rm (fp_F c h f') (q j) x → fp_F c (upd h (q j) (nI g)) f' x := by
    intro f' hf' x hx
    by_cases e : f' = g
    · subst e
      exact (fp_F_ad hz).mpr (Or.inl hx.1)
    · exact (fp_F_rm (by omega) hg31 e).mpr hx
  refine ⟨b, f, hb, hbf, hh, ⟨ok', hf, ?_, fun i hi => hq i (by omega), fun i i' h1 h2 => hi i i' h1 (by omega), ?_, ?_⟩, ?_⟩
  · intro z
    exact hnb (fp_cn_m z (fun x hx => (fp_F_rm hf31 hg31 fg).mp hx))
  · intro i hib f' hf'
    exact fp_cn_m (hsc i hib f' hf') (sub f' hf')
  · intro j' h0 hj'
    obtain ⟨b', hb', hbf', f', hf', hh', hnb', hsc'⟩ := hch j' h0 (by omega)
    have ne : q j' ≠ q j := hi j' j (by omega) (Nat.le_refl j)
    refine ⟨b', hb', hbf', f', hf', (pk_un ne).trans hh', ?_, ?_⟩
    · intro z
      by_cases e : f' = g
      · subst e
        refine hnb' ?_
        have hin : fp_F c (upd h (q j) (nI f')) f' (q j') := (fp_F_ad hz).mpr (Or.inl ⟨hq j' (by omega), hh'⟩)
        exact fp_for_lb (ok' f' hf') hin (S := fp_F c h f') (fun x hx => (fp_F_ad hz).mpr (Or.inl hx)) (hc b' (by omega) f' hf') z
      · exact hnb' (fp_cn_m z (fun x hx => ⟨((fp_F_rm (by omega) hg31 e).mp hx.1).1, hx.2⟩))
    · intro i hib f'' hf''
      by_cases e : f'' = f
      · rw [e]
        have l1 : fp_cn fr tt (fp_rm (fp_F c h f) (q j)) (fr (q i)) (tt (q i)) := hsc i (by omega) f hf
        have l2 : fp_cn fr tt (fp_rm (fp_F c h f) (q j')) (fr (q i)) (tt (q i)) := hsc' i hib f hf
        have l3 := fp_for_lb (ok f hf) inF (S := fp_rm (fp_F c h f) (q j')) (fun x hx => hx.1) l2 l1
        exact fp_cn_m l3 (fun x hx => ⟨(fp_F_rm hf31 hg31 fg).mpr ⟨hx.1.1, hx.2⟩, hx.1.2⟩)
      · refine fp_cn_m (hsc' i hib f'' hf'') (fun x hx => ⟨sub f'' hf'' x ⟨hx.1, fun ex => ?_⟩, hx.2⟩)
        have h2 := hx.1.2
        rw [ex, hh] at h2
        exact e ((nI_eq hf31 (by omega)).mp h2).symm
  · intro e
    by_cases ez : e = q j
    · subst ez
      exact ⟨fun _ => ⟨hz, f, hf, hh⟩, fun _ => ⟨hz, g, hg, pk_us⟩⟩
    · constructor
      · rintro ⟨h1, f', h2, h3⟩
        exact ⟨h1, f', h2, (pk_un ez).symm.trans h3⟩
      · rintro ⟨h1, f', h2, h3⟩
        exact ⟨h1, f', h2, (pk_un ez).trans h3⟩
theorem fp_L_last {fr tt : Nat → Nat} {c k g : Nat} {h bf : Nat → Int32} {q : Nat → Nat} (hk : k < 2 ^ 31) (L : fp_L fr tt c k h bf q 0 g) :
    fp_ok fr tt c k (upd h (q 0) (nI g)) ∧ ∀ e, (fp_H c k (upd h (q 0) (nI g)) e ↔ fp_H c k h e ∨ e = q 0) := by
  obtain ⟨ok, hg, hn, hq, hi, hc, hch⟩ := L
  have hz := hq 0 (Nat.le_refl 0)
  refine ⟨fp_L_ok hk ok hg hz hn, fun e => ?_⟩
  by_cases ez : e = q 0
  · subst ez
    exact ⟨fun _ => Or.inr rfl, fun _ => ⟨hz, g, hg, pk_us⟩⟩
  · constructor
    · rintro ⟨h1, f', h2, h3⟩
      exact Or.inl ⟨h1, f', h2, (pk_un ez).symm.trans h3⟩
    · rintro (⟨h1, f', h2, h3⟩ | h)
      · exact ⟨h1, f', h2, (pk_un ez).trans h3⟩
      · exact absurd h ez
end
section
/-! the tree that a search makes -/
def fp_up (l : Nat → Nat) (k x : Nat) : Nat → Nat := fun j => if j = k then x else l j
theorem fp_us {l : Nat → Nat} {k x : Nat} : fp_up l k x k = x := if_pos rfl
theorem fp_un {l : Nat → Nat} {k x j : Nat} (h : j ≠ k) : fp_up l k x j = l j := if_neg h
def fp_T (fr tt : Nat → Nat) (F : Nat → Prop) (a7 : Nat → Int32) (l : Nat → Nat) (j : Nat) : Prop :=
  ∃ z i, i < j ∧ a7 (l j) = nI z ∧ F z ∧ ((fr z = l i ∧ tt z = l j) ∨ (fr z = l j ∧ tt z = l i)) ∧ fp_cn fr tt (fp_rm F z) (l 0) (l i)
def fp_S (fr tt : Nat → Nat) (F : Nat → Prop) (n u m : Nat) (a7 a8 a9 : Nat → Int32) (l : Nat → Nat) : Prop :=
  0 < m ∧ fp_cnt (fun v => ¬ a8 v = 0) n = m ∧ (∀ j, j < m → l j < n ∧ a9 j = nI (l j) ∧ a8 (l j) = 1) ∧ (∀ y, y < n → a8 y = 0 ∨ ∃ j, j < m ∧ l j = y) ∧
  l 0 = u ∧ a7 u = -1 ∧ ∀ j, 0 < j → j < m → fp_T fr tt F a7 l j
def fp_Cl (fr tt : Nat → Nat) (F : Nat → Prop) (a8 : Nat → Int32) (x t : Nat) : Prop :=
  ∀ e, e < t → F e → (fr e = x → ¬ a8 (tt e) = 0) ∧ (tt e = x → ¬ a8 (fr e) = 0)
theorem fp_1ne0 : ¬ (1 : Int32) = 0 := by decide
theorem fp_S_path {fr tt : Nat → Nat} {F : Nat → Prop} {m e y : Nat} {a7 : Nat → Int32} {l : Nat → Nat} (hT : ∀ j, 0 < j → j < m → fp_T fr tt F a7 l j)
    (hy : ∀ j, j < m → l j ≠ y) (he : fr e = y ∨ tt e = y) : ∀ N j, j < N → j < m → fp_cn fr tt (fp_rm F e) (l 0) (l j) := by
  intro N
  induction N with
  | zero => intro j hj; omega
  | succ N ih =>
    intro j hj hm
    by_cases j0 : j = 0
    · rw [j0]; exact fp_cn_r
    · obtain ⟨z, i, hi, _, hz, hends, _⟩ := hT j (by omega) hm
      have hi' := ih i (by omega) (by omega)
      have y1 := hy j hm
      have y2 := hy i (by omega)
      have ne : z ≠ e := by
        intro ez
        subst ez
        rcases hends with ⟨h1, h2⟩ | ⟨h1, h2⟩ <;> rcases he with g | g <;> omega
      have hc : fp_cn fr tt (fp_rm F e) (fr z) (tt z) := fp_cn_e ⟨hz, ne⟩
      rcases hends with ⟨h1, h2⟩ | ⟨h1, h2⟩
      · rw [h1, h2] at hc
        exact fp_cn_t hi' hc
      · rw [h1, h2] at hc
        exact fp_cn_t hi' (fp_cn_s hc)
theorem fp_S_add {fr tt : Nat → Nat} {F : Nat → Prop} {n u m g e y : Nat} {a7 a8 a9 : Nat → Int32} {l : Nat → Nat} (hS : fp_S fr tt F n u m a7 a8 a9 l)
    (hg : g < m) (he : F e) (hends : (fr e = l g ∧ tt e = y) ∨ (fr e = y ∧ tt e = l g)) (hy : y < n) (h8 : a8 y = 0) :
    m < n ∧ fp_S fr tt F n u (m + 1) (upd a7 y (nI e)) (upd a8 y 1) (upd a9 m (nI y)) (fp_up l m y) := by
  obtain ⟨h0, hc, hl, hs, hu, h7, hT⟩ := hS
  have hne : ∀ j, j < m → l j ≠ y := by
    intro j hj ej
    have := (hl j hj).2.2
    rw [ej, h8] at this
    exact fp_1ne0 this.symm
  have hc' : fp_cnt (fun v => ¬ upd a8 y 1 v = 0) n = m + 1 := by
    rw [fp_cnt_ins (p := fun v => ¬ a8 v = 0) (i := y) hy (fun z => z h8), hc]
    intro j _
    by_cases ej : j = y
    · subst ej
      rw [pk_us]
      exact ⟨fun _ => Or.inr rfl, fun _ => fp_1ne0⟩
    · rw [pk_un ej]
      exact ⟨fun z => Or.inl z, fun z => z.resolve_right ej⟩
  have hmax := fp_cnt_max (fun v => ¬ upd a8 y 1 v = 0) n
  refine ⟨by omega, by omega, hc', ?_, ?_, ?_, ?_, ?_⟩
  · intro j hj
    by_cases ej : j = m
    · rw [ej, fp_us, pk_us, pk_us]
      exact ⟨hy, rfl, rfl⟩
    · obtain ⟨g1, g2, g3⟩ := hl j (by omega)
      rw [fp_un ej, pk_un ej, pk_un (hne j (by omega))]
      exact ⟨g1, g2, g3⟩
  · intro v hv
    by_cases ev : v = y
    · exact Or.inr ⟨m, by omega, by rw [fp_us, ev]⟩
    · rw [pk_un ev]
      rcases hs v hv with g1 | ⟨j, g1, g2⟩
      · exact Or.inl g1
      · exact Or.inr ⟨j, by omega, by rw [fp_un (by omega)]; exact g2⟩
  · rw [fp_un (by omega)]; exact hu
  · rw [pk_un (by rw [← hu]; exact hne 0 h0)]; exact h7
  · intro j hj0 hj
    by_cases ej : j = m
    · refine ⟨e, g, by omega, ?_, he, ?_, ?_⟩
      · rw [ej, fp_us, pk_us]
      · rw [ej, fp_us, fp_un (show g ≠ m by omega)]; exact hends
      · rw [fp_un (show g ≠ m by omega), fp_un (show 0 ≠ m by omega)]
        exact fp_S_path hT hne (hends.elim (fun z => Or.inr z.2) (fun z => Or.inl z.1)) (g + 1) g (by omega) hg
    · obtain ⟨z, i, g1, g2, g3, g4, g5⟩ := hT j hj0 (by omega)
      refine ⟨z, i, g1, ?_, g3, ?_, ?_⟩
      · rw [fp_un ej, pk_un (hne j (by omega))]; exact g2
      · rw [fp_un ej, fp_un (show i ≠ m by omega)]; exact g4
      · rw [fp_un (show i ≠ m by omega), fp_un (show 0 ≠ m by omega)]; exact g5
theorem fp_Cl_up {fr tt : Nat → Nat} {F : Nat → Prop} {a8 : Nat → Int32} {x t y : Nat} (h : fp_Cl fr tt F a8 x t) : fp_Cl fr tt F (upd a8 y 1) x t := by
  have hm : ∀ v, ¬ a8 v = 0 → ¬ upd a8 y 1 v = 0 := by
    intro v hv
    by_cases ev : v = y
    · rw [ev, pk_us]; exact fp_1ne0
    · rw [pk_un ev]; exact hv
  exact fun e he hF => ⟨fun z => hm _ ((h e he hF).1 z), fun z => hm _ ((h e he hF).2 z)⟩
theorem fp_Cl_s {fr tt : Nat → Nat} {F : Nat → Prop} {a8 : Nat → Int32} {x t : Nat} (h : fp_Cl fr tt F a8 x t) (ht : F t → (fr t = x → ¬ a8 (tt t) = 0) ∧ (tt t = x → ¬ a8 (fr t) = 0)) : fp_Cl fr tt F a8 x (t + 1) := by
  intro e he hF
  by_cases ee : e = t
  · subst ee; exact ht hF
  · exact h e (by omega) hF
theorem fp_S_end {fr tt : Nat → Nat} {F : Nat → Prop} {n u v m c : Nat} {a7 a8 a9 : Nat → Int32} {l : Nat → Nat} (hS : fp_S fr tt F n u m a7 a8 a9 l)
    (hF : ∀ e, F e → e < c) (hE : ∀ e, e < c → fr e < n ∧ tt e < n) (hcl : ∀ j, j < m → fp_Cl fr tt F a8 (l j) c) (hc : fp_cn fr tt F u v) : ∃ j, j < m ∧ l j = v := by
  obtain ⟨h0, _, hl, hs, hu, _, _⟩ := hS
  refine hc (fun x => ∃ j, j < m ∧ l j = x) (fun e he => ?_) ⟨0, h0, hu⟩
  have hb := hE e (hF e he)
  constructor
  · rintro ⟨j, hj, ej⟩
    exact (hs (tt e) hb.2).resolve_left ((hcl j hj e (hF e he) he).1 ej.symm)
  · rintro ⟨j, hj, ej⟩
    exact (hs (fr e) hb.1).resolve_left ((hcl j hj e (hF e he) he).2 ej.symm)
/-! the way back along the tree -/
def fp_W (fr tt : Nat → Nat) (F R : Nat → Prop) (u v x : Nat) : Prop :=
  ∃ W : Nat → Prop, (∀ w, W w → F w ∧ R w ∧ fp_cn fr tt (fp_rm F w) u x) ∧ fp_cn fr tt W v x
theorem fp_W_0 {fr tt : Nat → Nat} {F R : Nat → Prop} {u v : Nat} : fp_W fr tt F R u v v :=
  ⟨fun _ => False, fun _ h => absurd h (fun z => z), fp_cn_r⟩
theorem fp_W_end {fr tt : Nat → Nat} {F R : Nat → Prop} {u v : Nat} (h : fp_W fr tt F R u v u) : fp_cn fr tt (fun x => F x ∧ R x) u v := by
  obtain ⟨W, h1, h2⟩ := h
  exact fp_cn_s (fp_cn_m h2 (fun x hx => ⟨(h1 x hx).1, (h1 x hx).2.1⟩))
theorem fp_W_step {fr tt : Nat → Nat} {F R : Nat → Prop} {u v j : Nat} {a7 : Nat → Int32} {l : Nat → Nat} (hF : fp_for fr tt F) (hT : fp_T fr tt F a7 l j) (hu : l 0 = u)
    (hW : fp_W fr tt F R u v (l j)) :
    ∃ z i, i < j ∧ a7 (l j) = nI z ∧ F z ∧ ((fr z = l i ∧ tt z = l j) ∨ (fr z = l j ∧ tt z = l i)) ∧ ¬ fp_cn fr tt (fp_rm F z) u v ∧
      ∀ R' : Nat → Prop, (∀ x, R x → R' x) → R' z → fp_W fr tt F R' u v (l i) := by
  obtain ⟨z, i, hi, h7, hz, hends, hp⟩ := hT
  obtain ⟨W, h1, h2⟩ := hW
  rw [hu] at hp
  have hbr : ¬ fp_cn fr tt (fp_rm F z) (l i) (l j) := by
    intro g
    rcases hends with ⟨e1, e2⟩ | ⟨e1, e2⟩
    · exact hF z hz (by rw [e1, e2]; exact g)
    · exact hF z hz (by rw [e1, e2]; exact fp_cn_s g)
  have hne : ∀ w, W w → w ≠ z := by
    intro w hw e
    subst e
    exact hbr (fp_cn_t (fp_cn_s hp) (h1 w hw).2.2)
  refine ⟨z, i, hi, h7, hz, hends, ?_, ?_⟩
  · intro g
    have g2 : fp_cn fr tt (fp_rm F z) v (l j) := fp_cn_m h2 (fun w hw => ⟨(h1 w hw).1, hne w hw⟩)
    exact hbr (fp_cn_t (fp_cn_s hp) (fp_cn_t g g2))
  · intro R' hR hRz
    have step : ∀ S : Nat → Prop, S z → fp_cn fr tt S (l j) (l i) := by
      intro S hS
      have hc : fp_cn fr tt S (fr z) (tt z) := fp_cn_e hS
      rcases hends with ⟨e1, e2⟩ | ⟨e1, e2⟩
      · rw [e1, e2] at hc; exact fp_cn_s hc
      · rw [e1, e2] at hc; exact hc
    refine ⟨fp_ad W z, ?_, fp_cn_t (fp_cn_m h2 (fun x hx => Or.inl hx)) (step _ (Or.inr rfl))⟩
    rintro w (hw | hw)
    · exact ⟨(h1 w hw).1, hR w (h1 w hw).2.1, fp_cn_t (h1 w hw).2.2 (step _ ⟨hz, fun e => hne w hw e.symm⟩)⟩
    · rw [hw]
      exact ⟨hz, hRz, hp⟩
/-! the search for a chain -/
def fp_R (c : Nat) (a4 : Nat → Int32) : Nat → Prop := fun e => e < c ∧ ¬ a4 e = 0
def fp_B (fr tt : Nat → Nat) (c k s : Nat) (h : Nat → Int32) (g d p : Nat) (a4 a5 a6 : Nat → Int32) (q : Nat → Nat) : Prop :=
  0 < p ∧ fp_cnt (fp_R c a4) c = p ∧ (∀ j, j < p → q j < c ∧ a6 j = nI (q j) ∧ ¬ a4 (q j) = 0) ∧ (∀ e, fp_R c a4 e → ∃ j, j < p ∧ q j = e) ∧
  (∀ i j, i < j → j < p → q i ≠ q j) ∧ q 0 = s ∧ a5 s = -1 ∧
  (∀ i, i < g → ∀ f, f < k → fp_ce fr tt (fun x => fp_F c h f x ∧ fp_R c a4 x) (q i)) ∧
  (∀ f, f < d → fp_ce fr tt (fun x => fp_F c h f x ∧ fp_R c a4 x) (q g)) ∧
  ∀ j, 0 < j → j < p → fp_ch fr tt c k h a5 q j
theorem fp_R_up {c z : Nat} {a4 : Nat → Int32} {x : Nat} (h : fp_R c a4 x) : fp_R c (upd a4 z 1) x := by
  refine ⟨h.1, ?_⟩
  by_cases e : x = z
  · rw [e, pk_us]; exact fp_1ne0
  · rw [pk_un e]; exact h.2
theorem fp_B_0 {fr tt : Nat → Nat} {c k s : Nat} {h : Nat → Int32} {a4 a5 a6 : Nat → Int32} (hs : s < c) (h4 : ∀ e, e < c → a4 e = 0) :
    fp_B fr tt c k s h 0 0 1 (upd a4 s 1) (upd a5 s (-1)) (upd a6 0 (nI s)) (fun _ => s) := by
  refine ⟨by omega, ?_, ?_, ?_, fun i j h1 h2 => by omega, rfl, pk_us, fun i hi => by omega, fun f hf => by omega, fun j h1 h2 => by omega⟩
  · rw [← fp_cnt_one hs]
    refine fp_cnt_eq (fun j hj => ?_)
    by_cases e : j = s
    · subst e
      exact ⟨fun _ => rfl, fun _ => ⟨hj, by rw [pk_us]; exact fp_1ne0⟩⟩
    · exact ⟨fun z => absurd (h4 j hj) (by have := z.2; rw [pk_un e] at this; exact this), fun z => absurd z e⟩
  · intro j hj
    have e : j = 0 := by omega
    subst e
    refine ⟨hs, pk_us, ?_⟩
    show ¬ upd a4 s 1 s = 0
    rw [pk_us]; exact fp_1ne0
  · intro e he
    refine ⟨0, by omega, ?_⟩
    by_cases es : e = s
    · exact es.symm
    · exact absurd (h4 e he.1) (by have := he.2; rw [pk_un es] at this; exact this)
theorem fp_ch_up {fr tt : Nat → Nat} {c k p z j : Nat} {h a5 : Nat → Int32} {q : Nat → Nat} {x : Int32} (hj : j < p) (hq : ∀ i, i < p → q i ≠ z) (H : fp_ch fr tt c k h a5 q j) :
    fp_ch fr tt c k h (upd a5 z x) (fp_up q p z) j := by
  obtain ⟨b, h1, h2, f, h3, h4, h5, h6⟩ := H
  have ej : fp_up q p z j = q j := fp_un (by omega)
  have eb : fp_up q p z b = q b := fp_un (by omega)
  refine ⟨b, h1, ?_, f, h3, ?_, ?_, ?_⟩
  · rw [ej, eb, pk_un (hq j hj)]; exact h2
  · rw [ej]; exact h4
  · rw [ej, eb]; exact h5
  · intro i hi f' hf'
    rw [ej, fp_un (show i ≠ p by omega)]
    exact h6 i hi f' hf'
theorem fp_B_push {fr tt : Nat → Nat} {c k s g d p z f : Nat} {h : Nat → Int32} {a4 a5 a6 : Nat → Int32} {q : Nat → Nat} (B : fp_B fr tt c k s h g d p a4 a5 a6 q)
    (hg : g < p) (hz : z < c) (h4 : a4 z = 0) (hf : f < k) (hh : h z = nI f) (hn : ¬ fp_ce fr tt (fp_rm (fp_F c h f) z) (q g)) :
    p < c ∧ fp_B fr tt c k s h g d (p + 1) (upd a4 z 1) (upd a5 z (nI (q g))) (upd a6 p (nI z)) (fp_up q p z) := by
  obtain ⟨p0, hc, hq, hr, hi, hs, h5, b1, b1', b2⟩ := B
  have hne : ∀ j, j < p → q j ≠ z := fun j hj e => (hq j hj).2.2 (by rw [e]; exact h4)
  have hc' : fp_cnt (fp_R c (upd a4 z 1)) c = p + 1 := by
    rw [fp_cnt_ins (p := fp_R c a4) (i := z) hz (fun w => w.2 h4), hc]
    intro j hj
    by_cases ej : j = z
    · subst ej
      exact ⟨fun _ => Or.inr rfl, fun _ => ⟨hj, by rw [pk_us]; exact fp_1ne0⟩⟩
    · exact ⟨fun w => Or.inl ⟨hj, by have := w.2; rw [pk_un ej] at this; exact this⟩, fun w => fp_R_up (w.resolve_right ej)⟩
  have hmax := fp_cnt_max (fp_R c (upd a4 z 1)) c
  have e0 : fp_up q p z 0 = q 0 := fp_un (by omega)
  have eg : fp_up q p z g = q g := fp_un (by omega)
  refine ⟨by omega, by omega, hc', ?_, ?_, ?_, e0.trans hs, ?_, ?_, ?_, ?_⟩
  · intro j hj
    by_cases ej : j = p
    · rw [ej, fp_us, pk_us, pk_us]; exact ⟨hz, rfl, fp_1ne0⟩
    · obtain ⟨g1, g2, g3⟩ := hq j (by omega)
      rw [fp_un ej, pk_un ej, pk_un (hne j (by omega))]; exact ⟨g1, g2, g3⟩
  · intro e he
    by_cases ez : e = z
    · exact ⟨p, by omega, by rw [fp_us, ez]⟩
    · obtain ⟨j, j1, j2⟩ := hr e ⟨he.1, by have := he.2; rw [pk_un ez] at this; exact this⟩
      exact ⟨j, by omega, by rw [fp_un (by omega)]; exact j2⟩
  · intro i j h1 h2
    rw [fp_un (show i ≠ p by omega)]
    by_cases ej : j = p
    · rw [ej, fp_us]; exact hne i (by omega)
    · rw [fp_un ej]; exact hi i j h1 (by omega)
  · rw [pk_un (by rw [← hs]; exact hne 0 p0)]; exact h5
  · intro i hi' f' hf'
    rw [fp_un (show i ≠ p by omega)]
    exact fp_cn_m (b1 i hi' f' hf') (fun x hx => ⟨hx.1, fp_R_up hx.2⟩)
  · intro f' hf'
    rw [eg]
    exact fp_cn_m (b1' f' hf') (fun x hx => ⟨hx.1, fp_R_up hx.2⟩)
  · intro j hj0 hj
    by_cases ej : j = p
    · have ep : fp_up q p z j = z := by rw [ej, fp_us]
      refine ⟨g, by omega, ?_, f, hf, ?_, ?_, ?_⟩
      · rw [ep, eg, pk_us]
      · rw [ep]; exact hh
      · rw [ep, eg]; exact hn
      · intro i hi' f' hf'
        rw [ep, fp_un (show i ≠ p by omega)]
        exact fp_cn_m (b1 i hi' f' hf') (fun x hx => ⟨hx.1, fun ex => hx.2.2 (by rw [ex]; exact h4)⟩)
    · exact fp_ch_up (by omega) hne (b2 j hj0 (by omega))
theorem fp_B_d {fr tt : Nat → Nat} {c k s g d p : Nat} {h : Nat → Int32} {a4 a5 a6 : Nat → Int32} {q : Nat → Nat} (B : fp_B fr tt c k s h g d p a4 a5 a6 q)
    (hd : fp_ce fr tt (fun x => fp_F c h d x ∧ fp_R c a4 x) (q g)) : fp_B fr tt c k s h g (d + 1) p a4 a5 a6 q := by
  obtain ⟨p0, hc, hq, hr, hi, hs, h5, b1, b1', b2⟩ := B
  refine ⟨p0, hc, hq, hr, hi, hs, h5, b1, fun f hf => ?_, b2⟩
  by_cases e : f = d
  · rw [e]; exact hd
  · exact b1' f (by omega)
theorem fp_B_g {fr tt : Nat → Nat} {c k s g p : Nat} {h : Nat → Int32} {a4 a5 a6 : Nat → Int32} {q : Nat → Nat} (B : fp_B fr tt c k s h g k p a4 a5 a6 q) :
    fp_B fr tt c k s h (g + 1) 0 p a4 a5 a6 q := by
  obtain ⟨p0, hc, hq, hr, hi, hs, h5, b1, b1', b2⟩ := B
  refine ⟨p0, hc, hq, hr, hi, hs, h5, fun i hi' => ?_, fun f hf => by omega, b2⟩
  by_cases e : i = g
  · rw [e]; exact b1'
  · exact b1 i (by omega)
theorem fp_B_L {fr tt : Nat → Nat} {c k s g d p : Nat} {h : Nat → Int32} {a4 a5 a6 : Nat → Int32} {q : Nat → Nat} (B : fp_B fr tt c k s h g d p a4 a5 a6 q)
    (ok : fp_ok fr tt c k h) (hg : g < p) (hd : d < k) (hn : ¬ fp_ce fr tt (fp_F c h d) (q g)) : fp_L fr tt c k h a5 q g d := by
  obtain ⟨p0, hc, hq, hr, hi, hs, h5, b1, b1', b2⟩ := B
  exact ⟨ok, hd, hn, fun i hi' => (hq i (by omega)).1, fun i i' h1 h2 => hi i i' h1 (by omega), fun i hi' f hf => fp_cn_m (b1 i hi' f hf) (fun x hx => hx.1), fun j h1 h2 => b2 j h1 (by omega)⟩
theorem fp_B_end {fr tt : Nat → Nat} {c k s g d p : Nat} {h : Nat → Int32} {a4 a5 a6 : Nat → Int32} {q : Nat → Nat} (B : fp_B fr tt c k s h g d p a4 a5 a6 q)
    (hg : p ≤ g) : fp_gd fr tt c k h (fp_R c a4) ∧ fp_R c a4 s := by
  obtain ⟨p0, hc, hq, hr, hi, hs, h5, b1, b1', b2⟩ := B
  refine ⟨⟨fun e he => he.1, fun f hf e he => ?_⟩, ?_⟩
  · obtain ⟨j, hj, ej⟩ := hr e he
    rw [← ej]
    exact b1 j (by omega) f hf
  · rw [← hs]
    exact ⟨(hq 0 p0).1, (hq 0 p0).2.2⟩
end
section
/-! the walk of search -/
def fp_G (n c : Nat) (a1 a2 : Nat → Int32) (fr tt : Nat → Nat) : Prop :=
  2 ≤ n ∧ n ≤ 7 ∧ c ≤ 16 ∧ ∀ e, e < c → fr e < n ∧ tt e < n ∧ fr e ≠ tt e ∧ a1 e = nI (fr e) ∧ a2 e = nI (tt e)
def fp_tk (c : Nat) (tk : Int32) : Prop := ∀ e, e < 17 → (tk >>> (nI e &&& 31)) &&& 1 = if e < c then 1 else 0
theorem fp_G_E {n c : Nat} {a1 a2 : Nat → Int32} {fr tt : Nat → Nat} (hG : fp_G n c a1 a2 fr tt) : ∀ e, e < c → fr e < n ∧ tt e < n :=
  fun e he => ⟨(hG.2.2.2 e he).1, (hG.2.2.2 e he).2.1⟩
theorem fp_other {post : Int32 → Prop} {fn cc tk pt : Int32} {a1 a2 a3 a4 a5 a6 a7 a8 a9 : Nat → Int32} {n c e x : Nat} {fr tt : Nat → Nat} (hG : fp_G n c a1 a2 fr tt) (ht : fp_tk c tk)
    (he : e < 17) (hx : x < n)
    (H : ∀ r, (r = -1 ∧ (e < c → fr e ≠ x ∧ tt e ≠ x)) ∨ (∃ y, y < n ∧ e < c ∧ r = nI y ∧ ((fr e = x ∧ tt e = y) ∨ (fr e = y ∧ tt e = x))) → post r) :
    wpX_other post (fn, cc, tk, pt, a1, a2, a3, a4, a5, a6, a7, a8, a9) (nI e) (nI x) := by
  obtain ⟨_, h7, _, hE⟩ := hG
  have hb := ht e he
  by_cases hc : e < c
  · rw [if_pos hc] at hb
    obtain ⟨e1, e2, e3, e4, e5⟩ := hE e hc
    have c1 : a1 (nI e).toNatClampNeg = nI (fr e) := by rw [nI_clamp (by omega)]; exact e4
    have c2 : a2 (nI e).toNatClampNeg = nI (tt e) := by rw [nI_clamp (by omega)]; exact e5
    refine br_f (by rw [hb]; decide) ⟨pk_in e 17 he, pk_eq (fr e) x (fun z => ⟨pk_in e 17 he, ?_⟩) (fun z => ⟨pk_in e 17 he, pk_eq (tt e) x (fun z2 => ⟨pk_in e 17 he, ?_⟩) (fun z2 => ?_) c2⟩) c1⟩
    · rw [c2]; exact H _ (Or.inr ⟨tt e, e2, hc, rfl, Or.inl ⟨z, rfl⟩⟩)
    · rw [c1]; exact H _ (Or.inr ⟨fr e, e1, hc, rfl, Or.inr ⟨rfl, z2⟩⟩)
    · exact H _ (Or.inl ⟨rfl, fun _ => ⟨z, z2⟩⟩)
  · rw [if_neg hc] at hb
    exact br_t hb (H _ (Or.inl ⟨rfl, fun z => absurd z hc⟩))
theorem fp_s80 {post : Int32 → St1 → Prop} {J : Int32 → Int32 → (Nat → Int32) → (Nat → Int32) → (Nat → Int32) → (Nat → Int32) → (Nat → Int32) → (Nat → Int32) → (Nat → Int32) → (Nat → Int32) → (Nat → Int32) → Prop}
    {x3 fn cc tk pt : Int32} {a1 a2 a3 a4 a5 a6 a7 a8 a9 : Nat → Int32} {n c f g x u m : Nat} {fr tt l : Nat → Nat} (hG : fp_G n c a1 a2 fr tt) (ht : fp_tk c tk)
    (hS : fp_S fr tt (fp_F c a3 f) n u m a7 a8 a9 l) (hg : g < m) (hx : l g = x) (hcl : ∀ j, j < g → fp_Cl fr tt (fp_F c a3 f) a8 (l j) c)
    (H : ∀ m a7 a8 a9 l, fp_S fr tt (fp_F c a3 f) n u m a7 a8 a9 l → g < m → (∀ j, j < g + 1 → fp_Cl fr tt (fp_F c a3 f) a8 (l j) c) → J (nI m) (nI (g + 1)) a1 a2 a3 a4 a5 a6 a7 a8 a9) :
    ∃ fu, wX_search_80 post J (nI f) x3 (nI g) (nI x) fn cc tk pt fu (nI m) 0 a1 a2 a3 a4 a5 a6 a7 a8 a9 := by
  have hn7 := hG.2.1
  have hc16 := hG.2.2.1
  refine pk_loop (fun fu t (s : Nat × (Nat → Int32) × (Nat → Int32) × (Nat → Int32)) => wX_search_80 post J (nI f) x3 (nI g) (nI x) fn cc tk pt fu (nI s.1) (nI t) a1 a2 a3 a4 a5 a6 s.2.1 s.2.2.1 s.2.2.2)
    (fun t s => ∃ l, fp_S fr tt (fp_F c a3 f) n u s.1 s.2.1 s.2.2.1 s.2.2.2 l ∧ g < s.1 ∧ l g = x ∧ (∀ j, j < g → fp_Cl fr tt (fp_F c a3 f) s.2.2.1 (l j) c) ∧ fp_Cl fr tt (fp_F c a3 f) s.2.2.1 x t) 17 0 (m, a7, a8, a9) (by omega)
    ⟨l, hS, hg, hx, hcl, fun e he => by omega⟩ ?_ ?_
  · rintro fu ⟨m, a7, a8, a9⟩ ⟨l, hS, hg, hx, hcl, hcx⟩
    refine pk_lt 16 17 (fun _ => nm_r (nI_1 g) (H m a7 a8 a9 l hS hg (fun j hj => ?_))) (fun z => absurd z (by omega))
    by_cases ej : j = g
    · rw [ej, hx]
      exact fun e he => hcx e (by omega)
    · exact hcl j (by omega)
  · rintro fu t ⟨m, a7, a8, a9⟩ htt ⟨l, hS, hg, hx, hcl, hcx⟩ hw
    have hlg := (hS.2.2.1 g hg).1
    refine pk_lt 16 t (fun z => absurd z (by omega)) (fun _ => fp_other hG ht htt (by omega) (fun r hr => ?_))
    rcases hr with ⟨er, hr⟩ | ⟨y, hy, hc, er, hends⟩
    · subst er
      exact br_t (by decide) (nm_r (nI_1 t) (hw (m, a7, a8, a9) ⟨l, hS, hg, hx, hcl, fp_Cl_s hcx (fun hF => ⟨fun z => absurd z (hr hF.1).1, fun z => absurd z (hr hF.1).2⟩)⟩))
    · subst er
      have c3 : a3 (nI t).toNatClampNeg = a3 t := by rw [nI_clamp (by omega)]
      have c8 : a8 (nI y).toNatClampNeg = a8 y := by rw [nI_clamp (by omega)]
      refine br_f (nI_pos (by omega)) ⟨pk_in t 17 htt, ?_⟩
      by_cases hh : a3 t = nI f
      · refine br_t (c3.trans hh) ⟨pk_in y 7 (by omega), ?_⟩
        by_cases h8 : a8 y = 0
        · have hA := fp_S_add hS hg (e := t) ⟨hc, hh⟩ (y := y) (by rw [hx]; exact hends) hy h8
          refine br_t (c8.trans h8) ⟨pk_in y 7 (by omega), nm_r (e' := upd a8 y 1) (by rw [nI_clamp (by omega)]) ⟨pk_in y 7 (by omega), nm_r (e' := upd a7 y (nI t)) (by rw [nI_clamp (by omega)]) ⟨pk_in m 7 (by omega), nm_r (e' := upd a9 m (nI y)) (by rw [nI_clamp (by omega)]) (nm_r (nI_1 m) (nm_r (nI_1 t) ?_))⟩⟩⟩
          refine hw (m + 1, upd a7 y (nI t), upd a8 y 1, upd a9 m (nI y)) ⟨fp_up l m y, hA.2, by show g < m + 1; omega, by rw [fp_un (by omega)]; exact hx, fun j hj => ?_, ?_⟩
          · rw [fp_un (by omega)]
            exact fp_Cl_up (hcl j hj)
          · refine fp_Cl_s (fp_Cl_up hcx) (fun hF => ?_)
            have hne := (hG.2.2.2 t hc).2.2.1
            have h1 : ¬ upd a8 y 1 y = 0 := by rw [pk_us]; exact fp_1ne0
            rcases hends with ⟨g1, g2⟩ | ⟨g1, g2⟩
            · exact ⟨fun _ => by rw [g2]; exact h1, fun z => absurd (g1.trans z.symm) hne⟩
            · exact ⟨fun z => absurd (z.trans g2.symm) hne, fun _ => by rw [g1]; exact h1⟩
        · refine br_f (fun z => h8 (c8.symm.trans z)) (nm_r (nI_1 t) (hw (m, a7, a8, a9) ⟨l, hS, hg, hx, hcl, fp_Cl_s hcx (fun hF => ?_)⟩))
          have hne := (hG.2.2.2 t hc).2.2.1
          rcases hends with ⟨g1, g2⟩ | ⟨g1, g2⟩
          · exact ⟨fun _ => by rw [g2]; exact h8, fun z => absurd (g1.trans z.symm) hne⟩
          · exact ⟨fun z => absurd (z.trans g2.symm) hne, fun _ => by rw [g1]; exact h8⟩
      · exact br_f (fun z => hh (c3.symm.trans z)) (nm_r (nI_1 t) (hw (m, a7, a8, a9) ⟨l, hS, hg, hx, hcl, fp_Cl_s hcx (fun hF => absurd hF.2 hh)⟩))
/-- what a search answers -/
def fp_SP (fr tt : Nat → Nat) (F : Nat → Prop) (n u v : Nat) (r : Int32) (a7 : Nat → Int32) : Prop :=
  (r = 0 ∧ ¬ fp_cn fr tt F u v) ∨ (r = 1 ∧ ∃ (l : Nat → Nat) (m j : Nat), m ≤ 7 ∧ j < m ∧ l j = v ∧ l 0 = u ∧ a7 u = -1 ∧ (∀ j, j < m → l j < n) ∧ ∀ j, 0 < j → j < m → fp_T fr tt F a7 l j)
theorem fp_nar0 : narrow .boolean (.int 0) = .int 0 := by rfl
theorem fp_nar1 : narrow .boolean (.int 1) = .int 1 := by rfl
theorem fp_s54 {post : Int32 → St1 → Prop} {cc tk pt : Int32} {a1 a2 a3 a4 a5 a6 a7 a8 a9 : Nat → Int32} {n c f u v m : Nat} {fr tt l : Nat → Nat} (hG : fp_G n c a1 a2 fr tt) (ht : fp_tk c tk) (hv : v < n)
    (hS : fp_S fr tt (fp_F c a3 f) n u m a7 a8 a9 l)
    (H : ∀ r a7 a8 a9, fp_SP fr tt (fp_F c a3 f) n u v r a7 → post r (nI n, cc, tk, pt, a1, a2, a3, a4, a5, a6, a7, a8, a9)) :
    ∃ fu, wX_search_54 post (nI f) (nI v) (nI n) cc tk pt fu (nI m) 0 a1 a2 a3 a4 a5 a6 a7 a8 a9 := by
  have hn7 := hG.2.1
  refine loop_m (fun fu (s : Nat × Nat × (Nat → Int32) × (Nat → Int32) × (Nat → Int32)) => wX_search_54 post (nI f) (nI v) (nI n) cc tk pt fu (nI s.2.1) (nI s.1) a1 a2 a3 a4 a5 a6 s.2.2.1 s.2.2.2.1 s.2.2.2.2)
    (fun s => ∃ l, fp_S fr tt (fp_F c a3 f) n u s.2.1 s.2.2.1 s.2.2.2.1 s.2.2.2.2 l ∧ s.1 ≤ s.2.1 ∧ ∀ j, j < s.1 → fp_Cl fr tt (fp_F c a3 f) s.2.2.2.1 (l j) c) (fun s => 7 - s.1) ?_ (0, m, a7, a8, a9) ⟨l, hS, by show 0 ≤ m; omega, fun j hj => absurd hj (by show ¬ j < 0; omega)⟩
  rintro fu ⟨g, m, a7, a8, a9⟩ ⟨l, hS, hgm, hcl⟩ hw
  have hmn : m ≤ n := by
    have h1 := hS.2.1
    have h2 := fp_cnt_max (fun v => ¬ a8 v = 0) n
    show m ≤ n
    dsimp only at h1
    omega
  dsimp only at hgm hS hcl
  refine pk_le m g (fun z => ⟨pk_in v 7 (by omega), ?_⟩) (fun z => pk_le 7 g (fun z2 => absurd z2 (by omega)) (fun z2 => ⟨pk_in g 7 z2, nm_r (e' := nI (l g)) ?_ ?_⟩))
  · dsimp only
    rw [nI_clamp (show v < 2 ^ 31 by omega)]
    rcases hS.2.2.2.1 v hv with h0 | ⟨j, hj, ej⟩
    · rw [h0]
      refine ⟨fp_nar0, H 0 a7 a8 a9 (Or.inl ⟨rfl, fun hc => ?_⟩)⟩
      obtain ⟨j, hj, ej⟩ := fp_S_end hS (fun e he => he.1) (fp_G_E hG) (fun j hj => hcl j (by omega)) hc
      have h1 := (hS.2.2.1 j hj).2.2
      rw [ej, h0] at h1
      exact fp_1ne0 h1.symm
    · have h1 := (hS.2.2.1 j hj).2.2
      rw [ej] at h1
      rw [h1]
      exact ⟨fp_nar1, H 1 a7 a8 a9 (Or.inr ⟨rfl, l, m, j, by omega, hj, ej, hS.2.2.2.2.1, hS.2.2.2.2.2.1, fun j hj => (hS.2.2.1 j hj).1, hS.2.2.2.2.2.2⟩)⟩
  · rw [nI_clamp (by omega)]
    exact (hS.2.2.1 g z).2.1
  · exact fp_s80 hG ht hS z rfl hcl (fun m a7 a8 a9 l hS hg hcl => hw (g + 1, m, a7, a8, a9) ⟨l, hS, hg, hcl⟩ (by show 7 - (g + 1) < 7 - g; omega))
theorem fp_search {post : Int32 → St1 → Prop} {cc tk pt : Int32} {a1 a2 a3 a4 a5 a6 a7 a8 a9 : Nat → Int32} {n c f u v : Nat} {fr tt : Nat → Nat} (hG : fp_G n c a1 a2 fr tt) (ht : fp_tk c tk) (hu : u < n) (hv : v < n)
    (H : ∀ r a7 a8 a9, fp_SP fr tt (fp_F c a3 f) n u v r a7 → post r (nI n, cc, tk, pt, a1, a2, a3, a4, a5, a6, a7, a8, a9)) :
    wpX_search post (nI n, cc, tk, pt, a1, a2, a3, a4, a5, a6, a7, a8, a9) (nI f) (nI u) (nI v) := by
  have hn7 := hG.2.1
  refine pk_loop (fun fu t (s : (Nat → Int32) × (Nat → Int32)) => wX_search_3 post (nI f) (nI u) (nI v) (nI n) cc tk pt fu (nI t) a1 a2 a3 a4 a5 a6 s.1 s.2 a9)
    (fun t s => ∀ j, j < t → s.2 j = 0 ∧ s.1 j = -1) n 0 (a7, a8) (by omega) (fun j hj => absurd hj (by omega)) ?_ ?_
  · rintro fu ⟨a7, a8⟩ hI
    dsimp only at hI
    refine pk_le n n (fun _ => ⟨pk_in u 7 (by omega), nm_r (e' := upd a8 u 1) (by rw [nI_clamp (by omega)]) (nm_r (e' := upd a9 0 (nI u)) rfl ?_)⟩) (fun z => absurd z (by omega))
    refine fp_s54 (m := 1) (l := fun _ => u) (u := u) hG ht hv ⟨by omega, ?_, ?_, ?_, rfl, (hI u hu).2, fun j h1 h2 => by omega⟩ H
    · rw [← fp_cnt_one hu]
      refine fp_cnt_eq (fun j hj => ?_)
      by_cases e : j = u
      · subst e
        rw [pk_us]
        exact ⟨fun _ => rfl, fun _ => fp_1ne0⟩
      · rw [pk_un e]
        exact ⟨fun z => absurd (hI j hj).1 z, fun z => absurd z e⟩
    · intro j hj
      have e : j = 0 := by omega
      subst e
      exact ⟨hu, pk_us, pk_us⟩
    · intro y hy
      by_cases e : y = u
      · exact Or.inr ⟨0, by omega, e.symm⟩
      · rw [pk_un e]
        exact Or.inl (hI y hy).1
  · rintro fu t ⟨a7, a8⟩ htn hI hw
    dsimp only at hI
    refine pk_le n t (fun z => absurd z (by omega)) (fun _ => ⟨pk_in t 7 (by omega), nm_r (e' := upd a8 t 0) (by rw [nI_clamp (by omega)]) ⟨pk_in t 7 (by omega), nm_r (e' := upd a7 t (-1)) (by rw [nI_clamp (by omega)]) (nm_r (nI_1 t) (hw (upd a7 t (-1), upd a8 t 0) ?_))⟩⟩)
    intro j hj
    dsimp only
    by_cases e : j = t
    · rw [e, pk_us, pk_us]; exact ⟨rfl, rfl⟩
    · rw [pk_un e, pk_un e]; exact hI j (by omega)
end
section
/-! the walks of reach, reachWay, shift and bringIn -/
theorem fp_reach {post : St1 → Prop} {fn cc tk x : Int32} {a1 a2 a3 a4 a5 a6 a7 a8 a9 : Nat → Int32} {z p : Nat} (hz : z < 17) (hp : p < 17)
    (H : post (fn, cc, tk, nI (p + 1), a1, a2, a3, upd a4 z 1, upd a5 z x, upd a6 p (nI z), a7, a8, a9)) :
    wpX_reach post (fn, cc, tk, nI p, a1, a2, a3, a4, a5, a6, a7, a8, a9) (nI z) x :=
  And.intro (pk_in z 17 hz) (nm_r (e' := upd a4 z 1) (by rw [nI_clamp (by omega)]) ⟨pk_in z 17 hz, nm_r (e' := upd a5 z x) (by rw [nI_clamp (by omega)]) ⟨pk_in p 17 hp, nm_r (e' := upd a6 p (nI z)) (by rw [nI_clamp (by omega)]) (nm_r (nI_1 p) H)⟩⟩)
theorem fp_w49 {post : St1 → Prop} {J : Int32 → Int32 → Int32 → Int32 → Int32 → Int32 → (Nat → Int32) → (Nat → Int32) → (Nat → Int32) → (Nat → Int32) → (Nat → Int32) → (Nat → Int32) → (Nat → Int32) → (Nat → Int32) → (Nat → Int32) → Prop}
    {x1 fn cc tk pt : Int32} {a1 a2 a3 a4 a5 a6 a7 a8 a9 : Nat → Int32} {n c z x y i : Nat} {fr tt : Nat → Nat} (hG : fp_G n c a1 a2 fr tt) (hz : z < c)
    (hends : (fr z = y ∧ tt z = x) ∨ (fr z = x ∧ tt z = y)) (H : J (nI y) (nI (i + 1)) fn cc tk pt a1 a2 a3 a4 a5 a6 a7 a8 a9) :
    wX_reachWay_49 post J x1 (nI x) (nI i) (nI z) fn cc tk pt a1 a2 a3 a4 a5 a6 a7 a8 a9 := by
  obtain ⟨_, h7, h16, hE⟩ := hG
  obtain ⟨e1, e2, e3, e4, e5⟩ := hE z hz
  have c1 : a1 (nI z).toNatClampNeg = nI (fr z) := by rw [nI_clamp (by omega)]; exact e4
  have c2 : a2 (nI z).toNatClampNeg = nI (tt z) := by rw [nI_clamp (by omega)]; exact e5
  have hx : x < n := by rcases hends with ⟨g1, g2⟩ | ⟨g1, g2⟩ <;> omega
  refine And.intro (pk_in z 17 (by omega)) (pk_eq (fr z) x (fun g => ⟨pk_in z 17 (by omega), nm_r (e' := nI y) ?_ (nm_r (nI_1 i) H)⟩) (fun g => ⟨pk_in z 17 (by omega), nm_r (e' := nI y) ?_ (nm_r (nI_1 i) H)⟩) c1)
  · rw [c2]
    rcases hends with ⟨g1, g2⟩ | ⟨g1, g2⟩
    · exact absurd (g.trans g2.symm) e3
    · rw [g2]
  · rw [c1]
    rcases hends with ⟨g1, g2⟩ | ⟨g1, g2⟩
    · rw [g1]
    · exact absurd g1 g
theorem fp_reachWay {post : St1 → Prop} {cc tk : Int32} {a1 a2 a3 a4 a5 a6 a7 a8 a9 : Nat → Int32} {n c k s d g p e0 m j0 : Nat} {fr tt q l : Nat → Nat} (hG : fp_G n c a1 a2 fr tt)
    (ok : fp_ok fr tt c k a3) (hd : d < k) (B : fp_B fr tt c k s a3 g d p a4 a5 a6 q) (hg : g < p) (hq : q g = e0) (hm : m ≤ 7) (hj : j0 < m) (hl : l j0 = tt e0) (h0 : l 0 = fr e0) (h7 : a7 (fr e0) = -1)
    (hln : ∀ j, j < m → l j < n) (hT : ∀ j, 0 < j → j < m → fp_T fr tt (fp_F c a3 d) a7 l j)
    (H : ∀ p a4 a5 a6 q, fp_B fr tt c k s a3 g d p a4 a5 a6 q → g < p → q g = e0 → fp_ce fr tt (fun x => fp_F c a3 d x ∧ fp_R c a4 x) e0 → post (nI n, cc, tk, nI p, a1, a2, a3, a4, a5, a6, a7, a8, a9)) :
    wpX_reachWay post (nI n, cc, tk, nI p, a1, a2, a3, a4, a5, a6, a7, a8, a9) (nI e0) := by
  have hn7 := hG.2.1
  have hc16 := hG.2.2.1
  have he0 : e0 < c := by rw [← hq]; exact (B.2.2.1 g hg).1
  refine And.intro (pk_in e0 17 (by omega)) (nm_r (e' := nI (l j0)) (by rw [nI_clamp (by omega), hl]; exact (hG.2.2.2 e0 he0).2.2.2.2) ?_)
  refine loop_m (fun fu (s : Nat × Nat × Nat × (Nat → Int32) × (Nat → Int32) × (Nat → Int32)) => wX_reachWay_9 post (nI e0) fu (nI (l s.1)) (nI s.2.1) (nI n) cc tk (nI s.2.2.1) a1 a2 a3 s.2.2.2.1 s.2.2.2.2.1 s.2.2.2.2.2 a7 a8 a9)
    (fun t => ∃ q, fp_B fr tt c k s a3 g d t.2.2.1 t.2.2.2.1 t.2.2.2.2.1 t.2.2.2.2.2 q ∧ g < t.2.2.1 ∧ q g = e0 ∧ t.1 < m ∧ t.1 + t.2.1 ≤ 6 ∧ fp_W fr tt (fp_F c a3 d) (fp_R c t.2.2.2.1) (fr e0) (tt e0) (l t.1)) (fun t => t.1) ?_ (j0, 0, p, a4, a5, a6)
    ⟨q, B, hg, hq, hj, by show j0 + 0 ≤ 6; omega, by show fp_W fr tt _ _ _ _ (l j0); rw [hl]; exact fp_W_0⟩
  rintro fu ⟨j, i, p, a4, a5, a6⟩ ⟨q, B, hg, hq, hj, hi, hW⟩ hw
  dsimp only at B hg hq hj hi hW
  have hlj := hln j hj
  have c7 : a7 (nI (l j)).toNatClampNeg = a7 (l j) := by rw [nI_clamp (by omega)]
  refine pk_le 7 i (fun z => absurd z (by omega)) (fun _ => ⟨pk_in (l j) 7 (by omega), ?_⟩)
  by_cases ej : j = 0
  · subst ej
    rw [h0] at hW
    exact br_t (by rw [c7, h0, h7]; decide) (H p a4 a5 a6 q B hg hq (fp_W_end hW))
  · obtain ⟨z, i', hi', hz7, hzF, hends, hbr, hnext⟩ := fp_W_step (ok d hd) (hT j (by omega) hj) h0 hW
    have hzc : z < c := hzF.1
    have c4 : a4 (nI z).toNatClampNeg = a4 z := by rw [nI_clamp (by omega)]
    refine br_f (by rw [c7, hz7]; exact nI_pos (by omega)) ⟨pk_in (l j) 7 (by omega), nm_r (e' := nI z) (c7.trans hz7) ⟨pk_in z 17 (by omega), ?_⟩⟩
    by_cases h4 : a4 z = 0
    · have hP := fp_B_push B hg hzc h4 hd hzF.2 (by rw [hq]; exact hbr)
      have hpc := hP.1
      rw [hq] at hP
      refine br_t (c4.trans h4) (fp_reach (p := p) (z := z) (by omega) (by omega) (fp_w49 hG hzc hends ?_))
      refine hw (i', i + 1, p + 1, upd a4 z 1, upd a5 z (nI e0), upd a6 p (nI z)) ⟨fp_up q p z, hP.2, by show g < p + 1; omega, by rw [fp_un (by omega)]; exact hq, by show i' < m; omega, by show i' + (i + 1) ≤ 6; omega, ?_⟩ hi'
      exact hnext _ (fun x hx => fp_R_up hx) ⟨hzc, by show ¬ upd a4 z 1 z = 0; rw [pk_us]; exact fp_1ne0⟩
    · refine br_f (fun w => h4 (c4.symm.trans w)) (fp_w49 hG hzc hends ?_)
      exact hw (i', i + 1, p, a4, a5, a6) ⟨q, B, hg, hq, by show i' < m; omega, by show i' + (i + 1) ≤ 6; omega, hnext _ (fun x hx => hx) ⟨hzc, h4⟩⟩ hi'
theorem fp_shift0 {post : St1 → Prop} {fn cc tk pt : Int32} {a1 a2 a4 a5 a6 a7 a8 a9 : Nat → Int32} {c k : Nat} {fr tt q : Nat → Nat} (hk : k ≤ 16) (hc : c ≤ 16) (h5 : a5 (q 0) = -1) :
    ∀ N j i g a3, j < N → i + j ≤ 15 → fp_L fr tt c k a3 a5 q j g →
      (∀ a3', fp_ok fr tt c k a3' → (∀ e, fp_H c k a3' e ↔ fp_H c k a3 e ∨ e = q 0) → post (fn, cc, tk, pt, a1, a2, a3', a4, a5, a6, a7, a8, a9)) →
      wX_shift_8 post fn cc tk pt (N + 1) (nI (q j)) (nI g) (nI i) a1 a2 a3 a4 a5 a6 a7 a8 a9 := by
  intro N
  induction N with
  | zero => intro j i g a3 hj; omega
  | succ N ih =>
    intro j i g a3 hj hi hL H
    have hqj : q j < c := hL.2.2.2.1 j (Nat.le_refl j)
    refine pk_lt 16 i (fun z => absurd z (by omega)) (fun _ => br_f (nI_pos (by omega)) ⟨pk_in (q j) 17 (by omega), nm_r (e' := a3 (q j)) (by rw [nI_clamp (by omega)]) ⟨pk_in (q j) 17 (by omega), nm_r (e' := upd a3 (q j) (nI g)) (by rw [nI_clamp (by omega)]) ⟨pk_in (q j) 17 (by omega), nm_r (e' := a5 (q j)) (by rw [nI_clamp (by omega)]) (nm_r (nI_1 i) ?_)⟩⟩⟩)
    by_cases ej : j = 0
    · subst ej
      obtain ⟨l1, l2⟩ := fp_L_last (by omega) hL
      rw [h5]
      exact pk_lt 16 (i + 1) (fun z => absurd z (by omega)) (fun _ => br_t (by decide) (H _ l1 l2))
    · obtain ⟨b, f, hb, h1, h2, hL', hH⟩ := fp_L_step (by omega) hL (by omega)
      rw [h1, h2]
      exact ih b (i + 1) f (upd a3 (q j) (nI g)) (by omega) (by omega) hL' (fun a3' ok' he => H a3' ok' (fun e => by rw [he e, hH e]))
theorem fp_shift {post : St1 → Prop} {fn cc tk pt : Int32} {a1 a2 a3 a4 a5 a6 a7 a8 a9 : Nat → Int32} {c k j g : Nat} {fr tt q : Nat → Nat} (hk : k ≤ 16) (hc : c ≤ 16) (h5 : a5 (q 0) = -1) (hj : j ≤ 15)
    (hL : fp_L fr tt c k a3 a5 q j g)
    (H : ∀ a3', fp_ok fr tt c k a3' → (∀ e, fp_H c k a3' e ↔ fp_H c k a3 e ∨ e = q 0) → post (fn, cc, tk, pt, a1, a2, a3', a4, a5, a6, a7, a8, a9)) :
    wpX_shift post (fn, cc, tk, pt, a1, a2, a3, a4, a5, a6, a7, a8, a9) (nI (q j)) (nI g) :=
  ⟨j + 1 + 1, fp_shift0 hk hc h5 (j + 1) j 0 g a3 (by omega) (by omega) hL H⟩
theorem fp_search' {post : Int32 → St1 → Prop} {cc tk pt xu xv : Int32} {a1 a2 a3 a4 a5 a6 a7 a8 a9 : Nat → Int32} {n c f u v : Nat} {fr tt : Nat → Nat} (hG : fp_G n c a1 a2 fr tt) (ht : fp_tk c tk) (hu : u < n) (hv : v < n)
    (exu : xu = nI u) (exv : xv = nI v)
    (H : ∀ r a7 a8 a9, fp_SP fr tt (fp_F c a3 f) n u v r a7 → post r (nI n, cc, tk, pt, a1, a2, a3, a4, a5, a6, a7, a8, a9)) :
    wpX_search post (nI n, cc, tk, pt, a1, a2, a3, a4, a5, a6, a7, a8, a9) (nI f) xu xv := by
  subst exu exv
  exact fp_search hG ht hu hv H
theorem fp_b59 {post : Int32 → St1 → Prop} {J : Int32 → Int32 → Int32 → Int32 → Int32 → (Nat → Int32) → (Nat → Int32) → (Nat → Int32) → (Nat → Int32) → (Nat → Int32) → (Nat → Int32) → (Nat → Int32) → (Nat → Int32) → (Nat → Int32) → Prop}
    {cc tk : Int32} {a1 a2 a3 a4 a5 a6 a7 a8 a9 : Nat → Int32} {n c k s g p e0 : Nat} {fr tt q : Nat → Nat} (hG : fp_G n c a1 a2 fr tt) (ht : fp_tk c tk) (hk : k ≤ 16)
    (ok : fp_ok fr tt c k a3) (B : fp_B fr tt c k s a3 g 0 p a4 a5 a6 q) (hg : g < p) (hq : q g = e0)
    (HJ : ∀ p a4 a5 a6 a7 a8 a9 q, fp_B fr tt c k s a3 g k p a4 a5 a6 q → g < p → J (nI (g + 1)) (nI n) cc tk (nI p) a1 a2 a3 a4 a5 a6 a7 a8 a9)
    (H1 : ∀ pt a3' a4 a5 a6 a7 a8 a9, fp_ok fr tt c k a3' → (∀ e, fp_H c k a3' e ↔ fp_H c k a3 e ∨ e = s) → post 1 (nI n, cc, tk, pt, a1, a2, a3', a4, a5, a6, a7, a8, a9)) :
    ∃ fu, wX_bringIn_59 post J (nI k) (nI g) (nI e0) fu 0 (nI n) cc tk (nI p) a1 a2 a3 a4 a5 a6 a7 a8 a9 := by
  have hn7 := hG.2.1
  have hc16 := hG.2.2.1
  have he0 : e0 < c := by rw [← hq]; exact (B.2.2.1 g hg).1
  obtain ⟨e1, e2, e3, e4, e5⟩ := hG.2.2.2 e0 he0
  refine pk_loop (fun fu d (t : Nat × (Nat → Int32) × (Nat → Int32) × (Nat → Int32) × (Nat → Int32) × (Nat → Int32) × (Nat → Int32)) => wX_bringIn_59 post J (nI k) (nI g) (nI e0) fu (nI d) (nI n) cc tk (nI t.1) a1 a2 a3 t.2.1 t.2.2.1 t.2.2.2.1 t.2.2.2.2.1 t.2.2.2.2.2.1 t.2.2.2.2.2.2)
    (fun d t => ∃ q, fp_B fr tt c k s a3 g d t.1 t.2.1 t.2.2.1 t.2.2.2.1 q ∧ g < t.1 ∧ q g = e0) k 0 (p, a4, a5, a6, a7, a8, a9) (by omega) ⟨q, B, hg, hq⟩ ?_ ?_
  · rintro fu ⟨p, a4, a5, a6, a7, a8, a9⟩ ⟨q, B, hg, hq⟩
    exact pk_le k k (fun _ => nm_r (nI_1 g) (HJ p a4 a5 a6 a7 a8 a9 q B hg)) (fun z => absurd z (by omega))
  · rintro fu d ⟨p, a4, a5, a6, a7, a8, a9⟩ hd ⟨q, B, hg, hq⟩ hw
    dsimp only at B hg hq
    have c3 : a3 (nI e0).toNatClampNeg = a3 e0 := by rw [nI_clamp (by omega)]
    have hR : fp_R c a4 e0 := by rw [← hq]; exact ⟨(B.2.2.1 g hg).1, (B.2.2.1 g hg).2.2⟩
    have hpc : p ≤ c := by have h1 := B.2.1; have h2 := fp_cnt_max (fp_R c a4) c; omega
    refine pk_le k d (fun z => absurd z (by omega)) (fun _ => ⟨pk_in e0 17 (by omega), ?_⟩)
    by_cases hh : a3 e0 = nI d
    · exact br_t (c3.trans hh) (nm_r (nI_1 d) (hw (p, a4, a5, a6, a7, a8, a9) ⟨q, fp_B_d B (by rw [hq]; exact fp_cn_e ⟨⟨he0, hh⟩, hR⟩), hg, hq⟩))
    · refine br_f (fun z => hh (c3.symm.trans z)) ⟨pk_in e0 17 (by omega), pk_in e0 17 (by omega), fp_search' hG ht e1 e2 (by rw [nI_clamp (by omega)]; exact e4) (by rw [nI_clamp (by omega)]; exact e5) ?_⟩
      intro r a7 a8 a9 hSP
      rcases hSP with ⟨er, hn⟩ | ⟨er, l, m, j, hm, hj, hl, h0, h7, hln, hT⟩
      · subst er
        have hs : q 0 = s := B.2.2.2.2.2.1
        have h5 : a5 (q 0) = -1 := by rw [hs]; exact B.2.2.2.2.2.2.1
        have hL := fp_B_L B ok hg hd (by rw [hq]; exact hn)
        rw [← hq]
        exact br_t rfl (fp_shift hk hc16 h5 (by omega) hL (fun a3' ok' he => H1 _ a3' a4 a5 a6 a7 a8 a9 ok' (fun e => by rw [he e, hs])))
      · subst er
        refine br_f fp_1ne0 (fp_reachWay hG ok hd B hg hq hm hj hl h0 h7 hln hT (fun p a4 a5 a6 q B hg hq hce => nm_r (nI_1 d) (hw (p, a4, a5, a6, a7, a8, a9) ⟨q, fp_B_d B (by rw [hq]; exact hce), hg, hq⟩)))
theorem fp_b34 {post : Int32 → St1 → Prop}
    {cc tk : Int32} {a1 a2 a3 a4 a5 a6 a7 a8 a9 : Nat → Int32} {n c k s p : Nat} {fr tt q : Nat → Nat} (hG : fp_G n c a1 a2 fr tt) (ht : fp_tk c tk) (hk : k ≤ 16)
    (ok : fp_ok fr tt c k a3) (B : fp_B fr tt c k s a3 0 0 p a4 a5 a6 q)
    (H0 : ∀ pt a4 a5 a6 a7 a8 a9 A, fp_gd fr tt c k a3 A → A s → post 0 (nI n, cc, tk, pt, a1, a2, a3, a4, a5, a6, a7, a8, a9))
    (H1 : ∀ pt a3' a4 a5 a6 a7 a8 a9, fp_ok fr tt c k a3' → (∀ e, fp_H c k a3' e ↔ fp_H c k a3 e ∨ e = s) → post 1 (nI n, cc, tk, pt, a1, a2, a3', a4, a5, a6, a7, a8, a9)) :
    ∃ fu, wX_bringIn_34 post (nI k) fu 0 (nI n) cc tk (nI p) a1 a2 a3 a4 a5 a6 a7 a8 a9 := by
  have hc16 := hG.2.2.1
  refine loop_m (fun fu (t : Nat × Nat × (Nat → Int32) × (Nat → Int32) × (Nat → Int32) × (Nat → Int32) × (Nat → Int32) × (Nat → Int32)) => wX_bringIn_34 post (nI k) fu (nI t.1) (nI n) cc tk (nI t.2.1) a1 a2 a3 t.2.2.1 t.2.2.2.1 t.2.2.2.2.1 t.2.2.2.2.2.1 t.2.2.2.2.2.2.1 t.2.2.2.2.2.2.2)
    (fun t => ∃ q, fp_B fr tt c k s a3 t.1 0 t.2.1 t.2.2.1 t.2.2.2.1 t.2.2.2.2.1 q ∧ t.1 ≤ t.2.1) (fun t => 17 - t.1) ?_ (0, p, a4, a5, a6, a7, a8, a9) ⟨q, B, Nat.zero_le _⟩
  rintro fu ⟨g, p, a4, a5, a6, a7, a8, a9⟩ ⟨q, B, hg⟩ hw
  dsimp only at B hg
  have hpc : p ≤ c := by have h1 := B.2.1; have h2 := fp_cnt_max (fp_R c a4) c; omega
  refine pk_le p g (fun z => ?_) (fun z => pk_lt 16 g (fun z2 => absurd z2 (by omega)) (fun _ => ⟨pk_in g 17 (by omega), nm_r (e' := nI (q g)) (by rw [nI_clamp (by omega)]; exact (B.2.2.1 g z).2.1) ?_⟩))
  · obtain ⟨b1, b2⟩ := fp_B_end B z
    exact H0 _ a4 a5 a6 a7 a8 a9 _ b1 b2
  · exact fp_b59 hG ht hk ok B z rfl (fun p a4 a5 a6 a7 a8 a9 q B hg => hw (g + 1, p, a4, a5, a6, a7, a8, a9) ⟨q, fp_B_g B, hg⟩ (by show 17 - (g + 1) < 17 - g; omega)) H1
theorem fp_bringIn {post : Int32 → St1 → Prop}
    {cc tk pt : Int32} {a1 a2 a3 a4 a5 a6 a7 a8 a9 : Nat → Int32} {n c k s : Nat} {fr tt : Nat → Nat} (hG : fp_G n c a1 a2 fr tt) (ht : fp_tk c tk) (hk : k ≤ 16)
    (ok : fp_ok fr tt c k a3) (hs : s < c)
    (H0 : ∀ pt a4 a5 a6 a7 a8 a9 A, fp_gd fr tt c k a3 A → A s → post 0 (nI n, cc, tk, pt, a1, a2, a3, a4, a5, a6, a7, a8, a9))
    (H1 : ∀ pt a3' a4 a5 a6 a7 a8 a9, fp_ok fr tt c k a3' → (∀ e, fp_H c k a3' e ↔ fp_H c k a3 e ∨ e = s) → post 1 (nI n, cc, tk, pt, a1, a2, a3', a4, a5, a6, a7, a8, a9)) :
    wpX_bringIn post (nI n, cc, tk, pt, a1, a2, a3, a4, a5, a6, a7, a8, a9) (nI s) (nI k) := by
  have hc16 := hG.2.2.1
  refine pk_loop (fun fu t (b : Nat → Int32) => wX_bringIn_2 post (nI s) (nI k) (nI n) cc tk pt fu (nI t) a1 a2 a3 b a5 a6 a7 a8 a9) (fun t b => ∀ e, e < t → b e = 0) 17 0 a4 (by omega) (fun e he => absurd he (by omega)) ?_ ?_
  · intro fu b hb
    refine pk_lt 16 17 (fun _ => fp_reach (p := 0) (z := s) (by omega) (by omega) ?_) (fun z => absurd z (by omega))
    exact fp_b34 hG ht hk ok (fp_B_0 hs (fun e he => hb e (by omega))) H0 H1
  · intro fu t b htt hb hw
    refine pk_lt 16 t (fun z => absurd z (by omega)) (fun _ => ⟨pk_in t 17 htt, nm_r (e' := upd b t 0) (by rw [nI_clamp (by omega)]) (nm_r (nI_1 t) (hw _ (fun e he => ?_)))⟩)
    by_cases ee : e = t
    · rw [ee, pk_us]
    · rw [pk_un ee]; exact hb e (by omega)
end
section
/-! the walks of held, hold, parts, needed, trees -/
theorem fp_m1 {f : Nat} (h : f < 2 ^ 31) : ¬ (-1 : Int32) = nI f := by
  intro e
  have h2 : (-1 : Int32) < 0 := by decide
  rw [e] at h2
  exact nI_pos h h2
theorem fp_bits0 : ∀ c, c < 17 → ∀ e, e < 17 → ((((1 : Int32) <<< (nI c &&& 31)) - 1) >>> (nI e &&& 31)) &&& 1 = if e < c then 1 else 0 := by decide +kernel
theorem fp_bits {c : Nat} (h : c ≤ 16) : fp_tk c (((1 : Int32) <<< (nI c &&& 31)) - 1) := fp_bits0 c (by omega)
theorem fp_h53 {post : Int32 → St1 → Prop}
    {cc tk pt : Int32} {a1 a2 a3 a4 a5 a6 a7 a8 a9 : Nat → Int32} {n c k : Nat} {fr tt : Nat → Nat} (hG : fp_G n c a1 a2 fr tt) (ht : fp_tk c tk) (hk : k ≤ 16)
    (h3 : ∀ e, e < 17 → a3 e = -1)
    (H : ∀ r pt a3 a4 a5 a6 a7 a8 a9, fp_HH fr tt n c k r → post (nI r) (nI n, cc, tk, pt, a1, a2, a3, a4, a5, a6, a7, a8, a9)) :
    ∃ fu, wX_held_53 post tk (nI k) fu 0 0 (nI n) cc tk pt a1 a2 a3 a4 a5 a6 a7 a8 a9 := by
  have hc16 := hG.2.2.1
  have hH0 : ∀ e, ¬ fp_H c k a3 e := by
    rintro e ⟨h1, f, h2, h4⟩
    rw [h3 e (by omega)] at h4
    exact fp_m1 (by omega) h4
  refine pk_loop (fun fu t (s : Nat × Int32 × (Nat → Int32) × (Nat → Int32) × (Nat → Int32) × (Nat → Int32) × (Nat → Int32) × (Nat → Int32) × (Nat → Int32)) => wX_held_53 post tk (nI k) fu (nI s.1) (nI t) (nI n) cc tk s.2.1 a1 a2 s.2.2.1 s.2.2.2.1 s.2.2.2.2.1 s.2.2.2.2.2.1 s.2.2.2.2.2.2.1 s.2.2.2.2.2.2.2.1 s.2.2.2.2.2.2.2.2)
    (fun t s => fp_ok fr tt c k s.2.2.1 ∧ (∃ A, fp_gd fr tt c k s.2.2.1 A ∧ ∀ e, e < t → e < c → ¬ fp_H c k s.2.2.1 e → A e) ∧ (∀ e, t ≤ e → ¬ fp_H c k s.2.2.1 e) ∧ s.1 = fp_cnt (fp_H c k s.2.2.1) c)
    17 0 (0, pt, a3, a4, a5, a6, a7, a8, a9) (by omega) ⟨?_, ⟨fun _ => False, ⟨fun e he => absurd he (fun z => z), fun f hf e he => absurd he (fun z => z)⟩, fun e he => absurd he (by omega)⟩, fun e _ => hH0 e, (fp_cnt_none (fun e _ => hH0 e)).symm⟩ ?_ ?_
  · intro f hf z hz
    exact absurd ⟨hz.1, f, hf, hz.2⟩ (hH0 z)
  · rintro fu ⟨r, pt, a3, a4, a5, a6, a7, a8, a9⟩ ⟨ok, ⟨A, hA, hA2⟩, hh, hr⟩
    dsimp only at ok hA hA2 hh hr
    refine pk_lt 16 17 (fun _ => H r pt a3 a4 a5 a6 a7 a8 a9 ?_) (fun z => absurd z (by omega))
    rw [hr]
    exact fp_HH_mk (by omega) (fp_G_E hG) ok hA (fun e he => hA2 e (by omega) he)
  · rintro fu t ⟨r, pt, a3, a4, a5, a6, a7, a8, a9⟩ htt ⟨ok, ⟨A, hA, hA2⟩, hh, hr⟩ hw
    dsimp only at ok hA hA2 hh hr
    have hb := ht t htt
    refine pk_lt 16 t (fun z => absurd z (by omega)) (fun _ => ?_)
    by_cases hc : t < c
    · rw [if_pos hc] at hb
      refine br_t hb (fp_bringIn hG ht hk ok hc ?_ ?_)
      · intro pt a4 a5 a6 a7 a8 a9 A' hA' hs'
        refine br_t rfl (nm_r (nI_1 t) (hw (r, pt, a3, a4, a5, a6, a7, a8, a9) ⟨ok, ⟨_, fp_gd_un hA hA', fun e he hec hn => ?_⟩, fun e he => hh e (by omega), hr⟩))
        by_cases ee : e = t
        · rw [ee]; exact Or.inr hs'
        · exact Or.inl (hA2 e (by omega) hec hn)
      · intro pt a3' a4 a5 a6 a7 a8 a9 ok' hH'
        have hnt : ¬ fp_H c k a3 t := hh t (Nat.le_refl t)
        refine br_f fp_1ne0 (nm_r (nI_1 r) (nm_r (nI_1 t) (hw (r + 1, pt, a3', a4, a5, a6, a7, a8, a9) ⟨ok', ⟨A, fp_gd_keep (by omega) (fp_G_E hG) ok ok' hA (fun e he => (hH' e).mpr (Or.inl he)), fun e he hec hn => ?_⟩, fun e he z => ?_, ?_⟩)))
        · by_cases ee : e = t
          · exact absurd ((hH' e).mpr (Or.inr ee)) hn
          · exact hA2 e (by omega) hec (fun z => hn ((hH' e).mpr (Or.inl z)))
        · rcases (hH' e).mp z with z | z
          · exact hh e (by omega) z
          · omega
        · show r + 1 = _
          rw [fp_cnt_ins (p := fp_H c k a3) (i := t) hc hnt (fun j _ => hH' j), hr]
    · rw [if_neg hc] at hb
      exact br_f (by rw [hb]; decide) (nm_r (nI_1 t) (hw (r, pt, a3, a4, a5, a6, a7, a8, a9) ⟨ok, ⟨A, hA, fun e he hec hn => hA2 e (by omega) hec hn⟩, fun e he => hh e (by omega), hr⟩))
theorem fp_held {post : Int32 → St1 → Prop}
    {cc tk tk0 pt : Int32} {a1 a2 a3 a4 a5 a6 a7 a8 a9 : Nat → Int32} {n c k : Nat} {fr tt : Nat → Nat} (hG : fp_G n c a1 a2 fr tt) (ht : fp_tk c tk) (hk : k ≤ 16)
    (H : ∀ r pt a3 a4 a5 a6 a7 a8 a9, fp_HH fr tt n c k r → post (nI r) (nI n, cc, tk, pt, a1, a2, a3, a4, a5, a6, a7, a8, a9)) :
    wpX_held post (nI n, cc, tk0, pt, a1, a2, a3, a4, a5, a6, a7, a8, a9) tk (nI k) := by
  have hc16 := hG.2.2.1
  have main : ∃ fu, wX_held_10 post tk (nI k) (nI n) cc tk pt fu (nI (min 0 c)) (nI 0) a1 a2 a3 a4 a5 a6 a7 a8 a9 := by
    refine pk_loop (fun fu t (b : Nat → Int32) => wX_held_10 post tk (nI k) (nI n) cc tk pt fu (nI (min t c)) (nI t) a1 a2 b a4 a5 a6 a7 a8 a9) (fun t b => ∀ e, e < t → b e = -1) 17 0 a3 (by omega) (fun e he => absurd he (by omega)) ?_ ?_
    · intro fu b hb
      refine pk_lt 16 17 (fun _ => pk_lt k (min 17 c) (fun z => fp_h53 hG ht hk hb H) (fun z => ?_)) (fun z => absurd z (by omega))
      rw [show min 17 c = c by omega]
      exact H c pt b a4 a5 a6 a7 a8 a9 (fp_HH_all (fun e he => ⟨(hG.2.2.2 e he).1, (hG.2.2.2 e he).2.1, (hG.2.2.2 e he).2.2.1⟩) (by omega))
    · intro fu t b htt hb hw
      have hbt := ht t htt
      refine pk_lt 16 t (fun z => absurd z (by omega)) (fun _ => ⟨pk_in t 17 htt, nm_r (e' := upd b t (-1)) (by rw [nI_clamp (by omega)]) (nm_r (e' := nI (min (t + 1) c)) ?_ (nm_r (nI_1 t) (hw _ (fun e he => ?_))))⟩)
      · rw [hbt]
        by_cases hc : t < c
        · rw [if_pos hc, show min (t + 1) c = min t c + 1 by omega]
          exact nI_1 _
        · rw [if_neg hc, show min (t + 1) c = min t c by omega]
          exact Int32.add_zero _
      · by_cases ee : e = t
        · rw [ee, pk_us]
        · rw [pk_un ee]; exact hb e (by omega)
  rw [Nat.zero_min] at main
  exact main
theorem fp_allEdges {post : Int32 → Prop} {fn cc tk pt : Int32} {a1 a2 a3 a4 a5 a6 a7 a8 a9 : Nat → Int32} (H : post (((1 : Int32) <<< (cc &&& 31)) - 1)) :
    wpX_allEdges post (fn, cc, tk, pt, a1, a2, a3, a4, a5, a6, a7, a8, a9) := H
theorem fp_hold {post : Int32 → St1 → Prop}
    {tk pt : Int32} {a1 a2 a3 a4 a5 a6 a7 a8 a9 : Nat → Int32} {n c k : Nat} {fr tt : Nat → Nat} (hG : fp_G n c a1 a2 fr tt) (hk : k ≤ 16)
    (H : ∀ r tk pt a3 a4 a5 a6 a7 a8 a9, fp_HH fr tt n c k r → post (nI r) (nI n, nI c, tk, pt, a1, a2, a3, a4, a5, a6, a7, a8, a9)) :
    wpX_hold post (nI n, nI c, tk, pt, a1, a2, a3, a4, a5, a6, a7, a8, a9) (nI k) :=
  br_f (nI_pos (by omega)) (pk_le k 16 (fun _ => br_t rfl (fp_allEdges (fp_held hG (fp_bits hG.2.2.1) hk (fun r pt a3 a4 a5 a6 a7 a8 a9 h => H r _ pt a3 a4 a5 a6 a7 a8 a9 h)))) (fun z => absurd z (by omega)))
theorem fp_hold17 {post : Int32 → St1 → Prop} {fn cc tk pt : Int32} {a1 a2 a3 a4 a5 a6 a7 a8 a9 : Nat → Int32} (H : post (-1) (fn, cc, tk, pt, a1, a2, a3, a4, a5, a6, a7, a8, a9)) :
    wpX_hold post (fn, cc, tk, pt, a1, a2, a3, a4, a5, a6, a7, a8, a9) 17 :=
  br_f (by decide) (br_f (by decide) (br_f fp_1ne0 H))
theorem fp_holdm {post : Int32 → St1 → Prop} {fn cc tk pt : Int32} {a1 a2 a3 a4 a5 a6 a7 a8 a9 : Nat → Int32} (H : post (-1) (fn, cc, tk, pt, a1, a2, a3, a4, a5, a6, a7, a8, a9)) :
    wpX_hold post (fn, cc, tk, pt, a1, a2, a3, a4, a5, a6, a7, a8, a9) (-1) :=
  br_t (by decide) (br_f fp_1ne0 H)
theorem fp_parts {post : Int32 → St1 → Prop}
    {tk pt : Int32} {a1 a2 a3 a4 a5 a6 a7 a8 a9 : Nat → Int32} {n c : Nat} {fr tt : Nat → Nat} (hG : fp_G n c a1 a2 fr tt)
    (H : ∀ r tk pt a3 a4 a5 a6 a7 a8 a9, fp_HH fr tt n c 1 r → post (nI n - nI r) (nI n, nI c, tk, pt, a1, a2, a3, a4, a5, a6, a7, a8, a9)) :
    wpX_parts post (nI n, nI c, tk, pt, a1, a2, a3, a4, a5, a6, a7, a8, a9) := by
  unfold wpX_parts
  exact fp_allEdges (fp_held (k := 1) hG (fp_bits hG.2.2.1) (by omega) (fun r pt a3 a4 a5 a6 a7 a8 a9 h => H r _ pt a3 a4 a5 a6 a7 a8 a9 h))
theorem fp_needed {post : Int32 → St1 → Prop}
    {tk pt : Int32} {a1 a2 a3 a4 a5 a6 a7 a8 a9 : Nat → Int32} {n c : Nat} {fr tt : Nat → Nat} (hG : fp_G n c a1 a2 fr tt)
    (H : ∀ k tk pt a3 a4 a5 a6 a7 a8 a9, k ≤ 16 → fp_HH fr tt n c k c → post (nI k) (nI n, nI c, tk, pt, a1, a2, a3, a4, a5, a6, a7, a8, a9)) :
    wpX_needed post (nI n, nI c, tk, pt, a1, a2, a3, a4, a5, a6, a7, a8, a9) := by
  have hc16 := hG.2.2.1
  unfold wpX_needed
  refine fp_allEdges ?_
  refine pk_loop (fun fu k (s : Int32 × Int32 × (Nat → Int32) × (Nat → Int32) × (Nat → Int32) × (Nat → Int32) × (Nat → Int32) × (Nat → Int32) × (Nat → Int32)) => wX_needed_7 post (((1 : Int32) <<< (nI c &&& 31)) - 1) fu (nI k) (nI n) (nI c) s.1 s.2.1 a1 a2 s.2.2.1 s.2.2.2.1 s.2.2.2.2.1 s.2.2.2.2.2.1 s.2.2.2.2.2.2.1 s.2.2.2.2.2.2.2.1 s.2.2.2.2.2.2.2.2)
    (fun _ _ => True) 16 0 (tk, pt, a3, a4, a5, a6, a7, a8, a9) (by omega) trivial ?_ ?_
  · rintro fu ⟨tk, pt, a3, a4, a5, a6, a7, a8, a9⟩ _
    exact pk_le 16 16 (fun _ => H 16 tk pt a3 a4 a5 a6 a7 a8 a9 (by omega) (fp_HH_all (fun e he => ⟨(hG.2.2.2 e he).1, (hG.2.2.2 e he).2.1, (hG.2.2.2 e he).2.2.1⟩) hc16)) (fun z => absurd z (by omega))
  · rintro fu k ⟨tk, pt, a3, a4, a5, a6, a7, a8, a9⟩ hk _ hw
    refine pk_le 16 k (fun z => absurd z (by omega)) (fun _ => fp_held hG (fp_bits hc16) (by omega) (fun r pt a3 a4 a5 a6 a7 a8 a9 h => ?_))
    have hrc := fp_HH_le h
    exact pk_eq r c (fun z => H k _ pt a3 a4 a5 a6 a7 a8 a9 (by omega) (z ▸ h)) (fun z => nm_r (nI_1 k) (hw (_, pt, a3, a4, a5, a6, a7, a8, a9) trivial))
theorem fp_HH_z {fr tt : Nat → Nat} {n c : Nat} : fp_HH fr tt n c 0 0 :=
  ⟨⟨fun e => e < c, fun e he => he, by rw [fp_cnt_none (p := fun e => ¬ e < c) (fun e he z => z he), Nat.zero_mul]⟩, fun _ _ => Nat.zero_le _⟩
theorem fp_trees {post : Int32 → St1 → Prop}
    {tk pt : Int32} {a1 a2 a3 a4 a5 a6 a7 a8 a9 : Nat → Int32} {n c : Nat} {fr tt : Nat → Nat} (hG : fp_G n c a1 a2 fr tt)
    (H : ∀ t tk pt a3 a4 a5 a6 a7 a8 a9, t ≤ 16 → fp_HH fr tt n c t (t * (n - 1)) → post (nI t) (nI n, nI c, tk, pt, a1, a2, a3, a4, a5, a6, a7, a8, a9)) :
    wpX_trees post (nI n, nI c, tk, pt, a1, a2, a3, a4, a5, a6, a7, a8, a9) := by
  have hc16 := hG.2.2.1
  have hn2 := hG.1
  have hn7 := hG.2.1
  unfold wpX_trees
  refine fp_allEdges ?_
  refine loop_m (fun fu (s : Nat × Int32 × Nat × Int32 × Int32 × (Nat → Int32) × (Nat → Int32) × (Nat → Int32) × (Nat → Int32) × (Nat → Int32) × (Nat → Int32) × (Nat → Int32)) => wX_trees_12 post (((1 : Int32) <<< (nI c &&& 31)) - 1) fu (nI s.1) s.2.1 (nI s.2.2.1) (nI n) (nI c) s.2.2.2.1 s.2.2.2.2.1 a1 a2 s.2.2.2.2.2.1 s.2.2.2.2.2.2.1 s.2.2.2.2.2.2.2.1 s.2.2.2.2.2.2.2.2.1 s.2.2.2.2.2.2.2.2.2.1 s.2.2.2.2.2.2.2.2.2.2.1 s.2.2.2.2.2.2.2.2.2.2.2)
    (fun s => s.1 ≤ 16 ∧ s.2.2.1 ≤ 17 ∧ fp_HH fr tt n c s.1 (s.1 * (n - 1))) (fun s => 17 - s.2.2.1) ?_ (0, 1, 1, tk, pt, a3, a4, a5, a6, a7, a8, a9) ⟨by show (0 : Nat) ≤ 16; omega, by show (1 : Nat) ≤ 17; omega, by show fp_HH fr tt n c 0 (0 * (n - 1)); rw [Nat.zero_mul]; exact fp_HH_z⟩
  rintro fu ⟨t, mo, k, tk, pt, a3, a4, a5, a6, a7, a8, a9⟩ ⟨h1, h2, h3⟩ hw
  dsimp only at h1 h2 h3
  refine pk_lt 16 k (fun _ => H t tk pt a3 a4 a5 a6 a7 a8 a9 h1 h3) (fun hk => br_c (fun _ => H t tk pt a3 a4 a5 a6 a7 a8 a9 h1 h3) (fun _ => fp_held hG (fp_bits hc16) (by omega) (fun r pt a3 a4 a5 a6 a7 a8 a9 h => ?_)))
  have hrc := fp_HH_le h
  have hkn : k * (n - 1) ≤ 16 * 6 := Nat.mul_le_mul (by omega) (by omega)
  have e1 : nI k * (nI n - 1) = nI (k * (n - 1)) := by
    rw [show nI n - 1 = nI (n - 1) from pk_sub (b := 1) (by omega), pk_mul]
  refine pk_eq r (k * (n - 1)) (fun z => br_f fp_1ne0 (nm_r (nI_1 k) ?_)) (fun z => br_t rfl (nm_r (nI_1 k) ?_)) rfl e1
  · exact hw (k, 1, k + 1, _, pt, a3, a4, a5, a6, a7, a8, a9) ⟨by show k ≤ 16; omega, by show k + 1 ≤ 17; omega, by rw [z] at h; exact h⟩ (by show 17 - (k + 1) < 17 - k; omega)
  · exact hw (t, 0, k + 1, _, pt, a3, a4, a5, a6, a7, a8, a9) ⟨h1, by show k + 1 ≤ 17; omega, h3⟩ (by show 17 - (k + 1) < 17 - k; omega)
end
section
/-! the walks of the graph's methods and of the law -/
def fp_Q (n c : Nat) (a1 a2 : Nat → Int32) : Prop := c ≤ 16 ∧ ∀ e, e < c → ∃ x y, x < n ∧ y < n ∧ x ≠ y ∧ a1 e = nI x ∧ a2 e = nI y
theorem fp_Q_G {n c : Nat} {a1 a2 : Nat → Int32} (h2 : 2 ≤ n) (h7 : n ≤ 7) (h : fp_Q n c a1 a2) : fp_G n c a1 a2 (fun e => (a1 e).toNatClampNeg) (fun e => (a2 e).toNatClampNeg) := by
  refine ⟨h2, h7, h.1, fun e he => ?_⟩
  obtain ⟨x, y, hx, hy, hne, e1, e2⟩ := h.2 e he
  dsimp only
  rw [e1, e2, nI_clamp (show x < 2 ^ 31 by omega), nI_clamp (show y < 2 ^ 31 by omega)]
  exact ⟨hx, hy, hne, rfl, rfl⟩
theorem fp_Q_set {n c c' k x y : Nat} {a1 a2 : Nat → Int32} (h : fp_Q n c a1 a2) (hc : c' ≤ 16) (hk : ∀ e, e < c' → e ≠ k → e < c) (hx : x < n) (hy : y < n) (hne : x ≠ y) : fp_Q n c' (upd a1 k (nI x)) (upd a2 k (nI y)) := by
  refine ⟨hc, fun e he => ?_⟩
  by_cases ee : e = k
  · subst ee
    exact ⟨x, y, hx, hy, hne, pk_us, pk_us⟩
  · rw [pk_un ee, pk_un ee]
    exact h.2 e (hk e he ee)
theorem fp_badPair {post : Int32 → Prop} {cc tk pt : Int32} {a1 a2 a3 a4 a5 a6 a7 a8 a9 : Nat → Int32} {n x y : Nat} (hn : n ≤ 7) (hx : x < n) (hy : y < n) (H1 : x = y → post 1) (H0 : x ≠ y → post 0) :
    wpX_badPair post (nI n, cc, tk, pt, a1, a2, a3, a4, a5, a6, a7, a8, a9) (nI x) (nI y) :=
  br_f (nI_pos (by omega)) (pk_le n x (fun z => absurd z (by omega)) (fun _ => br_f (nI_pos (by omega)) (pk_le n y (fun z => absurd z (by omega)) (fun _ => pk_eq x y H1 H0))))
theorem fp_edge {post : Int32 → St1 → Prop} {tk pt : Int32} {a1 a2 a3 a4 a5 a6 a7 a8 a9 : Nat → Int32} {n c x y : Nat} (hn : n ≤ 7) (hQ : fp_Q n c a1 a2) (hx : x < n) (hy : y < n)
    (H : ∀ r c a1 a2, fp_Q n c a1 a2 → post r (nI n, nI c, tk, pt, a1, a2, a3, a4, a5, a6, a7, a8, a9)) :
    wpX_edge post (nI n, nI c, tk, pt, a1, a2, a3, a4, a5, a6, a7, a8, a9) (nI x) (nI y) := by
  have hc := hQ.1
  unfold wpX_edge
  refine fp_badPair hn hx hy (fun _ => br_f fp_1ne0 (H _ c a1 a2 hQ)) (fun ne => br_t rfl (pk_eq c 16 (fun _ => H _ c a1 a2 hQ) (fun z => ⟨pk_in c 17 (by omega), nm_r (e' := upd a1 c (nI x)) (by rw [nI_clamp (by omega)]) ⟨pk_in c 17 (by omega), nm_r (e' := upd a2 c (nI y)) (by rw [nI_clamp (by omega)]) (nm_r (nI_1 c) (H _ (c + 1) _ _ ?_))⟩⟩)))
  exact fp_Q_set hQ (by omega) (fun e he hne => by omega) hx hy ne
theorem fp_rejoin {post : Int32 → St1 → Prop} {tk pt : Int32} {a1 a2 a3 a4 a5 a6 a7 a8 a9 : Nat → Int32} {n c e x y : Nat} (hn : n ≤ 7) (hQ : fp_Q n c a1 a2) (he : e < 16) (hx : x < n) (hy : y < n)
    (H : ∀ r c a1 a2, fp_Q n c a1 a2 → post r (nI n, nI c, tk, pt, a1, a2, a3, a4, a5, a6, a7, a8, a9)) :
    wpX_rejoin post (nI n, nI c, tk, pt, a1, a2, a3, a4, a5, a6, a7, a8, a9) (nI e) (nI x) (nI y) := by
  have hc := hQ.1
  refine br_f (nI_pos (by omega)) (pk_le c e (fun _ => H _ c a1 a2 hQ) (fun z => fp_badPair hn hx hy (fun _ => br_f fp_1ne0 (H _ c a1 a2 hQ)) (fun ne => br_t rfl ⟨pk_in e 17 (by omega), nm_r (e' := upd a1 e (nI x)) (by rw [nI_clamp (by omega)]) ⟨pk_in e 17 (by omega), nm_r (e' := upd a2 e (nI y)) (by rw [nI_clamp (by omega)]) (H _ c _ _ ?_)⟩⟩)))
  exact fp_Q_set hQ hc (fun e he hne => he) hx hy ne
theorem fp_unedge {post : Int32 → St1 → Prop} {tk pt : Int32} {a1 a2 a3 a4 a5 a6 a7 a8 a9 : Nat → Int32} {n c : Nat} (hQ : fp_Q n c a1 a2)
    (H : ∀ r c a1 a2, fp_Q n c a1 a2 → post r (nI n, nI c, tk, pt, a1, a2, a3, a4, a5, a6, a7, a8, a9)) :
    wpX_unedge post (nI n, nI c, tk, pt, a1, a2, a3, a4, a5, a6, a7, a8, a9) := by
  have hc := hQ.1
  exact pk_eq c 0 (fun _ => H _ c a1 a2 hQ) (fun z => nm_r (e' := nI (c - 1)) (pk_sub (b := 1) (by omega)) (H _ (c - 1) a1 a2 ⟨by omega, fun e he => hQ.2 e (by omega)⟩))
theorem fp_turn {post : Int32 → St1 → Prop} {tk pt p1 p2 : Int32} {a1 a2 a3 a4 a5 a6 a7 a8 a9 : Nat → Int32} {n c : Nat} (h2 : 2 ≤ n) (hn : n ≤ 7) (hQ : fp_Q n c a1 a2)
    (H : ∀ r c a1 a2, fp_Q n c a1 a2 → post r (nI n, nI c, tk, pt, a1, a2, a3, a4, a5, a6, a7, a8, a9)) :
    wpL_turn post (nI n, nI c, tk, pt, a1, a2, a3, a4, a5, a6, a7, a8, a9) p1 p2 (nI n) := by
  obtain ⟨o, ho, eo⟩ := pk_andE p1 (m := 15) 4 (by decide)
  obtain ⟨u, hu, eu⟩ := pk_andE p2 (m := 15) 4 (by decide)
  obtain ⟨v, hv, ev⟩ := pk_andE (p2 >>> ((4 : Int32) &&& 31)) (m := 15) 4 (by decide)
  obtain ⟨w, hw, ew⟩ := pk_andE (p2 >>> ((8 : Int32) &&& 31)) (m := 15) 4 (by decide)
  have hne : ¬ nI n = 0 := nI_ne0 (by omega) (by omega)
  have hum : u % n < n := Nat.mod_lt u (by omega)
  have hvm : v % n < n := Nat.mod_lt v (by omega)
  refine nm_r (e' := nI o) eo ⟨hne, nm_r (e' := nI (u % n)) (by rw [eu]; exact pk_rem (by omega) (by omega) (by omega)) ⟨hne, nm_r (e' := nI (v % n)) (by rw [ev]; exact pk_rem (by omega) (by omega) (by omega)) ?_⟩⟩
  refine pk_le 12 o (fun _ => pk_eq o 12 (fun _ => fp_unedge hQ H) (fun _ => ?_)) (fun _ => fp_edge hn hQ hum hvm H)
  rw [ew]
  exact fp_rejoin hn hQ hw hum hvm H
theorem fp_vertices {post : Int32 → Prop} {fn cc tk pt : Int32} {a1 a2 a3 a4 a5 a6 a7 a8 a9 : Nat → Int32} (H : post fn) :
    wpX_vertices post (fn, cc, tk, pt, a1, a2, a3, a4, a5, a6, a7, a8, a9) := H
theorem fp_edges {post : Int32 → Prop} {fn cc tk pt : Int32} {a1 a2 a3 a4 a5 a6 a7 a8 a9 : Nat → Int32} (H : post cc) :
    wpX_edges post (fn, cc, tk, pt, a1, a2, a3, a4, a5, a6, a7, a8, a9) := H
theorem fp_l102 {L : Nat} {xs : Nat → Int32} {kc ks : Nat} {tk pt : Int32} {a1 a2 a3 a4 a5 a6 a7 a8 a9 : Nat → Int32} {n c : Nat} {fr tt : Nat → Nat} (hG : fp_G n c a1 a2 fr tt) :
    ∃ fu, wL_law_102 (fun r => r = 1) L xs (nI n) kc ks fu 0 1000 1 (nI n) (nI c) tk pt a1 a2 a3 a4 a5 a6 a7 a8 a9 := by
  have hc16 := hG.2.2.1
  have hn2 := hG.1
  have hn7 := hG.2.1
  refine pk_loop (fun fu k (s : Nat × Nat × Int32 × Int32 × (Nat → Int32) × (Nat → Int32) × (Nat → Int32) × (Nat → Int32) × (Nat → Int32) × (Nat → Int32) × (Nat → Int32)) => wL_law_102 (fun r => r = 1) L xs (nI n) kc ks fu (nI s.1) (nI s.2.1) (nI k) (nI n) (nI c) s.2.2.1 s.2.2.2.1 a1 a2 s.2.2.2.2.1 s.2.2.2.2.2.1 s.2.2.2.2.2.2.1 s.2.2.2.2.2.2.2.1 s.2.2.2.2.2.2.2.2.1 s.2.2.2.2.2.2.2.2.2.1 s.2.2.2.2.2.2.2.2.2.2)
    (fun k s => 1 ≤ k ∧ fp_HH fr tt n c (k - 1) s.1 ∧ s.2.1 ≤ 1000 ∧ ∀ r, fp_HH fr tt n c k r → r ≤ s.1 + s.2.1) 17 1 (0, 1000, tk, pt, a3, a4, a5, a6, a7, a8, a9) (by omega)
    ⟨by omega, fp_HH_z, by show (1000 : Nat) ≤ 1000; omega, fun r hr => by have := fp_HH_le hr; show r ≤ 0 + 1000; omega⟩ ?_ ?_
  · rintro fu ⟨la, gr, tk, pt, a3, a4, a5, a6, a7, a8, a9⟩ _
    refine pk_le 17 17 (fun _ => ?_) (fun z => absurd z (by omega))
    refine fp_needed hG ?_
    intro kn tk pt a3 a4 a5 a6 a7 a8 a9 hkn hN
    refine fp_trees hG ?_
    intro t tk pt a3 a4 a5 a6 a7 a8 a9 htt hT
    refine fp_hold hG hkn ?_
    intro r tk pt a3 a4 a5 a6 a7 a8 a9 hr
    refine fp_edges ?_
    refine br_t (by rw [fp_HH_u hr hN]) ?_
    refine fp_hold hG htt ?_
    intro r2 tk pt a3 a4 a5 a6 a7 a8 a9 hr2
    refine br_t ?_ ?_
    rotate_left
    · refine fp_hold17 ?_
      refine br_t rfl ?_
      refine fp_holdm ?_
      exact br_t rfl rfl
    rw [fp_HH_u hr2 hT, show nI n - 1 = nI (n - 1) from pk_sub (b := 1) (by omega), pk_mul]
  · rintro fu k ⟨la, gr, tk, pt, a3, a4, a5, a6, a7, a8, a9⟩ hk ⟨h1, hla, hgr, hb⟩ hw
    dsimp only at hla hgr hb
    obtain ⟨k', rfl⟩ : ∃ k', k = k' + 1 := ⟨k - 1, by omega⟩
    have hla' : fp_HH fr tt n c k' la := hla
    have hlc := fp_HH_le hla'
    refine pk_le 17 (k' + 1) (fun z => absurd z (by omega)) (fun _ => fp_hold hG (by omega) (fun r tk pt a3 a4 a5 a6 a7 a8 a9 hr => ?_))
    have hrc := fp_HH_le hr
    have hm := fp_HH_mono hla' hr
    have hr2 := hb r hr
    have es : nI r - nI la = nI (r - la) := pk_sub hm
    refine pk_lt r la (fun z => absurd z (by omega)) (fun _ => pk_le (r - la) gr (fun _ => nm_r es (nm_r (nI_1 (k' + 1)) (hw (r, r - la, tk, pt, a3, a4, a5, a6, a7, a8, a9) ⟨by omega, hr, by show r - la ≤ 1000; omega, fun r'' hr'' => ?_⟩))) (fun z => absurd z (by omega)) es)
    have hcv := fp_HH_conc hla' hr hr''
    show r'' ≤ r + (r - la)
    omega
theorem fp_l32 {L : Nat} {xs : Nat → Int32} {kc ks : Nat} {n : Nat} (hL : L ≤ 260) (h2 : 2 ≤ n) (hn : n ≤ 7) :
    ∃ fu, wL_law_32 (fun r => r = 1) L xs (nI n) kc ks fu 1 (nI n) 0 0 0 (fun _ => 0) (fun _ => 0) (fun _ => 0) (fun _ => 0) (fun _ => 0) (fun _ => 0) (fun _ => 0) (fun _ => 0) (fun _ => 0) := by
  refine loop_m (fun fu (s : Nat × Nat × Int32 × Int32 × (Nat → Int32) × (Nat → Int32) × (Nat → Int32) × (Nat → Int32) × (Nat → Int32) × (Nat → Int32) × (Nat → Int32) × (Nat → Int32) × (Nat → Int32)) => wL_law_32 (fun r => r = 1) L xs (nI n) kc ks fu (nI s.1) (nI n) (nI s.2.1) s.2.2.1 s.2.2.2.1 s.2.2.2.2.1 s.2.2.2.2.2.1 s.2.2.2.2.2.2.1 s.2.2.2.2.2.2.2.1 s.2.2.2.2.2.2.2.2.1 s.2.2.2.2.2.2.2.2.2.1 s.2.2.2.2.2.2.2.2.2.2.1 s.2.2.2.2.2.2.2.2.2.2.2.1 s.2.2.2.2.2.2.2.2.2.2.2.2)
    (fun s => s.1 ≤ 300 ∧ fp_Q n s.2.1 s.2.2.2.2.1 s.2.2.2.2.2.1) (fun s => 300 - s.1) ?_ (1, 0, 0, 0, (fun _ => 0), (fun _ => 0), (fun _ => 0), (fun _ => 0), (fun _ => 0), (fun _ => 0), (fun _ => 0), (fun _ => 0), (fun _ => 0)) ⟨by show (1 : Nat) ≤ 300; omega, Nat.zero_le _, fun e he => absurd he (Nat.not_lt_zero e)⟩
  rintro fu ⟨t, c, tk, pt, a1, a2, a3, a4, a5, a6, a7, a8, a9⟩ ⟨ht, hQ⟩ hw
  dsimp only at ht hQ
  refine pk_le L (t + 1) (fun _ => ?_) (fun z => ⟨pk_in t L (by omega), pk_in (t + 1) L z (nI_1 t), fp_turn h2 hn hQ (fun r c a1 a2 hQ => nm_r (e' := nI (t + 2)) (nI_add t 2) (hw (t + 2, c, tk, pt, a1, a2, a3, a4, a5, a6, a7, a8, a9) ⟨by show t + 2 ≤ 300; omega, hQ⟩ (by show 300 - (t + 2) < 300 - t; omega)))⟩) rfl (nI_1 t)
  have hG := fp_Q_G h2 hn hQ
  refine fp_hold (k := 0) hG (by omega) (fun r tk pt a3 a4 a5 a6 a7 a8 a9 hr => ?_)
  have e0 := fp_HH_0 hr
  subst e0
  refine br_t rfl (fp_hold (k := 1) hG (by omega) (fun r1 tk pt a3 a4 a5 a6 a7 a8 a9 hr1 => fp_parts hG (fun r2 tk pt a3 a4 a5 a6 a7 a8 a9 hr2 => br_t ?_ (fp_vertices (br_t rfl (fp_l102 hG))))))
  rw [fp_HH_u hr1 hr2]
  grind
theorem fp_init {post : St1 → Prop} {mc ms n : Nat} (h2 : 2 ≤ n) (hn : n ≤ 7) (hmc : 9 ≤ mc) (hms : 123 ≤ ms)
    (H : post (nI n, 0, 0, 0, (fun _ => 0), (fun _ => 0), (fun _ => 0), (fun _ => 0), (fun _ => 0), (fun _ => 0), (fun _ => 0), (fun _ => 0), (fun _ => 0))) :
    wpX_init post mc ms (0, 0, 0, 0) (nI n) := by
  unfold wpX_init
  refine ⟨by omega, by omega, by omega, by omega, by omega, by omega, by omega, by omega, by omega, by omega, by omega, by omega, by omega, by omega, by omega, by omega, by omega, by omega, ?_⟩
  exact pk_le 2 n (fun _ => pk_le n 7 (fun _ => H) (fun z => absurd z (by omega))) (fun z => absurd z (by omega))
theorem fp_l16 {L : Nat} {xs : Nat → Int32} {j : Nat} (hL : L ≤ 260) (hj : j < 8) : wL_law_16 (fun r => r = 1) L xs (nI j) 2 0 0 := by
  have hm : j % 6 < 6 := Nat.mod_lt j (by omega)
  unfold wL_law_16
  refine ⟨by decide, nm_r (e' := nI (2 + j % 6)) ?_ ⟨by omega, by omega, 9, 123, by omega, by omega, fp_init (by omega) (by omega) (by omega) (by omega) (fp_l32 hL (by omega) (by omega))⟩⟩
  rw [show nI j - nI j / 6 * 6 = nI (j % 6) from pk_rem (d := 6) (by omega) (by omega) (by omega)]
  exact nI_add 2 (j % 6)
theorem i_vc (xs : Nat → Int32) (L : Nat) (hL : L ≤ 260) : wpL_law (fun r => r = 1) L xs := by
  obtain ⟨j, hj, ej⟩ := pk_andE (xs 0) (m := 7) 3 (by decide)
  refine pk_le L 0 (fun _ => fp_l16 (j := 0) hL (by omega)) (fun z => ⟨pk_in 0 L z, ?_⟩)
  have c0 : (xs (0 : Int32).toNatClampNeg) &&& 7 = nI j := by rw [sb_cl0]; exact ej
  rw [c0]
  exact fp_l16 hL hj
end
