section
/-! numbers and arrays -/
theorem ta_ix (t i : Nat) : (32 * nI t) + nI i = nI (32 * t + i) := by
  have h : (32 : Int32) = nI 32 := rfl
  rw [h, pk_mul, nI_add]
theorem ta_32 (t : Nat) : 32 * nI t = nI (32 * t) := by
  have h : (32 : Int32) = nI 32 := rfl
  rw [h, pk_mul]
theorem ta_rd {a : Nat → Int32} {x y : Int32} {k : Nat} (hx : x = nI k) (hk : k < 2 ^ 31) (h : a k = y) : a x.toNatClampNeg = y := by
  rw [hx, nI_clamp hk]; exact h
theorem ta_up {a : Nat → Int32} {x v w : Int32} {k : Nat} (hx : x = nI k) (hk : k < 2 ^ 31) (hv : v = w) : upd a x.toNatClampNeg v = upd a k w := by
  rw [hx, nI_clamp hk, hv]
theorem ta_ue {f : Nat → Int32} {k j : Nat} {x : Int32} (h : j = k) : upd f k x j = x := by
  rw [h, pk_us]
theorem ta_pm {n : Nat} (h : 0 < n) : nI n - 1 = nI (n - 1) := by
  obtain ⟨m, rfl⟩ : ∃ m, n = m + 1 := ⟨n - 1, by omega⟩
  exact nI_pred m
theorem ta_pa {n : Nat} (h : 0 < n) : nI n + (-1) = nI (n - 1) := by
  obtain ⟨m, rfl⟩ : ∃ m, n = m + 1 := ⟨n - 1, by omega⟩
  exact pk_m1 m
/-- a place of a Nat function written -/
def ta_un (f : Nat → Nat) (k v : Nat) : Nat → Nat := fun j => if j = k then v else f j
theorem ta_uns {f : Nat → Nat} {k j v : Nat} (h : j = k) : ta_un f k v j = v := by
  unfold ta_un; rw [if_pos h]
theorem ta_unn {f : Nat → Nat} {k j v : Nat} (h : j ≠ k) : ta_un f k v j = f j := by
  unfold ta_un; rw [if_neg h]
/-- the array's first m places hold f -/
def ta_mb (m : Nat) (f : Nat → Nat) (b : Nat → Int32) : Prop := ∀ j, j < m → b j = nI (f j)
theorem ta_mb_add {m v : Nat} {f : Nat → Nat} {b : Nat → Int32} (h : ta_mb m f b) : ta_mb (m + 1) (ta_un f m v) (upd b m (nI v)) := by
  intro j hj
  by_cases e : j = m
  · rw [ta_ue e, ta_uns e]
  · rw [pk_un e, ta_unn e]; exact h j (by omega)
theorem ta_mb_put {m k v : Nat} {f : Nat → Nat} {b : Nat → Int32} (h : ta_mb m f b) : ta_mb m (ta_un f k v) (upd b k (nI v)) := by
  intro j hj
  by_cases e : j = k
  · rw [ta_ue e, ta_uns e]
  · rw [pk_un e, ta_unn e]; exact h j hj
theorem ta_mb_0 {f : Nat → Nat} {b : Nat → Int32} : ta_mb 0 f b := fun j hj => absurd hj (by omega)
theorem ta_mb_c {m : Nat} {f g : Nat → Nat} {b : Nat → Int32} (h : ta_mb m f b) (e : ∀ j, j < m → f j = g j) : ta_mb m g b := by
  intro j hj
  rw [← e j hj]; exact h j hj
/-! counting -/
noncomputable def ta_cn (Q : Nat → Prop) : Nat → Nat
  | 0 => 0
  | n + 1 => ta_cn Q n + @ite Nat (Q n) (Classical.propDecidable _) 1 0
theorem ta_cn_t {Q : Nat → Prop} {n : Nat} (h : Q n) : ta_cn Q (n + 1) = ta_cn Q n + 1 := by
  show ta_cn Q n + @ite Nat (Q n) (Classical.propDecidable _) 1 0 = _
  rw [if_pos h]
theorem ta_cn_f {Q : Nat → Prop} {n : Nat} (h : ¬ Q n) : ta_cn Q (n + 1) = ta_cn Q n := by
  show ta_cn Q n + @ite Nat (Q n) (Classical.propDecidable _) 1 0 = _
  rw [if_neg h]; rfl
theorem ta_cn_le (Q : Nat → Prop) : ∀ n, ta_cn Q n ≤ n
  | 0 => Nat.le_refl 0
  | n + 1 => by
    have ih := ta_cn_le Q n
    by_cases h : Q n
    · rw [ta_cn_t h]; omega
    · rw [ta_cn_f h]; omega
theorem ta_cn_ext {Q Q' : Nat → Prop} : ∀ n, (∀ i, i < n → (Q i ↔ Q' i)) → ta_cn Q n = ta_cn Q' n
  | 0, _ => rfl
  | n + 1, e => by
    have ih := ta_cn_ext n (fun i hi => e i (by omega))
    have en := e n (by omega)
    by_cases h : Q n
    · rw [ta_cn_t h, ta_cn_t (en.mp h), ih]
    · rw [ta_cn_f h, ta_cn_f (fun z => h (en.mpr z)), ih]
theorem ta_cn_add {Q Q' : Nat → Prop} {j : Nat} : ∀ n, j < n → ¬ Q j → Q' j → (∀ i, i < n → i ≠ j → (Q' i ↔ Q i)) → ta_cn Q' n = ta_cn Q n + 1
  | 0, hj, _, _, _ => absurd hj (by omega)
  | n + 1, hj, h0, h1, e => by
    by_cases c : j = n
    · have ih : ta_cn Q' n = ta_cn Q n := ta_cn_ext n (fun i hi => e i (by omega) (by omega))
      rw [← c] at *
      rw [ta_cn_t h1, ta_cn_f h0, ih]
    · have ih := ta_cn_add n (by omega) h0 h1 (fun i hi hn => e i (by omega) hn)
      have en := e n (by omega) (fun z => c z.symm)
      by_cases h : Q n
      · rw [ta_cn_t h, ta_cn_t (en.mpr h), ih]
      · rw [ta_cn_f h, ta_cn_f (fun z => h (en.mp z)), ih]
theorem ta_cn_lt {Q : Nat → Prop} {j n : Nat} (hj : j < n) (h : ¬ Q j) : ta_cn Q n < n := by
  have e := ta_cn_add (Q := Q) (Q' := fun i => i = j ∨ Q i) n hj h (Or.inl rfl) (fun i _ hn => ⟨fun z => z.elim (fun w => absurd w hn) id, Or.inr⟩)
  have l := ta_cn_le (fun i => i = j ∨ Q i) n
  omega
theorem ta_cn_0 {Q : Nat → Prop} : ∀ n, (∀ i, i < n → ¬ Q i) → ta_cn Q n = 0
  | 0, _ => rfl
  | n + 1, h => by rw [ta_cn_f (h n (by omega))]; exact ta_cn_0 n (fun i hi => h i (by omega))
theorem ta_cn_pos {Q : Nat → Prop} : ∀ n, 0 < ta_cn Q n → ∃ i, i < n ∧ Q i
  | 0, h => absurd h (by show ¬ 0 < 0; omega)
  | n + 1, h => by
    by_cases c : Q n
    · exact ⟨n, by omega, c⟩
    · rw [ta_cn_f c] at h
      obtain ⟨i, hi, hq⟩ := ta_cn_pos n h
      exact ⟨i, by omega, hq⟩
theorem ta_cn_in {Q : Nat → Prop} : ∀ n i, i < n → Q i → 0 < ta_cn Q n
  | 0, i, h, _ => absurd h (by omega)
  | n + 1, i, h, hq => by
    by_cases c : Q n
    · rw [ta_cn_t c]; omega
    · have hi : i < n := by
        rcases Nat.lt_or_ge i n with z | z
        · exact z
        · have : i = n := by omega
          rw [this] at hq; exact absurd hq c
      rw [ta_cn_f c]; exact ta_cn_in n i hi hq
theorem ta_cn_1 {Q : Nat → Prop} : ∀ n, (∀ i j, i < j → j < n → Q i → ¬ Q j) → ta_cn Q n ≤ 1
  | 0, _ => Nat.zero_le 1
  | n + 1, h => by
    have ih := ta_cn_1 n (fun i j hij hj => h i j hij (by omega))
    by_cases c : Q n
    · rw [ta_cn_t c, ta_cn_0 n (fun i hi hq => h i n hi (by omega) hq c)]; omega
    · rw [ta_cn_f c]; exact ih
/-- a sum below n -/
def ta_sm (f : Nat → Nat) : Nat → Nat
  | 0 => 0
  | n + 1 => ta_sm f n + f n
theorem ta_sm_le {f : Nat → Nat} {c : Nat} : ∀ n, (∀ i, i < n → f i ≤ c) → ta_sm f n ≤ n * c
  | 0, _ => by show 0 ≤ 0 * c; omega
  | n + 1, h => by
    have ih := ta_sm_le n (fun i hi => h i (by omega))
    have hn := h n (by omega)
    show ta_sm f n + f n ≤ (n + 1) * c
    rw [Nat.succ_mul]; omega
theorem ta_sm_ext {f g : Nat → Nat} : ∀ n, (∀ i, i < n → f i = g i) → ta_sm f n = ta_sm g n
  | 0, _ => rfl
  | n + 1, h => by
    show ta_sm f n + f n = ta_sm g n + g n
    rw [ta_sm_ext n (fun i hi => h i (by omega)), h n (by omega)]
theorem ta_sm_0 {f : Nat → Nat} : ∀ n, (∀ i, i < n → f i = 0) → ta_sm f n = 0
  | 0, _ => rfl
  | n + 1, h => by
    show ta_sm f n + f n = 0
    rw [ta_sm_0 n (fun i hi => h i (by omega)), h n (by omega)]
theorem ta_sm_add {f g : Nat → Nat} : ∀ n, ta_sm (fun i => f i + g i) n = ta_sm f n + ta_sm g n
  | 0 => rfl
  | n + 1 => by
    show ta_sm (fun i => f i + g i) n + (f n + g n) = (ta_sm f n + f n) + (ta_sm g n + g n)
    rw [ta_sm_add n]; omega
/-- counting pairs either way -/
theorem ta_swap (R : Nat → Nat → Prop) (m : Nat) : ∀ n, ta_sm (fun i => ta_cn (fun j => R i j) m) n = ta_sm (fun j => ta_cn (fun i => R i j) n) m
  | 0 => by
    show 0 = _
    exact (ta_sm_0 m (fun i _ => rfl)).symm
  | n + 1 => by
    show ta_sm (fun i => ta_cn (fun j => R i j) m) n + ta_cn (fun j => R n j) m = _
    rw [ta_swap R m n]
    have e : ∀ k, ta_cn (fun j => R n j) k = ta_sm (fun j => @ite Nat (R n j) (Classical.propDecidable _) 1 0) k := by
      intro k
      induction k with
      | zero => rfl
      | succ k ih =>
        show ta_cn (fun j => R n j) k + _ = ta_sm _ k + _
        rw [ih]
    rw [e m, ← ta_sm_add]
    rfl
end
section
/-! pictures of a track, canonical runs -/
abbrev ta_T : Type := Nat × (Nat → Nat) × (Nat → Nat)
def ta_okf (n : Nat) (S E : Nat → Nat) : Prop := n ≤ 32 ∧ (∀ i, i < n → S i < E i ∧ E i ≤ 64) ∧ (∀ i j, i < j → j < n → S i < S j ∨ (S i = S j ∧ E j ≤ E i))
def ta_ok (X : ta_T) : Prop := ta_okf X.1 X.2.1 X.2.2
def ta_cov (n : Nat) (S E : Nat → Nat) (p : Nat) : Prop := ∃ j, j < n ∧ S j ≤ p ∧ p < E j
def ta_can (m : Nat) (A B : Nat → Nat) (C : Nat → Prop) : Prop := (∀ j, j < m → A j < B j ∧ B j ≤ 64) ∧ (∀ j, j + 1 < m → B j < A (j + 1)) ∧ (∀ p, C p ↔ ta_cov m A B p)
theorem ta_can_mono {m : Nat} {A B : Nat → Nat} {C : Nat → Prop} (h : ta_can m A B C) : ∀ j i, i < j → j < m → B i < A j
  | 0, i, hi, _ => absurd hi (by omega)
  | j + 1, i, hi, hj => by
    have s := h.2.1 j hj
    by_cases e : i = j
    · rw [e]; exact s
    · have ih := ta_can_mono h j i (by omega) (by omega)
      have q := h.1 j (by omega)
      omega
theorem ta_can_two {m : Nat} {A B : Nat → Nat} {C : Nat → Prop} (h : ta_can m A B C) : ∀ j, j < m → 2 * j ≤ A j
  | 0, _ => by omega
  | j + 1, hj => by
    have s := h.2.1 j hj
    have ih := ta_can_two h j (by omega)
    have q := h.1 j (by omega)
    omega
theorem ta_can_le {m : Nat} {A B : Nat → Nat} {C : Nat → Prop} (h : ta_can m A B C) : m ≤ 32 := by
  rcases Nat.lt_or_ge 32 m with z | z
  · have a := ta_can_two h 32 z
    have b := h.1 32 z
    omega
  · exact z
theorem ta_can_ok {m : Nat} {A B : Nat → Nat} {C : Nat → Prop} (h : ta_can m A B C) : ta_okf m A B :=
  ⟨ta_can_le h, h.1, fun i j hij hj => Or.inl (by
    have a := ta_can_mono h j i hij hj
    have b := h.1 i (by omega)
    omega)⟩
theorem ta_can_c {m : Nat} {A B : Nat → Nat} {C C' : Nat → Prop} (h : ta_can m A B C) (e : ∀ p, C' p ↔ C p) : ta_can m A B C' :=
  ⟨h.1, h.2.1, fun p => (e p).trans (h.2.2 p)⟩
theorem ta_can_l1 {m m' : Nat} {A B A' B' : Nat → Nat} {C : Nat → Prop} (h : ta_can m A B C) (h' : ta_can m' A' B' C) {j : Nat} (hj : j < m)
    (e : ∀ i, i < j → A i = A' i ∧ B i = B' i) : j < m' ∧ A' j ≤ A j := by
  have q := h.1 j hj
  obtain ⟨i, hi, g1, g2⟩ := (h'.2.2 (A j)).mp ((h.2.2 (A j)).mpr ⟨j, hj, Nat.le_refl _, q.1⟩)
  have ij : j ≤ i := by
    rcases Nat.lt_or_ge i j with z | z
    · have a := ta_can_mono h j i z hj
      have b := e i z
      omega
    · exact z
  refine ⟨by omega, ?_⟩
  by_cases c : j = i
  · subst c; exact g1
  · have a := ta_can_mono h' i j (by omega) hi
    have b := h'.1 j (by omega)
    omega
theorem ta_can_l2 {m m' : Nat} {A B A' B' : Nat → Nat} {C : Nat → Prop} (h : ta_can m A B C) (h' : ta_can m' A' B' C) {j : Nat} (hj : j < m) (hj' : j < m')
    (e : A j = A' j) : B' j ≤ B j := by
  rcases Nat.lt_or_ge (B j) (B' j) with z | z
  · have q := h.1 j hj
    obtain ⟨i, hi, g1, g2⟩ := (h.2.2 (B j)).mp ((h'.2.2 (B j)).mpr ⟨j, hj', by omega, z⟩)
    rcases Nat.lt_trichotomy i j with c | c | c
    · have a := ta_can_mono h j i c hj
      omega
    · rw [c] at g2; omega
    · have a := ta_can_mono h i j c hi
      omega
  · exact z
theorem ta_can_uq {m m' : Nat} {A B A' B' : Nat → Nat} {C : Nat → Prop} (h : ta_can m A B C) (h' : ta_can m' A' B' C) : m = m' ∧ ∀ j, j < m → A j = A' j ∧ B j = B' j := by
  have main : ∀ k j, j < k → (j < m ↔ j < m') ∧ (j < m → A j = A' j ∧ B j = B' j) := by
    intro k
    induction k with
    | zero => exact fun j hj => absurd hj (by omega)
    | succ k ih =>
      intro j hj
      by_cases c : j < k
      · exact ih j c
      · have jk : j = k := by omega
        have iff : j < m ↔ j < m' := by
          constructor
          · intro z
            exact (ta_can_l1 h h' z (fun i hi => (ih i (by omega)).2 (by omega))).1
          · intro z
            exact (ta_can_l1 h' h z (fun i hi => by
              have u := (ih i (by omega)).2 ((ih i (by omega)).1.mpr (by omega))
              exact ⟨u.1.symm, u.2.symm⟩)).1
        refine ⟨iff, fun z => ?_⟩
        have z' := iff.mp z
        have a := (ta_can_l1 h h' z (fun i hi => (ih i (by omega)).2 (by omega))).2
        have a' := (ta_can_l1 h' h z' (fun i hi => by
              have u := (ih i (by omega)).2 (by omega)
              exact ⟨u.1.symm, u.2.symm⟩)).2
        have ea : A j = A' j := by omega
        have b := ta_can_l2 h h' z z' ea
        have b' := ta_can_l2 h' h z' z ea.symm
        exact ⟨ea, by omega⟩
  have em : m = m' := by
    rcases Nat.lt_trichotomy m m' with c | c | c
    · exact absurd ((main (m + 1) m (by omega)).1.mpr c) (by omega)
    · exact c
    · exact absurd ((main (m' + 1) m' (by omega)).1.mp c) (by omega)
  exact ⟨em, fun j hj => (main (j + 1) j (by omega)).2 hj⟩
theorem ta_can_0 {A B : Nat → Nat} {C : Nat → Prop} (h : ∀ p, ¬ C p) : ta_can 0 A B C :=
  ⟨fun j hj => absurd hj (by omega), fun j hj => absurd hj (by omega), fun p => ⟨fun z => absurd z (h p), fun ⟨j, hj, _⟩ => absurd hj (by omega)⟩⟩
theorem ta_can_app {m s e : Nat} {A B : Nat → Nat} {C C' : Nat → Prop} (h : ta_can m A B C) (hs : s < e) (he : e ≤ 64) (hb : ∀ j, j < m → B j < s)
    (hc : ∀ p, C' p ↔ (C p ∨ (s ≤ p ∧ p < e))) : ta_can (m + 1) (ta_un A m s) (ta_un B m e) C' := by
  refine ⟨fun j hj => ?_, fun j hj => ?_, fun p => ?_⟩
  · by_cases c : j = m
    · rw [ta_uns c, ta_uns c]; exact ⟨hs, he⟩
    · rw [ta_unn c, ta_unn c]; exact h.1 j (by omega)
  · have n1 : j ≠ m := by omega
    rw [ta_unn n1]
    by_cases c : j + 1 = m
    · rw [ta_uns c]; exact hb j (by omega)
    · rw [ta_unn c]; exact h.2.1 j (by omega)
  · rw [hc p, h.2.2 p]
    constructor
    · rintro (⟨j, hj, g1, g2⟩ | ⟨g1, g2⟩)
      · have n1 : j ≠ m := by omega
        exact ⟨j, by omega, by rw [ta_unn n1]; exact g1, by rw [ta_unn n1]; exact g2⟩
      · exact ⟨m, by omega, by rw [ta_uns rfl]; exact g1, by rw [ta_uns rfl]; exact g2⟩
    · rintro ⟨j, hj, g1, g2⟩
      by_cases c : j = m
      · rw [ta_uns c] at g1 g2; exact Or.inr ⟨g1, g2⟩
      · rw [ta_unn c] at g1 g2; exact Or.inl ⟨j, by omega, g1, g2⟩
theorem ta_can_ext {m s e v : Nat} {A B : Nat → Nat} {C C' : Nat → Prop} (h : ta_can (m + 1) A B C) (h1 : A m ≤ s) (h2 : s ≤ B m) (hs : s < e) (he : e ≤ 64)
    (hv : v = max (B m) e) (hc : ∀ p, C' p ↔ (C p ∨ (s ≤ p ∧ p < e))) : ta_can (m + 1) A (ta_un B m v) C' := by
  have q := h.1 m (by omega)
  refine ⟨fun j hj => ?_, fun j hj => ?_, fun p => ?_⟩
  · by_cases c : j = m
    · rw [ta_uns c, c]; omega
    · rw [ta_unn c]; exact h.1 j hj
  · have n1 : j ≠ m := by omega
    rw [ta_unn n1]; exact h.2.1 j hj
  · rw [hc p, h.2.2 p]
    constructor
    · rintro (⟨j, hj, g1, g2⟩ | ⟨g1, g2⟩)
      · by_cases c : j = m
        · rw [c] at g1 g2
          exact ⟨m, by omega, g1, by rw [ta_uns rfl]; omega⟩
        · exact ⟨j, hj, g1, by rw [ta_unn c]; exact g2⟩
      · exact ⟨m, by omega, by omega, by rw [ta_uns rfl]; omega⟩
    · rintro ⟨j, hj, g1, g2⟩
      by_cases c : j = m
      · rw [ta_uns c] at g2
        rw [c] at g1
        rcases Nat.lt_or_ge p (B m) with z | z
        · exact Or.inl ⟨m, by omega, g1, z⟩
        · exact Or.inr ⟨by omega, by omega⟩
      · rw [ta_unn c] at g2; exact Or.inl ⟨j, hj, g1, g2⟩
theorem ta_can_ex (C : Nat → Prop) : ∀ k, k ≤ 64 → ∃ m A B, ta_can m A B (fun p => p < k ∧ C p)
  | 0, _ => ⟨0, id, id, ta_can_0 (fun p z => absurd z.1 (by omega))⟩
  | k + 1, hk => by
    obtain ⟨m, A, B, h⟩ := ta_can_ex C k (by omega)
    by_cases c : C k
    · have hc : ∀ p, (p < k + 1 ∧ C p) ↔ ((p < k ∧ C p) ∨ (k ≤ p ∧ p < k + 1)) := by
        intro p
        constructor
        · intro ⟨z1, z2⟩
          by_cases e : p < k
          · exact Or.inl ⟨e, z2⟩
          · exact Or.inr ⟨by omega, z1⟩
        · rintro (⟨z1, z2⟩ | ⟨z1, z2⟩)
          · exact ⟨by omega, z2⟩
          · have : p = k := by omega
            rw [this]; exact ⟨by omega, c⟩
      have hB : ∀ j, j < m → B j ≤ k := by
        intro j hj
        have q := h.1 j hj
        have w := (h.2.2 (B j - 1)).mpr ⟨j, hj, by omega, by omega⟩
        have := w.1
        omega
      by_cases e : ∃ m', m = m' + 1 ∧ B m' = k
      · obtain ⟨m', rfl, hm⟩ := e
        have q := h.1 m' (by omega)
        exact ⟨m' + 1, A, _, ta_can_ext h (s := k) (e := k + 1) (v := k + 1) (by omega) (by omega) (by omega) hk (by omega) hc⟩
      · refine ⟨m + 1, _, _, ta_can_app h (s := k) (e := k + 1) (by omega) hk (fun j hj => ?_) hc⟩
        have b := hB j hj
        by_cases c2 : B j = k
        · by_cases c3 : j + 1 = m
          · exact absurd ⟨j, c3.symm, c2⟩ e
          · have a := h.2.1 j (by omega)
            have a2 := h.1 (j + 1) (by omega)
            have a3 := hB (j + 1) (by omega)
            omega
        · omega
    · refine ⟨m, A, B, ta_can_c h (fun p => ⟨fun ⟨z1, z2⟩ => ⟨?_, z2⟩, fun ⟨z1, z2⟩ => ⟨by omega, z2⟩⟩)⟩
      by_cases e : p = k
      · rw [e] at z2; exact absurd z2 c
      · omega
/-- how many stretches lie over p -/
noncomputable def ta_dp (n : Nat) (S E : Nat → Nat) (p : Nat) : Nat := ta_cn (fun j => S j ≤ p ∧ p < E j) n
theorem ta_dp_cov {n p : Nat} {S E : Nat → Nat} : 1 ≤ ta_dp n S E p ↔ ta_cov n S E p := by
  constructor
  · intro h
    obtain ⟨i, hi, hq⟩ := ta_cn_pos n h
    exact ⟨i, hi, hq⟩
  · rintro ⟨i, hi, hq⟩
    exact ta_cn_in n i hi hq
theorem ta_can_dp {m : Nat} {A B : Nat → Nat} {C : Nat → Prop} (h : ta_can m A B C) (p : Nat) : ta_dp m A B p ≤ 1 :=
  ta_cn_1 m (fun i j hij hj q r => by
    have a := ta_can_mono h j i hij hj
    omega)
theorem ta_can_dp1 {m p : Nat} {A B : Nat → Nat} {C : Nat → Prop} (h : ta_can m A B C) (c : C p) : ta_dp m A B p = 1 := by
  have a := ta_can_dp h p
  have b := ta_dp_cov.mpr ((h.2.2 p).mp c)
  omega
theorem ta_can_dp0 {m p : Nat} {A B : Nat → Nat} {C : Nat → Prop} (h : ta_can m A B C) (c : ¬ C p) : ta_dp m A B p = 0 := by
  rcases Nat.lt_or_ge (ta_dp m A B p) 1 with z | z
  · omega
  · exact absurd ((h.2.2 p).mpr (ta_dp_cov.mp z)) c
/-! the three tracks -/
def ta_okP (P : Nat → ta_T) : Prop := ∀ t, t < 3 → ta_ok (P t)
def ta_set (P : Nat → ta_T) (t : Nat) (X : ta_T) : Nat → ta_T := fun q => if q = t then X else P q
theorem ta_set_s {P : Nat → ta_T} {t : Nat} {X : ta_T} : ta_set P t X t = X := if_pos rfl
theorem ta_set_n {P : Nat → ta_T} {t q : Nat} {X : ta_T} (h : q ≠ t) : ta_set P t X q = P q := if_neg h
theorem ta_set_set {P : Nat → ta_T} {t : Nat} {X Y : ta_T} : ta_set (ta_set P t X) t Y = ta_set P t Y := by
  funext q
  by_cases c : q = t
  · rw [c, ta_set_s, ta_set_s]
  · rw [ta_set_n c, ta_set_n c, ta_set_n c]
theorem ta_set_ok {P : Nat → ta_T} {t : Nat} {X : ta_T} (h : ta_okP P) (hX : ta_ok X) : ta_okP (ta_set P t X) := by
  intro q hq
  by_cases c : q = t
  · rw [c, ta_set_s]; exact hX
  · rw [ta_set_n c]; exact h q hq
def ta_mt (X : ta_T) (t : Nat) (a1 a2 a3 : Nat → Int32) : Prop := a3 t = nI X.1 ∧ (∀ i, i < X.1 → a1 (32 * t + i) = nI (X.2.1 i)) ∧ (∀ i, i < X.1 → a2 (32 * t + i) = nI (X.2.2 i))
/-- outside the block of track t nothing changed -/
def ta_fr (t : Nat) (a b : Nat → Int32) : Prop := ∀ q, q < 32 * t ∨ 32 * t + 32 ≤ q → b q = a q
theorem ta_fr_r {t : Nat} {a : Nat → Int32} : ta_fr t a a := fun _ _ => rfl
theorem ta_fr_u {t k : Nat} {a b : Nat → Int32} {x : Int32} (h : ta_fr t a b) (h1 : 32 * t ≤ k) (h2 : k < 32 * t + 32) : ta_fr t a (upd b k x) := by
  intro q hq
  rw [pk_un (by omega)]; exact h q hq
theorem ta_mset {P : Nat → ta_T} {t : Nat} {X : ta_T} {a1 a2 a3 b1 b2 b3 : Nat → Int32} (hP : ta_okP P) (h : ∀ q, q < 3 → ta_mt (P q) q a1 a2 a3)
    (f1 : ta_fr t a1 b1) (f2 : ta_fr t a2 b2) (f3 : ∀ q, q < 3 → q ≠ t → b3 q = a3 q) (hX : ta_mt X t b1 b2 b3) : ∀ q, q < 3 → ta_mt (ta_set P t X q) q b1 b2 b3 := by
  intro q hq
  by_cases c : q = t
  · rw [c, ta_set_s]; exact hX
  · rw [ta_set_n c]
    obtain ⟨g1, g2, g3⟩ := h q hq
    have k := (hP q hq).1
    refine ⟨by rw [f3 q hq c]; exact g1, fun i hi => ?_, fun i hi => ?_⟩
    · rw [f1 _ (by omega)]; exact g2 i hi
    · rw [f2 _ (by omega)]; exact g3 i hi
/-! holders and lists -/
/-- g is 1 above the nearest earlier stretch that ends no earlier (0: none) -/
def ta_par (E : Nat → Nat) (j g : Nat) : Prop := g ≤ j ∧ (0 < g → E j ≤ E (g - 1)) ∧ (∀ h, g ≤ h → h < j → E h < E j)
def ta_prf (E : Nat → Nat) (j : Nat) : Nat → Nat
  | 0 => 0
  | g + 1 => if E j ≤ E g then g + 1 else ta_prf E j g
def ta_pr (E : Nat → Nat) (j : Nat) : Nat := ta_prf E j j
theorem ta_prf_par (E : Nat → Nat) (j : Nat) : ∀ k, k ≤ j → (∀ h, k ≤ h → h < j → E h < E j) → ta_par E j (ta_prf E j k)
  | 0, _, h => ⟨Nat.zero_le _, fun z => absurd z (by show ¬ 0 < 0; omega), h⟩
  | g + 1, hk, h => by
    by_cases c : E j ≤ E g
    · have e : ta_prf E j (g + 1) = g + 1 := if_pos c
      rw [e]
      exact ⟨hk, fun _ => c, h⟩
    · have e : ta_prf E j (g + 1) = ta_prf E j g := if_neg c
      rw [e]
      refine ta_prf_par E j g (by omega) (fun i h1 h2 => ?_)
      by_cases d : i = g
      · rw [d]; omega
      · exact h i (by omega) h2
theorem ta_pr_par (E : Nat → Nat) (j : Nat) : ta_par E j (ta_pr E j) := ta_prf_par E j j (Nat.le_refl j) (fun h h1 h2 => absurd h1 (by omega))
theorem ta_par_uq {E : Nat → Nat} {j g g' : Nat} (h : ta_par E j g) (h' : ta_par E j g') : g = g' := by
  rcases Nat.lt_trichotomy g g' with c | c | c
  · have a := h.2.2 (g' - 1) (by omega) (by have := h'.1; omega)
    have b := h'.2.1 (by omega)
    omega
  · exact c
  · have a := h'.2.2 (g - 1) (by omega) (by have := h.1; omega)
    have b := h.2.1 (by omega)
    omega
/-- the list of holder g among the first i stretches stands in L from f up to c -/
def ta_lst (pr L : Nat → Nat) (g i f c : Nat) : Prop := f ≤ c ∧ (∀ p, f ≤ p → p < c → L p < i ∧ pr (L p) = g) ∧ (∀ p q, f ≤ p → p < q → q < c → L p < L q) ∧ (∀ j, j < i → pr j = g → ∃ p, f ≤ p ∧ p < c ∧ L p = j)
theorem ta_lst_un {pr L : Nat → Nat} {g i f c w v : Nat} (h : ta_lst pr L g i f c) (hw : c ≤ w) : ta_lst pr (ta_un L w v) g i f c := by
  obtain ⟨h0, h1, h2, h3⟩ := h
  refine ⟨h0, fun p p1 p2 => ?_, fun p q p1 pq q2 => ?_, fun j hj e => ?_⟩
  · rw [ta_unn (by omega)]; exact h1 p p1 p2
  · rw [ta_unn (by omega), ta_unn (by omega)]; exact h2 p q p1 pq q2
  · obtain ⟨p, p1, p2, e2⟩ := h3 j hj e
    exact ⟨p, p1, p2, by rw [ta_unn (by omega)]; exact e2⟩
theorem ta_lst_skip {pr L : Nat → Nat} {g i f c : Nat} (h : ta_lst pr L g i f c) (hn : pr i ≠ g) : ta_lst pr L g (i + 1) f c := by
  obtain ⟨h0, h1, h2, h3⟩ := h
  refine ⟨h0, fun p p1 p2 => ?_, h2, fun j hj e => ?_⟩
  · have a := h1 p p1 p2
    exact ⟨by omega, a.2⟩
  · refine h3 j ?_ e
    by_cases d : j = i
    · rw [d] at e; exact absurd e hn
    · omega
theorem ta_lst_add {pr L : Nat → Nat} {g i f c : Nat} (h : ta_lst pr L g i f c) (hn : pr i = g) : ta_lst pr (ta_un L c i) g (i + 1) f (c + 1) := by
  obtain ⟨h0, h1, h2, h3⟩ := h
  refine ⟨by omega, fun p p1 p2 => ?_, fun p q p1 pq q2 => ?_, fun j hj e => ?_⟩
  · by_cases d : p = c
    · rw [ta_uns d]; exact ⟨by omega, hn⟩
    · rw [ta_unn d]
      have a := h1 p p1 (by omega)
      exact ⟨by omega, a.2⟩
  · have d : p ≠ c := by omega
    rw [ta_unn d]
    by_cases d2 : q = c
    · rw [ta_uns d2]
      have a := h1 p p1 (by omega)
      exact a.1
    · rw [ta_unn d2]; exact h2 p q p1 pq (by omega)
  · by_cases d : j = i
    · exact ⟨c, h0, by omega, by rw [ta_uns rfl]; exact d.symm⟩
    · obtain ⟨p, p1, p2, e2⟩ := h3 j (by omega) e
      exact ⟨p, p1, by omega, by rw [ta_unn (by omega)]; exact e2⟩
/-- the search lists of a track -/
def ta_str (X : ta_T) (a5 a6 a7 : Nat → Int32) : Prop := ∃ L F M : Nat → Nat, ta_mb X.1 L a5 ∧ ta_mb (X.1 + 1) F a6 ∧ ta_mb (X.1 + 1) M a7 ∧
  (∀ g, g ≤ X.1 → F g + M g ≤ X.1 ∧ ta_lst (ta_pr X.2.2) L g X.1 (F g) (F g + M g))
/-- the state matches the picture -/
def ta_R (P : Nat → ta_T) (b : Int32) (a1 a2 a3 a5 a6 a7 : Nat → Int32) : Prop :=
  (∀ t, t < 3 → ta_mt (P t) t a1 a2 a3) ∧ (b = -1 ∨ ∃ t, t < 3 ∧ b = nI t ∧ ta_str (P t) a5 a6 a7)
def ta_RU (P : Nat → ta_T) (u : St1) : Prop := match u with
  | (_, _, _, b, a1, a2, a3, _, a5, a6, a7, _, _, _, _, _, _, _) => ta_R P b a1 a2 a3 a5 a6 a7
end
section
/-! insert -/
def ta_in (f : Nat → Nat) (p v : Nat) : Nat → Nat := fun j => if j < p then f j else if j = p then v else f (j - 1)
theorem ta_in_l {f : Nat → Nat} {p v j : Nat} (h : j < p) : ta_in f p v j = f j := if_pos h
theorem ta_in_e {f : Nat → Nat} {p v j : Nat} (h : j = p) : ta_in f p v j = v := by
  unfold ta_in; rw [if_neg (by omega), if_pos h]
theorem ta_in_g {f : Nat → Nat} {p v j : Nat} (h : p < j) : ta_in f p v j = f (j - 1) := by
  unfold ta_in; rw [if_neg (by omega), if_neg (by omega)]
theorem ta_pos_ex (G : Nat → Prop) : ∀ n, ∃ p, p ≤ n ∧ (∀ j, p ≤ j → j < n → G j) ∧ (0 < p → ¬ G (p - 1))
  | 0 => ⟨0, Nat.le_refl 0, fun j _ h => absurd h (by omega), fun h => absurd h (by omega)⟩
  | n + 1 => by
    by_cases c : G n
    · obtain ⟨p, h1, h2, h3⟩ := ta_pos_ex G n
      refine ⟨p, by omega, fun j j1 j2 => ?_, h3⟩
      by_cases e : j = n
      · rw [e]; exact c
      · exact h2 j j1 (by omega)
    · exact ⟨n + 1, Nat.le_refl _, fun j j1 j2 => absurd j2 (by omega), fun _ => c⟩
theorem ta_in_ok {n s e p : Nat} {S E : Nat → Nat} (hok : ta_okf n S E) (hn : n < 32) (hse : s < e) (he : e ≤ 64) (hpn : p ≤ n)
    (hg : ∀ j, p ≤ j → j < n → (s < S j ∨ (S j = s ∧ E j < e))) (hp : 0 < p → ¬ (s < S (p - 1) ∨ (S (p - 1) = s ∧ E (p - 1) < e))) :
    ta_okf (n + 1) (ta_in S p s) (ta_in E p e) := by
  obtain ⟨k1, k2, k3⟩ := hok
  refine ⟨by omega, fun i hi => ?_, fun i j hij hj => ?_⟩
  · rcases Nat.lt_trichotomy i p with c | c | c
    · rw [ta_in_l c, ta_in_l c]; exact k2 i (by omega)
    · rw [ta_in_e c, ta_in_e c]; exact ⟨hse, he⟩
    · rw [ta_in_g c, ta_in_g c]; exact k2 (i - 1) (by omega)
  · rcases Nat.lt_trichotomy i p with c | c | c
    · rw [ta_in_l c, ta_in_l c]
      rcases Nat.lt_trichotomy j p with d | d | d
      · rw [ta_in_l d, ta_in_l d]; exact k3 i j hij (by omega)
      · rw [ta_in_e d, ta_in_e d]
        have hh := hp (by omega)
        by_cases x : i = p - 1
        · rw [x]; omega
        · have y := k3 i (p - 1) (by omega) (by omega)
          omega
      · rw [ta_in_g d, ta_in_g d]; exact k3 i (j - 1) (by omega) (by omega)
    · rw [ta_in_e c, ta_in_e c, ta_in_g (by omega), ta_in_g (by omega)]
      have hh := hg (j - 1) (by omega) (by omega)
      omega
    · rw [ta_in_g c, ta_in_g c, ta_in_g (by omega), ta_in_g (by omega)]
      exact k3 (i - 1) (j - 1) (by omega) (by omega)
section
variable {post : St1 → Prop} {r o h b : Int32} {a1 a2 a3 a4 a5 a6 a7 a8 a9 a10 a11 a12 a13 a14 : Nat → Int32}
theorem ta_ins99 {t n s e p : Nat} (ht : t < 3) (hn : n < 32) (hp : p ≤ n) (h3 : a3 t = nI n)
    (H : post (r, o, h, -1, upd a1 (32 * t + p) (nI s), upd a2 (32 * t + p) (nI e), upd a3 t (nI (n + 1)), a4, a5, a6, a7, a8, a9, a10, a11, a12, a13, a14)) :
    wX_insert_99 post (nI t) (nI s) (nI e) (nI (32 * t + p)) r o h b a1 a2 a3 a4 a5 a6 a7 a8 a9 a10 a11 a12 a13 a14 :=
  ⟨pk_in (32 * t + p) 96 (by omega), nm_r (ta_up rfl (by omega) rfl) ⟨pk_in (32 * t + p) 96 (by omega), nm_r (ta_up rfl (by omega) rfl)
    ⟨pk_in t 3 ht, pk_in t 3 ht, nm_r (ta_up rfl (by omega) (by rw [ta_rd rfl (by omega) h3, nI_1])) H⟩⟩⟩
theorem ta_ins61 {J : Int32 → (Nat → Int32) → (Nat → Int32) → (Nat → Int32) → (Nat → Int32) → (Nat → Int32) → (Nat → Int32) → (Nat → Int32) → (Nat → Int32) → (Nat → Int32) → (Nat → Int32) → (Nat → Int32) → (Nat → Int32) → (Nat → Int32) → (Nat → Int32) → Prop}
    {t k : Nat} {x2 x3 v1 v2 : Int32} (ht : t < 3) (hk : k < 31) (h1 : a1 (32 * t + k) = v1) (h2 : a2 (32 * t + k) = v2)
    (H : J (nI (32 * t + k)) (upd a1 (32 * t + (k + 1)) v1) (upd a2 (32 * t + (k + 1)) v2) a3 a4 a5 a6 a7 a8 a9 a10 a11 a12 a13 a14) :
    wX_insert_61 post J (nI t) x2 x3 (nI (32 * t + (k + 1))) r o h b a1 a2 a3 a4 a5 a6 a7 a8 a9 a10 a11 a12 a13 a14 := by
  have i1 : nI (32 * t + (k + 1)) - 1 = nI (32 * t + k) := nI_pred (32 * t + k)
  exact ⟨pk_in (32 * t + k) 96 (by omega) i1, pk_in (32 * t + (k + 1)) 96 (by omega), nm_r (ta_up rfl (by omega) (ta_rd i1 (by omega) h1))
    ⟨pk_in (32 * t + k) 96 (by omega) i1, pk_in (32 * t + (k + 1)) 96 (by omega), nm_r (ta_up rfl (by omega) (ta_rd i1 (by omega) h2)) (nm_r (pk_m1 (32 * t + k)) H)⟩⟩
theorem ta_ins13 {t n s e p : Nat} {S E : Nat → Nat} (ht : t < 3) (hn : n < 32) (hok : ta_okf n S E) (hse : s < e) (he : e ≤ 64) (hpn : p ≤ n)
    (hg : ∀ j, p ≤ j → j < n → (s < S j ∨ (S j = s ∧ E j < e))) (hp : 0 < p → ¬ (s < S (p - 1) ∨ (S (p - 1) = s ∧ E (p - 1) < e))) (h3 : a3 t = nI n)
    (H : ∀ b1 b2, ta_fr t a1 b1 → ta_fr t a2 b2 → (∀ j, j < n + 1 → b1 (32 * t + j) = nI (ta_in S p s j)) → (∀ j, j < n + 1 → b2 (32 * t + j) = nI (ta_in E p e j)) →
      post (r, o, h, -1, b1, b2, upd a3 t (nI (n + 1)), a4, a5, a6, a7, a8, a9, a10, a11, a12, a13, a14)) :
    ∀ d k b1 b2, k = p + d → k ≤ n → (∀ j, j < k → b1 (32 * t + j) = nI (S j)) → (∀ j, j < k → b2 (32 * t + j) = nI (E j)) →
      (∀ j, k < j → j ≤ n → b1 (32 * t + j) = nI (S (j - 1))) → (∀ j, k < j → j ≤ n → b2 (32 * t + j) = nI (E (j - 1))) → ta_fr t a1 b1 → ta_fr t a2 b2 →
      wX_insert_13 post (nI t) (nI s) (nI e) r o h b (d + 1) (nI (32 * t + k)) b1 b2 a3 a4 a5 a6 a7 a8 a9 a10 a11 a12 a13 a14 := by
  intro d
  induction d with
  | zero =>
    intro k b1 b2 hk hkn q1 q2 w1 w2 f1 f2
    have kp : k = p := by omega
    have F : wX_insert_99 post (nI t) (nI s) (nI e) (nI (32 * t + k)) r o h b b1 b2 a3 a4 a5 a6 a7 a8 a9 a10 a11 a12 a13 a14 := by
      refine ta_ins99 ht hn hkn h3 (H _ _ (ta_fr_u f1 (by omega) (by omega)) (ta_fr_u f2 (by omega) (by omega)) (fun j hj => ?_) (fun j hj => ?_))
      · rcases Nat.lt_trichotomy j k with c | c | c
        · rw [pk_un (by omega), ta_in_l (by omega)]; exact q1 j c
        · rw [ta_ue (by omega), ta_in_e (by omega)]
        · rw [pk_un (by omega), ta_in_g (by omega)]; exact w1 j c (by omega)
      · rcases Nat.lt_trichotomy j k with c | c | c
        · rw [pk_un (by omega), ta_in_l (by omega)]; exact q2 j c
        · rw [ta_ue (by omega), ta_in_e (by omega)]
        · rw [pk_un (by omega), ta_in_g (by omega)]; exact w2 j c (by omega)
    refine pk_le (32 * t + k) (32 * t) (fun _ => F) (fun z => ?_) rfl (ta_32 t)
    obtain ⟨k', rfl⟩ : ∃ k', k = k' + 1 := ⟨k - 1, by omega⟩
    have i1 : nI (32 * t + (k' + 1)) - 1 = nI (32 * t + k') := nI_pred (32 * t + k')
    have hh := hp (by omega)
    rw [show p - 1 = k' by omega] at hh
    have bb := hok.2.1 k' (by omega)
    refine ⟨pk_in (32 * t + k') 96 (by omega) i1, pk_lt s (S k') (fun z => absurd z (by omega)) (fun _ => ⟨pk_in (32 * t + k') 96 (by omega) i1, ?_⟩) rfl (ta_rd i1 (by omega) (q1 k' (by omega)))⟩
    refine pk_eq (S k') s (fun z => ⟨pk_in (32 * t + k') 96 (by omega) i1, ?_⟩) (fun _ => F) (ta_rd i1 (by omega) (q1 k' (by omega))) rfl
    exact pk_le e (E k') (fun _ => F) (fun z => absurd z (by omega)) rfl (ta_rd i1 (by omega) (q2 k' (by omega)))
  | succ d ih =>
    intro k b1 b2 hk hkn q1 q2 w1 w2 f1 f2
    obtain ⟨k', rfl⟩ : ∃ k', k = k' + 1 := ⟨k - 1, by omega⟩
    have i1 : nI (32 * t + (k' + 1)) - 1 = nI (32 * t + k') := nI_pred (32 * t + k')
    have bb := hok.2.1 k' (by omega)
    have G := hg k' (by omega) (by omega)
    have F : wX_insert_61 post (wX_insert_13 post (nI t) (nI s) (nI e) r o h b (d + 1)) (nI t) (nI s) (nI e) (nI (32 * t + (k' + 1))) r o h b b1 b2 a3 a4 a5 a6 a7 a8 a9 a10 a11 a12 a13 a14 := by
      refine ta_ins61 ht (by omega) (q1 k' (by omega)) (q2 k' (by omega)) (ih k' _ _ (by omega) (by omega) (fun j hj => ?_) (fun j hj => ?_) (fun j j1 j2 => ?_) (fun j j1 j2 => ?_) (ta_fr_u f1 (by omega) (by omega)) (ta_fr_u f2 (by omega) (by omega)))
      · rw [pk_un (by omega)]; exact q1 j (by omega)
      · rw [pk_un (by omega)]; exact q2 j (by omega)
      · by_cases c : j = k' + 1
        · rw [ta_ue (by omega), c]; rfl
        · rw [pk_un (by omega)]; exact w1 j (by omega) j2
      · by_cases c : j = k' + 1
        · rw [ta_ue (by omega), c]; rfl
        · rw [pk_un (by omega)]; exact w2 j (by omega) j2
    refine pk_le (32 * t + (k' + 1)) (32 * t) (fun z => absurd z (by omega)) (fun z => ?_) rfl (ta_32 t)
    refine ⟨pk_in (32 * t + k') 96 (by omega) i1, pk_lt s (S k') (fun _ => F) (fun z => ⟨pk_in (32 * t + k') 96 (by omega) i1, ?_⟩) rfl (ta_rd i1 (by omega) (q1 k' (by omega)))⟩
    refine pk_eq (S k') s (fun z => ⟨pk_in (32 * t + k') 96 (by omega) i1, ?_⟩) (fun z => absurd G (by omega)) (ta_rd i1 (by omega) (q1 k' (by omega))) rfl
    exact pk_le e (E k') (fun z => absurd G (by omega)) (fun _ => F) rfl (ta_rd i1 (by omega) (q2 k' (by omega)))
theorem ta_ins {t n s e p : Nat} {S E : Nat → Nat} (ht : t < 3) (hn : n < 32) (hok : ta_okf n S E) (hse : s < e) (he : e ≤ 64) (hpn : p ≤ n)
    (hg : ∀ j, p ≤ j → j < n → (s < S j ∨ (S j = s ∧ E j < e))) (hp : 0 < p → ¬ (s < S (p - 1) ∨ (S (p - 1) = s ∧ E (p - 1) < e))) (hm : ta_mt (n, S, E) t a1 a2 a3)
    (H : ∀ b1 b2, ta_fr t a1 b1 → ta_fr t a2 b2 → ta_mt (n + 1, ta_in S p s, ta_in E p e) t b1 b2 (upd a3 t (nI (n + 1))) →
      post (r, o, h, -1, b1, b2, upd a3 t (nI (n + 1)), a4, a5, a6, a7, a8, a9, a10, a11, a12, a13, a14)) :
    wpX_insert post (r, o, h, b, a1, a2, a3, a4, a5, a6, a7, a8, a9, a10, a11, a12, a13, a14) (nI t) (nI s) (nI e) := by
  obtain ⟨h3, h1, h2⟩ := hm
  exact ⟨pk_in t 3 ht, nm_r (by rw [ta_rd rfl (by omega) h3]; exact ta_ix t n) ⟨_, ta_ins13 ht hn hok hse he hpn hg hp h3
    (fun b1 b2 f1 f2 g1 g2 => H b1 b2 f1 f2 ⟨pk_us, g1, g2⟩) (n - p) n a1 a2 (by omega) (Nat.le_refl n) h1 h2 (fun j j1 j2 => absurd j1 (by omega)) (fun j j1 j2 => absurd j1 (by omega)) ta_fr_r ta_fr_r⟩⟩
end
theorem ta_insR {P : Nat → ta_T} {t s e : Nat} (hP : ta_okP P) (ht : t < 3) (hn : (P t).1 < 32) (hse : s < e) (he : e ≤ 64) :
    ∃ P', ta_okP P' ∧ ∀ (post : St1 → Prop) (u : St1), ta_RU P u → (∀ u', ta_RU P' u' → post u') → wpX_insert post u (nI t) (nI s) (nI e) := by
  obtain ⟨p, p1, p2, p3⟩ := ta_pos_ex (fun j => s < (P t).2.1 j ∨ ((P t).2.1 j = s ∧ (P t).2.2 j < e)) (P t).1
  refine ⟨ta_set P t ((P t).1 + 1, ta_in (P t).2.1 p s, ta_in (P t).2.2 p e), ta_set_ok hP (ta_in_ok (hP t ht) hn hse he p1 p2 p3), ?_⟩
  rintro post ⟨r, o, h, b, a1, a2, a3, a4, a5, a6, a7, a8, a9, a10, a11, a12, a13, a14⟩ hu H
  have hu' : ta_R P b a1 a2 a3 a5 a6 a7 := hu
  exact ta_ins ht hn (hP t ht) hse he p1 p2 p3 (hu'.1 t ht) (fun b1 b2 f1 f2 hm => H _ ⟨ta_mset hP hu'.1 f1 f2 (fun q _ hq => pk_un hq) hm, Or.inl rfl⟩)
end
section
/-! drop, copy, takeRuns, keepOthers, storeRuns -/
def ta_dr (f : Nat → Nat) (i : Nat) : Nat → Nat := fun j => if j < i then f j else f (j + 1)
theorem ta_dr_l {f : Nat → Nat} {i j : Nat} (h : j < i) : ta_dr f i j = f j := if_pos h
theorem ta_dr_g {f : Nat → Nat} {i j : Nat} (h : i ≤ j) : ta_dr f i j = f (j + 1) := if_neg (by omega)
theorem ta_dr_ok {n i : Nat} {S E : Nat → Nat} (hok : ta_okf n S E) (hi : i < n) : ta_okf (n - 1) (ta_dr S i) (ta_dr E i) := by
  obtain ⟨k1, k2, k3⟩ := hok
  refine ⟨by omega, fun j hj => ?_, fun j l hjl hl => ?_⟩
  · by_cases c : j < i
    · rw [ta_dr_l c, ta_dr_l c]; exact k2 j (by omega)
    · rw [ta_dr_g (by omega), ta_dr_g (by omega)]; exact k2 (j + 1) (by omega)
  · by_cases c : j < i
    · rw [ta_dr_l c, ta_dr_l c]
      by_cases d : l < i
      · rw [ta_dr_l d, ta_dr_l d]; exact k3 j l hjl (by omega)
      · rw [ta_dr_g (by omega), ta_dr_g (by omega)]; exact k3 j (l + 1) (by omega) (by omega)
    · rw [ta_dr_g (by omega), ta_dr_g (by omega), ta_dr_g (by omega), ta_dr_g (by omega)]; exact k3 (j + 1) (l + 1) (by omega) (by omega)
section
variable {post : St1 → Prop} {r o h b : Int32} {a1 a2 a3 a4 a5 a6 a7 a8 a9 a10 a11 a12 a13 a14 : Nat → Int32}
theorem ta_drop9 {t n i : Nat} {S E : Nat → Nat} (ht : t < 3) (hn : n ≤ 32) (hin : i < n) (h3 : a3 t = nI n)
    (H : ∀ b1 b2, ta_fr t a1 b1 → ta_fr t a2 b2 → (∀ j, j < n - 1 → b1 (32 * t + j) = nI (ta_dr S i j)) → (∀ j, j < n - 1 → b2 (32 * t + j) = nI (ta_dr E i j)) →
      post (r, o, h, -1, b1, b2, upd a3 t (nI (n - 1)), a4, a5, a6, a7, a8, a9, a10, a11, a12, a13, a14)) :
    ∀ d k b1 b2, k + d = n - 1 → i ≤ k → (∀ j, j < k → b1 (32 * t + j) = nI (ta_dr S i j)) → (∀ j, j < k → b2 (32 * t + j) = nI (ta_dr E i j)) →
      (∀ j, k < j → j < n → b1 (32 * t + j) = nI (S j)) → (∀ j, k < j → j < n → b2 (32 * t + j) = nI (E j)) → ta_fr t a1 b1 → ta_fr t a2 b2 →
      wX_drop_9 post (nI t) r o h b (d + 1) (nI (32 * t + (k + 1))) b1 b2 a3 a4 a5 a6 a7 a8 a9 a10 a11 a12 a13 a14 := by
  have e3 : (32 * nI t) + a3 (nI t).toNatClampNeg = nI (32 * t + n) := by rw [ta_rd rfl (by omega) h3]; exact ta_ix t n
  have e4 : a3 (nI t).toNatClampNeg - 1 = nI (n - 1) := by rw [ta_rd rfl (by omega) h3]; exact ta_pm (by omega)
  intro d
  induction d with
  | zero =>
    intro k b1 b2 hk hik q1 q2 w1 w2 f1 f2
    refine ⟨pk_in t 3 ht, pk_le (32 * t + n) (32 * t + (k + 1)) (fun _ => ⟨pk_in t 3 ht, pk_in t 3 ht, nm_r (ta_up rfl (by omega) e4) ?_⟩) (fun z => absurd z (by omega)) e3 rfl⟩
    exact H b1 b2 f1 f2 (fun j hj => q1 j (by omega)) (fun j hj => q2 j (by omega))
  | succ d ih =>
    intro k b1 b2 hk hik q1 q2 w1 w2 f1 f2
    have i1 : nI (32 * t + (k + 1)) - 1 = nI (32 * t + k) := nI_pred (32 * t + k)
    refine ⟨pk_in t 3 ht, pk_le (32 * t + n) (32 * t + (k + 1)) (fun z => absurd z (by omega)) (fun _ => ?_) e3 rfl⟩
    refine ⟨pk_in (32 * t + (k + 1)) 96 (by omega), pk_in (32 * t + k) 96 (by omega) i1, nm_r (ta_up i1 (by omega) (ta_rd rfl (by omega) (w1 (k + 1) (by omega) (by omega)))) ?_⟩
    refine ⟨pk_in (32 * t + (k + 1)) 96 (by omega), pk_in (32 * t + k) 96 (by omega) i1, nm_r (ta_up i1 (by omega) (ta_rd rfl (by omega) (w2 (k + 1) (by omega) (by omega)))) (nm_r (nI_1 _) ?_)⟩
    refine ih (k + 1) _ _ (by omega) (by omega) (fun j hj => ?_) (fun j hj => ?_) (fun j j1 j2 => ?_) (fun j j1 j2 => ?_) (ta_fr_u f1 (by omega) (by omega)) (ta_fr_u f2 (by omega) (by omega))
    · by_cases c : j = k
      · rw [ta_ue (by omega), ta_dr_g (by omega), c]
      · rw [pk_un (by omega)]; exact q1 j (by omega)
    · by_cases c : j = k
      · rw [ta_ue (by omega), ta_dr_g (by omega), c]
      · rw [pk_un (by omega)]; exact q2 j (by omega)
    · rw [pk_un (by omega)]; exact w1 j (by omega) j2
    · rw [pk_un (by omega)]; exact w2 j (by omega) j2
end
theorem ta_dropR {P : Nat → ta_T} {t i : Nat} (hP : ta_okP P) (ht : t < 3) (hi : i < (P t).1) :
    ta_okP (ta_set P t ((P t).1 - 1, ta_dr (P t).2.1 i, ta_dr (P t).2.2 i)) ∧ ∀ (post : St1 → Prop) (u : St1), ta_RU P u →
      (∀ u', ta_RU (ta_set P t ((P t).1 - 1, ta_dr (P t).2.1 i, ta_dr (P t).2.2 i)) u' → post u') → wpX_drop post u (nI t) (nI i) := by
  refine ⟨ta_set_ok hP (ta_dr_ok (hP t ht) hi), ?_⟩
  rintro post ⟨r, o, h, b, a1, a2, a3, a4, a5, a6, a7, a8, a9, a10, a11, a12, a13, a14⟩ hu H
  have hu' : ta_R P b a1 a2 a3 a5 a6 a7 := hu
  obtain ⟨h3, h1, h2⟩ := hu'.1 t ht
  have k := (hP t ht).1
  refine nm_r (by rw [ta_ix, nI_1]; rfl) ⟨_, ta_drop9 ht k hi h3 (fun b1 b2 f1 f2 g1 g2 => ?_) ((P t).1 - 1 - i) i a1 a2 (by omega) (Nat.le_refl i)
    (fun j hj => ?_) (fun j hj => ?_) (fun j _ hj => h1 j hj) (fun j _ hj => h2 j hj) ta_fr_r ta_fr_r⟩
  · exact H _ ⟨ta_mset hP hu'.1 f1 f2 (fun q _ hq => pk_un hq) ⟨pk_us, g1, g2⟩, Or.inl rfl⟩
  · rw [ta_dr_l hj]; exact h1 j (by omega)
  · rw [ta_dr_l hj]; exact h2 j (by omega)
section
variable {post : Int32 → St1 → Prop} {r o h b : Int32} {a1 a2 a3 a4 a5 a6 a7 a8 a9 a10 a11 a12 a13 a14 : Nat → Int32}
theorem ta_copy30 {t v m : Nat} (ht : t < 3) (hv : v < 3) (hm : m ≤ 32) (h3 : a3 v = nI m) (h3' : a3 t = nI m)
    (H : ∀ b1 b2, ta_fr t a1 b1 → ta_fr t a2 b2 → (∀ j, j < m → b1 (32 * t + j) = a1 (32 * v + j)) → (∀ j, j < m → b2 (32 * t + j) = a2 (32 * v + j)) →
      post (nI m) (r, o, h, -1, b1, b2, a3, a4, a5, a6, a7, a8, a9, a10, a11, a12, a13, a14)) :
    ∀ d i b1 b2, i + d = m → (∀ q, b1 q = if 32 * t ≤ q ∧ q < 32 * t + i then a1 (32 * v + (q - 32 * t)) else a1 q) →
      (∀ q, b2 q = if 32 * t ≤ q ∧ q < 32 * t + i then a2 (32 * v + (q - 32 * t)) else a2 q) →
      wX_copy_30 post (nI t) (nI v) r o h b (d + 1) (nI i) b1 b2 a3 a4 a5 a6 a7 a8 a9 a10 a11 a12 a13 a14 := by
  intro d
  induction d with
  | zero =>
    intro i b1 b2 hi g1 g2
    refine ⟨pk_in v 3 hv, pk_le m i (fun _ => ⟨pk_in t 3 ht, ?_⟩) (fun z => absurd z (by omega)) (ta_rd rfl (by omega) h3) rfl⟩
    rw [ta_rd (a := a3) (x := nI t) rfl (by omega) h3']
    refine H b1 b2 (fun q hq => ?_) (fun q hq => ?_) (fun j hj => ?_) (fun j hj => ?_)
    · rw [g1, if_neg (by omega)]
    · rw [g2, if_neg (by omega)]
    · rw [g1, if_pos (by omega)]; congr 1; omega
    · rw [g2, if_pos (by omega)]; congr 1; omega
  | succ d ih =>
    intro i b1 b2 hi g1 g2
    refine ⟨pk_in v 3 hv, pk_le m i (fun z => absurd z (by omega)) (fun _ => ?_) (ta_rd rfl (by omega) h3) rfl⟩
    have e1 : b1 (32 * v + i) = a1 (32 * v + i) := by rw [g1, if_neg (by omega)]
    have e2 : b2 (32 * v + i) = a2 (32 * v + i) := by rw [g2, if_neg (by omega)]
    refine ⟨pk_in (32 * v + i) 96 (by omega) (ta_ix v i), pk_in (32 * t + i) 96 (by omega) (ta_ix t i), nm_r (ta_up (ta_ix t i) (by omega) (ta_rd (ta_ix v i) (by omega) e1)) ?_⟩
    refine ⟨pk_in (32 * v + i) 96 (by omega) (ta_ix v i), pk_in (32 * t + i) 96 (by omega) (ta_ix t i), nm_r (ta_up (ta_ix t i) (by omega) (ta_rd (ta_ix v i) (by omega) e2)) (nm_r (nI_1 i) ?_)⟩
    refine ih (i + 1) _ _ (by omega) (fun q => ?_) (fun q => ?_)
    · by_cases c : q = 32 * t + i
      · rw [ta_ue c, if_pos (by omega), c]; congr 1; omega
      · rw [pk_un c, g1 q]
        by_cases z : 32 * t ≤ q ∧ q < 32 * t + i
        · rw [if_pos z, if_pos (by omega)]
        · rw [if_neg z, if_neg (by omega)]
    · by_cases c : q = 32 * t + i
      · rw [ta_ue c, if_pos (by omega), c]; congr 1; omega
      · rw [pk_un c, g2 q]
        by_cases z : 32 * t ≤ q ∧ q < 32 * t + i
        · rw [if_pos z, if_pos (by omega)]
        · rw [if_neg z, if_neg (by omega)]
end
theorem ta_isT {post : Int32 → Prop} {t : Nat} (ht : t < 3) (H : post 1) : wpX_isTrack post () (nI t) :=
  pk_lt t 0 (fun z => absurd z (by omega)) (fun _ => pk_lt 2 t (fun z => absurd z (by omega)) (fun _ => H))
theorem ta_isT3 {post : Int32 → Prop} (H : post 0) : wpX_isTrack post () (nI 3) :=
  pk_lt 3 0 (fun z => absurd z (by omega)) (fun _ => pk_lt 2 3 (fun _ => H) (fun z => absurd z (by omega)))
theorem ta_10 : ¬ (1 : Int32) = 0 := by decide
theorem ta_copy {P : Nat → ta_T} {t v : Nat} (hP : ta_okP P) (ht : t < 3) (hv : v < 3) {post : Int32 → St1 → Prop} {u : St1} (hu : ta_RU P u)
    (H : ∀ x u', ta_RU (ta_set P t (P v)) u' → post x u') : wpX_copy post u (nI t) (nI v) := by
  obtain ⟨r, o, h, b, a1, a2, a3, a4, a5, a6, a7, a8, a9, a10, a11, a12, a13, a14⟩ := u
  have hu' : ta_R P b a1 a2 a3 a5 a6 a7 := hu
  obtain ⟨h3, h1, h2⟩ := hu'.1 v hv
  have k := (hP v hv).1
  unfold wpX_copy
  refine ta_isT ht (br_f ta_10 (ta_isT hv (br_f ta_10 ⟨pk_in v 3 hv, pk_in t 3 ht, nm_r (ta_up rfl (by omega) (ta_rd rfl (by omega) h3)) ?_⟩)))
  refine ⟨_, ta_copy30 (a1 := a1) (a2 := a2) ht hv k ?_ pk_us (fun b1 b2 f1 f2 g1 g2 => ?_) (P v).1 0 a1 a2 (by omega) (fun q => ?_) (fun q => ?_)⟩
  · by_cases c : v = t
    · rw [ta_ue c]
    · rw [pk_un c]; exact h3
  · exact H _ _ ⟨ta_mset hP hu'.1 f1 f2 (fun q _ hq => pk_un hq) ⟨pk_us, fun i hi => by rw [g1 i hi]; exact h1 i hi, fun i hi => by rw [g2 i hi]; exact h2 i hi⟩, Or.inl rfl⟩
  · rw [if_neg (by omega)]
  · rw [if_neg (by omega)]
end
section
/-! takeRuns, keepOthers, storeRuns, merge -/
theorem ta_cov_s {i p : Nat} {S E : Nat → Nat} : ta_cov (i + 1) S E p ↔ (ta_cov i S E p ∨ (S i ≤ p ∧ p < E i)) := by
  constructor
  · rintro ⟨j, hj, g⟩
    by_cases c : j = i
    · rw [c] at g; exact Or.inr g
    · exact Or.inl ⟨j, by omega, g⟩
  · rintro (⟨j, hj, g⟩ | g)
    · exact ⟨j, by omega, g⟩
    · exact ⟨i, by omega, g⟩
section
variable {post : St1 → Prop} {r o h b : Int32} {a1 a2 a3 a4 a5 a6 a7 a8 a9 a10 a11 a12 a13 a14 : Nat → Int32}
theorem ta_take10 {t n : Nat} {S E : Nat → Nat} (ht : t < 3) (hok : ta_okf n S E) (hm : ta_mt (n, S, E) t a1 a2 a3)
    (H : ∀ m A B b10 b11, ta_can m A B (ta_cov n S E) → ta_mb m A b10 → ta_mb m B b11 → post (nI m, o, h, b, a1, a2, a3, a4, a5, a6, a7, a8, a9, b10, b11, a12, a13, a14)) :
    ∀ d i m A B b10 b11, i + d = n → ta_can m A B (ta_cov i S E) → (∀ j, j < m → ∃ k, k < i ∧ A j = S k) → ta_mb m A b10 → ta_mb m B b11 →
      wX_takeRuns_10 post (nI t) o h b (d + 1) (nI (32 * t + i)) (nI m) a1 a2 a3 a4 a5 a6 a7 a8 a9 b10 b11 a12 a13 a14 := by
  obtain ⟨h3, h1, h2⟩ := hm
  obtain ⟨k1, k2, k3⟩ := hok
  have e3 : (32 * nI t) + a3 (nI t).toNatClampNeg = nI (32 * t + n) := by rw [ta_rd rfl (by omega) h3]; exact ta_ix t n
  intro d
  induction d with
  | zero =>
    intro i m A B b10 b11 hi hc hA g10 g11
    have e : i = n := by omega
    refine ⟨pk_in t 3 ht, pk_le (32 * t + n) (32 * t + i) (fun _ => ?_) (fun z => absurd z (by omega)) e3 rfl⟩
    rw [e] at hc
    exact H m A B b10 b11 hc g10 g11
  | succ d ih =>
    intro i m A B b10 b11 hi hc hA g10 g11
    have hm32 := ta_can_le hc
    have ki := k2 i (by omega)
    have x1 : a1 (nI (32 * t + i)).toNatClampNeg = nI (S i) := ta_rd rfl (by omega) (h1 i (by show i < n; omega))
    have x2 : a2 (nI (32 * t + i)).toNatClampNeg = nI (E i) := ta_rd rfl (by omega) (h2 i (by show i < n; omega))
    have v2 : vp_in (nI (32 * t + i)) 96 := pk_in (32 * t + i) 96 (by omega)
    have F : (∀ j, j < m → B j < S i) → wX_takeRuns_106 post (wX_takeRuns_10 post (nI t) o h b (d + 1)) (nI t) (nI (32 * t + i)) (nI m) o h b a1 a2 a3 a4 a5 a6 a7 a8 a9 b10 b11 a12 a13 a14 := by
      intro hb
      have hc' := ta_can_app hc ki.1 ki.2 hb (fun p => ta_cov_s)
      have l := ta_can_le hc'
      refine ⟨v2, pk_in m 32 (by omega), nm_r (ta_up rfl (by omega) x1) ⟨v2, pk_in m 32 (by omega), nm_r (ta_up rfl (by omega) x2) (nm_r (nI_1 m) (nm_r (nI_1 _) ?_))⟩⟩
      refine ih (i + 1) (m + 1) _ _ _ _ (by omega) hc' (fun j hj => ?_) (ta_mb_add g10) (ta_mb_add g11)
      by_cases c : j = m
      · exact ⟨i, by omega, ta_uns c⟩
      · obtain ⟨k, hk, e⟩ := hA j (by omega)
        exact ⟨k, by omega, by rw [ta_unn c]; exact e⟩
    refine ⟨pk_in t 3 ht, pk_le (32 * t + n) (32 * t + i) (fun z => absurd z (by omega)) (fun _ => ?_) e3 rfl⟩
    refine pk_le m 0 (fun z => F (fun j hj => absurd hj (by omega))) (fun z => ?_)
    obtain ⟨m', rfl⟩ : ∃ m', m = m' + 1 := ⟨m - 1, by omega⟩
    have j1 : nI (m' + 1) - 1 = nI m' := nI_pred m'
    have v1 : vp_in (nI (m' + 1) - 1) 32 := pk_in m' 32 (by omega) j1
    have y1 : b11 (nI (m' + 1) - 1).toNatClampNeg = nI (B m') := ta_rd j1 (by omega) (g11 m' (by omega))
    have kB := hc.1 m' (by omega)
    have lB : ∀ j, j < m' + 1 → B j ≤ B m' := by
      intro j hj
      by_cases c : j = m'
      · rw [c]; exact Nat.le_refl _
      · have a := ta_can_mono hc m' j (by omega) (by omega)
        omega
    refine ⟨v2, v1, pk_lt (B m') (S i) (fun z => F (fun j hj => by have := lB j hj; omega)) (fun z => ?_) y1 x1⟩
    have sA : A m' ≤ S i := by
      obtain ⟨k, hk, e⟩ := hA m' (by omega)
      have q := k3 k i hk (by omega)
      omega
    refine ⟨v2, v1, pk_le (E i) (B m') (fun z => ?_) (fun z => ?_) x2 y1⟩
    · refine ⟨v1, v1, nm_r (ta_up j1 (by omega) y1) (nm_r (nI_1 _) ?_)⟩
      refine ih (i + 1) (m' + 1) A (ta_un B m' (B m')) _ _ (by omega) (ta_can_ext hc sA (by omega) ki.1 ki.2 (by omega) (fun p => ta_cov_s)) (fun j hj => ?_) g10 (ta_mb_put g11)
      obtain ⟨k, hk, e⟩ := hA j hj
      exact ⟨k, by omega, e⟩
    · refine ⟨v2, v1, nm_r (ta_up j1 (by omega) x2) (nm_r (nI_1 _) ?_)⟩
      refine ih (i + 1) (m' + 1) A (ta_un B m' (E i)) _ _ (by omega) (ta_can_ext hc sA (by omega) ki.1 ki.2 (by omega) (fun p => ta_cov_s)) (fun j hj => ?_) g10 (ta_mb_put g11)
      obtain ⟨k, hk, e⟩ := hA j hj
      exact ⟨k, by omega, e⟩
theorem ta_take {t n M : Nat} {S E A B : Nat → Nat} (ht : t < 3) (hok : ta_okf n S E) (hm : ta_mt (n, S, E) t a1 a2 a3) (hc : ta_can M A B (ta_cov n S E))
    (H : ∀ b10 b11, ta_mb M A b10 → ta_mb M B b11 → post (nI M, o, h, b, a1, a2, a3, a4, a5, a6, a7, a8, a9, b10, b11, a12, a13, a14)) : wpX_takeRuns post (r, o, h, b, a1, a2, a3, a4, a5, a6, a7, a8, a9, a10, a11, a12, a13, a14) (nI t) := by
  refine nm_r (ta_32 t) ⟨_, ta_take10 ht hok hm (fun m A' B' b10 b11 hc' g10 g11 => ?_) n 0 0 A B a10 a11 (by omega) (ta_can_0 (fun p ⟨j, hj, _⟩ => absurd hj (by omega))) (fun j hj => absurd hj (by omega)) ta_mb_0 ta_mb_0⟩
  obtain ⟨e, ee⟩ := ta_can_uq hc' hc
  subst e
  exact H b10 b11 (ta_mb_c g10 (fun j hj => (ee j hj).1)) (ta_mb_c g11 (fun j hj => (ee j hj).2))
theorem ta_keep {m : Nat} {A B : Nat → Nat} (hm : m ≤ 32) (g10 : ta_mb m A a10) (g11 : ta_mb m B a11)
    (H : ∀ b12 b13, ta_mb m A b12 → ta_mb m B b13 → post (nI m, nI m, h, b, a1, a2, a3, a4, a5, a6, a7, a8, a9, a10, a11, b12, b13, a14)) : wpX_keepOthers post (nI m, o, h, b, a1, a2, a3, a4, a5, a6, a7, a8, a9, a10, a11, a12, a13, a14) := by
  have main : ∀ d i b12 b13, i + d = m → ta_mb i A b12 → ta_mb i B b13 → wX_keepOthers_10 post (nI m) (nI m) h b (d + 1) (nI i) a1 a2 a3 a4 a5 a6 a7 a8 a9 a10 a11 b12 b13 a14 := by
    intro d
    induction d with
    | zero =>
      intro i b12 b13 hi q1 q2
      have e : i = m := by omega
      rw [e] at q1 q2
      exact pk_le m i (fun _ => H b12 b13 q1 q2) (fun z => absurd z (by omega))
    | succ d ih =>
      intro i b12 b13 hi q1 q2
      refine pk_le m i (fun z => absurd z (by omega)) (fun _ => ⟨pk_in i 32 (by omega), pk_in i 32 (by omega), nm_r (ta_up rfl (by omega) (ta_rd rfl (by omega) (g10 i (by omega)))) ?_⟩)
      refine ⟨pk_in i 32 (by omega), pk_in i 32 (by omega), nm_r (ta_up rfl (by omega) (ta_rd rfl (by omega) (g11 i (by omega)))) (nm_r (nI_1 i) ?_)⟩
      refine ih (i + 1) _ _ (by omega) (ta_mb_c (ta_mb_add q1) (fun j hj => ?_)) (ta_mb_c (ta_mb_add q2) (fun j hj => ?_))
      · by_cases c : j = i
        · rw [ta_uns c, c]
        · rw [ta_unn c]
      · by_cases c : j = i
        · rw [ta_uns c, c]
        · rw [ta_unn c]
  exact ⟨_, main m 0 a12 a13 (by omega) ta_mb_0 ta_mb_0⟩
theorem ta_store {P : Nat → ta_T} {t m : Nat} {A B : Nat → Nat} (hP : ta_okP P) (ht : t < 3) (hm : m ≤ 32) (hu : ∀ q, q < 3 → ta_mt (P q) q a1 a2 a3) (g10 : ta_mb m A a10) (g11 : ta_mb m B a11)
    (H : ∀ b1 b2, (∀ q, q < 3 → ta_mt (ta_set P t (m, A, B) q) q b1 b2 (upd a3 t (nI m))) → post (nI m, o, h, -1, b1, b2, upd a3 t (nI m), a4, a5, a6, a7, a8, a9, a10, a11, a12, a13, a14)) : wpX_storeRuns post (nI m, o, h, b, a1, a2, a3, a4, a5, a6, a7, a8, a9, a10, a11, a12, a13, a14) (nI t) := by
  have main : ∀ d i b1 b2, i + d = m → (∀ j, j < i → b1 (32 * t + j) = nI (A j)) → (∀ j, j < i → b2 (32 * t + j) = nI (B j)) → ta_fr t a1 b1 → ta_fr t a2 b2 →
      wX_storeRuns_12 post (nI t) (nI m) o h b (d + 1) (nI i) b1 b2 (upd a3 t (nI m)) a4 a5 a6 a7 a8 a9 a10 a11 a12 a13 a14 := by
    intro d
    induction d with
    | zero =>
      intro i b1 b2 hi q1 q2 f1 f2
      have e : i = m := by omega
      rw [e] at q1 q2
      exact pk_le m i (fun _ => H b1 b2 (ta_mset hP hu f1 f2 (fun q _ hq => pk_un hq) ⟨pk_us, q1, q2⟩)) (fun z => absurd z (by omega))
    | succ d ih =>
      intro i b1 b2 hi q1 q2 f1 f2
      refine pk_le m i (fun z => absurd z (by omega)) (fun _ => ⟨pk_in i 32 (by omega), pk_in (32 * t + i) 96 (by omega) (ta_ix t i), nm_r (ta_up (ta_ix t i) (by omega) (ta_rd rfl (by omega) (g10 i (by omega)))) ?_⟩)
      refine ⟨pk_in i 32 (by omega), pk_in (32 * t + i) 96 (by omega) (ta_ix t i), nm_r (ta_up (ta_ix t i) (by omega) (ta_rd rfl (by omega) (g11 i (by omega)))) (nm_r (nI_1 i) ?_)⟩
      refine ih (i + 1) _ _ (by omega) (fun j hj => ?_) (fun j hj => ?_) (ta_fr_u f1 (by omega) (by omega)) (ta_fr_u f2 (by omega) (by omega))
      · by_cases c : j = i
        · rw [ta_ue (by omega), c]
        · rw [pk_un (by omega)]; exact q1 j (by omega)
      · by_cases c : j = i
        · rw [ta_ue (by omega), c]
        · rw [pk_un (by omega)]; exact q2 j (by omega)
  exact ⟨pk_in t 3 ht, nm_r (ta_up rfl (by omega) rfl) ⟨_, main m 0 a1 a2 (by omega) (fun j hj => absurd hj (by omega)) (fun j hj => absurd hj (by omega)) ta_fr_r ta_fr_r⟩⟩
end
theorem ta_merge {P : Nat → ta_T} {t M : Nat} {A B : Nat → Nat} (hP : ta_okP P) (ht : t < 3) (hc : ta_can M A B (ta_cov (P t).1 (P t).2.1 (P t).2.2)) {post : Int32 → St1 → Prop} {u : St1} (hu : ta_RU P u)
    (H : ∀ x u', ta_RU (ta_set P t (M, A, B)) u' → post x u') : wpX_merge post u (nI t) := by
  obtain ⟨r, o, h, b, a1, a2, a3, a4, a5, a6, a7, a8, a9, a10, a11, a12, a13, a14⟩ := u
  have hu' : ta_R P b a1 a2 a3 a5 a6 a7 := hu
  unfold wpX_merge
  refine ta_isT ht (br_f ta_10 (ta_take ht (hP t ht) (hu'.1 t ht) hc (fun b10 b11 g10 g11 => ?_)))
  exact ta_store hP ht (ta_can_le hc) hu'.1 g10 g11 (fun b1 b2 hm => H _ _ ⟨hm, Or.inl rfl⟩)
end
section
/-! complement -/
theorem ta_in_un {f : Nat → Nat} {n v j : Nat} (h : j < n + 1) : ta_in f n v j = ta_un f n v j := by
  by_cases c : j = n
  · rw [ta_in_e c, ta_uns c]
  · rw [ta_in_l (by omega), ta_unn c]
section
variable {post : St1 → Prop} {r o h b : Int32} {a1 a2 a3 a4 a5 a6 a7 a8 a9 a10 a11 a12 a13 a14 : Nat → Int32}
/-- insert behind all others -/
theorem ta_insE {t n s e : Nat} {S E : Nat → Nat} (ht : t < 3) (hn : n < 32) (hok : ta_okf n S E) (hse : s < e) (he : e ≤ 64) (hl : ∀ j, j < n → S j < s) (hm : ta_mt (n, S, E) t a1 a2 a3)
    (H : ∀ b1 b2, ta_fr t a1 b1 → ta_fr t a2 b2 → ta_mt (n + 1, ta_un S n s, ta_un E n e) t b1 b2 (upd a3 t (nI (n + 1))) →
      post (r, o, h, -1, b1, b2, upd a3 t (nI (n + 1)), a4, a5, a6, a7, a8, a9, a10, a11, a12, a13, a14)) :
    wpX_insert post (r, o, h, b, a1, a2, a3, a4, a5, a6, a7, a8, a9, a10, a11, a12, a13, a14) (nI t) (nI s) (nI e) := by
  refine ta_ins ht hn hok hse he (Nat.le_refl n) (fun j j1 j2 => absurd j2 (by omega)) (fun z => ?_) hm (fun b1 b2 f1 f2 g => H b1 b2 f1 f2 ⟨g.1, fun i hi => ?_, fun i hi => ?_⟩)
  · have := hl (n - 1) (by omega)
    omega
  · have := g.2.1 i hi
    rw [this]
    show nI (ta_in S n s i) = nI (ta_un S n s i)
    rw [ta_in_un hi]
  · have := g.2.2 i hi
    rw [this]
    show nI (ta_in E n e i) = nI (ta_un E n e i)
    rw [ta_in_un hi]
end
section
variable {post : Int32 → St1 → Prop} {r o h b : Int32} {a1 a2 a3 a4 a5 a6 a7 a8 a9 a10 a11 a12 a13 a14 : Nat → Int32}
theorem ta_compl25 {P : Nat → ta_T} {t m : Nat} {A B : Nat → Nat} {C : Nat → Prop} (ht : t < 3) (hc : ta_can m A B C) (g10 : ta_mb m A a10) (g11 : ta_mb m B a11)
    (H : ∀ x n S E b1 b2 b3, ta_can n S E (fun p => p < 64 ∧ ¬ C p) → ta_fr t a1 b1 → ta_fr t a2 b2 → (∀ q, q < 3 → q ≠ t → b3 q = a3 q) → ta_mt (n, S, E) t b1 b2 b3 → post x (nI m, o, h, -1, b1, b2, b3, a4, a5, a6, a7, a8, a9, a10, a11, a12, a13, a14)) :
    ∀ d k f n S E b' b1 b2 b3, k + d = m → f = (if k = 0 then 0 else B (k - 1)) → ta_can n S E (fun p => p < f ∧ ¬ C p) → (∀ j, j < n → E j < f) →
      ta_fr t a1 b1 → ta_fr t a2 b2 → (∀ q, q < 3 → q ≠ t → b3 q = a3 q) → ta_mt (n, S, E) t b1 b2 b3 →
      wX_complement_25 post (nI t) (d + 1) (nI f) (nI k) (nI m) o h b' b1 b2 b3 a4 a5 a6 a7 a8 a9 a10 a11 a12 a13 a14 := by
  have hm32 := ta_can_le hc
  have fin : ∀ n S E b' b1 b2 b3, ta_can n S E (fun p => p < 64 ∧ ¬ C p) → ta_fr t a1 b1 → ta_fr t a2 b2 → (∀ q, q < 3 → q ≠ t → b3 q = a3 q) → ta_mt (n, S, E) t b1 b2 b3 →
      wX_complement_82 post (nI t) (nI m) o h b' b1 b2 b3 a4 a5 a6 a7 a8 a9 a10 a11 a12 a13 a14 := fun n S E b' b1 b2 b3 q1 q2 q3 q4 q5 => ⟨pk_in t 3 ht, H _ n S E b1 b2 b3 q1 q2 q3 q4 q5⟩
  intro d
  induction d with
  | zero =>
    intro k f n S E b' b1 b2 b3 hk hf hn hE f1 f2 f3 hm
    have km : k = m := by omega
    have f64 : f ≤ 64 := by
      by_cases c : k = 0
      · rw [if_pos c] at hf; omega
      · rw [if_neg c] at hf
        have := hc.1 (k - 1) (by omega)
        omega
    have over : ∀ p, f ≤ p → ¬ C p := by
      intro p hp z
      obtain ⟨j, hj, g1, g2⟩ := (hc.2.2 p).mp z
      by_cases c : k = 0
      · omega
      · rw [if_neg c] at hf
        by_cases e : j = k - 1
        · rw [← e] at hf; omega
        · have a := ta_can_mono hc (k - 1) j (by omega) (by omega)
          have := hc.1 (k - 1) (by omega)
          omega
    refine pk_le m k (fun _ => pk_le 64 f (fun z => ?_) (fun z => ?_)) (fun z => absurd z (by omega))
    · have e : f = 64 := by omega
      rw [e] at hn
      exact fin n S E b' b1 b2 b3 hn f1 f2 f3 hm
    · have hn' : ta_can (n + 1) (ta_un S n f) (ta_un E n 64) (fun p => p < 64 ∧ ¬ C p) := by
        refine ta_can_app hn z (by omega) hE (fun p => ⟨fun ⟨w1, w2⟩ => ?_, ?_⟩)
        · by_cases c : p < f
          · exact Or.inl ⟨c, w2⟩
          · exact Or.inr ⟨by omega, w1⟩
        · rintro (⟨w1, w2⟩ | ⟨w1, w2⟩)
          · exact ⟨by omega, w2⟩
          · exact ⟨w2, over p w1⟩
      have l := ta_can_le hn'
      refine ta_insE (e := 64) ht (by omega) (ta_can_ok hn) z (by omega) (fun j hj => ?_) hm (fun c1 c2 e1 e2 em => ?_)
      · have := hn.1 j hj
        have := hE j hj
        omega
      · exact fin (n + 1) _ _ _ c1 c2 _ hn' (fun q hq => by rw [e1 q hq]; exact f1 q hq) (fun q hq => by rw [e2 q hq]; exact f2 q hq)
          (fun q hq hn => by rw [pk_un hn]; exact f3 q hq hn) em
  | succ d ih =>
    intro k f n S E b' b1 b2 b3 hk hf hn hE f1 f2 f3 hm
    have kA := hc.1 k (by omega)
    have v1 : vp_in (nI k) 32 := pk_in k 32 (by omega)
    have hf' : B k = (if k + 1 = 0 then 0 else B (k + 1 - 1)) := by rw [if_neg (by omega)]; rfl
    have gap : ∀ p, f ≤ p → p < A k → ¬ C p := by
      intro p h1 h2 z
      obtain ⟨j, hj, g1, g2⟩ := (hc.2.2 p).mp z
      rcases Nat.lt_trichotomy j k with c | c | c
      · rw [if_neg (by omega)] at hf
        by_cases e : j = k - 1
        · rw [← e] at hf; omega
        · have a := ta_can_mono hc (k - 1) j (by omega) (by omega)
          have := hc.1 (k - 1) (by omega)
          omega
      · rw [c] at g1; omega
      · have a := ta_can_mono hc j k c hj
        omega
    have run : ∀ p, A k ≤ p → p < B k → C p := fun p h1 h2 => (hc.2.2 p).mpr ⟨k, by omega, h1, h2⟩
    have fB : f < B k := by
      by_cases c : k = 0
      · rw [if_pos c] at hf; omega
      · rw [if_neg c] at hf
        have a := ta_can_mono hc k (k - 1) (by omega) (by omega)
        omega
    refine pk_le m k (fun z => absurd z (by omega)) (fun _ => ⟨v1, pk_le (A k) f (fun z => ?_) (fun z => ?_) (ta_rd rfl (by omega) (g10 k (by omega))) rfl⟩)
    · refine ⟨v1, nm_r (ta_rd rfl (by omega) (g11 k (by omega))) (nm_r (nI_1 k) ?_)⟩
      refine ih (k + 1) (B k) n S E b' b1 b2 b3 (by omega) hf' (ta_can_c hn (fun p => ⟨fun ⟨w1, w2⟩ => ⟨?_, w2⟩, fun ⟨w1, w2⟩ => ⟨by omega, w2⟩⟩)) (fun j hj => by have := hE j hj; omega) f1 f2 f3 hm
      rcases Nat.lt_or_ge p f with y | y
      · exact y
      · exact absurd (run p (by omega) w1) w2
    · have hn' : ta_can (n + 1) (ta_un S n f) (ta_un E n (A k)) (fun p => p < B k ∧ ¬ C p) := by
        refine ta_can_app hn z (by omega) hE (fun p => ⟨fun ⟨w1, w2⟩ => ?_, ?_⟩)
        · by_cases c : p < f
          · exact Or.inl ⟨c, w2⟩
          · refine Or.inr ⟨by omega, ?_⟩
            rcases Nat.lt_or_ge p (A k) with y | y
            · exact y
            · exact absurd (run p y w1) w2
        · rintro (⟨w1, w2⟩ | ⟨w1, w2⟩)
          · exact ⟨by omega, w2⟩
          · exact ⟨by omega, gap p w1 w2⟩
      have l := ta_can_le hn'
      refine ⟨v1, ?_⟩
      rw [ta_rd (a := a10) (x := nI k) rfl (by omega) (g10 k (by omega))]
      refine ta_insE ht (by omega) (ta_can_ok hn) z (by omega) (fun j hj => ?_) hm (fun c1 c2 e1 e2 em => ?_)
      · have := hn.1 j hj
        have := hE j hj
        omega
      · refine ⟨v1, nm_r (ta_rd rfl (by omega) (g11 k (by omega))) (nm_r (nI_1 k) ?_)⟩
        refine ih (k + 1) (B k) (n + 1) _ _ _ c1 c2 _ (by omega) hf' hn' (fun j hj => ?_) (fun q hq => by rw [e1 q hq]; exact f1 q hq) (fun q hq => by rw [e2 q hq]; exact f2 q hq)
          (fun q hq hn => by rw [pk_un hn]; exact f3 q hq hn) em
        by_cases c : j = n
        · rw [ta_uns c]; omega
        · rw [ta_unn c]
          have := hE j (by omega)
          omega
end
theorem ta_compl {P : Nat → ta_T} {t M : Nat} {A B : Nat → Nat} (hP : ta_okP P) (ht : t < 3) (hc : ta_can M A B (fun p => p < 64 ∧ ¬ ta_cov (P t).1 (P t).2.1 (P t).2.2 p)) {post : Int32 → St1 → Prop} {u : St1} (hu : ta_RU P u)
    (H : ∀ x u', ta_RU (ta_set P t (M, A, B)) u' → post x u') : wpX_complement post u (nI t) := by
  obtain ⟨r, o, h, b, a1, a2, a3, a4, a5, a6, a7, a8, a9, a10, a11, a12, a13, a14⟩ := u
  have hu' : ta_R P b a1 a2 a3 a5 a6 a7 := hu
  obtain ⟨m, A0, B0, h0⟩ := ta_can_ex (ta_cov (P t).1 (P t).2.1 (P t).2.2) 64 (by omega)
  have h0' : ta_can m A0 B0 (ta_cov (P t).1 (P t).2.1 (P t).2.2) := by
    refine ta_can_c h0 (fun p => ⟨fun z => ⟨?_, z⟩, fun z => z.2⟩)
    obtain ⟨j, hj, g1, g2⟩ := z
    have := (hP t ht).2.1 j hj
    omega
  unfold wpX_complement
  refine ta_isT ht (br_f ta_10 (ta_take ht (hP t ht) (hu'.1 t ht) h0' (fun b10 b11 g10 g11 => ⟨pk_in t 3 ht, nm_r (ta_up rfl (by omega) rfl) ?_⟩)))
  refine ⟨_, ta_compl25 (P := P) (a1 := a1) (a2 := a2) (a3 := a3) ht h0' g10 g11 (fun x n S E b1 b2 b3 q1 q2 q3 q4 q5 => ?_) m 0 0 0 id id _ a1 a2 _ (by omega) (by rw [if_pos rfl])
    (ta_can_0 (fun p z => absurd z.1 (by omega))) (fun j hj => absurd hj (by omega)) ta_fr_r ta_fr_r (fun q _ hn => pk_un hn) ⟨pk_us, fun i hi => absurd hi (by show ¬ i < 0; omega), fun i hi => absurd hi (by show ¬ i < 0; omega)⟩⟩
  obtain ⟨e, ee⟩ := ta_can_uq q1 hc
  subst e
  exact H _ _ ⟨ta_mset hP hu'.1 q2 q3 q4 ⟨q5.1, fun i hi => by rw [q5.2.1 i hi]; show nI (S i) = nI (A i); rw [(ee i hi).1], fun i hi => by rw [q5.2.2 i hi]; show nI (E i) = nI (B i); rw [(ee i hi).2]⟩, Or.inl rfl⟩
end
section
/-! steps: the differences of a depth -/
def ta_dv (g : Nat → Int32) (q : Nat) : Int32 := g q - (if q = 0 then 0 else g (q - 1))
def ta_pv (g : Nat → Int32) (q : Nat) : Int32 := if q = 0 then 0 else g (q - 1)
theorem ta_pv_s {g : Nat → Int32} {q : Nat} : ta_pv g (q + 1) = g q := if_neg (by omega)
theorem ta_tel {g : Nat → Int32} {q : Nat} : ta_pv g q + ta_dv g q = g q := by
  unfold ta_pv ta_dv
  generalize (if q = 0 then (0 : Int32) else g (q - 1)) = y
  grind
theorem ta_dv_0 {q : Nat} : ta_dv (fun _ => 0) q = 0 := by
  unfold ta_dv
  by_cases c : q = 0
  · rw [if_pos c]; show (0 : Int32) - 0 = 0; decide
  · rw [if_neg c]; show (0 : Int32) - 0 = 0; decide
theorem ta_step {g a : Nat → Int32} {s e : Nat} (c : Int32) (hse : s < e) (h : ∀ q, q < 65 → a q = ta_dv g q) :
    ∀ q, q < 65 → upd (upd a s (a s + c)) e (upd a s (a s + c) e - c) q = ta_dv (fun p => g p + (if s ≤ p ∧ p < e then c else 0)) q := by
  intro q hq
  by_cases c1 : q = e
  · rw [ta_ue c1, pk_un (by omega), ← c1, h q hq]
    unfold ta_dv
    rw [if_neg (by omega), if_neg (by omega)]
    dsimp only
    rw [if_neg (by omega), if_pos (by omega)]
    grind
  · rw [pk_un c1]
    by_cases c2 : q = s
    · rw [ta_ue c2, ← c2, h q hq]
      unfold ta_dv
      by_cases z : q = 0
      · rw [if_pos z, if_pos z]
        dsimp only
        rw [if_pos (by omega)]
        grind
      · rw [if_neg z, if_neg z]
        dsimp only
        rw [if_pos (by omega), if_neg (by omega)]
        grind
    · rw [pk_un c2, h q hq]
      unfold ta_dv
      by_cases z : q = 0
      · rw [if_pos z, if_pos z]
        dsimp only
        rw [if_neg (by omega)]
        grind
      · rw [if_neg z, if_neg z]
        dsimp only
        by_cases y : s ≤ q ∧ q < e
        · rw [if_pos y, if_pos (by omega)]
          grind
        · rw [if_neg y, if_neg (by omega)]
          grind
theorem ta_dp_s {n p : Nat} {S E : Nat → Nat} : nI (ta_dp (n + 1) S E p) = nI (ta_dp n S E p) + (if S n ≤ p ∧ p < E n then 1 else 0) := by
  unfold ta_dp
  by_cases c : S n ≤ p ∧ p < E n
  · rw [if_pos c, ta_cn_t c, nI_1]
  · rw [if_neg c, ta_cn_f c]
    grind
theorem ta_upa {a : Nat → Int32} {x c : Int32} {k : Nat} (hx : x = nI k) (hk : k < 2 ^ 31) : upd a x.toNatClampNeg (a x.toNatClampNeg + c) = upd a k (a k + c) := by
  rw [hx, nI_clamp hk]
theorem ta_ups {a : Nat → Int32} {x c : Int32} {k : Nat} (hx : x = nI k) (hk : k < 2 ^ 31) : upd a x.toNatClampNeg (a x.toNatClampNeg - c) = upd a k (a k - c) := by
  rw [hx, nI_clamp hk]
section
variable {post : St1 → Prop} {r o h b : Int32} {a1 a2 a3 a4 a5 a6 a7 a8 a9 a10 a11 a12 a13 a14 : Nat → Int32}
theorem ta_cs26 {t n : Nat} {S E : Nat → Nat} (ht : t < 3) (hok : ta_okf n S E) (hm : ta_mt (n, S, E) t a1 a2 a3)
    (H : ∀ b14, (∀ q, q < 65 → b14 q = ta_dv (fun p => nI (ta_dp n S E p)) q) → post (r, o, h, b, a1, a2, a3, a4, a5, a6, a7, a8, a9, a10, a11, a12, a13, b14)) :
    ∀ d i b14, i + d = n → (∀ q, q < 65 → b14 q = ta_dv (fun p => nI (ta_dp i S E p)) q) → wX_countSteps_26 post (nI t) r o h b (d + 1) (nI (32 * t + i)) a1 a2 a3 a4 a5 a6 a7 a8 a9 a10 a11 a12 a13 b14 := by
  obtain ⟨h3, h1, h2⟩ := hm
  obtain ⟨k1, k2, k3⟩ := hok
  have e3 : (32 * nI t) + a3 (nI t).toNatClampNeg = nI (32 * t + n) := by rw [ta_rd rfl (by omega) h3]; exact ta_ix t n
  intro d
  induction d with
  | zero =>
    intro i b14 hi g
    have e : i = n := by omega
    rw [e] at g
    exact ⟨pk_in t 3 ht, pk_le (32 * t + n) (32 * t + i) (fun _ => H b14 g) (fun z => absurd z (by omega)) e3 rfl⟩
  | succ d ih =>
    intro i b14 hi g
    have ki := k2 i (by omega)
    have x1 : a1 (nI (32 * t + i)).toNatClampNeg = nI (S i) := ta_rd rfl (by omega) (h1 i (by show i < n; omega))
    have x2 : a2 (nI (32 * t + i)).toNatClampNeg = nI (E i) := ta_rd rfl (by omega) (h2 i (by show i < n; omega))
    have v2 : vp_in (nI (32 * t + i)) 96 := pk_in (32 * t + i) 96 (by omega)
    have w1 := pk_in (S i) 65 (by omega) x1
    have w2 := pk_in (E i) 65 (by omega) x2
    refine ⟨pk_in t 3 ht, pk_le (32 * t + n) (32 * t + i) (fun z => absurd z (by omega)) (fun _ => ?_) e3 rfl⟩
    refine ⟨v2, w1, w1, nm_r (ta_upa x1 (by omega)) ⟨v2, w2, w2, nm_r (ta_ups x2 (by omega)) (nm_r (nI_1 _) ?_)⟩⟩
    refine ih (i + 1) _ (by omega) (fun q hq => ?_)
    rw [ta_step 1 ki.1 g q hq]
    congr 1
    funext p
    exact ta_dp_s.symm
theorem ta_cs {t n : Nat} {S E : Nat → Nat} (ht : t < 3) (hok : ta_okf n S E) (hm : ta_mt (n, S, E) t a1 a2 a3)
    (H : ∀ b14, (∀ q, q < 65 → b14 q = ta_dv (fun p => nI (ta_dp n S E p)) q) → post (r, o, h, b, a1, a2, a3, a4, a5, a6, a7, a8, a9, a10, a11, a12, a13, b14)) : wpX_countSteps post (r, o, h, b, a1, a2, a3, a4, a5, a6, a7, a8, a9, a10, a11, a12, a13, a14) (nI t) := by
  have main : ∀ d i b14, i + d = 65 → (∀ q, q < i → b14 q = 0) → wX_countSteps_2 post (nI t) r o h b (d + 1) (nI i) a1 a2 a3 a4 a5 a6 a7 a8 a9 a10 a11 a12 a13 b14 := by
    intro d
    induction d with
    | zero =>
      intro i b14 hi g
      refine pk_lt 64 i (fun _ => nm_r (ta_32 t) ⟨_, ta_cs26 ht hok hm H n 0 b14 (by omega) (fun q hq => ?_)⟩) (fun z => absurd z (by omega))
      rw [g q (by omega)]
      exact ta_dv_0.symm
    | succ d ih =>
      intro i b14 hi g
      refine pk_lt 64 i (fun z => absurd z (by omega)) (fun _ => ⟨pk_in i 65 (by omega), nm_r (ta_up rfl (by omega) rfl) (nm_r (nI_1 i) (ih (i + 1) _ (by omega) (fun q hq => ?_)))⟩)
      by_cases c : q = i
      · rw [ta_ue c]
      · rw [pk_un c]; exact g q (by omega)
  exact ⟨_, main 65 0 a14 (by omega) (fun q hq => absurd hq (by omega))⟩
end
theorem ta_dp_le {n p : Nat} {S E : Nat → Nat} : ta_dp n S E p ≤ n := ta_cn_le _ n
theorem ta_covered {P : Nat → ta_T} {t : Nat} (hP : ta_okP P) (ht : t < 3) {post : Int32 → St1 → Prop} {u : St1} (hu : ta_RU P u)
    (H : ∀ u', ta_RU P u' → post (nI (ta_cn (ta_cov (P t).1 (P t).2.1 (P t).2.2) 64)) u') : wpX_covered post u (nI t) 1 := by
  obtain ⟨r, o, h, b, a1, a2, a3, a4, a5, a6, a7, a8, a9, a10, a11, a12, a13, a14⟩ := u
  have hu' : ta_R P b a1 a2 a3 a5 a6 a7 := hu
  have hok := hP t ht
  have hn := hok.1
  unfold wpX_covered
  refine ta_isT ht (br_f ta_10 (pk_lt 1 0 (fun z => absurd z (by omega)) (fun _ => pk_le 1 32 (fun _ => ta_cs ht hok (hu'.1 t ht) (fun b14 g => ?_)) (fun z => absurd z (by omega)))))
  have main : ∀ d p, p + d = 64 → wX_covered_35 post 1 r o h b a1 a2 a3 a4 a5 a6 a7 a8 a9 a10 a11 a12 a13 b14 (d + 1) (ta_pv (fun p => nI (ta_dp (P t).1 (P t).2.1 (P t).2.2 p)) p) (nI (ta_cn (ta_cov (P t).1 (P t).2.1 (P t).2.2) p)) (nI p) := by
    intro d
    induction d with
    | zero =>
      intro p hp
      have e : p = 64 := by omega
      subst e
      exact pk_le 64 64 (fun _ => H _ hu') (fun z => absurd z (by omega))
    | succ d ih =>
      intro p hp
      have l := ta_dp_le (n := (P t).1) (S := (P t).2.1) (E := (P t).2.2) (p := p)
      have hn' : (P t).1 ≤ 32 := hn
      have l2 := ta_cn_le (ta_cov (P t).1 (P t).2.1 (P t).2.2) p
      refine pk_le 64 p (fun z => absurd z (by omega)) (fun _ => ⟨pk_in p 65 (by omega), nm_r (e' := nI (ta_dp (P t).1 (P t).2.1 (P t).2.2 p)) ?_ ?_⟩)
      · rw [ta_rd (a := b14) (x := nI p) rfl (by omega) (g p (by omega))]
        exact ta_tel
      · have I := ih (p + 1) (by omega)
        rw [ta_pv_s] at I
        refine pk_lt (ta_dp (P t).1 (P t).2.1 (P t).2.2 p) 1 (fun z => ?_) (fun z => ?_)
        · rw [ta_cn_f (fun y => absurd (ta_dp_cov.mpr y) (by omega))] at I
          exact nm_r (nI_add _ 0) (nm_r (nI_1 p) I)
        · rw [ta_cn_t (ta_dp_cov.mp z)] at I
          exact nm_r (nI_1 _) (nm_r (nI_1 p) I)
  exact ⟨_, main 64 0 (by omega)⟩
theorem ta_deepest {P : Nat → ta_T} {t : Nat} (hP : ta_okP P) (ht : t < 3) (h1 : ∀ p, ta_dp (P t).1 (P t).2.1 (P t).2.2 p ≤ 1) {post : Int32 → St1 → Prop} {u : St1} (hu : ta_RU P u)
    (H : ∀ k u', k ≤ 1 → ta_RU P u' → post (nI k) u') : wpX_deepest post u (nI t) := by
  obtain ⟨r, o, h, b, a1, a2, a3, a4, a5, a6, a7, a8, a9, a10, a11, a12, a13, a14⟩ := u
  have hu' : ta_R P b a1 a2 a3 a5 a6 a7 := hu
  have hok := hP t ht
  unfold wpX_deepest
  refine ta_isT ht (br_f ta_10 (ta_cs ht hok (hu'.1 t ht) (fun b14 g => ?_)))
  have main : ∀ d p k, p + d = 64 → k ≤ 1 → wX_deepest_21 post r o h b a1 a2 a3 a4 a5 a6 a7 a8 a9 a10 a11 a12 a13 b14 (d + 1) (ta_pv (fun p => nI (ta_dp (P t).1 (P t).2.1 (P t).2.2 p)) p) (nI k) (nI p) := by
    intro d
    induction d with
    | zero =>
      intro p k hp hk
      have e : p = 64 := by omega
      subst e
      exact pk_le 64 64 (fun _ => H _ _ hk hu') (fun z => absurd z (by omega))
    | succ d ih =>
      intro p k hp hk
      have l := h1 p
      refine pk_le 64 p (fun z => absurd z (by omega)) (fun _ => ⟨pk_in p 65 (by omega), nm_r (e' := nI (ta_dp (P t).1 (P t).2.1 (P t).2.2 p)) ?_ ?_⟩)
      · rw [ta_rd (a := b14) (x := nI p) rfl (by omega) (g p (by omega))]
        exact ta_tel
      · refine pk_le (ta_dp (P t).1 (P t).2.1 (P t).2.2 p) k (fun z => ?_) (fun z => ?_)
        · have I := ih (p + 1) k (by omega) hk
          rw [ta_pv_s] at I
          exact nm_r (nI_1 p) I
        · have I := ih (p + 1) _ (by omega) l
          rw [ta_pv_s] at I
          exact nm_r (nI_1 p) I
  exact ⟨_, main 64 0 0 (by omega) (by omega)⟩
end
section
/-! walkBoth, join -/
def ta_hold : Nat → Prop → Prop → Prop
  | 0, a, b => a ∧ b
  | 1, a, b => a ∨ b
  | 2, a, b => ¬ (a ↔ b)
  | _, a, b => a ∧ ¬ b
theorem ta_holds {post : Int32 → Prop} {k : Nat} (hk : k < 4) {a b : Prop} {x y : Int32} (hx : (a ∧ x = 1) ∨ (¬ a ∧ x = 0)) (hy : (b ∧ y = 1) ∨ (¬ b ∧ y = 0))
    (H1 : ta_hold k a b → post 1) (H0 : ¬ ta_hold k a b → post 0) : wpX_holds post () (nI k) x y := by
  have n01 : ¬ (0 : Int32) = 1 := by decide
  obtain rfl | rfl | rfl | rfl : k = 0 ∨ k = 1 ∨ k = 2 ∨ k = 3 := by omega
  · refine br_t rfl ?_
    rcases hx with ⟨ha, rfl⟩ | ⟨ha, rfl⟩
    · refine br_f ta_10 ?_
      rcases hy with ⟨hb, rfl⟩ | ⟨hb, rfl⟩
      · exact br_f ta_10 (H1 ⟨ha, hb⟩)
      · exact br_t rfl (H0 (fun z => hb z.2))
    · exact br_t rfl (H0 (fun z => ha z.1))
  · refine br_f (by decide) (br_t rfl ?_)
    rcases hx with ⟨ha, rfl⟩ | ⟨ha, rfl⟩
    · exact br_f ta_10 (H1 (Or.inl ha))
    · refine br_t rfl ?_
      rcases hy with ⟨hb, rfl⟩ | ⟨hb, rfl⟩
      · exact br_f ta_10 (H1 (Or.inr hb))
      · exact br_t rfl (H0 (fun z => z.elim ha hb))
  · refine br_f (by decide) (br_f (by decide) (br_t rfl ?_))
    rcases hx with ⟨ha, rfl⟩ | ⟨ha, rfl⟩
    · rcases hy with ⟨hb, rfl⟩ | ⟨hb, rfl⟩
      · exact br_t rfl (H0 (fun z => z ⟨fun _ => hb, fun _ => ha⟩))
      · exact br_f ta_10 (H1 (fun z => hb (z.mp ha)))
    · rcases hy with ⟨hb, rfl⟩ | ⟨hb, rfl⟩
      · exact br_f n01 (H1 (fun z => ha (z.mpr hb)))
      · exact br_t rfl (H0 (fun z => z ⟨fun w => absurd w ha, fun w => absurd w hb⟩))
  · refine br_f (by decide) (br_f (by decide) (br_f (by decide) ?_))
    rcases hx with ⟨ha, rfl⟩ | ⟨ha, rfl⟩
    · refine br_f ta_10 ?_
      rcases hy with ⟨hb, rfl⟩ | ⟨hb, rfl⟩
      · exact br_f ta_10 (H0 (fun z => z.2 hb))
      · exact br_t rfl (H1 ⟨ha, hb⟩)
    · exact br_t rfl (H0 (fun z => ha z.1))
/-- the walk's state ahead of position p: n runs that are ended, and if x3 = 1 one that is begun -/
def ta_wi (W : Nat → Prop) (p : Nat) (x3 : Int32) (n : Nat) (S E : Nat → Nat) (b10 b11 : Nat → Int32) : Prop :=
  ta_mb n S b10 ∧ ta_mb n E b11 ∧ ((x3 = 0 ∧ ta_can n S E (fun q => q < p ∧ W q) ∧ (∀ j, j < n → E j < p)) ∨
    (x3 = 1 ∧ ∃ st, st < p ∧ b10 n = nI st ∧ ta_can n S E (fun q => q < st ∧ W q) ∧ (∀ j, j < n → E j < st) ∧ (∀ q, st ≤ q → q < p → W q)))
section
variable {post : St1 → Prop} {r o h b : Int32} {a1 a2 a3 a4 a5 a6 a7 a8 a9 a10 a11 a12 a13 a14 : Nat → Int32}
theorem ta_wbt {J : Int32 → Int32 → Int32 → Int32 → (Nat → Int32) → (Nat → Int32) → (Nat → Int32) → (Nat → Int32) → (Nat → Int32) → (Nat → Int32) → (Nat → Int32) → (Nat → Int32) → (Nat → Int32) → (Nat → Int32) → (Nat → Int32) → (Nat → Int32) → (Nat → Int32) → (Nat → Int32) → Prop} {W : Nat → Prop} {p n : Nat} {S E : Nat → Nat} {x1 x2 x3 : Int32} (hW : W p) (hp : p < 64)
    (hi : ta_wi W p x3 n S E a10 a11)
    (H : ∀ b10, ta_wi W (p + 1) 1 n S E b10 a11 → J x2 1 (nI (p + 1)) (nI n) a1 a2 a3 a4 a5 a6 a7 a8 a9 b10 a11 a12 a13 a14) :
    wX_walkBoth_183 post J x1 x2 x3 (nI p) 1 (nI n) o h b a1 a2 a3 a4 a5 a6 a7 a8 a9 a10 a11 a12 a13 a14 := by
  obtain ⟨g1, g2, g⟩ := hi
  refine br_f ta_10 ?_
  rcases g with ⟨rfl, hc, hE⟩ | ⟨rfl, st, h1, h2, hc, hE, hq⟩
  · have hc' := ta_can_app (C' := fun q => q < p + 1 ∧ W q) hc (s := p) (e := p + 1) (by omega) (by omega) hE (fun q => ⟨fun ⟨w1, w2⟩ => by
        by_cases c : q < p
        · exact Or.inl ⟨c, w2⟩
        · exact Or.inr ⟨by omega, w1⟩, fun w => w.elim (fun ⟨w1, w2⟩ => ⟨by omega, w2⟩) (fun ⟨w1, w2⟩ => ⟨by omega, by rw [show q = p by omega]; exact hW⟩)⟩)
    have l := ta_can_le hc'
    refine br_t rfl ⟨pk_in n 32 (by omega), nm_r (ta_up rfl (by omega) rfl) (nm_r (nI_1 p) (H _ ⟨fun j hj => by rw [pk_un (by omega)]; exact g1 j hj, g2, Or.inr ⟨rfl, p, by omega, pk_us, hc, hE, fun q q1 q2 => by rw [show q = p by omega]; exact hW⟩⟩))⟩
  · refine br_f ta_10 (br_f ta_10 (nm_r (nI_1 p) (H _ ⟨g1, g2, Or.inr ⟨rfl, st, by omega, h2, hc, hE, fun q q1 q2 => ?_⟩⟩)))
    by_cases c : q = p
    · rw [c]; exact hW
    · exact hq q q1 (by omega)
theorem ta_wbf {J : Int32 → Int32 → Int32 → Int32 → (Nat → Int32) → (Nat → Int32) → (Nat → Int32) → (Nat → Int32) → (Nat → Int32) → (Nat → Int32) → (Nat → Int32) → (Nat → Int32) → (Nat → Int32) → (Nat → Int32) → (Nat → Int32) → (Nat → Int32) → (Nat → Int32) → (Nat → Int32) → Prop} {W : Nat → Prop} {p n : Nat} {S E : Nat → Nat} {x1 x2 x3 : Int32} (hW : ¬ W p) (hp : p ≤ 64)
    (hi : ta_wi W p x3 n S E a10 a11)
    (H : ∀ n' S' E' b11, ta_wi W (p + 1) 0 n' S' E' a10 b11 → J x2 0 (nI (p + 1)) (nI n') a1 a2 a3 a4 a5 a6 a7 a8 a9 a10 b11 a12 a13 a14) :
    wX_walkBoth_183 post J x1 x2 x3 (nI p) 0 (nI n) o h b a1 a2 a3 a4 a5 a6 a7 a8 a9 a10 a11 a12 a13 a14 := by
  obtain ⟨g1, g2, g⟩ := hi
  refine br_t rfl (br_t rfl ?_)
  rcases g with ⟨rfl, hc, hE⟩ | ⟨rfl, st, h1, h2, hc, hE, hq⟩
  · refine br_t rfl (nm_r (nI_1 p) (H n S E _ ⟨g1, g2, Or.inl ⟨rfl, ta_can_c hc (fun q => ⟨fun ⟨w1, w2⟩ => ⟨?_, w2⟩, fun ⟨w1, w2⟩ => ⟨by omega, w2⟩⟩), fun j hj => by have := hE j hj; omega⟩⟩))
    by_cases c : q = p
    · rw [c] at w2; exact absurd w2 hW
    · omega
  · have hc' := ta_can_app (C' := fun q => q < p + 1 ∧ W q) hc (s := st) (e := p) h1 hp hE (fun q => ⟨fun ⟨w1, w2⟩ => by
        by_cases c : q < st
        · exact Or.inl ⟨c, w2⟩
        · refine Or.inr ⟨by omega, ?_⟩
          by_cases c2 : q = p
          · rw [c2] at w2; exact absurd w2 hW
          · omega, fun w => w.elim (fun ⟨w1, w2⟩ => ⟨by omega, w2⟩) (fun ⟨w1, w2⟩ => ⟨by omega, hq q w1 w2⟩)⟩)
    have l := ta_can_le hc'
    refine br_f ta_10 ⟨pk_in n 32 (by omega), nm_r (ta_up rfl (by omega) rfl) (nm_r (nI_1 n) (nm_r (nI_1 p) (H (n + 1) _ _ _ ⟨?_, ta_mb_add g2, Or.inl ⟨rfl, hc', fun j hj => ?_⟩⟩)))⟩
    · intro j hj
      by_cases c : j = n
      · rw [ta_uns c, c]; exact h2
      · rw [ta_unn c]; exact g1 j (by omega)
    · by_cases c : j = n
      · rw [ta_uns c]; omega
      · rw [ta_unn c]
        have := hE j (by omega)
        omega
theorem ta_wb125 {k m m' : Nat} {A B A' B' : Nat → Nat} {C C' : Nat → Prop} (hk : k < 4) (hc : ta_can m A B C) (hc' : ta_can m' A' B' C')
    (hg : ∀ q, q < 65 → a14 q = ta_dv (fun p => nI (ta_dp m A B p + 4 * ta_dp m' A' B' p)) q)
    (H : ∀ n S E b10 b11, ta_can n S E (fun p => p < 64 ∧ ta_hold k (C p) (C' p)) → ta_mb n S b10 → ta_mb n E b11 → post (nI n, o, h, b, a1, a2, a3, a4, a5, a6, a7, a8, a9, b10, b11, a12, a13, a14)) :
    ∀ d p x3 n S E b10 b11, p + d = 65 → ta_wi (fun p => p < 64 ∧ ta_hold k (C p) (C' p)) p x3 n S E b10 b11 → (p = 65 → x3 = 0) →
      wX_walkBoth_125 post (nI k) o h b (d + 1) (ta_pv (fun p => nI (ta_dp m A B p + 4 * ta_dp m' A' B' p)) p) x3 (nI p) (nI n) a1 a2 a3 a4 a5 a6 a7 a8 a9 b10 b11 a12 a13 a14 := by
  intro d
  induction d with
  | zero =>
    intro p x3 n S E b10 b11 hp hi h0
    have e : p = 65 := by omega
    refine pk_lt 64 p (fun _ => ?_) (fun z => absurd z (by omega))
    obtain ⟨g1, g2, g⟩ := hi
    rcases g with ⟨rfl, hcc, hE⟩ | ⟨rfl, _⟩
    · exact H n S E b10 b11 (ta_can_c hcc (fun q => ⟨fun w => ⟨by omega, w⟩, fun w => w.2⟩)) g1 g2
    · exact absurd (h0 e) ta_10
  | succ d ih =>
    intro p x3 n S E b10 b11 hp hi h0
    refine pk_lt 64 p (fun z => absurd z (by omega)) (fun _ => ⟨pk_in p 65 (by omega), nm_r (e' := nI (ta_dp m A B p + 4 * ta_dp m' A' B' p)) ?_ ?_⟩)
    · rw [ta_rd (a := a14) (x := nI p) rfl (by omega) (hg p (by omega))]
      exact ta_tel
    · have F0 : ¬ (p < 64 ∧ ta_hold k (C p) (C' p)) → wX_walkBoth_183 post (wX_walkBoth_125 post (nI k) o h b (d + 1)) (nI k) (nI (ta_dp m A B p + 4 * ta_dp m' A' B' p)) x3 (nI p) 0 (nI n) o h b a1 a2 a3 a4 a5 a6 a7 a8 a9 b10 b11 a12 a13 a14 := by
        intro hW
        refine ta_wbf (W := fun p => p < 64 ∧ ta_hold k (C p) (C' p)) hW (by omega) hi (fun n' S' E' b11' hi' => ?_)
        have I := ih (p + 1) 0 n' S' E' b10 b11' (by omega) hi' (fun _ => rfl)
        rw [ta_pv_s] at I
        exact I
      refine pk_le 64 p (fun z => F0 (fun w => absurd w.1 (by omega))) (fun z => ?_)
      have F1 : ta_hold k (C p) (C' p) → wX_walkBoth_183 post (wX_walkBoth_125 post (nI k) o h b (d + 1)) (nI k) (nI (ta_dp m A B p + 4 * ta_dp m' A' B' p)) x3 (nI p) 1 (nI n) o h b a1 a2 a3 a4 a5 a6 a7 a8 a9 b10 b11 a12 a13 a14 := by
        intro hW
        refine ta_wbt (W := fun p => p < 64 ∧ ta_hold k (C p) (C' p)) ⟨z, hW⟩ z hi (fun b10' hi' => ?_)
        have I := ih (p + 1) 1 n S E b10' b11 (by omega) hi' (fun y => absurd y (by omega))
        rw [ta_pv_s] at I
        exact I
      have G : ∀ x y, ((C p ∧ x = 1) ∨ (¬ C p ∧ x = 0)) → ((C' p ∧ y = 1) ∨ (¬ C' p ∧ y = 0)) →
          wX_walkBoth_172 post (wX_walkBoth_125 post (nI k) o h b (d + 1)) (nI k) (nI (ta_dp m A B p + 4 * ta_dp m' A' B' p)) x3 (nI p) y x (nI k) (nI n) o h b a1 a2 a3 a4 a5 a6 a7 a8 a9 b10 b11 a12 a13 a14 := by
        intro x y hx hy
        exact ta_holds hk hx hy (fun w => br_f ta_10 (F1 w)) (fun w => br_t rfl (F0 (fun v => w v.2)))
      have V : ∀ j l, ta_dp m A B p = j → ta_dp m' A' B' p = l → nI (ta_dp m A B p + 4 * ta_dp m' A' B' p) = nI (j + 4 * l) := by
        intro j l e1 e2
        rw [e1, e2]
      by_cases c1 : C p
      · by_cases c2 : C' p
        · have v := V 1 1 (ta_can_dp1 hc c1) (ta_can_dp1 hc' c2)
          exact br_t (by rw [v]; decide) (br_f (by rw [v]; decide) (G 1 1 (Or.inl ⟨c1, rfl⟩) (Or.inl ⟨c2, rfl⟩)))
        · have v := V 1 0 (ta_can_dp1 hc c1) (ta_can_dp0 hc' c2)
          exact br_t (by rw [v]; decide) (br_t (by rw [v]; decide) (G 1 0 (Or.inl ⟨c1, rfl⟩) (Or.inr ⟨c2, rfl⟩)))
      · by_cases c2 : C' p
        · have v := V 0 1 (ta_can_dp0 hc c1) (ta_can_dp1 hc' c2)
          exact br_f (by rw [v]; decide) (br_f (by rw [v]; decide) (G 0 1 (Or.inr ⟨c1, rfl⟩) (Or.inl ⟨c2, rfl⟩)))
        · have v := V 0 0 (ta_can_dp0 hc c1) (ta_can_dp0 hc' c2)
          exact br_f (by rw [v]; decide) (br_t (by rw [v]; decide) (G 0 0 (Or.inr ⟨c1, rfl⟩) (Or.inr ⟨c2, rfl⟩)))
theorem ta_walk {k m m' M : Nat} {A B A' B' AA BB : Nat → Nat} {C C' : Nat → Prop} (hk : k < 4) (hc : ta_can m A B C) (hc' : ta_can m' A' B' C') (hM : ta_can M AA BB (fun p => p < 64 ∧ ta_hold k (C p) (C' p)))
    (g10 : ta_mb m A a10) (g11 : ta_mb m B a11) (g12 : ta_mb m' A' a12) (g13 : ta_mb m' B' a13)
    (H : ∀ b10 b11 b14, ta_mb M AA b10 → ta_mb M BB b11 → post (nI M, nI m', h, b, a1, a2, a3, a4, a5, a6, a7, a8, a9, b10, b11, a12, a13, b14)) :
    wpX_walkBoth post (nI m, nI m', h, b, a1, a2, a3, a4, a5, a6, a7, a8, a9, a10, a11, a12, a13, a14) (nI k) := by
  have l := ta_can_le hc
  have l' := ta_can_le hc'
  have m69 : ∀ d i b14, i + d = m' → (∀ q, q < 65 → b14 q = ta_dv (fun p => nI (ta_dp m A B p + 4 * ta_dp i A' B' p)) q) →
      wX_walkBoth_69 post (nI k) (nI m) (nI m') h b (d + 1) (nI i) a1 a2 a3 a4 a5 a6 a7 a8 a9 a10 a11 a12 a13 b14 := by
    intro d
    induction d with
    | zero =>
      intro i b14 hi hg
      have e : i = m' := by omega
      rw [e] at hg
      refine pk_le m' i (fun _ => ⟨_, ta_wb125 hk hc hc' hg (fun n S E b10 b11 hn q1 q2 => ?_) 65 0 0 0 id id a10 a11 (by omega) ⟨ta_mb_0, ta_mb_0, Or.inl ⟨rfl, ta_can_0 (fun q w => absurd w.1 (by omega)), fun j hj => absurd hj (by omega)⟩⟩ (fun _ => rfl)⟩) (fun z => absurd z (by omega))
      obtain ⟨e, ee⟩ := ta_can_uq hn hM
      subst e
      exact H b10 b11 b14 (ta_mb_c q1 (fun j hj => (ee j hj).1)) (ta_mb_c q2 (fun j hj => (ee j hj).2))
    | succ d ih =>
      intro i b14 hi hg
      have ki := hc'.1 i (by omega)
      have x1 : a12 (nI i).toNatClampNeg = nI (A' i) := ta_rd rfl (by omega) (g12 i (by omega))
      have x2 : a13 (nI i).toNatClampNeg = nI (B' i) := ta_rd rfl (by omega) (g13 i (by omega))
      have v2 : vp_in (nI i) 32 := pk_in i 32 (by omega)
      have w1 := pk_in (A' i) 65 (by omega) x1
      have w2 := pk_in (B' i) 65 (by omega) x2
      refine pk_le m' i (fun z => absurd z (by omega)) (fun _ => ?_)
      refine ⟨v2, w1, w1, nm_r (ta_upa x1 (by omega)) ⟨v2, w2, w2, nm_r (ta_ups x2 (by omega)) (nm_r (nI_1 _) ?_)⟩⟩
      refine ih (i + 1) _ (by omega) (fun q hq => ?_)
      rw [ta_step 4 ki.1 hg q hq]
      congr 1
      funext p
      show nI (ta_dp m A B p + 4 * ta_dp i A' B' p) + _ = nI (ta_dp m A B p + 4 * ta_cn _ (i + 1))
      by_cases c : A' i ≤ p ∧ p < B' i
      · rw [if_pos c, ta_cn_t c]
        show _ + nI 4 = _
        rw [nI_add]
        congr 1
      · rw [if_neg c, ta_cn_f c]
        show _ + nI 0 = _
        rw [nI_add]
        rfl
  have m23 : ∀ d i b14, i + d = m → (∀ q, q < 65 → b14 q = ta_dv (fun p => nI (ta_dp i A B p)) q) →
      wX_walkBoth_23 post (nI k) (nI m) (nI m') h b (d + 1) (nI i) a1 a2 a3 a4 a5 a6 a7 a8 a9 a10 a11 a12 a13 b14 := by
    intro d
    induction d with
    | zero =>
      intro i b14 hi hg
      have e : i = m := by omega
      rw [e] at hg
      exact pk_le m i (fun _ => ⟨_, m69 m' 0 b14 (by omega) hg⟩) (fun z => absurd z (by omega))
    | succ d ih =>
      intro i b14 hi hg
      have ki := hc.1 i (by omega)
      have x1 : a10 (nI i).toNatClampNeg = nI (A i) := ta_rd rfl (by omega) (g10 i (by omega))
      have x2 : a11 (nI i).toNatClampNeg = nI (B i) := ta_rd rfl (by omega) (g11 i (by omega))
      have v2 : vp_in (nI i) 32 := pk_in i 32 (by omega)
      have w1 := pk_in (A i) 65 (by omega) x1
      have w2 := pk_in (B i) 65 (by omega) x2
      refine pk_le m i (fun z => absurd z (by omega)) (fun _ => ?_)
      refine ⟨v2, w1, w1, nm_r (ta_upa x1 (by omega)) ⟨v2, w2, w2, nm_r (ta_ups x2 (by omega)) (nm_r (nI_1 _) ?_)⟩⟩
      refine ih (i + 1) _ (by omega) (fun q hq => ?_)
      rw [ta_step 1 ki.1 hg q hq]
      congr 1
      funext p
      exact ta_dp_s.symm
  have m2 : ∀ d i b14, i + d = 65 → (∀ q, q < i → b14 q = 0) → wX_walkBoth_2 post (nI k) (nI m) (nI m') h b (d + 1) (nI i) a1 a2 a3 a4 a5 a6 a7 a8 a9 a10 a11 a12 a13 b14 := by
    intro d
    induction d with
    | zero =>
      intro i b14 hi g
      refine pk_lt 64 i (fun _ => ⟨_, m23 m 0 b14 (by omega) (fun q hq => ?_)⟩) (fun z => absurd z (by omega))
      rw [g q (by omega)]
      exact ta_dv_0.symm
    | succ d ih =>
      intro i b14 hi g
      refine pk_lt 64 i (fun z => absurd z (by omega)) (fun _ => ⟨pk_in i 65 (by omega), nm_r (ta_up rfl (by omega) rfl) (nm_r (nI_1 i) (ih (i + 1) _ (by omega) (fun q hq => ?_)))⟩)
      by_cases c : q = i
      · rw [ta_ue c]
      · rw [pk_un c]; exact g q (by omega)
  exact ⟨_, m2 65 0 a14 (by omega) (fun q hq => absurd hq (by omega))⟩
end
theorem ta_cov_can {n : Nat} {S E : Nat → Nat} (hok : ta_okf n S E) : ∃ m A B, ta_can m A B (ta_cov n S E) := by
  obtain ⟨m, A0, B0, h0⟩ := ta_can_ex (ta_cov n S E) 64 (by omega)
  refine ⟨m, A0, B0, ta_can_c h0 (fun p => ⟨fun z => ⟨?_, z⟩, fun z => z.2⟩)⟩
  obtain ⟨j, hj, g1, g2⟩ := z
  have := hok.2.1 j hj
  omega
theorem ta_join {P : Nat → ta_T} {k t v M : Nat} {A B : Nat → Nat} (hP : ta_okP P) (hk : k < 4) (ht : t < 3) (hv : v < 3)
    (hM : ta_can M A B (fun p => p < 64 ∧ ta_hold k (ta_cov (P t).1 (P t).2.1 (P t).2.2 p) (ta_cov (P v).1 (P v).2.1 (P v).2.2 p))) {post : Int32 → St1 → Prop} {u : St1} (hu : ta_RU P u)
    (H : ∀ x u', ta_RU (ta_set P t (M, A, B)) u' → post x u') : wpX_join post u (nI k) (nI t) (nI v) := by
  obtain ⟨r, o, h, b, a1, a2, a3, a4, a5, a6, a7, a8, a9, a10, a11, a12, a13, a14⟩ := u
  have hu' : ta_R P b a1 a2 a3 a5 a6 a7 := hu
  obtain ⟨m, A0, B0, h0⟩ := ta_cov_can (hP t ht)
  obtain ⟨m', A1, B1, h1⟩ := ta_cov_can (hP v hv)
  unfold wpX_join
  refine pk_lt k 0 (fun z => absurd z (by omega)) (fun _ => pk_le k 3 (fun _ => ta_isT ht (br_f ta_10 (ta_isT hv (br_f ta_10 (ta_take hv (hP v hv) (hu'.1 v hv) h1 (fun b10 b11 g10 g11 => ?_)))))) (fun z => absurd z (by omega)))
  refine ta_keep (ta_can_le h1) g10 g11 (fun b12 b13 g12 g13 => ?_)
  refine ta_take ht (hP t ht) (hu'.1 t ht) h0 (fun c10 c11 e10 e11 => ?_)
  refine ta_walk hk h0 h1 hM e10 e11 g12 g13 (fun d10 d11 d14 q10 q11 => ?_)
  exact ta_store hP ht (ta_can_le hM) hu'.1 q10 q11 (fun b1 b2 hm => ⟨pk_in t 3 ht, H _ _ ⟨hm, Or.inl rfl⟩⟩)
end
section
/-! add, repeat, remove, clear, act -/
theorem ta_q {a b : Nat} (ha : a ≤ 64) (hb : b ≤ 64) : nI (65 * a + b) / 65 = nI a := by
  have e : (65 : Int32) = nI 65 := rfl
  rw [e, pk_div (by omega) (by omega) (by omega), show (65 * a + b) / 65 = a by omega]
theorem ta_q2 {a b : Nat} (ha : a ≤ 64) (hb : b ≤ 64) : nI (65 * a + b) - nI (65 * a + b) / 65 * 65 = nI b := by
  have e : (65 : Int32) = nI 65 := rfl
  rw [e, pk_rem (by omega) (by omega) (by omega), show (65 * a + b) % 65 = b by omega]
theorem ta_65 : ¬ (65 : Int32) = 0 := by decide
theorem ta_isS {post : Int32 → Prop} {a b : Nat} (ha : a ≤ 64) (hb : b ≤ 64) (h : a < b) (H : post 1) : wpX_isStretch post () (nI (65 * a + b)) :=
  pk_lt (65 * a + b) 0 (fun z => absurd z (by omega)) (fun _ => ⟨ta_65, ta_65, pk_le b a (fun z => absurd z (by omega)) (fun _ => H) (ta_q2 ha hb) (ta_q ha hb)⟩)
theorem ta_isS0 {post : Int32 → Prop} {a b : Nat} (ha : a ≤ 64) (hb : b ≤ 64) (h : ¬ a < b) (H : post 0) : wpX_isStretch post () (nI (65 * a + b)) :=
  pk_lt (65 * a + b) 0 (fun z => absurd z (by omega)) (fun _ => ⟨ta_65, ta_65, pk_le b a (fun _ => H) (fun z => absurd z (by omega)) (ta_q2 ha hb) (ta_q ha hb)⟩)
/-- the method ends, and what it makes of the tracks is fixed by the tracks and the arguments -/
def ta_op (P : Nat → ta_T) (W : (Int32 → St1 → Prop) → St1 → Prop) : Prop :=
  ∃ P', ta_okP P' ∧ ∀ (post : Int32 → St1 → Prop) (u : St1), ta_RU P u → (∀ x u', ta_RU P' u' → post x u') → W post u
theorem ta_op_id {P : Nat → ta_T} {W : (Int32 → St1 → Prop) → St1 → Prop} (hP : ta_okP P) (h : ∀ (post : Int32 → St1 → Prop) (u : St1), ta_RU P u → (∀ x, post x u) → W post u) : ta_op P W :=
  ⟨P, hP, fun post u hu H => h post u hu (fun x => H x u hu)⟩
theorem ta_add {P : Nat → ta_T} {t a b : Nat} (hP : ta_okP P) (ht : t ≤ 3) (ha : a ≤ 64) (hb : b ≤ 64) : ta_op P (fun post u => wpX_add post u (nI t) (nI (65 * a + b))) := by
  by_cases t3 : t = 3
  · subst t3
    refine ta_op_id hP (fun post u hu H => ?_)
    obtain ⟨r, o, h, bb, a1, a2, a3, a4, a5, a6, a7, a8, a9, a10, a11, a12, a13, a14⟩ := u
    unfold wpX_add
    exact ta_isT3 (br_t rfl (H _))
  have ht' : t < 3 := by omega
  by_cases hab : a < b
  · by_cases hn : (P t).1 = 32
    · refine ta_op_id hP (fun post u hu H => ?_)
      obtain ⟨r, o, h, bb, a1, a2, a3, a4, a5, a6, a7, a8, a9, a10, a11, a12, a13, a14⟩ := u
      have hu' : ta_R P bb a1 a2 a3 a5 a6 a7 := hu
      unfold wpX_add
      exact ta_isT ht' (br_f ta_10 (ta_isS ha hb hab (br_f ta_10 ⟨pk_in t 3 ht', br_t (by rw [ta_rd (a := a3) rfl (by omega) (hu'.1 t ht').1, hn]; rfl) (H _)⟩)))
    · have hk : (P t).1 ≤ 32 := (hP t ht').1
      obtain ⟨P', hP', hi⟩ := ta_insR (s := a) (e := b) hP ht' (by omega) hab hb
      refine ⟨P', hP', fun post u hu H => ?_⟩
      obtain ⟨r, o, h, bb, a1, a2, a3, a4, a5, a6, a7, a8, a9, a10, a11, a12, a13, a14⟩ := u
      have hu' : ta_R P bb a1 a2 a3 a5 a6 a7 := hu
      unfold wpX_add
      refine ta_isT ht' (br_f ta_10 (ta_isS ha hb hab (br_f ta_10 ⟨pk_in t 3 ht', pk_eq (P t).1 32 (fun z => absurd z hn) (fun _ => ⟨ta_65, ta_65, ?_⟩) (ta_rd rfl (by omega) (hu'.1 t ht').1)⟩)))
      rw [ta_q2 ha hb, ta_q ha hb]
      refine hi _ _ hu (fun u' hu2 => ?_)
      obtain ⟨r, o, h, bb, a1, a2, a3, a4, a5, a6, a7, a8, a9, a10, a11, a12, a13, a14⟩ := u'
      exact ⟨pk_in t 3 ht', H _ _ hu2⟩
  · refine ta_op_id hP (fun post u hu H => ?_)
    obtain ⟨r, o, h, bb, a1, a2, a3, a4, a5, a6, a7, a8, a9, a10, a11, a12, a13, a14⟩ := u
    unfold wpX_add
    exact ta_isT ht' (br_f ta_10 (ta_isS0 ha hb hab (br_t rfl (H _))))
theorem ta_remove {P : Nat → ta_T} {t i : Nat} (hP : ta_okP P) (ht : t ≤ 3) (hi : i < 16) : ta_op P (fun post u => wpX_remove post u (nI t) (nI i)) := by
  by_cases t3 : t = 3
  · subst t3
    refine ta_op_id hP (fun post u hu H => ?_)
    obtain ⟨r, o, h, b, a1, a2, a3, a4, a5, a6, a7, a8, a9, a10, a11, a12, a13, a14⟩ := u
    unfold wpX_remove
    exact ta_isT3 (br_t rfl (H _))
  have ht' : t < 3 := by omega
  have hk : (P t).1 ≤ 32 := (hP t ht').1
  by_cases hn : i < (P t).1
  · obtain ⟨hP', hd⟩ := ta_dropR hP ht' hn
    refine ⟨_, hP', fun post u hu H => ?_⟩
    obtain ⟨r, o, h, b, a1, a2, a3, a4, a5, a6, a7, a8, a9, a10, a11, a12, a13, a14⟩ := u
    have hu' : ta_R P b a1 a2 a3 a5 a6 a7 := hu
    unfold wpX_remove
    refine ta_isT ht' (br_f ta_10 (pk_lt i 0 (fun z => absurd z (by omega)) (fun _ => ⟨pk_in t 3 ht', pk_lt i (P t).1 (fun _ => ?_) (fun z => absurd z (by omega)) rfl (ta_rd rfl (by omega) (hu'.1 t ht').1)⟩)))
    refine hd _ _ hu (fun u' hu2 => ?_)
    obtain ⟨r, o, h, b, a1, a2, a3, a4, a5, a6, a7, a8, a9, a10, a11, a12, a13, a14⟩ := u'
    exact ⟨pk_in t 3 ht', H _ _ hu2⟩
  · refine ta_op_id hP (fun post u hu H => ?_)
    obtain ⟨r, o, h, b, a1, a2, a3, a4, a5, a6, a7, a8, a9, a10, a11, a12, a13, a14⟩ := u
    have hu' : ta_R P b a1 a2 a3 a5 a6 a7 := hu
    unfold wpX_remove
    exact ta_isT ht' (br_f ta_10 (pk_lt i 0 (fun z => absurd z (by omega)) (fun _ => ⟨pk_in t 3 ht', pk_lt i (P t).1 (fun z => absurd z (by omega)) (fun _ => H _) rfl (ta_rd rfl (by omega) (hu'.1 t ht').1)⟩)))
theorem ta_m1 (x : Int32) : x + (-1) = x - 1 := by grind
theorem ta_clear31 {t a b : Nat} (ht : t < 3) (ha : a ≤ 64) (hb : b ≤ 64) : ∀ i P, ta_okP P → i ≤ (P t).1 → ∃ P', ta_okP P' ∧ ∀ (post : Int32 → St1 → Prop) (x3 r o h bb : Int32) (a1 a2 a3 a4 a5 a6 a7 a8 a9 a10 a11 a12 a13 a14 : Nat → Int32),
    ta_R P bb a1 a2 a3 a5 a6 a7 → (∀ x u', ta_RU P' u' → post x u') → wX_clear_31 post (nI t) (nI (65 * a + b)) (i + 1) x3 (nI i - 1) r o h bb a1 a2 a3 a4 a5 a6 a7 a8 a9 a10 a11 a12 a13 a14
  | 0, P, hP, hi => ⟨P, hP, fun post x3 r o h bb a1 a2 a3 a4 a5 a6 a7 a8 a9 a10 a11 a12 a13 a14 hu H => br_t (by decide) (H _ _ hu)⟩
  | i + 1, P, hP, hi => by
    have hk := hP t ht
    have hk1 : (P t).1 ≤ 32 := hk.1
    have q := hk.2.1 i (by show i < (P t).1; omega)
    by_cases c1 : (P t).2.1 i < a
    · obtain ⟨P', hP', IH⟩ := ta_clear31 ht ha hb i P hP (by omega)
      refine ⟨P', hP', fun post x3 r o h bb a1 a2 a3 a4 a5 a6 a7 a8 a9 a10 a11 a12 a13 a14 hu H => ?_⟩
      obtain ⟨h3, h1, h2⟩ := hu.1 t ht
      rw [nI_pred]
      refine pk_lt i 0 (fun z => absurd z (by omega)) (fun _ => nm_r (ta_ix t i) ⟨ta_65, pk_in (32 * t + i) 96 (by omega), ?_⟩)
      exact pk_lt ((P t).2.1 i) a (fun _ => nm_r (ta_m1 _) (IH post x3 r o h bb a1 a2 a3 a4 a5 a6 a7 a8 a9 a10 a11 a12 a13 a14 hu H)) (fun z => absurd z (by omega)) (ta_rd rfl (by omega) (h1 i (by omega))) (ta_q ha hb)
    · by_cases c2 : b < (P t).2.2 i
      · obtain ⟨P', hP', IH⟩ := ta_clear31 ht ha hb i P hP (by omega)
        refine ⟨P', hP', fun post x3 r o h bb a1 a2 a3 a4 a5 a6 a7 a8 a9 a10 a11 a12 a13 a14 hu H => ?_⟩
        obtain ⟨h3, h1, h2⟩ := hu.1 t ht
        rw [nI_pred]
        refine pk_lt i 0 (fun z => absurd z (by omega)) (fun _ => nm_r (ta_ix t i) ⟨ta_65, pk_in (32 * t + i) 96 (by omega), ?_⟩)
        refine pk_lt ((P t).2.1 i) a (fun z => absurd z (by omega)) (fun _ => ⟨pk_in (32 * t + i) 96 (by omega), ta_65, ?_⟩) (ta_rd rfl (by omega) (h1 i (by omega))) (ta_q ha hb)
        exact pk_lt b ((P t).2.2 i) (fun _ => nm_r (ta_m1 _) (IH post x3 r o h bb a1 a2 a3 a4 a5 a6 a7 a8 a9 a10 a11 a12 a13 a14 hu H)) (fun z => absurd z (by omega)) (ta_q2 ha hb) (ta_rd rfl (by omega) (h2 i (by omega)))
      · obtain ⟨hP1, hd⟩ := ta_dropR (i := i) hP ht (by omega)
        obtain ⟨P', hP', IH⟩ := ta_clear31 ht ha hb i _ hP1 (by rw [ta_set_s]; show i ≤ (P t).1 - 1; omega)
        refine ⟨P', hP', fun post x3 r o h bb a1 a2 a3 a4 a5 a6 a7 a8 a9 a10 a11 a12 a13 a14 hu H => ?_⟩
        obtain ⟨h3, h1, h2⟩ := hu.1 t ht
        rw [nI_pred]
        refine pk_lt i 0 (fun z => absurd z (by omega)) (fun _ => nm_r (ta_ix t i) ⟨ta_65, pk_in (32 * t + i) 96 (by omega), ?_⟩)
        refine pk_lt ((P t).2.1 i) a (fun z => absurd z (by omega)) (fun _ => ⟨pk_in (32 * t + i) 96 (by omega), ta_65, ?_⟩) (ta_rd rfl (by omega) (h1 i (by omega))) (ta_q ha hb)
        refine pk_lt b ((P t).2.2 i) (fun z => absurd z (by omega)) (fun _ => ?_) (ta_q2 ha hb) (ta_rd rfl (by omega) (h2 i (by omega)))
        refine hd _ _ hu (fun u' hu2 => ?_)
        obtain ⟨r, o, h, bb, a1, a2, a3, a4, a5, a6, a7, a8, a9, a10, a11, a12, a13, a14⟩ := u'
        exact nm_e (nm_r (ta_m1 _) (IH post _ r o h bb a1 a2 a3 a4 a5 a6 a7 a8 a9 a10 a11 a12 a13 a14 hu2 H))
theorem ta_clear {P : Nat → ta_T} {t a b : Nat} (hP : ta_okP P) (ht : t ≤ 3) (ha : a ≤ 64) (hb : b ≤ 64) : ta_op P (fun post u => wpX_clear post u (nI t) (nI (65 * a + b))) := by
  by_cases t3 : t = 3
  · subst t3
    refine ta_op_id hP (fun post u hu H => ?_)
    obtain ⟨r, o, h, bb, a1, a2, a3, a4, a5, a6, a7, a8, a9, a10, a11, a12, a13, a14⟩ := u
    unfold wpX_clear
    exact ta_isT3 (br_t rfl (H _))
  have ht' : t < 3 := by omega
  by_cases hab : a < b
  · obtain ⟨P', hP', IH⟩ := ta_clear31 ht' ha hb (P t).1 P hP (Nat.le_refl _)
    refine ⟨P', hP', fun post u hu H => ?_⟩
    obtain ⟨r, o, h, bb, a1, a2, a3, a4, a5, a6, a7, a8, a9, a10, a11, a12, a13, a14⟩ := u
    have hu' : ta_R P bb a1 a2 a3 a5 a6 a7 := hu
    unfold wpX_clear
    exact ta_isT ht' (br_f ta_10 (ta_isS ha hb hab (br_f ta_10 ⟨pk_in t 3 ht', nm_r (by rw [ta_rd (a := a3) rfl (by omega) (hu'.1 t ht').1]) ⟨_, IH post 0 r o h bb a1 a2 a3 a4 a5 a6 a7 a8 a9 a10 a11 a12 a13 a14 hu' H⟩⟩)))
  · refine ta_op_id hP (fun post u hu H => ?_)
    obtain ⟨r, o, h, bb, a1, a2, a3, a4, a5, a6, a7, a8, a9, a10, a11, a12, a13, a14⟩ := u
    unfold wpX_clear
    exact ta_isT ht' (br_f ta_10 (ta_isS0 ha hb hab (br_t rfl (H _))))
theorem ta_rep {a b k : Nat} {st : Int32} (hab : a < b) (hb : b ≤ 64) (hk : k ≤ 32) (h1 : -64 ≤ st.toInt) (h2 : st.toInt ≤ 64) (h6 : ¬ (nI a + nI k * st) < 0) (h7 : ¬ 64 < (nI b + nI k * st)) :
    ∃ s e, s < e ∧ e ≤ 64 ∧ nI a + nI k * st = nI s ∧ nI b + nI k * st = nI e := by
  have z1 : (k : Int) * st.toInt ≤ (k : Int) * 64 := Int.mul_le_mul_of_nonneg_left h2 (by omega)
  have z2 : (k : Int) * (-64) ≤ (k : Int) * st.toInt := Int.mul_le_mul_of_nonneg_left h1 (by omega)
  have em : (nI k * st).toInt = (k : Int) * st.toInt := by
    rw [Int32.toInt_mul, nI_toInt (by omega)]
    exact Int.bmod_eq_of_le (by omega) (by omega)
  have ea : (nI a + nI k * st).toInt = (a : Int) + (k : Int) * st.toInt := by
    rw [Int32.toInt_add, em, nI_toInt (by omega)]
    exact Int.bmod_eq_of_le (by omega) (by omega)
  have eb : (nI b + nI k * st).toInt = (b : Int) + (k : Int) * st.toInt := by
    rw [Int32.toInt_add, em, nI_toInt (by omega)]
    exact Int.bmod_eq_of_le (by omega) (by omega)
  obtain ⟨s, hs, es⟩ := nI_of h6
  have es2 := congrArg Int32.toInt es
  rw [ea, nI_toInt hs] at es2
  have h7' : ¬ (nI b + nI k * st) < 0 := by
    rw [Int32.lt_iff_toInt_lt, eb, show (0 : Int32).toInt = 0 from by decide]
    omega
  obtain ⟨e, he, ee⟩ := nI_of h7'
  have ee2 := congrArg Int32.toInt ee
  rw [eb, nI_toInt he] at ee2
  rw [Int32.lt_iff_toInt_lt, eb, show (64 : Int32).toInt = 64 from by decide] at h7
  exact ⟨s, e, by omega, by omega, es, ee⟩
theorem ta_rep53 {t a b n : Nat} {st : Int32} (ht : t < 3) (ha : a ≤ 64) (hb : b ≤ 64) (hab : a < b) (hn : n ≤ 32) (s1 : -64 ≤ st.toInt) (s2 : st.toInt ≤ 64) : ∀ d k P, ta_okP P → k + d = n → ∃ P', ta_okP P' ∧ ∀ (post : Int32 → St1 → Prop) (r o h bb : Int32) (a1 a2 a3 a4 a5 a6 a7 a8 a9 a10 a11 a12 a13 a14 : Nat → Int32),
    ta_R P bb a1 a2 a3 a5 a6 a7 → (∀ x u', ta_RU P' u' → post x u') → wX_repeat_53 post (nI t) (nI (65 * a + b)) st (nI n) (d + 1) (nI k) r o h bb a1 a2 a3 a4 a5 a6 a7 a8 a9 a10 a11 a12 a13 a14
  | 0, k, P, hP, hi => ⟨P, hP, fun post r o h bb a1 a2 a3 a4 a5 a6 a7 a8 a9 a10 a11 a12 a13 a14 hu H => pk_le n k (fun _ => ⟨pk_in t 3 ht, H _ _ hu⟩) (fun z => absurd z (by omega))⟩
  | d + 1, k, P, hP, hi => by
    have hk1 : (P t).1 ≤ 32 := (hP t ht).1
    have e6 : nI (65 * a + b) / 65 + nI k * st = nI a + nI k * st := by rw [ta_q ha hb]
    have e7 : (nI (65 * a + b) - nI (65 * a + b) / 65 * 65) + nI k * st = nI b + nI k * st := by rw [ta_q2 ha hb]
    by_cases c6 : (nI a + nI k * st) < 0
    · obtain ⟨P', hP', IH⟩ := ta_rep53 ht ha hb hab hn s1 s2 d (k + 1) P hP (by omega)
      refine ⟨P', hP', fun post r o h bb a1 a2 a3 a4 a5 a6 a7 a8 a9 a10 a11 a12 a13 a14 hu H => ?_⟩
      exact pk_le n k (fun z => absurd z (by omega)) (fun _ => ⟨ta_65, nm_r e6 ⟨ta_65, nm_r e7 (br_t c6 (nm_r (nI_1 k) (IH post r o h bb a1 a2 a3 a4 a5 a6 a7 a8 a9 a10 a11 a12 a13 a14 hu H)))⟩⟩)
    · by_cases c7 : 64 < (nI b + nI k * st)
      · obtain ⟨P', hP', IH⟩ := ta_rep53 ht ha hb hab hn s1 s2 d (k + 1) P hP (by omega)
        refine ⟨P', hP', fun post r o h bb a1 a2 a3 a4 a5 a6 a7 a8 a9 a10 a11 a12 a13 a14 hu H => ?_⟩
        exact pk_le n k (fun z => absurd z (by omega)) (fun _ => ⟨ta_65, nm_r e6 ⟨ta_65, nm_r e7 (br_f c6 (br_t c7 (nm_r (nI_1 k) (IH post r o h bb a1 a2 a3 a4 a5 a6 a7 a8 a9 a10 a11 a12 a13 a14 hu H))))⟩⟩)
      · by_cases c8 : 32 ≤ (P t).1
        · obtain ⟨P', hP', IH⟩ := ta_rep53 ht ha hb hab hn s1 s2 d (k + 1) P hP (by omega)
          refine ⟨P', hP', fun post r o h bb a1 a2 a3 a4 a5 a6 a7 a8 a9 a10 a11 a12 a13 a14 hu H => ?_⟩
          exact pk_le n k (fun z => absurd z (by omega)) (fun _ => ⟨ta_65, nm_r e6 ⟨ta_65, nm_r e7 (br_f c6 (br_f c7 ⟨pk_in t 3 ht, pk_le 32 (P t).1 (fun _ => nm_r (nI_1 k) (IH post r o h bb a1 a2 a3 a4 a5 a6 a7 a8 a9 a10 a11 a12 a13 a14 hu H)) (fun z => absurd z (by omega)) rfl (ta_rd rfl (by omega) (hu.1 t ht).1)⟩))⟩⟩)
        · obtain ⟨s, e, se, e64, es, ee⟩ := ta_rep hab hb (by omega) s1 s2 c6 c7
          obtain ⟨P1, hP1, hi1⟩ := ta_insR (s := s) (e := e) hP ht (by omega) se e64
          obtain ⟨P', hP', IH⟩ := ta_rep53 ht ha hb hab hn s1 s2 d (k + 1) P1 hP1 (by omega)
          refine ⟨P', hP', fun post r o h bb a1 a2 a3 a4 a5 a6 a7 a8 a9 a10 a11 a12 a13 a14 hu H => ?_⟩
          refine pk_le n k (fun z => absurd z (by omega)) (fun _ => ⟨ta_65, nm_r e6 ⟨ta_65, nm_r e7 (br_f c6 (br_f c7 ⟨pk_in t 3 ht, pk_le 32 (P t).1 (fun z => absurd z (by omega)) (fun _ => ?_) rfl (ta_rd rfl (by omega) (hu.1 t ht).1)⟩))⟩⟩)
          rw [es, ee]
          refine hi1 _ _ hu (fun u' hu2 => ?_)
          obtain ⟨r, o, h, bb, a1, a2, a3, a4, a5, a6, a7, a8, a9, a10, a11, a12, a13, a14⟩ := u'
          exact nm_r (nI_1 k) (IH post r o h bb a1 a2 a3 a4 a5 a6 a7 a8 a9 a10 a11 a12 a13 a14 hu2 H)
theorem ta_repeat {P : Nat → ta_T} {t a b n : Nat} {st : Int32} (hP : ta_okP P) (ht : t ≤ 3) (ha : a ≤ 64) (hb : b ≤ 64) (n1 : 1 ≤ n) (n2 : n ≤ 32) : ta_op P (fun post u => wpX_repeat post u (nI t) (nI (65 * a + b)) st (nI n)) := by
  by_cases t3 : t = 3
  · subst t3
    refine ta_op_id hP (fun post u hu H => ?_)
    obtain ⟨r, o, h, bb, a1, a2, a3, a4, a5, a6, a7, a8, a9, a10, a11, a12, a13, a14⟩ := u
    unfold wpX_repeat
    exact ta_isT3 (br_t rfl (H _))
  have ht' : t < 3 := by omega
  by_cases hab : a < b
  · by_cases c1 : st < (-64)
    · refine ta_op_id hP (fun post u hu H => ?_)
      obtain ⟨r, o, h, bb, a1, a2, a3, a4, a5, a6, a7, a8, a9, a10, a11, a12, a13, a14⟩ := u
      unfold wpX_repeat
      exact ta_isT ht' (br_f ta_10 (ta_isS ha hb hab (br_f ta_10 (br_t c1 (H _)))))
    · by_cases c2 : st ≤ 64
      · have s1 : -64 ≤ st.toInt := by
          rw [Int32.lt_iff_toInt_lt, show (-64 : Int32).toInt = -64 from by decide] at c1
          omega
        have s2 : st.toInt ≤ 64 := by
          rw [Int32.le_iff_toInt_le, show (64 : Int32).toInt = 64 from by decide] at c2
          exact c2
        obtain ⟨P', hP', IH⟩ := ta_rep53 ht' ha hb hab n2 s1 s2 n 0 P hP (by omega)
        refine ⟨P', hP', fun post u hu H => ?_⟩
        obtain ⟨r, o, h, bb, a1, a2, a3, a4, a5, a6, a7, a8, a9, a10, a11, a12, a13, a14⟩ := u
        unfold wpX_repeat
        exact ta_isT ht' (br_f ta_10 (ta_isS ha hb hab (br_f ta_10 (br_f c1 (br_t c2 (pk_lt n 1 (fun z => absurd z (by omega)) (fun _ => pk_le n 32 (fun _ => ⟨_, IH post r o h bb a1 a2 a3 a4 a5 a6 a7 a8 a9 a10 a11 a12 a13 a14 hu H⟩) (fun z => absurd z (by omega)))))))))
      · refine ta_op_id hP (fun post u hu H => ?_)
        obtain ⟨r, o, h, bb, a1, a2, a3, a4, a5, a6, a7, a8, a9, a10, a11, a12, a13, a14⟩ := u
        unfold wpX_repeat
        exact ta_isT ht' (br_f ta_10 (ta_isS ha hb hab (br_f ta_10 (br_f c1 (br_f c2 (H _))))))
  · refine ta_op_id hP (fun post u hu H => ?_)
    obtain ⟨r, o, h, bb, a1, a2, a3, a4, a5, a6, a7, a8, a9, a10, a11, a12, a13, a14⟩ := u
    unfold wpX_repeat
    exact ta_isT ht' (br_f ta_10 (ta_isS0 ha hb hab (br_t rfl (H _))))
end
section
/-! track, piece, act -/
theorem ta_and31 (x : Int32) : ∃ j, j < 32 ∧ x &&& 31 = nI j := pk_andE x 5 (by decide)
theorem ta_and15 (x : Int32) : ∃ j, j < 16 ∧ x &&& 15 = nI j := pk_andE x 4 (by decide)
theorem ta_and63 (x : Int32) : ∃ j, j < 64 ∧ x &&& 63 = nI j := pk_andE x 6 (by decide)
theorem ta_mod3 (x : Int32) : ∃ j, j < 3 ∧ (x &&& 31) - (x &&& 31) / 3 * 3 = nI j := by
  obtain ⟨j, hj, e⟩ := ta_and31 x
  refine ⟨j % 3, by omega, ?_⟩
  have e3 : (3 : Int32) = nI 3 := rfl
  rw [e, e3, pk_rem (by omega) (by omega) (by omega)]
theorem ta_mod4 (x : Int32) : ∃ j, j < 4 ∧ (x &&& 31) - (x &&& 31) / 4 * 4 = nI j := by
  obtain ⟨j, hj, e⟩ := ta_and31 x
  refine ⟨j % 4, by omega, ?_⟩
  have e3 : (4 : Int32) = nI 4 := rfl
  rw [e, e3, pk_rem (by omega) (by omega) (by omega)]
theorem ta_30 : ¬ (3 : Int32) = 0 := by decide
theorem ta_track (x : Int32) : ∃ t, t ≤ 3 ∧ ∀ post : Int32 → Prop, post (nI t) → wpL_track post () x := by
  by_cases c : (x &&& 31) = 31
  · exact ⟨3, by omega, fun post H => br_t c H⟩
  · obtain ⟨j, hj, e⟩ := ta_mod3 x
    exact ⟨j, by omega, fun post H => br_f c ⟨ta_30, by rw [e]; exact H⟩⟩
theorem ta_piece (y v : Int32) : ∃ a b, a ≤ 64 ∧ b ≤ 64 ∧ ∀ post : Int32 → Prop, post (nI (65 * a + b)) → wpL_piece post () y v := by
  obtain ⟨s, hs, es⟩ := ta_and63 y
  obtain ⟨w, hw, ew⟩ := ta_and15 v
  have e65 : (65 : Int32) = nI 65 := rfl
  have ee : (nI s + 1) + (v &&& 15) = nI (s + 1 + w) := by rw [ew, nI_1, nI_add]
  have V : ∀ p q, (65 * nI p) + nI q = nI (65 * p + q) := fun p q => by rw [e65, pk_mul, nI_add]
  have main : ∀ e, e ≤ 64 → ∃ a b, a ≤ 64 ∧ b ≤ 64 ∧ ∀ post : Int32 → Prop, post (nI (65 * a + b)) → wL_piece_23 post y (nI s) (nI e) := by
    intro e he
    by_cases c : (y &&& 1023) = 500
    · exact ⟨e, s, he, by omega, fun post H => br_t c (by rw [V]; exact H)⟩
    · exact ⟨s, e, by omega, he, fun post H => br_f c (by rw [V]; exact H)⟩
  by_cases c : s + 1 + w ≤ 64
  · obtain ⟨a, b, ha, hb, h⟩ := main (s + 1 + w) c
    exact ⟨a, b, ha, hb, fun post H => nm_r es (nm_r ee (pk_le (s + 1 + w) 64 (fun _ => h post H) (fun z => absurd z (by omega))))⟩
  · obtain ⟨a, b, ha, hb, h⟩ := main 64 (by omega)
    exact ⟨a, b, ha, hb, fun post H => nm_r es (nm_r ee (pk_le (s + 1 + w) 64 (fun z => absurd z (by omega)) (fun _ => h post H)))⟩
theorem ta_op_merge {P : Nat → ta_T} {t : Nat} (hP : ta_okP P) (ht : t ≤ 3) : ta_op P (fun post u => wpX_merge post u (nI t)) := by
  by_cases t3 : t = 3
  · subst t3
    refine ta_op_id hP (fun post u hu H => ?_)
    obtain ⟨r, o, h, b, a1, a2, a3, a4, a5, a6, a7, a8, a9, a10, a11, a12, a13, a14⟩ := u
    unfold wpX_merge
    exact ta_isT3 (br_t rfl (H _))
  have ht' : t < 3 := by omega
  obtain ⟨m, A, B, hc⟩ := ta_cov_can (hP t ht')
  exact ⟨_, ta_set_ok hP (ta_can_ok hc), fun post u hu H => ta_merge hP ht' hc hu H⟩
theorem ta_op_compl {P : Nat → ta_T} {t : Nat} (hP : ta_okP P) (ht : t ≤ 3) : ta_op P (fun post u => wpX_complement post u (nI t)) := by
  by_cases t3 : t = 3
  · subst t3
    refine ta_op_id hP (fun post u hu H => ?_)
    obtain ⟨r, o, h, b, a1, a2, a3, a4, a5, a6, a7, a8, a9, a10, a11, a12, a13, a14⟩ := u
    unfold wpX_complement
    exact ta_isT3 (br_t rfl (H _))
  have ht' : t < 3 := by omega
  obtain ⟨m, A, B, hc⟩ := ta_can_ex (fun p => ¬ ta_cov (P t).1 (P t).2.1 (P t).2.2 p) 64 (by omega)
  exact ⟨_, ta_set_ok hP (ta_can_ok hc), fun post u hu H => ta_compl hP ht' hc hu H⟩
theorem ta_op_copy {P : Nat → ta_T} {t v : Nat} (hP : ta_okP P) (ht : t ≤ 3) (hv : v < 3) : ta_op P (fun post u => wpX_copy post u (nI t) (nI v)) := by
  by_cases t3 : t = 3
  · subst t3
    refine ta_op_id hP (fun post u hu H => ?_)
    obtain ⟨r, o, h, b, a1, a2, a3, a4, a5, a6, a7, a8, a9, a10, a11, a12, a13, a14⟩ := u
    unfold wpX_copy
    exact ta_isT3 (br_t rfl (H _))
  have ht' : t < 3 := by omega
  exact ⟨_, ta_set_ok hP (hP v hv), fun post u hu H => ta_copy hP ht' hv hu H⟩
theorem ta_op_join {P : Nat → ta_T} {k t v : Nat} (hP : ta_okP P) (hk : k < 4) (ht : t ≤ 3) (hv : v < 3) : ta_op P (fun post u => wpX_join post u (nI k) (nI t) (nI v)) := by
  by_cases t3 : t = 3
  · subst t3
    refine ta_op_id hP (fun post u hu H => ?_)
    obtain ⟨r, o, h, b, a1, a2, a3, a4, a5, a6, a7, a8, a9, a10, a11, a12, a13, a14⟩ := u
    unfold wpX_join
    exact pk_lt k 0 (fun z => absurd z (by omega)) (fun _ => pk_le k 3 (fun _ => ta_isT3 (br_t rfl (H _))) (fun z => absurd z (by omega)))
  have ht' : t < 3 := by omega
  obtain ⟨m, A, B, hc⟩ := ta_can_ex (fun p => ta_hold k (ta_cov (P t).1 (P t).2.1 (P t).2.2 p) (ta_cov (P v).1 (P v).2.1 (P v).2.2 p)) 64 (by omega)
  exact ⟨_, ta_set_ok hP (ta_can_ok hc), fun post u hu H => ta_join hP hk ht' hv hc hu H⟩
theorem ta_act {P : Nat → ta_T} (hP : ta_okP P) (m x y v : Int32) : ta_op P (fun post u => wpL_act post u m x y v) := by
  obtain ⟨t, ht, hT⟩ := ta_track x
  obtain ⟨w, hw, ew⟩ := ta_mod3 y
  obtain ⟨pa, pb, ha, hb, hS⟩ := ta_piece y v
  have use : ∀ {W : (Int32 → St1 → Prop) → St1 → Prop}, ta_op P W → (∀ (post : Int32 → St1 → Prop) (r o h b : Int32) (a1 a2 a3 a4 a5 a6 a7 a8 a9 a10 a11 a12 a13 a14 : Nat → Int32), W (fun x u => match u with | (r, o, h, b, a1, a2, a3, a4, a5, a6, a7, a8, a9, a10, a11, a12, a13, a14) => post x (r, o, h, b, a1, a2, a3, a4, a5, a6, a7, a8, a9, a10, a11, a12, a13, a14)) (r, o, h, b, a1, a2, a3, a4, a5, a6, a7, a8, a9, a10, a11, a12, a13, a14) → wpL_act post (r, o, h, b, a1, a2, a3, a4, a5, a6, a7, a8, a9, a10, a11, a12, a13, a14) m x y v) →
      ta_op P (fun post u => wpL_act post u m x y v) := by
    intro W ⟨P', hP', hW⟩ hs
    refine ⟨P', hP', fun post u hu H => ?_⟩
    obtain ⟨r, o, h, b, a1, a2, a3, a4, a5, a6, a7, a8, a9, a10, a11, a12, a13, a14⟩ := u
    refine hs post r o h b a1 a2 a3 a4 a5 a6 a7 a8 a9 a10 a11 a12 a13 a14 (hW _ _ hu (fun x u' hu2 => ?_))
    obtain ⟨r, o, h, b, a1, a2, a3, a4, a5, a6, a7, a8, a9, a10, a11, a12, a13, a14⟩ := u'
    exact H _ _ hu2
  by_cases c5 : 5 < m
  · by_cases c7 : 7 < m
    · by_cases c8 : m = 8
      · obtain ⟨i, hi, ei⟩ := ta_and15 y
        refine use (ta_remove (i := i) hP ht hi) (fun post r o h b a1 a2 a3 a4 a5 a6 a7 a8 a9 a10 a11 a12 a13 a14 h => ?_)
        unfold wpL_act
        refine hT _ ⟨ta_30, nm_r ew (hS _ (br_t c5 (br_t c7 (br_t c8 ?_))))⟩
        rw [ei]
        exact h
      by_cases c9 : m = 9
      · refine use (ta_clear hP ht ha hb) (fun post r o h b a1 a2 a3 a4 a5 a6 a7 a8 a9 a10 a11 a12 a13 a14 h => ?_)
        unfold wpL_act
        exact hT _ ⟨ta_30, nm_r ew (hS _ (br_t c5 (br_t c7 (br_f c8 (br_t c9 h)))))⟩
      by_cases c10 : m = 10
      · refine use (ta_op_merge hP ht) (fun post r o h b a1 a2 a3 a4 a5 a6 a7 a8 a9 a10 a11 a12 a13 a14 h => ?_)
        unfold wpL_act
        exact hT _ ⟨ta_30, nm_r ew (hS _ (br_t c5 (br_t c7 (br_f c8 (br_f c9 (br_t c10 h))))))⟩
      by_cases c11 : m = 11
      · refine use (ta_op_compl hP ht) (fun post r o h b a1 a2 a3 a4 a5 a6 a7 a8 a9 a10 a11 a12 a13 a14 h => ?_)
        unfold wpL_act
        exact hT _ ⟨ta_30, nm_r ew (hS _ (br_t c5 (br_t c7 (br_f c8 (br_f c9 (br_f c10 (br_t c11 h)))))))⟩
      by_cases c13 : 13 < m
      · refine use (ta_op_copy hP ht hw) (fun post r o h b a1 a2 a3 a4 a5 a6 a7 a8 a9 a10 a11 a12 a13 a14 h => ?_)
        unfold wpL_act
        exact hT _ ⟨ta_30, nm_r ew (hS _ (br_t c5 (br_t c7 (br_f c8 (br_f c9 (br_f c10 (br_f c11 (br_t c13 h))))))))⟩
      · obtain ⟨k, hk, ek⟩ := ta_mod4 v
        refine use (ta_op_join hP hk ht hw) (fun post r o h b a1 a2 a3 a4 a5 a6 a7 a8 a9 a10 a11 a12 a13 a14 h => ?_)
        unfold wpL_act
        refine hT _ ⟨ta_30, nm_r ew (hS _ (br_t c5 (br_t c7 (br_f c8 (br_f c9 (br_f c10 (br_f c11 (br_f c13 ⟨by decide, ?_⟩))))))))⟩
        rw [ek]
        exact h
    · obtain ⟨k, hk, ek⟩ := ta_and15 (v >>> ((2 : Int32) &&& 31))
      refine use (ta_repeat (st := ((x >>> ((2 : Int32) &&& 31)) &&& 31) - 16) (n := k + 1) hP ht ha hb (by omega) (by omega)) (fun post r o h b a1 a2 a3 a4 a5 a6 a7 a8 a9 a10 a11 a12 a13 a14 h => ?_)
      unfold wpL_act
      refine hT _ ⟨ta_30, nm_r ew (hS _ (br_t c5 (br_f c7 ?_)))⟩
      rw [ek, nI_1]
      exact h
  · refine use (ta_add hP ht ha hb) (fun post r o h b a1 a2 a3 a4 a5 a6 a7 a8 a9 a10 a11 a12 a13 a14 h => ?_)
    unfold wpL_act
    exact hT _ ⟨ta_30, nm_r ew (hS _ (br_f c5 h))⟩
end
section
/-! size, stretch, ordered, same -/
section
variable {post : Int32 → Prop} {r o h b : Int32} {a1 a2 a3 a4 a5 a6 a7 a8 a9 a10 a11 a12 a13 a14 : Nat → Int32} {rv ov hv bv : Int32} {c1 c2 c3 c4 c5 c6 c7 c8 c9 c10 c11 c12 c13 c14 : Nat → Int32}
theorem ta_size {P : Nat → ta_T} {t : Nat} (ht : t < 3) (hu : ta_R P b a1 a2 a3 a5 a6 a7) (H : post (nI (P t).1)) : wpX_size post (r, o, h, b, a1, a2, a3, a4, a5, a6, a7, a8, a9, a10, a11, a12, a13, a14) (nI t) := by
  unfold wpX_size
  refine ta_isT ht (br_f ta_10 ⟨pk_in t 3 ht, ?_⟩)
  rw [ta_rd (a := a3) rfl (by omega) (hu.1 t ht).1]
  exact H
theorem ta_65e (p q : Nat) : (65 * nI p) + nI q = nI (65 * p + q) := by
  have e65 : (65 : Int32) = nI 65 := rfl
  rw [e65, pk_mul, nI_add]
theorem ta_stretch {P : Nat → ta_T} {t i : Nat} (hP : ta_okP P) (ht : t < 3) (hi : i < (P t).1) (hu : ta_R P b a1 a2 a3 a5 a6 a7) (H : post (nI (65 * (P t).2.1 i + (P t).2.2 i))) : wpX_stretch post (r, o, h, b, a1, a2, a3, a4, a5, a6, a7, a8, a9, a10, a11, a12, a13, a14) (nI t) (nI i) := by
  have hk : (P t).1 ≤ 32 := (hP t ht).1
  obtain ⟨h3, h1, h2⟩ := hu.1 t ht
  have v : vp_in ((32 * nI t) + nI i) 96 := pk_in (32 * t + i) 96 (by omega) (ta_ix t i)
  unfold wpX_stretch
  refine ta_isT ht (br_f ta_10 (pk_lt i 0 (fun z => absurd z (by omega)) (fun _ => ⟨pk_in t 3 ht, pk_le (P t).1 i (fun z => absurd z (by omega)) (fun _ => ⟨v, v, ?_⟩) (ta_rd rfl (by omega) h3)⟩)))
  rw [ta_rd (a := a1) (ta_ix t i) (by omega) (h1 i hi), ta_rd (a := a2) (ta_ix t i) (by omega) (h2 i hi), ta_65e]
  exact H
def ta_last (S E : Nat → Nat) (i : Nat) : Int32 := if i = 0 then -1 else nI (65 * S (i - 1) + E (i - 1))
theorem ta_ordered {P : Nat → ta_T} {t : Nat} (hP : ta_okP P) (ht : t < 3) (hu : ta_R P b a1 a2 a3 a5 a6 a7) (H : post 1) : wpL_ordered post (r, o, h, b, a1, a2, a3, a4, a5, a6, a7, a8, a9, a10, a11, a12, a13, a14) (nI t) := by
  have hok := hP t ht
  have hk : (P t).1 ≤ 32 := hok.1
  have main : ∀ d i, i + d = (P t).1 → wL_ordered_11 post (nI t) (nI (P t).1) r o h b a1 a2 a3 a4 a5 a6 a7 a8 a9 a10 a11 a12 a13 a14 (d + 1) (ta_last (P t).2.1 (P t).2.2 i) (nI i) := by
    intro d
    induction d with
    | zero =>
      intro i hi
      exact pk_le (P t).1 i (fun _ => H) (fun z => absurd z (by omega))
    | succ d ih =>
      intro i hi
      have q := hok.2.1 i (by show i < (P t).1; omega)
      have I := ih (i + 1) (by omega)
      have el : ta_last (P t).2.1 (P t).2.2 (i + 1) = nI (65 * (P t).2.1 i + (P t).2.2 i) := if_neg (by omega)
      rw [el] at I
      refine pk_le (P t).1 i (fun z => absurd z (by omega)) (fun _ => pk_le 32 i (fun _ => H) (fun _ => ?_))
      refine ta_stretch hP ht (by omega) hu (pk_le 0 (65 * (P t).2.1 i + (P t).2.2 i) (fun _ => ?_) (fun z => absurd z (by omega)))
      by_cases c : i = 0
      · have e0 : ta_last (P t).2.1 (P t).2.2 i = -1 := if_pos c
        rw [e0]
        exact br_t (by decide) (br_t (by decide) (nm_r (nI_1 i) I))
      · have e0 : ta_last (P t).2.1 (P t).2.2 i = nI (65 * (P t).2.1 (i - 1) + (P t).2.2 (i - 1)) := if_neg c
        rw [e0]
        have q' := hok.2.1 (i - 1) (by show i - 1 < (P t).1; omega)
        have so := hok.2.2 (i - 1) i (by omega) (by show i < (P t).1; omega)
        refine pk_lt (65 * (P t).2.1 (i - 1) + (P t).2.2 (i - 1)) 0 (fun z => absurd z (by omega)) (fun _ => ⟨ta_65, ta_65, ?_⟩)
        refine pk_le ((P t).2.1 (i - 1)) ((P t).2.1 i) (fun _ => ?_) (fun z => absurd z (by omega)) (ta_q (by omega) (by omega)) (ta_q (by omega) (by omega))
        refine pk_lt (65 * (P t).2.1 (i - 1) + (P t).2.2 (i - 1)) 0 (fun z => absurd z (by omega)) (fun _ => ⟨ta_65, ta_65, ?_⟩)
        refine pk_eq ((P t).2.1 i) ((P t).2.1 (i - 1)) (fun z => ⟨ta_65, ta_65, ?_⟩) (fun _ => nm_r (nI_1 i) I) (ta_q (by omega) (by omega)) (ta_q (by omega) (by omega))
        exact pk_le ((P t).2.2 i) ((P t).2.2 (i - 1)) (fun _ => nm_r (nI_1 i) I) (fun z => absurd z (by omega)) (ta_q2 (by omega) (by omega)) (ta_q2 (by omega) (by omega))
  unfold wpL_ordered
  exact ta_size ht hu ⟨_, main (P t).1 0 (by omega)⟩
theorem ta_same {P : Nat → ta_T} {t : Nat} (hP : ta_okP P) (ht : t < 3) (hu : ta_R P b a1 a2 a3 a5 a6 a7) (hw : ta_R P bv c1 c2 c3 c5 c6 c7) (H : post 1) : wpL_same post (r, o, h, b, a1, a2, a3, a4, a5, a6, a7, a8, a9, a10, a11, a12, a13, a14, rv, ov, hv, bv, c1, c2, c3, c4, c5, c6, c7, c8, c9, c10, c11, c12, c13, c14) (nI t) := by
  have hk : (P t).1 ≤ 32 := (hP t ht).1
  have main : ∀ d i, i + d = (P t).1 → wL_same_24 post (nI t) (nI (P t).1) r o h b a1 a2 a3 a4 a5 a6 a7 a8 a9 a10 a11 a12 a13 a14 rv ov hv bv c1 c2 c3 c4 c5 c6 c7 c8 c9 c10 c11 c12 c13 c14 (d + 1) (nI i) := by
    intro d
    induction d with
    | zero =>
      intro i hi
      exact pk_le (P t).1 i (fun _ => H) (fun z => absurd z (by omega))
    | succ d ih =>
      intro i hi
      refine pk_le (P t).1 i (fun z => absurd z (by omega)) (fun _ => pk_le 32 i (fun _ => H) (fun _ => ?_))
      exact ta_stretch hP ht (by omega) hu (ta_stretch hP ht (by omega) hw (br_t rfl (nm_r (nI_1 i) (ih (i + 1) (by omega)))))
  unfold wpL_same
  exact ta_size ht hu (ta_size ht hw (br_t rfl ⟨_, main (P t).1 0 (by omega)⟩))
end
end
section
/-! build: holders, lists -/
def ta_top (K : Nat → Nat) (d : Nat) : Nat := if d = 0 then 0 else K (d - 1) + 1
theorem ta_top_0 {K : Nat → Nat} : ta_top K 0 = 0 := rfl
theorem ta_top_s {K : Nat → Nat} {d : Nat} : ta_top K (d + 1) = K d + 1 := if_neg (by omega)
theorem ta_cn_all {Q : Nat → Prop} : ∀ n, (∀ i, i < n → Q i) → ta_cn Q n = n
  | 0, _ => rfl
  | n + 1, h => by rw [ta_cn_t (h n (by omega)), ta_cn_all n (fun i hi => h i (by omega))]
theorem ta_g1 (g : Nat) : (nI g - 1) + 1 = nI g := by grind
theorem ta_g2 (g : Nat) : (nI g - 1) + 1 = nI (g + 1) - 1 := by rw [nI_pred]; grind
theorem ta_g3 {n g : Nat} (h : g ≤ n) (hn : n < 2 ^ 30) : ¬ nI n ≤ nI g - 1 := by
  have e : (1 : Int32) = nI 1 := rfl
  rw [Int32.le_iff_toInt_le, e, pk_sub_toInt (by omega) (by omega), nI_toInt (by omega)]
  omega
theorem ta_g4 {p g : Nat} (hp : p < 2 ^ 30) (hg : g < 2 ^ 30) (h : nI p - 1 = nI g - 1) : p = g := by
  have e : nI p = nI g := by grind
  exact (nI_eq (by omega) (by omega)).mp e
section
variable {post : St1 → Prop} {r o h b : Int32} {a1 a2 a3 a4 a5 a6 a7 a8 a9 a10 a11 a12 a13 a14 : Nat → Int32}
theorem ta_b28 {J : Int32 → Int32 → (Nat → Int32) → (Nat → Int32) → (Nat → Int32) → (Nat → Int32) → (Nat → Int32) → (Nat → Int32) → (Nat → Int32) → (Nat → Int32) → (Nat → Int32) → (Nat → Int32) → (Nat → Int32) → (Nat → Int32) → (Nat → Int32) → (Nat → Int32) → Prop} {t n i d0 : Nat} {E K : Nat → Nat} (ht : t < 3) (hn : n ≤ 32) (hi : i < n) (hE : ∀ j, j < n → E j ≤ 64) (h2 : ∀ j, j < n → a2 (32 * t + j) = nI (E j))
    (hd0 : d0 ≤ i) (hK : ta_mb d0 K a9) (k1 : ∀ k, k < d0 → K k < i) (k2 : ∀ k, k < d0 → ta_par E (K k) (ta_top K k))
    (H : ∀ d, d ≤ d0 → ta_par E i (ta_top K d) → J (nI (d + 1)) (nI (i + 1)) a1 a2 a3 (upd a4 i (nI (ta_top K d) - 1)) a5 a6 a7 a8 (upd a9 d (nI i)) a10 a11 a12 a13 a14) :
    ∀ d, d ≤ d0 → (∀ j, ta_top K d ≤ j → j < i → E j < E i) → wX_build_28 post J (nI t) (nI i) r o h b a1 a2 a3 a4 a5 a6 a7 a8 a9 a10 a11 a12 a13 a14 (d + 1) (nI d)
  | 0, hd, hs => by
    have p : ta_par E i (ta_top K 0) := ⟨Nat.zero_le _, fun z => absurd z (by show ¬ 0 < 0; omega), hs⟩
    refine pk_le 0 0 (fun _ => pk_le 0 0 (fun _ => ?_) (fun z => absurd z (by omega))) (fun z => absurd z (by omega))
    exact ⟨pk_in i 32 (by omega), nm_r (ta_up rfl (by omega) (by show (-1 : Int32) = nI 0 - 1; decide)) ⟨pk_in 0 40 (by omega), nm_r (ta_up rfl (by omega) rfl) (nm_r (nI_1 0) (nm_r (nI_1 i) (H 0 hd p)))⟩⟩
  | d + 1, hd, hs => by
    have j1 : nI (d + 1) - 1 = nI d := nI_pred d
    have kd := k1 d (by omega)
    have kp := k2 d (by omega)
    have x9 : a9 (nI (d + 1) - 1).toNatClampNeg = nI (K d) := ta_rd j1 (by omega) (hK d (by omega))
    have x10 : (32 * nI t) + a9 (nI (d + 1) - 1).toNatClampNeg = nI (32 * t + K d) := by rw [x9, ta_ix]
    have v1 : vp_in (nI (d + 1) - 1) 40 := pk_in d 40 (by omega) j1
    have bi := hE i hi
    have bk := hE (K d) (by omega)
    refine pk_le (d + 1) 0 (fun z => absurd z (by omega)) (fun _ => ⟨v1, pk_in (32 * t + K d) 96 (by omega) x10, pk_in (32 * t + i) 96 (by omega) (ta_ix t i), ?_⟩)
    refine pk_le (E i) (E (K d)) (fun z => ?_) (fun z => ?_) (ta_rd (ta_ix t i) (by omega) (h2 i hi)) (ta_rd x10 (by omega) (h2 (K d) (by omega)))
    · have p : ta_par E i (ta_top K (d + 1)) := ⟨by rw [ta_top_s]; omega, fun _ => by rw [ta_top_s]; exact z, hs⟩
      refine pk_le (d + 1) 0 (fun z => absurd z (by omega)) (fun _ => ⟨v1, ?_⟩)
      exact ⟨pk_in i 32 (by omega), nm_r (ta_up rfl (by omega) (by rw [x9, ta_top_s, nI_pred])) ⟨pk_in (d + 1) 40 (by omega), nm_r (ta_up rfl (by omega) rfl) (nm_r (nI_1 (d + 1)) (nm_r (nI_1 i) (H (d + 1) hd p)))⟩⟩
    · refine nm_r (pk_m1 d) (ta_b28 ht hn hi hE h2 hd0 hK k1 k2 H d (by omega) (fun j g1 g2 => ?_))
      rcases Nat.lt_trichotomy j (K d) with c | c | c
      · have := kp.2.2 j g1 c
        omega
      · rw [c]; exact z
      · exact hs j (by rw [ta_top_s]; omega) g2
theorem ta_b18 {t n : Nat} {E : Nat → Nat} (ht : t < 3) (hn : n ≤ 32) (hE : ∀ j, j < n → E j ≤ 64) (h3 : a3 t = nI n) (h2 : ∀ j, j < n → a2 (32 * t + j) = nI (E j))
    (H : ∀ b4 b9, (∀ j, j < n → b4 j = nI (ta_pr E j) - 1) → ∃ fu, wX_build_113 post (nI t) r o h b fu 0 (-1) a1 a2 a3 b4 a5 a6 a7 a8 b9 a10 a11 a12 a13 a14) :
    ∀ dd i d K b4 b9, i + dd = n → d ≤ i → ta_mb d K b9 → (∀ k, k < d → K k < i) → (∀ k, k < d → ta_par E (K k) (ta_top K k)) → (∀ j, ta_top K d ≤ j → i ≤ j) → (∀ j, j < i → b4 j = nI (ta_pr E j) - 1) →
      wX_build_18 post (nI t) r o h b (dd + 1) (nI d) (nI i) a1 a2 a3 b4 a5 a6 a7 a8 b9 a10 a11 a12 a13 a14 := by
  intro dd
  induction dd with
  | zero =>
    intro i d K b4 b9 hi hd hK k1 k2 k3 g4
    refine ⟨pk_in t 3 ht, pk_le n i (fun _ => H b4 b9 (fun j hj => g4 j (by omega))) (fun z => absurd z (by omega)) (ta_rd rfl (by omega) h3)⟩
  | succ dd ih =>
    intro i d K b4 b9 hi hd hK k1 k2 k3 g4
    refine ⟨pk_in t 3 ht, pk_le n i (fun z => absurd z (by omega)) (fun _ => ?_) (ta_rd rfl (by omega) h3)⟩
    refine ⟨_, ta_b28 ht hn (by omega) hE h2 hd hK k1 k2 (fun d' hd' p => ?_) d (Nat.le_refl d) (fun j j1 j2 => absurd (k3 j j1) (by omega))⟩
    have hpr : ta_pr E i = ta_top K d' := ta_par_uq (ta_pr_par E i) p
    have eK : ∀ k, k ≤ d' → ta_top (ta_un K d' i) k = ta_top K k := by
      intro k hk
      cases k with
      | zero => rfl
      | succ k => rw [ta_top_s, ta_top_s, ta_unn (by omega)]
    refine ih (i + 1) (d' + 1) (ta_un K d' i) _ _ (by omega) (by omega) (ta_mb_add (fun j hj => hK j (by omega))) (fun k hk => ?_) (fun k hk => ?_) (fun j hj => ?_) (fun j hj => ?_)
    · by_cases c : k = d'
      · rw [ta_uns c]; omega
      · rw [ta_unn c]
        have := k1 k (by omega)
        omega
    · rw [eK k (by omega)]
      by_cases c : k = d'
      · rw [ta_uns c, c]; exact p
      · rw [ta_unn c]; exact k2 k (by omega)
    · rw [ta_top_s, ta_uns rfl] at hj; exact hj
    · by_cases c : j = i
      · rw [ta_ue c, c, hpr]
      · rw [pk_un c]; exact g4 j (by omega)
theorem ta_b140 {J : Int32 → Int32 → (Nat → Int32) → (Nat → Int32) → (Nat → Int32) → (Nat → Int32) → (Nat → Int32) → (Nat → Int32) → (Nat → Int32) → (Nat → Int32) → (Nat → Int32) → (Nat → Int32) → (Nat → Int32) → (Nat → Int32) → (Nat → Int32) → (Nat → Int32) → Prop} {t n g f : Nat} {pr L : Nat → Nat} (ht : t < 3) (hn : n ≤ 32) (hg : g ≤ n) (hpr : ∀ j, j < n → pr j ≤ j) (h3 : a3 t = nI n) (h4 : ∀ j, j < n → a4 j = nI (pr j) - 1) (h6 : a6 g = nI f)
    (H : ∀ w L' b5, w = ta_cn (fun j => pr j < g + 1) n → ta_mb w L' b5 → ta_lst pr L' g n f w → (∀ p, p < f → L' p = L p) → J (nI w) (nI (g + 1) - 1) a1 a2 a3 a4 b5 a6 (upd a7 g (nI (w - f))) a8 a9 a10 a11 a12 a13 a14) :
    ∀ d i w L' b5, i + d = n → w = ta_cn (fun j => pr j < g ∨ (pr j = g ∧ j < i)) n → ta_mb w L' b5 → ta_lst pr L' g i f w → (∀ p, p < f → L' p = L p) →
      wX_build_140 post J (nI t) (nI g - 1) r o h b (d + 1) (nI w) (nI i) a1 a2 a3 a4 b5 a6 a7 a8 a9 a10 a11 a12 a13 a14 := by
  have gi := ta_g1 g
  intro d
  induction d with
  | zero =>
    intro i w L' b5 hi hw hL hl hp
    have e : i = n := by omega
    subst e
    have v : vp_in (nI g - 1 + 1) 33 := pk_in g 33 (by omega) gi
    have e6 : a6 (nI g - 1 + 1).toNatClampNeg = nI f := ta_rd gi (by omega) h6
    refine ⟨pk_in t 3 ht, pk_le i i (fun _ => ⟨v, v, nm_r (ta_up gi (by omega) (by rw [e6]; exact pk_sub hl.1)) (nm_r (ta_g2 g) (H w L' b5 ?_ hL hl hp))⟩) (fun z => absurd z (by omega)) (ta_rd rfl (by omega) h3)⟩
    rw [hw]
    refine ta_cn_ext i (fun j hj => ⟨fun z => by omega, fun z => by omega⟩)
  | succ d ih =>
    intro i w L' b5 hi hw hL hl hp
    have pi := hpr i (by omega)
    refine ⟨pk_in t 3 ht, pk_le n i (fun z => absurd z (by omega)) (fun _ => ⟨pk_in i 32 (by omega), ?_⟩) (ta_rd rfl (by omega) h3)⟩
    have e4 : a4 (nI i).toNatClampNeg = nI (pr i) - 1 := ta_rd rfl (by omega) (h4 i (by omega))
    by_cases c : pr i = g
    · have wn : w < n := by rw [hw]; exact ta_cn_lt (j := i) (by omega) (by omega)
      refine br_t (by rw [e4, c]) ⟨pk_in w 32 (by omega), nm_r (ta_up rfl (by omega) rfl) (nm_r (nI_1 w) (nm_r (nI_1 i) ?_))⟩
      refine ih (i + 1) (w + 1) (ta_un L' w i) _ (by omega) ?_ (ta_mb_add hL) (ta_lst_add hl c) (fun p hp' => ?_)
      · rw [hw]
        refine (ta_cn_add (j := i) n (by omega) (by omega) (by omega) (fun j hj hne => ⟨fun z => by omega, fun z => by omega⟩)).symm
      · have := hl.1
        rw [ta_unn (by omega)]; exact hp p hp'
    · refine br_f (fun z => c (ta_g4 (by omega) (by omega) (e4.symm.trans z))) (nm_r (nI_1 i) ?_)
      refine ih (i + 1) w L' b5 (by omega) ?_ hL (ta_lst_skip hl c) hp
      rw [hw]
      refine ta_cn_ext n (fun j hj => ⟨fun z => by omega, fun z => ?_⟩)
      by_cases e : j = i
      · rw [e] at z ⊢; omega
      · omega
theorem ta_b113 {t n : Nat} {S E : Nat → Nat} (ht : t < 3) (hn : n ≤ 32) (h3 : a3 t = nI n) (h4 : ∀ j, j < n → a4 j = nI (ta_pr E j) - 1)
    (H : ∀ b5 b6 b7, ta_str (n, S, E) b5 b6 b7 → post (r, o, h, b, a1, a2, a3, a4, b5, b6, b7, a8, a9, a10, a11, a12, a13, a14)) :
    ∀ d g w L F M b5 b6 b7, g + d = n + 1 → w = ta_cn (fun j => ta_pr E j < g) n → ta_mb w L b5 → ta_mb g F b6 → ta_mb g M b7 →
      (∀ k, k < g → F k + M k ≤ w ∧ ta_lst (ta_pr E) L k n (F k) (F k + M k)) →
      wX_build_113 post (nI t) r o h b (d + 1) (nI w) (nI g - 1) a1 a2 a3 a4 b5 b6 b7 a8 a9 a10 a11 a12 a13 a14 := by
  have hpr : ∀ j, j < n → ta_pr E j ≤ j := fun j _ => (ta_pr_par E j).1
  intro d
  induction d with
  | zero =>
    intro g w L F M b5 b6 b7 hg hw hL hF hM hl
    have e : g = n + 1 := by omega
    subst e
    have wn : w = n := by
      rw [hw]
      exact ta_cn_all n (fun i hi => by have := hpr i hi; omega)
    subst wn
    rw [nI_pred]
    exact ⟨pk_in t 3 ht, pk_le w w (fun _ => H b5 b6 b7 ⟨L, F, M, hL, hF, hM, fun k hk => hl k (by omega)⟩) (fun z => absurd z (by omega)) (ta_rd rfl (by omega) h3)⟩
  | succ d ih =>
    intro g w L F M b5 b6 b7 hg hw hL hF hM hl
    have wn : w ≤ n := by rw [hw]; exact ta_cn_le _ n
    have gi := ta_g1 g
    refine ⟨pk_in t 3 ht, br_f (by rw [ta_rd (a := a3) rfl (by omega) h3]; exact ta_g3 (by omega) (by omega)) ⟨pk_in g 33 (by omega) gi, nm_r (ta_up gi (by omega) rfl) (nm_r gi ?_)⟩⟩
    have l0 : ta_lst (ta_pr E) L g g w w := ⟨Nat.le_refl _, fun p p1 p2 => absurd p1 (by omega), fun p q p1 pq q2 => absurd p1 (by omega), fun j hj e => absurd e (by have := (ta_pr_par E j).1; omega)⟩
    have w0 : w = ta_cn (fun j => ta_pr E j < g ∨ (ta_pr E j = g ∧ j < g)) n := by
      rw [hw]
      refine ta_cn_ext n (fun j hj => ⟨fun z => Or.inl z, fun z => ?_⟩)
      have := hpr j hj
      omega
    refine ⟨_, ta_b140 (L := L) ht hn (by omega) hpr h3 h4 pk_us (fun w' L' b5' hw' hL' hl' hp' => ?_) (n - g) g w L b5 (by omega) w0 hL l0 (fun _ _ => rfl)⟩
    have ww : w ≤ w' := hl'.1
    refine ih (g + 1) w' L' (ta_un F g w) (ta_un M g (w' - w)) b5' _ _ (by omega) hw' hL' (ta_mb_add hF) (ta_mb_add hM) (fun k hk => ?_)
    by_cases c : k = g
    · rw [ta_uns c, ta_uns c, c, show w + (w' - w) = w' by omega]
      exact ⟨Nat.le_refl _, hl'⟩
    · rw [ta_unn c, ta_unn c]
      obtain ⟨q0, q1, q2, q3, q4⟩ := hl k (by omega)
      refine ⟨by omega, q1, fun p p1 p2 => ?_, fun p q p1 pq p2 => ?_, fun j hj e => ?_⟩
      · rw [hp' p (by omega)]; exact q2 p p1 p2
      · rw [hp' p (by omega), hp' q (by omega)]; exact q3 p q p1 pq p2
      · obtain ⟨p, p1, p2, e2⟩ := q4 j hj e
        exact ⟨p, p1, p2, by rw [hp' p (by omega)]; exact e2⟩
theorem ta_build {P : Nat → ta_T} {t : Nat} (hP : ta_okP P) (ht : t < 3) (hu : ta_R P b a1 a2 a3 a5 a6 a7)
    (H : ∀ b4 b5 b6 b7 b9, ta_str (P t) b5 b6 b7 → post (r, o, h, nI t, a1, a2, a3, b4, b5, b6, b7, a8, b9, a10, a11, a12, a13, a14)) : wpX_build post (r, o, h, b, a1, a2, a3, a4, a5, a6, a7, a8, a9, a10, a11, a12, a13, a14) (nI t) := by
  have hok := hP t ht
  have hk : (P t).1 ≤ 32 := hok.1
  obtain ⟨h3, h1, h2⟩ := hu.1 t ht
  unfold wpX_build
  by_cases c : b = nI t
  · refine br_t c ?_
    rcases hu.2 with e | ⟨q, hq, e, hs⟩
    · exfalso
      have e2 := congrArg Int32.toInt (c.symm.trans e)
      rw [nI_toInt (by omega), show (-1 : Int32).toInt = -1 from by decide] at e2
      omega
    · have qt : q = t := (nI_eq (by omega) (by omega)).mp (e.symm.trans c)
      subst qt
      rw [c]
      exact H a4 a5 a6 a7 a9 hs
  · refine br_f c ⟨_, ta_b18 ht hk (fun j hj => (hok.2.1 j hj).2) h3 h2 (fun b4 b9 g4 => ?_) (P t).1 0 0 id a4 a9 (by omega) (by omega) ta_mb_0 (fun k hk => absurd hk (by omega)) (fun k hk => absurd hk (by omega)) (fun j _ => Nat.zero_le j) (fun j hj => absurd hj (by omega))⟩
    exact ⟨_, ta_b113 (S := (P t).2.1) ht hk h3 g4 (fun b5 b6 b7 hs => H b4 b5 b6 b7 b9 hs) ((P t).1 + 1) 0 0 id id id a5 a6 a7 (by omega) (ta_cn_0 _ (fun i hi => by omega)).symm ta_mb_0 ta_mb_0 ta_mb_0 (fun k hk => absurd hk (by omega))⟩
end
end
section
/-! firstBehind, putHit, findHits -/
theorem ta_shr (n : Nat) (h : n < 2 ^ 31) : nI n >>> ((1 : Int32) &&& 31) = nI (n / 2) := pk_shrN h _ 1 (by decide)
def ta_ho (c : Nat) (a : Nat → Int32) : Prop := ∀ k, k < c → ∃ j, j < 32 ∧ a k = nI j
section
variable {r o h b : Int32} {a1 a2 a3 a4 a5 a6 a7 a8 a9 a10 a11 a12 a13 a14 : Nat → Int32}
theorem ta_fb26 {post : Int32 → Prop} {t n s f c : Nat} {E L : Nat → Nat} (ht : t < 3) (hn : n ≤ 32) (hE : ∀ j, j < n → E j ≤ 64) (h2 : ∀ j, j < n → a2 (32 * t + j) = nI (E j)) (hs : s ≤ 64) (h5 : ta_mb n L a5) (hc : c ≤ n)
    (hL : ∀ p, f ≤ p → p < c → L p < n) (mono : ∀ p q, f ≤ p → p < q → q < c → E (L p) < E (L q))
    (H : ∀ k, f ≤ k → k ≤ c → (∀ p, f ≤ p → p < k → E (L p) ≤ s) → (∀ p, k ≤ p → p < c → s < E (L p)) → post (nI k)) :
    ∀ d lo hi, d ≤ 6 → f ≤ lo → lo ≤ hi → hi ≤ c → hi - lo < 2 ^ d → (∀ p, f ≤ p → p < lo → E (L p) ≤ s) → (∀ p, hi ≤ p → p < c → s < E (L p)) →
      wX_firstBehind_26 post (nI t) (nI s) r o h b a1 a2 a3 a4 a5 a6 a7 a8 a9 a10 a11 a12 a13 a14 (d + 1) (nI lo) (nI hi) (nI (6 - d))
  | 0, lo, hi, d6, l1, l2, l3, hd, g1, g2 => by
    have e : lo = hi := by
      have : (2 : Nat) ^ 0 = 1 := rfl
      omega
    subst e
    exact pk_le 7 6 (fun z => absurd z (by omega)) (fun _ => pk_le lo lo (fun _ => H lo l1 l3 g1 g2) (fun z => absurd z (by omega)))
  | d + 1, lo, hi, d6, l1, l2, l3, hd, g1, g2 => by
    have ed : (2 : Nat) ^ (d + 1) = 2 ^ d * 2 := Nat.pow_succ 2 d
    refine pk_le 7 (6 - (d + 1)) (fun z => absurd z (by omega)) (fun _ => pk_le hi lo (fun z => ?_) (fun z => ?_))
    · have e : lo = hi := by omega
      subst e
      exact H lo l1 l3 g1 g2
    · have em : (nI lo + nI hi) >>> ((1 : Int32) &&& 31) = nI ((lo + hi) / 2) := by rw [nI_add, ta_shr _ (by omega)]
      have lm := hL ((lo + hi) / 2) (by omega) (by omega)
      have bm := hE _ lm
      have x5 : a5 (nI ((lo + hi) / 2)).toNatClampNeg = nI (L ((lo + hi) / 2)) := ta_rd rfl (by omega) (h5 _ (by omega))
      have x6 : (32 * nI t) + a5 (nI ((lo + hi) / 2)).toNatClampNeg = nI (32 * t + L ((lo + hi) / 2)) := by rw [x5, ta_ix]
      have s6 : nI (6 - (d + 1)) + 1 = nI (6 - d) := by rw [nI_1]; congr 1; omega
      refine nm_r em ⟨pk_in ((lo + hi) / 2) 32 (by omega), pk_in (32 * t + L ((lo + hi) / 2)) 96 (by omega) x6, ?_⟩
      refine pk_le (E (L ((lo + hi) / 2))) s (fun z => ?_) (fun z => ?_) (ta_rd x6 (by omega) (h2 _ lm)) rfl
      · refine nm_r (nI_1 _) (nm_r s6 (ta_fb26 ht hn hE h2 hs h5 hc hL mono H d _ hi (by omega) (by omega) (by omega) l3 (by omega) (fun p p1 p2 => ?_) g2))
        by_cases c : p = (lo + hi) / 2
        · rw [c]; exact z
        · have := mono p ((lo + hi) / 2) p1 (by omega) (by omega)
          omega
      · refine nm_r s6 (ta_fb26 ht hn hE h2 hs h5 hc hL mono H d lo _ (by omega) l1 (by omega) (by omega) (by omega) g1 (fun p p1 p2 => ?_))
        by_cases c : p = (lo + hi) / 2
        · rw [c]; exact z
        · have := mono ((lo + hi) / 2) p (by omega) (by omega) p2
          omega
theorem ta_put {post : St1 → Prop} {i c : Nat} (hi : i < 32) (hc : c < 32) (g8 : ta_ho c a8) (H : ∀ b8, ta_ho (c + 1) b8 → post (r, o, nI (c + 1), b, a1, a2, a3, a4, a5, a6, a7, b8, a9, a10, a11, a12, a13, a14)) : wpX_putHit post (r, o, nI c, b, a1, a2, a3, a4, a5, a6, a7, a8, a9, a10, a11, a12, a13, a14) (nI i) := by
  have main : ∀ k b8, k ≤ c → (∀ q, q < c + 1 → q ≠ k → ∃ j, j < 32 ∧ b8 q = nI j) → wX_putHit_5 post (nI i) r o (nI c) b (k + 1) (nI k) a1 a2 a3 a4 a5 a6 a7 b8 a9 a10 a11 a12 a13 a14 := by
    intro k
    have F : ∀ b8 k, k ≤ c → (∀ q, q < c + 1 → q ≠ k → ∃ j, j < 32 ∧ b8 q = nI j) → wX_putHit_41 post (nI i) (nI k) r o (nI c) b a1 a2 a3 a4 a5 a6 a7 b8 a9 a10 a11 a12 a13 a14 := by
      intro b8 k hk g
      refine ⟨pk_in k 32 (by omega), nm_r (ta_up rfl (by omega) rfl) (nm_r (nI_1 c) (H _ (fun q hq => ?_)))⟩
      by_cases e : q = k
      · exact ⟨i, hi, by rw [ta_ue e]⟩
      · rw [pk_un e]; exact g q hq e
    induction k with
    | zero =>
      intro b8 hk g
      exact pk_le 0 0 (fun _ => F b8 0 hk g) (fun z => absurd z (by omega))
    | succ k ih =>
      intro b8 hk g
      have j1 : nI (k + 1) - 1 = nI k := nI_pred k
      have v1 : vp_in (nI (k + 1) - 1) 32 := pk_in k 32 (by omega) j1
      refine pk_le (k + 1) 0 (fun z => absurd z (by omega)) (fun _ => ⟨v1, br_c (fun _ => F b8 (k + 1) hk g) (fun _ => ⟨v1, pk_in (k + 1) 32 (by omega), nm_r (ta_up rfl (by omega) (ta_rd j1 (by omega) rfl)) (nm_r (pk_m1 k) (ih _ (by omega) (fun q hq hne => ?_)))⟩)⟩)
      by_cases e : q = k + 1
      · rw [ta_ue e]; exact g k (by omega) (by omega)
      · rw [pk_un e]; exact g q hq e
  exact ⟨_, main c a8 (Nat.le_refl c) (fun q hq hne => g8 q (by omega))⟩
end
/-- the search's state: H the hits, X the lists that are done or in hand, W those that were ever put on the stack K of w places -/
def ta_fv (n : Nat) (M : Nat → Nat) (H X : Nat → Prop) (w z c : Nat) (K : Nat → Nat) (W : Nat → Prop) : Prop :=
  (∀ k, k < w → K k ≤ n ∧ W (K k) ∧ ¬ X (K k)) ∧ (∀ k l, k < l → l < w → K k ≠ K l) ∧ w + z = ta_cn W (n + 1) ∧ W 0 ∧ (∀ g, g ≤ n → W g → X g ∨ ∃ k, k < w ∧ K k = g) ∧ (∀ g, X g → W g) ∧
    c = ta_cn H n ∧ (∀ i, i < n → (W (i + 1) ↔ (H i ∧ 0 < M (i + 1))))
theorem ta_fv_c {n w z c : Nat} {M K : Nat → Nat} {H H' X X' W : Nat → Prop} (h : ta_fv n M H X w z c K W) (e : ∀ i, i < n → (H' i ↔ H i)) (e2 : ∀ g, X' g ↔ X g) : ta_fv n M H' X' w z c K W := by
  obtain ⟨h1, h2, h3, h4, h5, h6, h7, h8⟩ := h
  refine ⟨fun k hk => ⟨(h1 k hk).1, (h1 k hk).2.1, fun z => (h1 k hk).2.2 ((e2 _).mp z)⟩, h2, h3, h4, fun g hg hw => ?_, fun g hg => h6 g ((e2 g).mp hg), ?_, fun i hi => ?_⟩
  · exact (h5 g hg hw).imp (e2 g).mpr id
  · rw [h7]; exact (ta_cn_ext n e).symm
  · rw [h8 i hi, e i hi]
theorem ta_fv_pop {n w z c : Nat} {M K : Nat → Nat} {H X W : Nat → Prop} (h : ta_fv n M H X (w + 1) z c K W) : ta_fv n M H (fun g => X g ∨ g = K w) w (z + 1) c K W := by
  obtain ⟨h1, h2, h3, h4, h5, h6, h7, h8⟩ := h
  refine ⟨fun k hk => ⟨(h1 k (by omega)).1, (h1 k (by omega)).2.1, fun y => ?_⟩, fun k l hkl hl => h2 k l hkl (by omega), by omega, h4, fun g hg hw => ?_, fun g hg => ?_, h7, h8⟩
  · rcases y with y | y
    · exact (h1 k (by omega)).2.2 y
    · exact h2 k w hk (by omega) y
  · rcases h5 g hg hw with y | ⟨k, hk, e⟩
    · exact Or.inl (Or.inl y)
    · by_cases c : k = w
      · rw [c] at e; exact Or.inl (Or.inr e.symm)
      · exact Or.inr ⟨k, by omega, e⟩
  · rcases hg with y | y
    · exact h6 g y
    · rw [y]; exact (h1 w (by omega)).2.1
theorem ta_fv_hit {n w z c i : Nat} {M K : Nat → Nat} {H X W : Nat → Prop} (h : ta_fv n M H X w z c K W) (hi : i < n) (hH : ¬ H i) (hM : ¬ 0 < M (i + 1)) : ta_fv n M (fun j => H j ∨ j = i) X w z (c + 1) K W := by
  obtain ⟨h1, h2, h3, h4, h5, h6, h7, h8⟩ := h
  refine ⟨h1, h2, h3, h4, h5, h6, ?_, fun j hj => ?_⟩
  · rw [h7]
    exact (ta_cn_add (j := i) n hi hH (Or.inr rfl) (fun j _ hn => ⟨fun y => y.elim id (fun e => absurd e hn), Or.inl⟩)).symm
  · rw [h8 j hj]
    constructor
    · exact fun y => ⟨Or.inl y.1, y.2⟩
    · rintro ⟨y | y, y2⟩
      · exact ⟨y, y2⟩
      · rw [y] at y2; exact absurd y2 hM
theorem ta_fv_push {n w z c i : Nat} {M K : Nat → Nat} {H X W : Nat → Prop} (h : ta_fv n M H X w z c K W) (hi : i < n) (hH : ¬ H i) (hM : 0 < M (i + 1)) :
    ta_fv n M (fun j => H j ∨ j = i) X (w + 1) z (c + 1) (ta_un K w (i + 1)) (fun g => W g ∨ g = i + 1) := by
  obtain ⟨h1, h2, h3, h4, h5, h6, h7, h8⟩ := h
  have nW : ¬ W (i + 1) := fun y => hH ((h8 i hi).mp y).1
  refine ⟨fun k hk => ?_, fun k l hkl hl => ?_, ?_, Or.inl h4, fun g hg hw => ?_, fun g hg => Or.inl (h6 g hg), ?_, fun j hj => ?_⟩
  · by_cases c : k = w
    · rw [ta_uns c]; exact ⟨by omega, Or.inr rfl, fun y => nW (h6 _ y)⟩
    · rw [ta_unn c]
      have y := h1 k (by omega)
      exact ⟨y.1, Or.inl y.2.1, y.2.2⟩
  · rw [ta_unn (show k ≠ w by omega)]
    by_cases c : l = w
    · rw [ta_uns c]
      intro e
      have y := (h1 k (by omega)).2.1
      rw [e] at y
      exact nW y
    · rw [ta_unn c]; exact h2 k l hkl (by omega)
  · have e := ta_cn_add (Q := W) (Q' := fun g => W g ∨ g = i + 1) (j := i + 1) (n + 1) (by omega) nW (Or.inr rfl) (fun j _ hn => ⟨fun y => y.elim id (fun e => absurd e hn), Or.inl⟩)
    omega
  · rcases hw with y | y
    · rcases h5 g hg y with x | ⟨k, hk, e⟩
      · exact Or.inl x
      · exact Or.inr ⟨k, by omega, by rw [ta_unn (by omega)]; exact e⟩
    · exact Or.inr ⟨w, by omega, by rw [ta_uns rfl]; exact y.symm⟩
  · rw [h7]
    exact (ta_cn_add (j := i) n hi hH (Or.inr rfl) (fun j _ hn => ⟨fun y => y.elim id (fun e => absurd e hn), Or.inl⟩)).symm
  · by_cases c : j = i
    · rw [c]; exact ⟨fun _ => ⟨Or.inr rfl, hM⟩, fun _ => Or.inr rfl⟩
    · constructor
      · rintro (y | y)
        · exact ⟨Or.inl ((h8 j hj).mp y).1, ((h8 j hj).mp y).2⟩
        · exact absurd y (by omega)
      · rintro ⟨y | y, y2⟩
        · exact Or.inl ((h8 j hj).mpr ⟨y, y2⟩)
        · exact absurd y c
theorem ta_fv_0 {n : Nat} {M : Nat → Nat} {Q : Nat → Prop} : ta_fv n M (fun i => Q i ∧ False) (fun _ => False) 1 0 0 (fun _ => 0) (fun g => g = 0) := by
  refine ⟨fun k _ => ⟨Nat.zero_le n, rfl, id⟩, fun k l hkl hl => absurd hl (by omega), ?_, rfl, fun g _ hg => Or.inr ⟨0, by omega, hg.symm⟩, fun g hg => False.elim hg, ?_, fun i _ => ⟨fun y => absurd y (by omega), fun y => False.elim y.1.2⟩⟩
  · have e := ta_cn_add (Q := fun _ => False) (Q' := fun g => g = 0) (j := 0) (n + 1) (by omega) id rfl (fun j _ hn => ⟨fun y => absurd y hn, fun y => False.elim y⟩)
    have e0 := ta_cn_0 (Q := fun _ => False) (n + 1) (fun i _ => id)
    omega
  · exact (ta_cn_0 n (fun i _ y => y.2)).symm
/-- stretch i overlaps (s, e) -/
def ta_ov (S E : Nat → Nat) (s e i : Nat) : Prop := S i < e ∧ s < E i
theorem ta_fv_end {n z c s e : Nat} {S E M L F K : Nat → Nat} {D W : Nat → Prop} (hok : ta_okf n S E) (hl : ∀ g, g ≤ n → ta_lst (ta_pr E) L g n (F g) (F g + M g))
    (h : ta_fv n M (fun i => ta_ov S E s e i ∧ D (ta_pr E i)) D 0 z c K W) : c = ta_cn (ta_ov S E s e) n := by
  obtain ⟨h1, h2, h3, h4, h5, h6, h7, h8⟩ := h
  have wd : ∀ g, g ≤ n → W g → D g := by
    intro g hg hw
    rcases h5 g hg hw with y | ⟨k, hk, _⟩
    · exact y
    · exact absurd hk (by omega)
  have main : ∀ k i, i < k → i < n → ta_ov S E s e i → D (ta_pr E i) := by
    intro k
    induction k with
    | zero => exact fun i hi => absurd hi (by omega)
    | succ k ih =>
      intro i hik hin ho
      have p := ta_pr_par E i
      cases hg : ta_pr E i with
      | zero => exact wd 0 (Nat.zero_le n) h4
      | succ g =>
        rw [hg] at p
        have pe : E i ≤ E g := p.2.1 (by omega)
        have gi : g < i := by have := p.1; omega
        have so := hok.2.2 g i gi hin
        have og : ta_ov S E s e g := ⟨by have := ho.1; omega, by have := ho.2; omega⟩
        have dg := ih g (by omega) (by omega) og
        obtain ⟨q, q1, q2, _⟩ := (hl (g + 1) (by omega)).2.2.2 i hin hg
        exact wd (g + 1) (by omega) ((h8 g (by omega)).mpr ⟨⟨og, dg⟩, by omega⟩)
  rw [h7]
  exact ta_cn_ext n (fun i hi => ⟨fun y => y.1, fun y => ⟨y, main (i + 1) i (by omega) hi y⟩⟩)
/-- the hits when list g is in hand, ahead of place p -/
def ta_hp (S E L : Nat → Nat) (s e g f : Nat) (D : Nat → Prop) (p i : Nat) : Prop := ta_ov S E s e i ∧ (D (ta_pr E i) ∨ (ta_pr E i = g ∧ ∃ q, f ≤ q ∧ q < p ∧ L q = i))
end
section
/-! findHits: its two loops -/
section
variable {r o h b : Int32} {a1 a2 a3 a4 a5 a6 a7 a8 a9 a10 a11 a12 a13 a14 : Nat → Int32}
theorem ta_f78 {post : St1 → Prop} {J : Int32 → Int32 → Int32 → Int32 → Int32 → Int32 → (Nat → Int32) → (Nat → Int32) → (Nat → Int32) → (Nat → Int32) → (Nat → Int32) → (Nat → Int32) → (Nat → Int32) → (Nat → Int32) → (Nat → Int32) → (Nat → Int32) → (Nat → Int32) → (Nat → Int32) → (Nat → Int32) → (Nat → Int32) → Prop} {t n s e q g r0 : Nat} {S E L F M : Nat → Nat} {D : Nat → Prop} (ht : t < 3) (hok : ta_okf n S E) (he : e ≤ 64)
    (h1 : ∀ j, j < n → a1 (32 * t + j) = nI (S j)) (h5 : ta_mb n L a5) (h7 : ta_mb (n + 1) M a7) (hM : ∀ g, g ≤ n → F g + M g ≤ n) (hg : g ≤ n) (hl : ta_lst (ta_pr E) L g n (F g) (F g + M g)) (hD : ¬ D g)
    (r1 : F g ≤ r0) (hr : ∀ p, r0 ≤ p → p < F g + M g → s < E (L p))
    (HJ : ∀ w c K W b8 b9, ta_fv n M (fun i => ta_ov S E s e i ∧ (D (ta_pr E i) ∨ ta_pr E i = g)) (fun k => D k ∨ k = g) w (q + 1) c K W → (∀ k, k < w → b9 k = nI (K k) - 1) → ta_ho c b8 →
      J (nI w) (nI (q + 1)) r o (nI c) b a1 a2 a3 a4 a5 a6 a7 b8 b9 a10 a11 a12 a13 a14) :
    ∀ d p w c K W b8 b9, p + d = F g + M g → r0 ≤ p → ta_fv n M (ta_hp S E L s e g (F g) D p) (fun k => D k ∨ k = g) w (q + 1) c K W → (∀ k, k < w → b9 k = nI (K k) - 1) → ta_ho c b8 →
      wX_findHits_78 post J (nI t) (nI s) (nI e) (nI q) (nI (F g + M g)) (d + 1) (nI w) (nI p) r o (nI c) b a1 a2 a3 a4 a5 a6 a7 b8 b9 a10 a11 a12 a13 a14 := by
  have n32 : n ≤ 32 := hok.1
  have hMg := hM g hg
  obtain ⟨l0, l1, l2, l3⟩ := hl
  have fin : ∀ p w c K W b8 b9, (∀ p', p ≤ p' → p' < F g + M g → e ≤ S (L p')) → ta_fv n M (ta_hp S E L s e g (F g) D p) (fun k => D k ∨ k = g) w (q + 1) c K W → (∀ k, k < w → b9 k = nI (K k) - 1) → ta_ho c b8 →
      J (nI w) (nI (q + 1)) r o (nI c) b a1 a2 a3 a4 a5 a6 a7 b8 b9 a10 a11 a12 a13 a14 := by
    intro p w c K W b8 b9 hp hv g9 g8
    refine HJ w c K W b8 b9 (ta_fv_c hv (fun i hi => ⟨fun y => ⟨y.1, y.2.imp id (fun z => ⟨z, ?_⟩)⟩, fun y => ⟨y.1, y.2.imp id (fun z => z.1)⟩⟩) (fun _ => Iff.rfl)) g9 g8
    obtain ⟨p', p1, p2, e2⟩ := l3 i hi z
    refine ⟨p', p1, ?_, e2⟩
    rcases Nat.lt_or_ge p' p with x | x
    · exact x
    · have a := hp p' x p2
      rw [e2] at a
      have := y.1.1
      omega
  intro d
  induction d with
  | zero =>
    intro p w c K W b8 b9 hp hrp hv g9 g8
    exact pk_le (F g + M g) p (fun _ => nm_r (nI_1 q) (fin p w c K W b8 b9 (fun p' y1 y2 => absurd y1 (by omega)) hv g9 g8)) (fun z => absurd z (by omega))
  | succ d ih =>
    intro p w c K W b8 b9 hp hrp hv g9 g8
    obtain ⟨lp1, lp2⟩ := l1 p (by omega) (by omega)
    have bS := hok.2.1 (L p) lp1
    have x5 : a5 (nI p).toNatClampNeg = nI (L p) := ta_rd rfl (by omega) (h5 p (by omega))
    have x6 : (32 * nI t) + a5 (nI p).toNatClampNeg = nI (32 * t + L p) := by rw [x5, ta_ix]
    have vp : vp_in (nI p) 32 := pk_in p 32 (by omega)
    refine pk_le (F g + M g) p (fun z => absurd z (by omega)) (fun _ => ⟨vp, pk_in (32 * t + L p) 96 (by omega) x6, ?_⟩)
    refine pk_le e (S (L p)) (fun z => nm_r (nI_1 q) (fin p w c K W b8 b9 (fun p' y1 y2 => ?_) hv g9 g8)) (fun z => ⟨vp, nm_r x5 ?_⟩) rfl (ta_rd x6 (by omega) (h1 (L p) lp1))
    · by_cases y : p' = p
      · rw [y]; exact z
      · have ll := l2 p p' (by omega) (by omega) y2
        have := hok.2.2 (L p) (L p') ll (l1 p' (by omega) y2).1
        omega
    · have nH : ¬ ta_hp S E L s e g (F g) D p (L p) := by
        rintro ⟨_, y | ⟨_, p', y1, y2, y3⟩⟩
        · rw [lp2] at y; exact hD y
        · have ll := l2 p' p y1 y2 (by omega)
          omega
      have ov : ta_ov S E s e (L p) := ⟨z, hr p hrp (by omega)⟩
      have cn : c < n := by
        rw [hv.2.2.2.2.2.2.1]
        exact ta_cn_lt lp1 nH
      have hs' : ∀ j, j < n → (ta_hp S E L s e g (F g) D (p + 1) j ↔ (ta_hp S E L s e g (F g) D p j ∨ j = L p)) := by
        intro j hj
        constructor
        · rintro ⟨y, x | ⟨x1, p', x2, x3, x4⟩⟩
          · exact Or.inl ⟨y, Or.inl x⟩
          · by_cases k : p' = p
            · rw [k] at x4; exact Or.inr x4.symm
            · exact Or.inl ⟨y, Or.inr ⟨x1, p', x2, by omega, x4⟩⟩
        · rintro (⟨y, x | ⟨x1, p', x2, x3, x4⟩⟩ | y)
          · exact ⟨y, Or.inl x⟩
          · exact ⟨y, Or.inr ⟨x1, p', x2, by omega, x4⟩⟩
          · rw [y]; exact ⟨ov, Or.inr ⟨lp2, p, by omega, by omega, rfl⟩⟩
      refine ta_put (by omega) (by omega) g8 (fun b8' g8' => ⟨pk_in (L p + 1) 33 (by omega) (nI_1 _), ?_⟩)
      have bM := hM (L p + 1) (by omega)
      refine pk_le (M (L p + 1)) 0 (fun y => nm_r (nI_1 p) ?_) (fun y => ?_) (ta_rd (nI_1 _) (by omega) (h7 (L p + 1) (by omega)))
      · exact ih (p + 1) w (c + 1) K W b8' b9 (by omega) (by omega) (ta_fv_c (ta_fv_hit hv lp1 nH (by omega)) hs' (fun _ => Iff.rfl)) g9 g8'
      · have cw := hv.2.2.1
        have cl := ta_cn_le W (n + 1)
        refine ⟨pk_in w 40 (by omega), nm_r (ta_up rfl (by omega) rfl) (nm_r (nI_1 w) (nm_r (nI_1 p) ?_))⟩
        refine ih (p + 1) (w + 1) (c + 1) _ _ b8' _ (by omega) (by omega) (ta_fv_c (ta_fv_push hv lp1 nH y) hs' (fun _ => Iff.rfl)) (fun k hk => ?_) g8'
        by_cases x : k = w
        · rw [ta_ue x, ta_uns x, nI_pred]
        · rw [pk_un x, ta_unn x]; exact g9 k (by omega)
theorem ta_f23 {post : St1 → Prop} {t n s e : Nat} {S E L F M : Nat → Nat} (ht : t < 3) (hok : ta_okf n S E) (hs : s ≤ 64) (he : e ≤ 64)
    (h1 : ∀ j, j < n → a1 (32 * t + j) = nI (S j)) (h2 : ∀ j, j < n → a2 (32 * t + j) = nI (E j)) (h5 : ta_mb n L a5) (h6 : ta_mb (n + 1) F a6) (h7 : ta_mb (n + 1) M a7)
    (hl : ∀ g, g ≤ n → F g + M g ≤ n ∧ ta_lst (ta_pr E) L g n (F g) (F g + M g))
    (H : ∀ b8 b9, ta_ho (ta_cn (ta_ov S E s e) n) b8 → post (r, o, nI (ta_cn (ta_ov S E s e) n), b, a1, a2, a3, a4, a5, a6, a7, b8, b9, a10, a11, a12, a13, a14)) :
    ∀ d q w c K W D b8 b9, q + d = 33 → ta_fv n M (fun i => ta_ov S E s e i ∧ D (ta_pr E i)) D w q c K W → (∀ k, k < w → b9 k = nI (K k) - 1) → ta_ho c b8 →
      wX_findHits_23 post (nI t) (nI s) (nI e) (d + 1) (nI w) (nI q) r o (nI c) b a1 a2 a3 a4 a5 a6 a7 b8 b9 a10 a11 a12 a13 a14 := by
  have n32 : n ≤ 32 := hok.1
  have fin : ∀ q w c K W D b8 b9, w = 0 → ta_fv n M (fun i => ta_ov S E s e i ∧ D (ta_pr E i)) D w q c K W → ta_ho c b8 → post (r, o, nI c, b, a1, a2, a3, a4, a5, a6, a7, b8, b9, a10, a11, a12, a13, a14) := by
    intro q w c K W D b8 b9 w0 hv g8
    subst w0
    have ec := ta_fv_end hok (fun g hg => (hl g hg).2) hv
    subst ec
    exact H b8 b9 g8
  intro d
  induction d with
  | zero =>
    intro q w c K W D b8 b9 hq hv g9 g8
    have cw := hv.2.2.1
    have cl := ta_cn_le W (n + 1)
    exact pk_lt 32 q (fun _ => fin q w c K W D b8 b9 (by omega) hv g8) (fun z => absurd z (by omega))
  | succ d ih =>
    intro q w c K W D b8 b9 hq hv g9 g8
    refine pk_lt 32 q (fun z => absurd z (by omega)) (fun _ => pk_le w 0 (fun z => fin q w c K W D b8 b9 (by omega) hv g8) (fun z => ?_) rfl rfl (by have := hv.2.2.1; have := ta_cn_le W (n + 1); omega))
    obtain ⟨w', rfl⟩ : ∃ w', w = w' + 1 := ⟨w - 1, by omega⟩
    have cw := hv.2.2.1
    have cl := ta_cn_le W (n + 1)
    obtain ⟨kn, kW, kD⟩ := hv.1 w' (by omega)
    obtain ⟨fm, lst⟩ := hl (K w') kn
    have gi := ta_g1 (K w')
    have vg : vp_in (nI (K w') - 1 + 1) 33 := pk_in (K w') 33 (by omega) gi
    have e6 : a6 (nI (K w') - 1 + 1).toNatClampNeg = nI (F (K w')) := ta_rd gi (by omega) (h6 (K w') (by omega))
    have e7 : a7 (nI (K w') - 1 + 1).toNatClampNeg = nI (M (K w')) := ta_rd gi (by omega) (h7 (K w') (by omega))
    refine nm_r (pk_m1 w') ⟨pk_in w' 40 (by omega), nm_r (ta_rd rfl (by omega) (g9 w' (by omega))) ⟨vg, vg, nm_r (by rw [e6, e7, nI_add]) ?_⟩⟩
    have mono : ∀ p p', F (K w') ≤ p → p < p' → p' < F (K w') + M (K w') → E (L p) < E (L p') := by
      intro p p' y1 y2 y3
      have a1 := lst.2.2.1 p p' y1 y2 y3
      have a2 := (lst.2.1 p y1 (by omega)).2
      have a3 := (lst.2.1 p' (by omega) y3).2
      have a4 := (ta_pr_par E (L p)).1
      have a5 := (ta_pr_par E (L p')).2.2 (L p) (by omega) a1
      exact a5
    refine ⟨vg, nm_r e6 ⟨vg, nm_r (by rw [e7, nI_add]) ⟨_, ta_fb26 ht n32 (fun j hj => (hok.2.1 j hj).2) h2 hs h5 fm (fun p y1 y2 => (lst.2.1 p y1 y2).1) mono (fun k k1 k2 k3 k4 => ?_) 6 (F (K w')) (F (K w') + M (K w')) (by omega) (Nat.le_refl _) (by omega) (Nat.le_refl _) (by
      have : (2 : Nat) ^ 6 = 64 := rfl
      omega) (fun p y1 y2 => absurd y1 (by omega)) (fun p y1 y2 => absurd y1 (by omega))⟩⟩⟩
    refine ⟨_, ta_f78 (D := D) (r0 := k) ht hok he h1 h5 h7 (fun g hg => (hl g hg).1) kn lst kD k1 k4 (fun w2 c2 K2 W2 b82 b92 hv2 g92 g82 => ?_) (F (K w') + M (K w') - k) k w' c K W b8 b9 (by omega) (Nat.le_refl _)
      (ta_fv_c (ta_fv_pop hv) (fun i hi => ⟨fun y => ⟨y.1, y.2.elim id (fun x => ?_)⟩, fun y => ⟨y.1, Or.inl y.2⟩⟩) (fun _ => Iff.rfl)) (fun k hk => g9 k (by omega)) g8⟩
    · exact ih (q + 1) w2 c2 K2 W2 (fun k => D k ∨ k = K w') b82 b92 (by omega) hv2 g92 g82
    · obtain ⟨_, p', x1, x2, x3⟩ := x
      have a := k3 p' x1 x2
      rw [x3] at a
      have := y.1.2
      exact absurd this (by omega)
theorem ta_find {P : Nat → ta_T} {t s e : Nat} {post : St1 → Prop} (hP : ta_okP P) (ht : t < 3) (hs : s ≤ 64) (he : e ≤ 64) (hu : ta_R P b a1 a2 a3 a5 a6 a7)
    (H : ∀ b4 b5 b6 b7 b8 b9, ta_R P (nI t) a1 a2 a3 b5 b6 b7 → ta_ho (ta_cn (ta_ov (P t).2.1 (P t).2.2 s e) (P t).1) b8 →
      post (r, o, nI (ta_cn (ta_ov (P t).2.1 (P t).2.2 s e) (P t).1), nI t, a1, a2, a3, b4, b5, b6, b7, b8, b9, a10, a11, a12, a13, a14)) : wpX_findHits post (r, o, h, b, a1, a2, a3, a4, a5, a6, a7, a8, a9, a10, a11, a12, a13, a14) (nI t) (nI s) (nI e) := by
  unfold wpX_findHits
  refine ta_build hP ht hu (fun b4 b5 b6 b7 b9 hstr => ?_)
  have hr : ta_R P (nI t) a1 a2 a3 b5 b6 b7 := ⟨hu.1, Or.inr ⟨t, ht, rfl, hstr⟩⟩
  obtain ⟨L, F, M, q5, q6, q7, hl⟩ := hstr
  obtain ⟨h3, h1, h2⟩ := hu.1 t ht
  refine nm_e ⟨_, ta_f23 ht (hP t ht) hs he h1 h2 q5 q6 q7 hl (fun b8 b9 g8 => H b4 b5 b6 b7 b8 b9 hr g8) 33 0 1 0 (fun _ => 0) (fun g => g = 0) (fun _ => False) a8 _ (by omega) ta_fv_0 (fun k hk => ?_) (fun k hk => absurd hk (by omega))⟩
  rw [ta_ue (by omega)]
  show (-1 : Int32) = nI 0 - 1
  decide
end
end
section
/-! overlapping, overlap, distance, counts, meetings -/
/-- how many stretches of X overlap (s, e) -/
noncomputable def ta_N (X : ta_T) (s e : Nat) : Nat := ta_cn (ta_ov X.2.1 X.2.2 s e) X.1
theorem ta_N_le {P : Nat → ta_T} {t s e : Nat} (hP : ta_okP P) (ht : t < 3) : ta_N (P t) s e ≤ 32 := by
  have a : ta_N (P t) s e ≤ (P t).1 := ta_cn_le _ _
  have b : (P t).1 ≤ 32 := (hP t ht).1
  omega
theorem ta_overlapping {P : Nat → ta_T} {t s e : Nat} (hP : ta_okP P) (ht : t < 3) (hse : s < e) (he : e ≤ 64) {post : Int32 → St1 → Prop} {u : St1} (hu : ta_RU P u)
    (H : ∀ u', ta_RU P u' → post (nI (ta_N (P t) s e)) u') : wpX_overlapping post u (nI t) (nI (65 * s + e)) := by
  obtain ⟨r, o, h, b, a1, a2, a3, a4, a5, a6, a7, a8, a9, a10, a11, a12, a13, a14⟩ := u
  have hu' : ta_R P b a1 a2 a3 a5 a6 a7 := hu
  unfold wpX_overlapping
  refine ta_isT ht (br_f ta_10 (ta_isS (by omega) he hse (br_f ta_10 ⟨ta_65, ta_65, ?_⟩)))
  rw [ta_q2 (by omega) he, ta_q (by omega) he]
  exact ta_find hP ht (by omega) he hu' (fun b4 b5 b6 b7 b8 b9 hr g8 => H _ hr)
theorem ta_overlap {P : Nat → ta_T} {t s e k : Nat} (hP : ta_okP P) (ht : t < 3) (hse : s < e) (he : e ≤ 64) (hk : k < 64) {post : Int32 → St1 → Prop} {u : St1} (hu : ta_RU P u)
    (H1 : k < ta_N (P t) s e → ∀ j u', j < 32 → ta_RU P u' → post (nI j) u') (H2 : ta_N (P t) s e ≤ k → ∀ u', ta_RU P u' → post (-3) u') : wpX_overlap post u (nI t) (nI (65 * s + e)) (nI k) := by
  obtain ⟨r, o, h, b, a1, a2, a3, a4, a5, a6, a7, a8, a9, a10, a11, a12, a13, a14⟩ := u
  have hu' : ta_R P b a1 a2 a3 a5 a6 a7 := hu
  have hN : ta_N (P t) s e ≤ 32 := ta_N_le hP ht
  unfold wpX_overlap
  refine ta_isT ht (br_f ta_10 (ta_isS (by omega) he hse (br_f ta_10 ⟨ta_65, ta_65, ?_⟩)))
  rw [ta_q2 (by omega) he, ta_q (by omega) he]
  refine ta_find hP ht (by omega) he hu' (fun b4 b5 b6 b7 b8 b9 hr g8 => pk_lt k 0 (fun z => absurd z (by omega)) (fun _ => pk_le (ta_N (P t) s e) k (fun z => H2 z _ hr) (fun z => ⟨pk_in k 32 (by omega), ?_⟩)))
  obtain ⟨j, hj, e⟩ := g8 k z
  rw [ta_rd (a := b8) (x := nI k) rfl (by omega) e]
  exact H1 z j _ hj hr
section
variable {post : Int32 → Prop} {r o h b : Int32} {a1 a2 a3 a4 a5 a6 a7 a8 a9 a10 a11 a12 a13 a14 : Nat → Int32}
theorem ta_gap {t n s e k : Nat} {S E : Nat → Nat} (ht : t < 3) (hok : ta_okf n S E) (hm : ta_mt (n, S, E) t a1 a2 a3) (hk : k < n) (hs : s ≤ 64) (he : e ≤ 64)
    (H : ∀ x, x ≤ 64 → (ta_ov S E s e k → x = 0) → post (nI x)) : wpX_gap post (r, o, h, b, a1, a2, a3, a4, a5, a6, a7, a8, a9, a10, a11, a12, a13, a14) ((32 * nI t) + nI k) (nI s) (nI e) := by
  have n32 : n ≤ 32 := hok.1
  have q := hok.2.1 k hk
  have v := pk_in (32 * t + k) 96 (by omega) (ta_ix t k)
  have x1 : a1 ((32 * nI t) + nI k).toNatClampNeg = nI (S k) := ta_rd (ta_ix t k) (by omega) (hm.2.1 k hk)
  have x2 : a2 ((32 * nI t) + nI k).toNatClampNeg = nI (E k) := ta_rd (ta_ix t k) (by omega) (hm.2.2 k hk)
  refine ⟨v, pk_lt s (E k) (fun z => ⟨v, pk_lt (S k) e (fun y => H 0 (by omega) (fun _ => rfl)) (fun y => ⟨v, ?_⟩) x1 rfl⟩) (fun z => ⟨v, ?_⟩) rfl x2⟩
  · rw [x1, pk_sub y]
    exact H _ (by omega) (fun o => absurd o.1 (by omega))
  · rw [x2, pk_sub z]
    exact H _ (by omega) (fun o => absurd o.2 (by omega))
theorem ta_distance {P : Nat → ta_T} {t s e : Nat} (hP : ta_okP P) (ht : t < 3) (hse : s < e) (he : e ≤ 64) (hu : ta_R P b a1 a2 a3 a5 a6 a7)
    (H : ∀ x, (0 < ta_N (P t) s e → x = 0) → post x) : wpX_distance post (r, o, h, b, a1, a2, a3, a4, a5, a6, a7, a8, a9, a10, a11, a12, a13, a14) (nI t) (nI (65 * s + e)) := by
  have hok := hP t ht
  have n32 : (P t).1 ≤ 32 := hok.1
  have hm := hu.1 t ht
  have main : ∀ d i l, i + d = (P t).1 → l ≤ 64 → ((∃ j, j < i ∧ ta_ov (P t).2.1 (P t).2.2 s e j) → l = 0) → wX_nearest_7 post (nI t) (nI s) (nI e) r o h b a1 a2 a3 a4 a5 a6 a7 a8 a9 a10 a11 a12 a13 a14 (d + 1) (nI l) (nI i) := by
    intro d
    induction d with
    | zero =>
      intro i l hi hl h0
      refine ⟨pk_in t 3 ht, pk_le (P t).1 i (fun _ => H _ (fun z => ?_)) (fun z => absurd z (by omega)) (ta_rd rfl (by omega) hm.1)⟩
      obtain ⟨j, hj, ho⟩ := ta_cn_pos _ z
      rw [h0 ⟨j, by omega, ho⟩]
      rfl
    | succ d ih =>
      intro i l hi hl h0
      refine ⟨pk_in t 3 ht, pk_le (P t).1 i (fun z => absurd z (by omega)) (fun _ => ?_) (ta_rd rfl (by omega) hm.1)⟩
      refine ta_gap ht hok hm (by omega) (by omega) he (fun x hx hx0 => pk_le l x (fun z => nm_r (nI_1 i) (ih (i + 1) l (by omega) hl ?_)) (fun z => nm_r (nI_1 i) (ih (i + 1) x (by omega) hx ?_)))
      · rintro ⟨j, hj, ho⟩
        by_cases c : j = i
        · rw [c] at ho
          have := hx0 ho
          omega
        · exact h0 ⟨j, by omega, ho⟩
      · rintro ⟨j, hj, ho⟩
        by_cases c : j = i
        · rw [c] at ho
          exact hx0 ho
        · have := h0 ⟨j, by omega, ho⟩
          omega
  unfold wpX_distance
  unfold wpX_nearRefusal
  refine ta_isT ht (br_f ta_10 (ta_isS (by omega) he hse (br_f ta_10 ⟨pk_in t 3 ht, pk_eq (P t).1 0 (fun z => ?_) (fun z => ?_) (ta_rd rfl (by omega) hm.1)⟩)))
  · refine br_f (by decide) (H _ (fun y => ?_))
    obtain ⟨j, hj, _⟩ := ta_cn_pos _ y
    omega
  · refine br_t (by decide) ⟨ta_65, ta_65, ?_⟩
    rw [ta_q2 (by omega) he, ta_q (by omega) he]
    exact ⟨_, main (P t).1 0 64 (by omega) (by omega) (fun ⟨j, hj, _⟩ => absurd hj (by omega))⟩
end
theorem ta_counts {P : Nat → ta_T} {t s e : Nat} (hP : ta_okP P) (ht : t < 3) (hse : s < e) (he : e ≤ 64) {post : Int32 → St1 → Prop} {u : St1} (hu : ta_RU P u)
    (H : ∀ u', ta_RU P u' → post 1 u') : wpL_counts post u (nI t) (nI (65 * s + e)) := by
  obtain ⟨r, o, h, b, a1, a2, a3, a4, a5, a6, a7, a8, a9, a10, a11, a12, a13, a14⟩ := u
  have hN : ta_N (P t) s e ≤ 32 := ta_N_le hP ht
  have main : ∀ d k (r o h b : Int32) (a1 a2 a3 a4 a5 a6 a7 a8 a9 a10 a11 a12 a13 a14 : Nat → Int32), k + d = 33 → ta_RU P (r, o, h, b, a1, a2, a3, a4, a5, a6, a7, a8, a9, a10, a11, a12, a13, a14) → wL_counts_13 post (nI t) (nI (65 * s + e)) (nI (ta_N (P t) s e)) (d + 1) (nI (min k (ta_N (P t) s e))) (nI k) r o h b a1 a2 a3 a4 a5 a6 a7 a8 a9 a10 a11 a12 a13 a14 := by
    intro d
    induction d with
    | zero =>
      intro k r o h b a1 a2 a3 a4 a5 a6 a7 a8 a9 a10 a11 a12 a13 a14 hk hu
      refine pk_le 33 k (fun _ => ta_distance hP ht hse he hu (fun x hx => pk_eq (ta_N (P t) s e) (min k (ta_N (P t) s e)) (fun _ => pk_lt (ta_N (P t) s e) 1 (fun _ => H _ hu) (fun z => br_t (hx z) (H _ hu))) (fun z => absurd z (by omega)))) (fun z => absurd z (by omega))
    | succ d ih =>
      intro k r o h b a1 a2 a3 a4 a5 a6 a7 a8 a9 a10 a11 a12 a13 a14 hk hu
      refine pk_le 33 k (fun z => absurd z (by omega)) (fun _ => ta_overlap hP ht hse he (by omega) hu (fun z j u' hj hu2 => ?_) (fun z u' hu2 => ?_))
      · obtain ⟨r, o, h, b, a1, a2, a3, a4, a5, a6, a7, a8, a9, a10, a11, a12, a13, a14⟩ := u'
        have I := ih (k + 1) r o h b a1 a2 a3 a4 a5 a6 a7 a8 a9 a10 a11 a12 a13 a14 (by omega) hu2
        rw [show min (k + 1) (ta_N (P t) s e) = min k (ta_N (P t) s e) + 1 by omega] at I
        exact pk_lt j 0 (fun z => absurd z (by omega)) (fun _ => nm_r (nI_1 _) (nm_r (nI_1 k) I))
      · obtain ⟨r, o, h, b, a1, a2, a3, a4, a5, a6, a7, a8, a9, a10, a11, a12, a13, a14⟩ := u'
        have I := ih (k + 1) r o h b a1 a2 a3 a4 a5 a6 a7 a8 a9 a10 a11 a12 a13 a14 (by omega) hu2
        rw [show min (k + 1) (ta_N (P t) s e) = min k (ta_N (P t) s e) by omega] at I
        exact br_t (by decide) (nm_r (nI_1 k) I)
  unfold wpL_counts
  refine ta_overlapping hP ht hse he hu (fun u' hu2 => ?_)
  obtain ⟨r, o, h, b, a1, a2, a3, a4, a5, a6, a7, a8, a9, a10, a11, a12, a13, a14⟩ := u'
  have I := main 33 0 r o h b a1 a2 a3 a4 a5 a6 a7 a8 a9 a10 a11 a12 a13 a14 (by omega) hu2
  rw [show min 0 (ta_N (P t) s e) = 0 by omega] at I
  exact ⟨_, I⟩
theorem ta_meetings {P : Nat → ta_T} {t v : Nat} (hP : ta_okP P) (ht : t < 3) (hv : v < 3) {post : Int32 → St1 → Prop} {u : St1} (hu : ta_RU P u)
    (H : ∀ u', ta_RU P u' → post (nI (ta_sm (fun i => ta_N (P v) ((P t).2.1 i) ((P t).2.2 i)) (P t).1)) u') : wpX_meetings post u (nI t) (nI v) := by
  obtain ⟨r, o, h, b, a1, a2, a3, a4, a5, a6, a7, a8, a9, a10, a11, a12, a13, a14⟩ := u
  have hok := hP t ht
  have n32 : (P t).1 ≤ 32 := hok.1
  have main : ∀ d i (r o h b : Int32) (a1 a2 a3 a4 a5 a6 a7 a8 a9 a10 a11 a12 a13 a14 : Nat → Int32), i + d = (P t).1 → ta_RU P (r, o, h, b, a1, a2, a3, a4, a5, a6, a7, a8, a9, a10, a11, a12, a13, a14) → wX_meetings_21 post (nI t) (nI v) (d + 1) (nI (ta_sm (fun i => ta_N (P v) ((P t).2.1 i) ((P t).2.2 i)) i)) (nI i) r o h b a1 a2 a3 a4 a5 a6 a7 a8 a9 a10 a11 a12 a13 a14 := by
    intro d
    induction d with
    | zero =>
      intro i r o h b a1 a2 a3 a4 a5 a6 a7 a8 a9 a10 a11 a12 a13 a14 hi hu
      have hu' : ta_R P b a1 a2 a3 a5 a6 a7 := hu
      have e : i = (P t).1 := by omega
      subst e
      exact ⟨pk_in t 3 ht, pk_le (P t).1 (P t).1 (fun _ => H _ hu) (fun z => absurd z (by omega)) (ta_rd rfl (by omega) (hu'.1 t ht).1)⟩
    | succ d ih =>
      intro i r o h b a1 a2 a3 a4 a5 a6 a7 a8 a9 a10 a11 a12 a13 a14 hi hu
      have hu' : ta_R P b a1 a2 a3 a5 a6 a7 := hu
      obtain ⟨h3, h1, h2⟩ := hu'.1 t ht
      have q := hok.2.1 i (by show i < (P t).1; omega)
      have vi := pk_in (32 * t + i) 96 (by omega) (ta_ix t i)
      refine ⟨pk_in t 3 ht, pk_le (P t).1 i (fun z => absurd z (by omega)) (fun _ => ⟨vi, vi, ?_⟩) (ta_rd rfl (by omega) h3)⟩
      rw [ta_rd (a := a1) (ta_ix t i) (by omega) (h1 i (by omega)), ta_rd (a := a2) (ta_ix t i) (by omega) (h2 i (by omega))]
      refine ta_find hP hv (by omega) (by omega) hu' (fun b4 b5 b6 b7 b8 b9 hr g8 => ?_)
      exact nm_r (nI_add _ _) (nm_r (nI_1 i) (ih (i + 1) _ _ _ _ _ _ _ _ _ _ _ _ _ _ _ _ _ _ (by omega) hr))
  unfold wpX_meetings
  exact ta_isT ht (br_f ta_10 (ta_isT hv (br_f ta_10 ⟨_, main (P t).1 0 r o h b a1 a2 a3 a4 a5 a6 a7 a8 a9 a10 a11 a12 a13 a14 (by omega) hu⟩)))
theorem ta_meet_sym (P : Nat → ta_T) (t v : Nat) : ta_sm (fun i => ta_N (P v) ((P t).2.1 i) ((P t).2.2 i)) (P t).1 = ta_sm (fun i => ta_N (P t) ((P v).2.1 i) ((P v).2.2 i)) (P v).1 := by
  unfold ta_N
  have e := ta_swap (fun i j => ta_ov (P v).2.1 (P v).2.2 ((P t).2.1 i) ((P t).2.2 i) j) (P v).1 (P t).1
  refine e.trans (ta_sm_ext _ (fun j _ => ta_cn_ext _ (fun i _ => ⟨fun z => ⟨z.2, z.1⟩, fun z => ⟨z.2, z.1⟩⟩)))
end
section
/-! one turn of the law -/
theorem ta_p1 (i : Nat) : nI i + 1 = nI (i + 1) := nI_1 i
theorem ta_p2 (i : Nat) : nI i + 2 = nI (i + 2) := nI_add i 2
theorem ta_p3 (i : Nat) : nI i + 3 = nI (i + 3) := nI_add i 3
theorem ta_p4 (i : Nat) : nI i + 4 = nI (i + 4) := nI_add i 4
theorem ta_xv (y v : Int32) : ∃ s e, s < e ∧ e ≤ 64 ∧ (((65 * (v &&& 31)) + (v &&& 31)) + 1) + (y &&& 31) = nI (65 * s + e) := by
  obtain ⟨s, hs, es⟩ := ta_and31 v
  obtain ⟨w, hw, ew⟩ := ta_and31 y
  refine ⟨s, s + 1 + w, by omega, by omega, ?_⟩
  rw [es, ew, ta_65e, nI_1, nI_add]
  congr 1
  omega
theorem ta_bn {a : Nat} (ha : a < 3) : (nI a + 1) - (nI a + 1) / 3 * 3 = nI ((a + 1) % 3) := by
  have e3 : (3 : Int32) = nI 3 := rfl
  rw [nI_1, e3, pk_rem (by omega) (by omega) (by omega)]
theorem ta_law18 {post : Int32 → Prop} {L kc ks : Nat} {xs : Nat → Int32} (hL : L ≤ 260) (H : post 1) : ∀ d i P (r o h b : Int32) (a1 a2 a3 a4 a5 a6 a7 a8 a9 a10 a11 a12 a13 a14 : Nat → Int32) (rv ov hv bv : Int32) (c1 c2 c3 c4 c5 c6 c7 c8 c9 c10 c11 c12 c13 c14 : Nat → Int32),
    L ≤ i + 4 * d → i ≤ 300 → ta_okP P → ta_RU P (r, o, h, b, a1, a2, a3, a4, a5, a6, a7, a8, a9, a10, a11, a12, a13, a14) → ta_RU P (rv, ov, hv, bv, c1, c2, c3, c4, c5, c6, c7, c8, c9, c10, c11, c12, c13, c14) → wL_law_18 post L xs kc ks (d + 1) (nI i) r o h b a1 a2 a3 a4 a5 a6 a7 a8 a9 a10 a11 a12 a13 a14 rv ov hv bv c1 c2 c3 c4 c5 c6 c7 c8 c9 c10 c11 c12 c13 c14 := by
  intro d
  induction d with
  | zero =>
    intro i P r o h b a1 a2 a3 a4 a5 a6 a7 a8 a9 a10 a11 a12 a13 a14 rv ov hv bv c1 c2 c3 c4 c5 c6 c7 c8 c9 c10 c11 c12 c13 c14 hd hi hP hu hw
    exact pk_le L (i + 3) (fun _ => H) (fun z => absurd z (by omega)) rfl (ta_p3 i)
  | succ d ih =>
    intro i P r o h b a1 a2 a3 a4 a5 a6 a7 a8 a9 a10 a11 a12 a13 a14 rv ov hv bv c1 c2 c3 c4 c5 c6 c7 c8 c9 c10 c11 c12 c13 c14 hd hi hP hu hw
    refine pk_le L (i + 3) (fun _ => H) (fun z => ?_) rfl (ta_p3 i)
    have v0 : vp_in (nI i) L := pk_in i L (by omega)
    have v1 : vp_in (nI i + 1) L := pk_in (i + 1) L (by omega) (ta_p1 i)
    have v2 : vp_in (nI i + 2) L := pk_in (i + 2) L (by omega) (ta_p2 i)
    have v3 : vp_in (nI i + 3) L := pk_in (i + 3) L (by omega) (ta_p3 i)
    obtain ⟨P1, hP1, hA⟩ := ta_act hP (xs (nI i).toNatClampNeg &&& 15) (xs (nI i + 1).toNatClampNeg) (xs (nI i + 2).toNatClampNeg) (xs (nI i + 3).toNatClampNeg)
    obtain ⟨a, ha, ea⟩ := ta_mod3 (xs (nI i + 1).toNatClampNeg)
    obtain ⟨s, e, hse, he, ex⟩ := ta_xv (xs (nI i + 2).toNatClampNeg) (xs (nI i + 3).toNatClampNeg)
    refine ⟨v0, nm_e ⟨v1, v2, v3, hA _ _ hu (fun x u' hu1 => ?_)⟩⟩
    obtain ⟨r, o, h, b, a1, a2, a3, a4, a5, a6, a7, a8, a9, a10, a11, a12, a13, a14⟩ := u'
    refine ⟨v1, v2, v3, hA _ _ hw (fun x u' hw1 => ?_)⟩
    obtain ⟨rv, ov, hv, bv, c1, c2, c3, c4, c5, c6, c7, c8, c9, c10, c11, c12, c13, c14⟩ := u'
    refine ⟨v1, ta_30, nm_r ea ⟨v3, v3, v2, nm_r ex ?_⟩⟩
    refine ta_ordered hP1 ha hu1 (br_f ta_10 ?_)
    refine ta_counts hP1 ha hse he hu1 (fun u' hu2 => ?_)
    obtain ⟨r, o, h, b, a1, a2, a3, a4, a5, a6, a7, a8, a9, a10, a11, a12, a13, a14⟩ := u'
    have hb : (a + 1) % 3 < 3 := by omega
    refine br_f ta_10 ⟨ta_30, nm_r (ta_bn ha) ?_⟩
    refine ta_meetings hP1 ha hb hu2 (fun u' hu3 => ?_)
    obtain ⟨r, o, h, b, a1, a2, a3, a4, a5, a6, a7, a8, a9, a10, a11, a12, a13, a14⟩ := u'
    refine ta_meetings hP1 hb ha hu3 (fun u' hu4 => ?_)
    obtain ⟨r, o, h, b, a1, a2, a3, a4, a5, a6, a7, a8, a9, a10, a11, a12, a13, a14⟩ := u'
    refine br_t (by rw [ta_meet_sym]) ?_
    have t2 : 2 < 3 := by omega
    refine ta_copy (t := 2) hP1 t2 ha hu4 (fun x u' hu5 => ?_)
    obtain ⟨r, o, h, b, a1, a2, a3, a4, a5, a6, a7, a8, a9, a10, a11, a12, a13, a14⟩ := u'
    refine ta_copy (t := 2) hP1 t2 ha hw1 (fun x u' hw2 => ?_)
    obtain ⟨rv, ov, hv, bv, c1, c2, c3, c4, c5, c6, c7, c8, c9, c10, c11, c12, c13, c14⟩ := u'
    have hP2 : ta_okP (ta_set P1 2 (P1 a)) := ta_set_ok hP1 (hP1 a ha)
    refine ta_covered (t := 2) hP2 t2 hu5 (fun u' hu6 => ?_)
    obtain ⟨r, o, h, b, a1, a2, a3, a4, a5, a6, a7, a8, a9, a10, a11, a12, a13, a14⟩ := u'
    obtain ⟨M, A, B, hM⟩ := ta_cov_can (hP2 2 t2)
    have hP3 : ta_okP (ta_set (ta_set P1 2 (P1 a)) 2 (M, A, B)) := ta_set_ok hP2 (ta_can_ok hM)
    refine ta_merge (t := 2) hP2 t2 hM hu6 (fun x u' hu7 => ?_)
    obtain ⟨r, o, h, b, a1, a2, a3, a4, a5, a6, a7, a8, a9, a10, a11, a12, a13, a14⟩ := u'
    refine ta_covered (t := 2) hP3 t2 hu7 (fun u' hu8 => ?_)
    obtain ⟨r, o, h, b, a1, a2, a3, a4, a5, a6, a7, a8, a9, a10, a11, a12, a13, a14⟩ := u'
    refine ta_deepest (t := 2) hP3 t2 (fun p => by rw [ta_set_s]; exact ta_can_dp hM p) hu8 (fun k u' hk hu9 => ?_)
    obtain ⟨r, o, h, b, a1, a2, a3, a4, a5, a6, a7, a8, a9, a10, a11, a12, a13, a14⟩ := u'
    refine br_t ?_ (pk_le k 1 (fun _ => ?_) (fun z => absurd z (by omega)))
    · congr 1
      refine ta_cn_ext 64 (fun p _ => ?_)
      rw [ta_set_s]
      exact (hM.2.2 p).symm
    · obtain ⟨m, A', B', hY⟩ := ta_can_ex (fun p => ¬ ta_cov (ta_set P1 2 (P1 a) 2).1 (ta_set P1 2 (P1 a) 2).2.1 (ta_set P1 2 (P1 a) 2).2.2 p) 64 (by omega)
      have hP4 : ta_okP (ta_set (ta_set P1 2 (P1 a)) 2 (m, A', B')) := ta_set_ok hP2 (ta_can_ok hY)
      refine ta_compl (t := 2) hP2 t2 hY hw2 (fun x u' hw3 => ?_)
      obtain ⟨rv, ov, hv, bv, c1, c2, c3, c4, c5, c6, c7, c8, c9, c10, c11, c12, c13, c14⟩ := u'
      have hM2 : ta_can M A B (fun p => p < 64 ∧ ¬ ta_cov (ta_set (ta_set P1 2 (P1 a)) 2 (m, A', B') 2).1 (ta_set (ta_set P1 2 (P1 a)) 2 (m, A', B') 2).2.1 (ta_set (ta_set P1 2 (P1 a)) 2 (m, A', B') 2).2.2 p) := by
        refine ta_can_c hM (fun p => ?_)
        rw [ta_set_s]
        show (p < 64 ∧ ¬ ta_cov m A' B' p) ↔ _
        rw [← hY.2.2 p]
        constructor
        · rintro ⟨y1, y2⟩
          by_cases c : ta_cov (ta_set P1 2 (P1 a) 2).1 (ta_set P1 2 (P1 a) 2).2.1 (ta_set P1 2 (P1 a) 2).2.2 p
          · exact c
          · exact absurd ⟨y1, c⟩ y2
        · intro y
          refine ⟨?_, fun w => w.2 y⟩
          obtain ⟨j, hj, g1, g2⟩ := y
          have := (hP2 2 t2).2.1 j hj
          omega
      refine ta_compl (t := 2) hP4 t2 hM2 hw3 (fun x u' hw4 => ?_)
      obtain ⟨rv, ov, hv, bv, c1, c2, c3, c4, c5, c6, c7, c8, c9, c10, c11, c12, c13, c14⟩ := u'
      rw [ta_set_set] at hw4
      refine ta_same (t := 2) hP3 t2 hu9 hw4 (br_f ta_10 (nm_r (ta_p4 i) ?_))
      exact ih (i + 4) _ r o h b a1 a2 a3 a4 a5 a6 a7 a8 a9 a10 a11 a12 a13 a14 rv ov hv bv c1 c2 c3 c4 c5 c6 c7 c8 c9 c10 c11 c12 c13 c14 (by omega) (by omega) hP3 hu9 hw4
end
section
theorem i_vc (xs : Nat → Int32) (L : Nat) (hL : L ≤ 260) : wpL_law (fun r => r = 1) L xs := by
  have h0 : ta_okP (fun _ => (0, id, id)) := fun t _ => ⟨by show 0 ≤ 32; omega, fun i hi => absurd hi (by show ¬ i < 0; omega), fun i j _ hj => absurd hj (by show ¬ j < 0; omega)⟩
  have hu : ∀ r o h : Int32, ta_RU (fun _ => (0, id, id)) (r, o, h, -1, fun _ => 0, fun _ => 0, fun _ => 0, fun _ => 0, fun _ => 0, fun _ => 0, fun _ => 0, fun _ => 0, fun _ => 0, fun _ => 0, fun _ => 0, fun _ => 0, fun _ => 0, fun _ => 0) :=
    fun r o h => ⟨fun t _ => ⟨rfl, fun i hi => absurd hi (by show ¬ i < 0; omega), fun i hi => absurd hi (by show ¬ i < 0; omega)⟩, Or.inl rfl⟩
  refine ⟨14, 590, by omega, by omega, ?_⟩
  refine ⟨by omega, by omega, by omega, by omega, by omega, by omega, by omega, by omega, by omega, by omega, by omega, by omega, by omega, by omega, by omega, by omega, by omega, by omega, by omega, by omega, by omega, by omega, by omega, by omega, by omega, by omega, by omega, by omega, ?_⟩
  refine ⟨by omega, by omega, 14, 590, by omega, by omega, ?_⟩
  refine ⟨by omega, by omega, by omega, by omega, by omega, by omega, by omega, by omega, by omega, by omega, by omega, by omega, by omega, by omega, by omega, by omega, by omega, by omega, by omega, by omega, by omega, by omega, by omega, by omega, by omega, by omega, by omega, by omega, ?_⟩
  exact ⟨_, ta_law18 (post := fun r => r = 1) hL rfl 65 0 _ _ _ _ _ _ _ _ _ _ _ _ _ _ _ _ _ _ _ _ _ _ _ _ _ _ _ _ _ _ _ _ _ _ _ _ _ (by omega) (by omega) h0 (hu 0 0 0) (hu 0 0 0)⟩
end
