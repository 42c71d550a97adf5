section
/-! sums, indicators, the order of endings: plain mathematics, no program -/
/-- the indicator of a proposition -/
noncomputable def ei_b (p : Prop) : Nat := @ite Nat p (Classical.propDecidable p) 1 0
theorem ei_bt {p : Prop} (h : p) : ei_b p = 1 := by
  unfold ei_b
  exact if_pos h
theorem ei_bf {p : Prop} (h : ¬ p) : ei_b p = 0 := by
  unfold ei_b
  exact if_neg h
theorem ei_bc {p q : Prop} (h : p ↔ q) : ei_b p = ei_b q := by
  rw [propext h]
theorem ei_ble (p : Prop) : ei_b p ≤ 1 := by
  by_cases h : p
  · rw [ei_bt h]; exact Nat.le_refl 1
  · rw [ei_bf h]; exact Nat.zero_le 1
theorem ei_band (p q : Prop) : ei_b p * ei_b q = ei_b (p ∧ q) := by
  by_cases h : p
  · by_cases g : q
    · rw [ei_bt h, ei_bt g, ei_bt ⟨h, g⟩]
    · rw [ei_bf g, ei_bf (fun z : p ∧ q => g z.2), Nat.mul_zero]
  · rw [ei_bf h, ei_bf (fun z : p ∧ q => h z.1), Nat.zero_mul]
/-- a sum over the naturals below n -/
def ei_sm (f : Nat → Nat) : Nat → Nat
  | 0 => 0
  | n + 1 => ei_sm f n + f n
theorem ei_ss (f : Nat → Nat) (n : Nat) : ei_sm f (n + 1) = ei_sm f n + f n := rfl
theorem ei_sc {f g : Nat → Nat} {n : Nat} (h : ∀ i, i < n → f i = g i) : ei_sm f n = ei_sm g n := by
  induction n with
  | zero => rfl
  | succ n ih =>
    rw [ei_ss, ei_ss, ih (fun i hi => h i (by omega)), h n (by omega)]
theorem ei_sle {f g : Nat → Nat} {n : Nat} (h : ∀ i, i < n → f i ≤ g i) : ei_sm f n ≤ ei_sm g n := by
  induction n with
  | zero => exact Nat.le_refl 0
  | succ n ih =>
    have h1 := ih (fun i hi => h i (by omega))
    have h2 := h n (by omega)
    rw [ei_ss, ei_ss]
    omega
theorem ei_sadd (f g : Nat → Nat) (n : Nat) : ei_sm (fun i => f i + g i) n = ei_sm f n + ei_sm g n := by
  induction n with
  | zero => rfl
  | succ n ih =>
    rw [ei_ss, ei_ss, ei_ss, ih]
    omega
theorem ei_s0 {f : Nat → Nat} {n : Nat} (h : ∀ i, i < n → f i = 0) : ei_sm f n = 0 := by
  induction n with
  | zero => rfl
  | succ n ih =>
    rw [ei_ss, ih (fun i hi => h i (by omega)), h n (by omega)]
theorem ei_spl (f : Nat → Nat) (a b : Nat) : ei_sm f (a + b) = ei_sm f a + ei_sm (fun i => f (a + i)) b := by
  induction b with
  | zero => rfl
  | succ b ih =>
    rw [← Nat.add_assoc, ei_ss, ih, ei_ss]
    omega
theorem ei_sh (f : Nat → Nat) (n : Nat) : ei_sm f (n + 1) = f 0 + ei_sm (fun i => f (i + 1)) n := by
  induction n with
  | zero => rw [ei_ss]; show 0 + f 0 = f 0 + 0; omega
  | succ n ih =>
    rw [ei_ss, ih, ei_ss]
    omega
theorem ei_s1 {f : Nat → Nat} {n a : Nat} (ha : a < n) (h : ∀ i, i < n → i ≠ a → f i = 0) : ei_sm f n = f a := by
  induction n with
  | zero => exact absurd ha (by omega)
  | succ n ih =>
    rw [ei_ss]
    by_cases e : a = n
    · rw [ei_s0 (fun i hi => h i (by omega) (by omega)), e]
      omega
    · rw [ih (by omega) (fun i hi => h i (by omega)), h n (by omega) (by omega)]
      omega
/-- a sum stops at a -/
theorem ei_scut (f : Nat → Nat) {a n : Nat} (h : a ≤ n) : ei_sm f a = ei_sm (fun i => ei_b (i < a) * f i) n := by
  have e : n = a + (n - a) := by omega
  rw [e, ei_spl, ei_s0 (n := n - a) (fun i _ => by rw [ei_bf (by omega), Nat.zero_mul])]
  rw [Nat.add_zero]
  exact ei_sc (fun i hi => by rw [ei_bt hi, Nat.one_mul])
theorem ei_slt {a n : Nat} (h : a ≤ n) : ei_sm (fun i => ei_b (i < a)) n = a := by
  have h1 : ei_sm (fun i => ei_b (i < a)) n = ei_sm (fun _ => 1) a := by
    rw [ei_scut (fun _ => 1) h]
    exact ei_sc (fun i _ => by rw [Nat.mul_one])
  rw [h1]
  clear h h1
  induction a with
  | zero => rfl
  | succ a ih => rw [ei_ss, ih]
/-- a property that goes down: its count is where it ends -/
theorem ei_dn {P : Nat → Prop} : ∀ {N : Nat}, (∀ i j, i < j → j < N → P j → P i) → ei_sm (fun r => ei_b (P r)) N ≤ N ∧ ∀ r, r < N → (P r ↔ r < ei_sm (fun r => ei_b (P r)) N) := by
  intro N
  induction N with
  | zero => exact fun _ => ⟨Nat.le_refl 0, fun r hr => absurd hr (by omega)⟩
  | succ N ih =>
    intro h
    have k := ih (fun i j h1 h2 => h i j h1 (by omega))
    rw [ei_ss]
    by_cases e : P N
    · have k2 : ei_sm (fun r => ei_b (P r)) N = N := by
        have k3 : ei_sm (fun r => ei_b (P r)) N = ei_sm (fun r => ei_b (r < N)) N := ei_sc (fun i hi => by rw [ei_bt hi, ei_bt (h i N hi (by omega) e)])
        rw [k3, ei_slt (Nat.le_refl N)]
      rw [ei_bt e, k2]
      refine ⟨Nat.le_refl _, fun r hr => ⟨fun _ => hr, fun _ => ?_⟩⟩
      by_cases g : r = N
      · rw [g]; exact e
      · exact h r N (by omega) (by omega) e
    · rw [ei_bf e, Nat.add_zero]
      refine ⟨by omega, fun r hr => ?_⟩
      by_cases g : r = N
      · rw [g]
        exact ⟨fun z => absurd z e, fun z => absurd z (by omega)⟩
      · exact k.2 r (by omega)
/-- sums over an enumeration are sums over what it enumerates -/
theorem ei_ri (g : Nat → Nat) (F : Nat → Nat) (M : Nat) : ∀ N, (∀ i, i < N → F i < M) → (∀ i j, i < j → j < N → F i ≠ F j) → ei_sm (fun r => g (F r)) N = ei_sm (fun z => ei_b (∃ r, r < N ∧ F r = z) * g z) M := by
  intro N
  induction N with
  | zero =>
    intro _ _
    rw [ei_s0 (n := M) (fun z _ => by rw [ei_bf (fun h : ∃ r, r < 0 ∧ F r = z => by obtain ⟨r, h1, _⟩ := h; omega), Nat.zero_mul])]
    rfl
  | succ N ih =>
    intro h1 h2
    rw [ei_ss, ih (fun i hi => h1 i (by omega)) (fun i j a b => h2 i j a (by omega))]
    have e : ei_sm (fun z => ei_b (F N = z) * g z) M = g (F N) := by
      rw [ei_s1 (h1 N (by omega)) (fun i _ hne => by rw [ei_bf (fun h => hne h.symm), Nat.zero_mul])]
      show ei_b (F N = F N) * g (F N) = g (F N)
      rw [ei_bt rfl, Nat.one_mul]
    rw [← e, ← ei_sadd]
    refine ei_sc (fun z _ => ?_)
    show ei_b (∃ r, r < N ∧ F r = z) * g z + ei_b (F N = z) * g z = ei_b (∃ r, r < N + 1 ∧ F r = z) * g z
    by_cases c : F N = z
    · rw [ei_bt c, ei_bt (p := ∃ r, r < N + 1 ∧ F r = z) ⟨N, by omega, c⟩, ei_bf (p := ∃ r, r < N ∧ F r = z) (fun h => by
        obtain ⟨r, hr, hz⟩ := h
        exact h2 r N hr (by omega) (by rw [hz, c])), Nat.zero_mul, Nat.zero_add]
    · rw [ei_bf c, Nat.zero_mul, Nat.add_zero, ei_bc (p := ∃ r, r < N ∧ F r = z) (q := ∃ r, r < N + 1 ∧ F r = z) ⟨fun h => by
        obtain ⟨r, hr, hz⟩ := h
        exact ⟨r, by omega, hz⟩, fun h => by
        obtain ⟨r, hr, hz⟩ := h
        by_cases k : r = N
        · exact absurd (by rw [← k]; exact hz) c
        · exact ⟨r, by omega, hz⟩⟩]
/-- a sum over 96 codes is a sum over 6 slots of 16 places -/
theorem ei_s96 (g : Nat → Nat) : ∀ k, ei_sm g (16 * k) = ei_sm (fun s => ei_sm (fun m => g (16 * s + m)) 16) k := by
  intro k
  induction k with
  | zero => rfl
  | succ k ih =>
    rw [ei_ss, ← ih, show 16 * (k + 1) = 16 * k + 16 by omega, ei_spl]
end
section
/-! endings: code 16 s + m is the ending of m letters of the text in slot s; U s m is the letter before it (the m-th letter from the end) -/
def ei_lm (U : Nat → Nat → Nat) (s t : Nat) : Nat → Nat → Prop
  | 0, 0 => s < t
  | 0, _ + 1 => True
  | _ + 1, 0 => False
  | m + 1, n + 1 => U s m < U t n ∨ (U s m = U t n ∧ ei_lm U s t m n)
def ei_lt (U : Nat → Nat → Nat) (y x : Nat) : Prop := ei_lm U (y / 16) (x / 16) (y % 16) (x % 16)
theorem ei_lm_irr (U : Nat → Nat → Nat) (s : Nat) : ∀ m, ¬ ei_lm U s s m m := by
  intro m
  induction m with
  | zero => exact Nat.lt_irrefl s
  | succ m ih =>
    intro h
    rcases h with h | h
    · exact Nat.lt_irrefl _ h
    · exact ih h.2
theorem ei_lm_tr (U : Nat → Nat → Nat) (s t v : Nat) : ∀ m n k, ei_lm U s t m n → ei_lm U t v n k → ei_lm U s v m k := by
  intro m
  induction m with
  | zero =>
    intro n k h1 h2
    cases k with
    | zero =>
      cases n with
      | zero => exact Nat.lt_trans (show s < t from h1) (show t < v from h2)
      | succ n => exact False.elim h2
    | succ k => exact True.intro
  | succ m ih =>
    intro n k h1 h2
    cases n with
    | zero => exact False.elim h1
    | succ n =>
      cases k with
      | zero => exact False.elim h2
      | succ k =>
        rcases h1 with h1 | h1
        · rcases h2 with h2 | h2
          · exact Or.inl (Nat.lt_trans h1 h2)
          · exact Or.inl (by rw [← h2.1]; exact h1)
        · rcases h2 with h2 | h2
          · exact Or.inl (by rw [h1.1]; exact h2)
          · exact Or.inr ⟨by rw [h1.1, h2.1], ih n k h1.2 h2.2⟩
theorem ei_lm_tri (U : Nat → Nat → Nat) (s t : Nat) : ∀ m n, ei_lm U s t m n ∨ (s = t ∧ m = n) ∨ ei_lm U t s n m := by
  intro m
  induction m with
  | zero =>
    intro n
    cases n with
    | zero =>
      rcases Nat.lt_trichotomy s t with h | h | h
      · exact Or.inl h
      · exact Or.inr (Or.inl ⟨h, rfl⟩)
      · exact Or.inr (Or.inr h)
    | succ n => exact Or.inl True.intro
  | succ m ih =>
    intro n
    cases n with
    | zero => exact Or.inr (Or.inr True.intro)
    | succ n =>
      rcases Nat.lt_trichotomy (U s m) (U t n) with h | h | h
      · exact Or.inl (Or.inl h)
      · rcases ih n with g | g | g
        · exact Or.inl (Or.inr ⟨h, g⟩)
        · exact Or.inr (Or.inl ⟨g.1, by rw [g.2]⟩)
        · exact Or.inr (Or.inr (Or.inr ⟨h.symm, g⟩))
      · exact Or.inr (Or.inr (Or.inl h))
theorem ei_lm_cg {U V : Nat → Nat → Nat} {s t : Nat} : ∀ m n, (∀ k, k < m → V s k = U s k) → (∀ k, k < n → V t k = U t k) → ei_lm U s t m n → ei_lm V s t m n := by
  intro m
  induction m with
  | zero =>
    intro n _ _ h
    cases n with
    | zero => exact h
    | succ n => exact True.intro
  | succ m ih =>
    intro n h1 h2 h
    cases n with
    | zero => exact False.elim h
    | succ n =>
      show V s m < V t n ∨ (V s m = V t n ∧ ei_lm V s t m n)
      rw [h1 m (by omega), h2 n (by omega)]
      rcases h with h | h
      · exact Or.inl h
      · exact Or.inr ⟨h.1, ih n (fun k hk => h1 k (by omega)) (fun k hk => h2 k (by omega)) h.2⟩
theorem ei_irr (U : Nat → Nat → Nat) (x : Nat) : ¬ ei_lt U x x := ei_lm_irr U (x / 16) (x % 16)
theorem ei_tr {U : Nat → Nat → Nat} {x y z : Nat} (h : ei_lt U x y) (g : ei_lt U y z) : ei_lt U x z := ei_lm_tr U _ _ _ _ _ _ h g
theorem ei_tri (U : Nat → Nat → Nat) (x y : Nat) : ei_lt U x y ∨ x = y ∨ ei_lt U y x := by
  rcases ei_lm_tri U (x / 16) (y / 16) (x % 16) (y % 16) with h | h | h
  · exact Or.inl h
  · exact Or.inr (Or.inl (by omega))
  · exact Or.inr (Or.inr h)
theorem ei_lt_cg {U V : Nat → Nat → Nat} {x y : Nat} (h1 : ∀ k, k < x % 16 → V (x / 16) k = U (x / 16) k) (h2 : ∀ k, k < y % 16 → V (y / 16) k = U (y / 16) k) (h : ei_lt U x y) : ei_lt V x y := ei_lm_cg _ _ h1 h2 h
theorem ei_lt_00 {U : Nat → Nat → Nat} {x y : Nat} (h1 : x % 16 = 0) (h2 : y % 16 = 0) : ei_lt U x y ↔ x / 16 < y / 16 := by
  unfold ei_lt
  rw [h1, h2]
  exact Iff.rfl
theorem ei_lt_0s {U : Nat → Nat → Nat} {x y : Nat} (h1 : x % 16 = 0) (h2 : 0 < y % 16) : ei_lt U x y := by
  unfold ei_lt
  rw [h1]
  obtain ⟨k, hk⟩ : ∃ k, y % 16 = k + 1 := ⟨y % 16 - 1, by omega⟩
  rw [hk]
  exact True.intro
theorem ei_lt_s0 {U : Nat → Nat → Nat} {x y : Nat} (h1 : 0 < x % 16) (h2 : y % 16 = 0) : ¬ ei_lt U x y := by
  unfold ei_lt
  rw [h2]
  obtain ⟨k, hk⟩ : ∃ k, x % 16 = k + 1 := ⟨x % 16 - 1, by omega⟩
  rw [hk]
  exact fun h => h
theorem ei_lt_ss {U : Nat → Nat → Nat} {x y : Nat} (h1 : x % 16 < 15) (h2 : y % 16 < 15) : ei_lt U (x + 1) (y + 1) ↔ (U (x / 16) (x % 16) < U (y / 16) (y % 16) ∨ (U (x / 16) (x % 16) = U (y / 16) (y % 16) ∧ ei_lt U x y)) := by
  unfold ei_lt
  rw [show (x + 1) / 16 = x / 16 by omega, show (y + 1) / 16 = y / 16 by omega, show (x + 1) % 16 = x % 16 + 1 by omega, show (y + 1) % 16 = y % 16 + 1 by omega]
  exact Iff.rfl
/-- F enumerates E in order -/
def ei_S (U : Nat → Nat → Nat) (E : Nat → Prop) (F : Nat → Nat) (N : Nat) : Prop := (∀ r, r < N → F r < 96 ∧ E (F r)) ∧ (∀ z, z < 96 → E z → ∃ r, r < N ∧ F r = z) ∧ (∀ i j, i < j → j < N → ei_lt U (F i) (F j))
theorem ei_inj {U : Nat → Nat → Nat} {E : Nat → Prop} {F : Nat → Nat} {N : Nat} (h : ei_S U E F N) {i j : Nat} (hi : i < N) (hj : j < N) (e : F i = F j) : i = j := by
  rcases Nat.lt_trichotomy i j with g | g | g
  · have k := h.2.2 i j g hj
    rw [e] at k
    exact absurd k (ei_irr U _)
  · exact g
  · have k := h.2.2 j i g hi
    rw [e] at k
    exact absurd k (ei_irr U _)
theorem ei_ltF {U : Nat → Nat → Nat} {E : Nat → Prop} {F : Nat → Nat} {N : Nat} (h : ei_S U E F N) {i j : Nat} (hi : i < N) (hj : j < N) : ei_lt U (F i) (F j) ↔ i < j := by
  constructor
  · intro k
    rcases Nat.lt_trichotomy i j with g | g | g
    · exact g
    · rw [g] at k
      exact absurd k (ei_irr U _)
    · exact absurd (ei_tr k (h.2.2 j i g hi)) (ei_irr U _)
  · exact fun k => h.2.2 i j k hj
/-- sums over the row are sums over the endings -/
theorem ei_rx {U : Nat → Nat → Nat} {E : Nat → Prop} {F : Nat → Nat} {N : Nat} (h : ei_S U E F N) (g : Nat → Nat) : ei_sm (fun r => g (F r)) N = ei_sm (fun z => ei_b (E z) * g z) 96 := by
  rw [ei_ri g F 96 N (fun i hi => (h.1 i hi).1) (fun i j a b e => by
    have k := ei_inj h (by omega) b e
    omega)]
  refine ei_sc (fun z hz => ?_)
  show ei_b (∃ r, r < N ∧ F r = z) * g z = ei_b (E z) * g z
  rw [ei_bc (p := ∃ r, r < N ∧ F r = z) (q := E z) ⟨fun k => by
    obtain ⟨r, hr, e⟩ := k
    rw [← e]
    exact (h.1 r hr).2, fun k => h.2.1 z hz k⟩]
/-- where an ending stands -/
theorem ei_ix {U : Nat → Nat → Nat} {E : Nat → Prop} {F : Nat → Nat} {N : Nat} (h : ei_S U E F N) {j : Nat} (hj : j < N) : ei_sm (fun r => ei_b (ei_lt U (F r) (F j))) N = j := by
  have k : ei_sm (fun r => ei_b (ei_lt U (F r) (F j))) N = ei_sm (fun r => ei_b (r < j)) N := ei_sc (fun r hr => ei_bc (ei_ltF h hr hj))
  rw [k, ei_slt (by omega)]
/-- where a new ending goes -/
theorem ei_jx {U : Nat → Nat → Nat} {E : Nat → Prop} {F : Nat → Nat} {N : Nat} (h : ei_S U E F N) (y : Nat) : ei_sm (fun r => ei_b (ei_lt U (F r) y)) N ≤ N ∧ ∀ r, r < N → (ei_lt U (F r) y ↔ r < ei_sm (fun r => ei_b (ei_lt U (F r) y)) N) :=
  ei_dn (fun i j a b k => ei_tr (h.2.2 i j a b) k)
theorem ei_num {U : Nat → Nat → Nat} {E : Nat → Prop} {F : Nat → Nat} {N : Nat} (h : ei_S U E F N) : N = ei_sm (fun z => ei_b (E z)) 96 := by
  have k := ei_rx h (fun _ => 1)
  have k2 : ei_sm (fun r => (fun _ => 1) (F r)) N = N := by
    have k3 : ei_sm (fun r => (fun _ => 1) (F r)) N = ei_sm (fun r => ei_b (r < N)) N := ei_sc (fun r hr => by rw [ei_bt hr])
    rw [k3, ei_slt (Nat.le_refl N)]
  rw [k2] at k
  rw [k]
  exact ei_sc (fun z _ => by rw [Nat.mul_one])
theorem ei_c60 : ei_sm (fun z => if z % 16 ≤ 9 then 1 else 0) 96 = 60 := by decide
theorem ei_n60 {U : Nat → Nat → Nat} {E : Nat → Prop} {F : Nat → Nat} {N : Nat} (h : ei_S U E F N) (hE : ∀ z, E z → z % 16 ≤ 9) : N ≤ 60 := by
  rw [ei_num h, ← ei_c60]
  refine ei_sle (fun z _ => ?_)
  by_cases e : E z
  · rw [ei_bt e, if_pos (hE z e)]; exact Nat.le_refl 1
  · rw [ei_bf e]; exact Nat.zero_le _
/-- an ending more -/
theorem ei_ins {U : Nat → Nat → Nat} {E : Nat → Prop} {F : Nat → Nat} {N : Nat} (h : ei_S U E F N) {y j : Nat} (hy : y < 96) (hE : ¬ E y) (hj : j = ei_sm (fun r => ei_b (ei_lt U (F r) y)) N) :
    ei_S U (fun z => E z ∨ z = y) (fun r => if r < j then F r else if r = j then y else F (r - 1)) (N + 1) := by
  have k := ei_jx h y
  rw [← hj] at k
  obtain ⟨k1, k2⟩ := k
  have gt : ∀ r, r < N → j ≤ r → ei_lt U y (F r) := by
    intro r hr hjr
    rcases ei_tri U y (F r) with g | g | g
    · exact g
    · exact absurd (by rw [g]; exact (h.1 r hr).2) hE
    · exact absurd ((k2 r hr).mp g) (by omega)
  refine ⟨fun r hr => ?_, fun z hz g => ?_, fun a b hab hb => ?_⟩
  · show (if r < j then F r else if r = j then y else F (r - 1)) < 96 ∧ (E (if r < j then F r else if r = j then y else F (r - 1)) ∨ (if r < j then F r else if r = j then y else F (r - 1)) = y)
    by_cases c : r < j
    · rw [if_pos c]
      exact ⟨(h.1 r (by omega)).1, Or.inl (h.1 r (by omega)).2⟩
    · rw [if_neg c]
      by_cases c2 : r = j
      · rw [if_pos c2]
        exact ⟨hy, Or.inr rfl⟩
      · rw [if_neg c2]
        exact ⟨(h.1 (r - 1) (by omega)).1, Or.inl (h.1 (r - 1) (by omega)).2⟩
  · show ∃ r, r < N + 1 ∧ (if r < j then F r else if r = j then y else F (r - 1)) = z
    rcases g with g | g
    · obtain ⟨r, hr, e⟩ := h.2.1 z hz g
      by_cases c : r < j
      · exact ⟨r, by omega, by rw [if_pos c]; exact e⟩
      · exact ⟨r + 1, by omega, by rw [if_neg (by omega), if_neg (by omega)]; exact e⟩
    · exact ⟨j, by omega, by rw [if_neg (by omega), if_pos rfl]; exact g.symm⟩
  · show ei_lt U (if a < j then F a else if a = j then y else F (a - 1)) (if b < j then F b else if b = j then y else F (b - 1))
    by_cases c : a < j
    · rw [if_pos c]
      by_cases d : b < j
      · rw [if_pos d]
        exact h.2.2 a b hab (by omega)
      · rw [if_neg d]
        by_cases d2 : b = j
        · rw [if_pos d2]
          exact (k2 a (by omega)).mpr c
        · rw [if_neg d2]
          exact h.2.2 a (b - 1) (by omega) (by omega)
    · rw [if_neg c, if_neg (show ¬ b < j by omega), if_neg (show ¬ b = j by omega)]
      by_cases c2 : a = j
      · rw [if_pos c2]
        exact gt (b - 1) (by omega) (by omega)
      · rw [if_neg c2]
        exact h.2.2 (a - 1) (b - 1) (by omega) (by omega)
/-- an ending less -/
theorem ei_del {U : Nat → Nat → Nat} {E : Nat → Prop} {F : Nat → Nat} {N : Nat} (h : ei_S U E F (N + 1)) {p : Nat} (hp : p < N + 1) :
    ei_S U (fun z => E z ∧ z ≠ F p) (fun r => if r < p then F r else F (r + 1)) N := by
  refine ⟨fun r hr => ?_, fun z hz g => ?_, fun a b hab hb => ?_⟩
  · show (if r < p then F r else F (r + 1)) < 96 ∧ (E (if r < p then F r else F (r + 1)) ∧ (if r < p then F r else F (r + 1)) ≠ F p)
    by_cases c : r < p
    · rw [if_pos c]
      exact ⟨(h.1 r (by omega)).1, (h.1 r (by omega)).2, fun e => by have := ei_inj h (by omega) hp e; omega⟩
    · rw [if_neg c]
      exact ⟨(h.1 (r + 1) (by omega)).1, (h.1 (r + 1) (by omega)).2, fun e => by have := ei_inj h (by omega) hp e; omega⟩
  · show ∃ r, r < N ∧ (if r < p then F r else F (r + 1)) = z
    obtain ⟨r, hr, e⟩ := h.2.1 z hz g.1
    have c0 : r ≠ p := fun c => g.2 (by rw [← c]; exact e.symm)
    by_cases c : r < p
    · exact ⟨r, by omega, by rw [if_pos c]; exact e⟩
    · exact ⟨r - 1, by omega, by rw [if_neg (by omega), show r - 1 + 1 = r by omega]; exact e⟩
  · show ei_lt U (if a < p then F a else F (a + 1)) (if b < p then F b else F (b + 1))
    by_cases c : a < p
    · rw [if_pos c]
      by_cases d : b < p
      · rw [if_pos d]
        exact h.2.2 a b hab (by omega)
      · rw [if_neg d]
        exact h.2.2 a (b + 1) (by omega) (by omega)
    · rw [if_neg c, if_neg (show ¬ b < p by omega)]
      exact h.2.2 (a + 1) (b + 1) (by omega) (by omega)
/-- the enumeration looks at the letters of what it enumerates alone -/
theorem ei_Scg {U V : Nat → Nat → Nat} {E G : Nat → Prop} {F : Nat → Nat} {N : Nat} (h : ei_S U E F N) (hE : ∀ z, z < 96 → (E z ↔ G z)) (hV : ∀ z, z < 96 → E z → ∀ k, k < z % 16 → V (z / 16) k = U (z / 16) k) : ei_S V G F N := by
  refine ⟨fun r hr => ⟨(h.1 r hr).1, (hE _ (h.1 r hr).1).mp (h.1 r hr).2⟩, fun z hz g => h.2.1 z hz ((hE z hz).mpr g), fun i j hij hj => ?_⟩
  exact ei_lt_cg (hV _ (h.1 i (by omega)).1 (h.1 i (by omega)).2) (hV _ (h.1 j hj).1 (h.1 j hj).2) (h.2.2 i j hij hj)
/-- there is one enumeration -/
theorem ei_uniq {U : Nat → Nat → Nat} {E : Nat → Prop} {F G : Nat → Nat} {N M : Nat} (h : ei_S U E F N) (g : ei_S U E G M) : M = N ∧ ∀ r, r < N → G r = F r := by
  have e : M = N := by rw [ei_num h, ei_num g]
  refine ⟨e, fun r hr => ?_⟩
  obtain ⟨q, hq, eq⟩ := g.2.1 (F r) (h.1 r hr).1 (h.1 r hr).2
  have k1 := ei_ix h hr
  have k2 := ei_ix g hq
  rw [ei_rx h (fun z => ei_b (ei_lt U z (F r)))] at k1
  rw [ei_rx g (fun z => ei_b (ei_lt U z (G q))), eq] at k2
  have k3 : q = r := by rw [← k1, ← k2]
  rw [← k3]
  rw [k3] at eq
  rw [k3]
  exact eq
end
section
/-! the endings of the texts: len s letters in slot s (0: no text), U s m the m-th letter from its end -/
def ei_E (len : Nat → Nat) (z : Nat) : Prop := 0 < len (z / 16) ∧ z % 16 ≤ len (z / 16)
/-- what the row says of an ending -/
def ei_bl (U : Nat → Nat → Nat) (len : Nat → Nat) (z : Nat) : Nat := if z % 16 = len (z / 16) then 4 + z / 16 else U (z / 16) (z % 16)
def ei_T (U : Nat → Nat → Nat) (len : Nat → Nat) : Prop := (∀ s, s < 6 → len s ≤ 9) ∧ (∀ s m, s < 6 → m < len s → U s m < 4)
/-- how many texts stand in the slots below s -/
noncomputable def ei_tx (len : Nat → Nat) (s : Nat) : Nat := ei_sm (fun t => ei_b (0 < len t)) s
theorem ei_bl_lt {U : Nat → Nat → Nat} {len : Nat → Nat} {z : Nat} (h : z % 16 < len (z / 16)) : ei_bl U len z = U (z / 16) (z % 16) := by
  unfold ei_bl
  exact if_neg (by omega)
theorem ei_bl_eq {U : Nat → Nat → Nat} {len : Nat → Nat} {z : Nat} (h : z % 16 = len (z / 16)) : ei_bl U len z = 4 + z / 16 := by
  unfold ei_bl
  exact if_pos h
theorem ei_smn {f : Nat → Nat} {a b : Nat} (h : a ≤ b) : ei_sm f a ≤ ei_sm f b := by
  have e : b = a + (b - a) := by omega
  rw [e, ei_spl]
  omega
theorem ei_tx6 (len : Nat → Nat) {s : Nat} (h : s ≤ 6) : ei_tx len s ≤ s := by
  unfold ei_tx
  have k : ei_sm (fun t => ei_b (0 < len t)) s ≤ ei_sm (fun t => ei_b (t < s)) s := ei_sle (fun t ht => by
    rw [ei_bt ht]
    exact ei_ble _)
  rw [ei_slt (Nat.le_refl s)] at k
  exact k
/-- the count that tells the rank of the next longer ending -/
theorem ei_stp {U : Nat → Nat → Nat} {len : Nat → Nat} {E : Nat → Prop} {F : Nat → Nat} {N p x : Nat} (hT : ei_T U len) (h : ei_S U E F N) (hp : p < N) (hx : F p = x)
    (hm : x % 16 < len (x / 16)) (c1 : ∀ z, z < 96 → E z → z % 16 ≤ len (z / 16)) (c2 : ∀ z, z < 96 → E z → z % 16 < len (z / 16) → E (z + 1) ∨ z = x)
    (c3 : ∀ z, z < 96 → E (z + 1) → 0 < (z + 1) % 16 → E z) (c4 : ∀ t, t < 6 → (0 < len t ↔ E (16 * t))) :
    ei_tx len 6 + ei_sm (fun r => ei_b (ei_bl U len (F r) < U (x / 16) (x % 16))) N + ei_sm (fun r => ei_b (ei_bl U len (F r) = U (x / 16) (x % 16))) p = ei_sm (fun r => ei_b (ei_lt U (F r) (x + 1))) N := by
  have hx96 : x < 96 := by rw [← hx]; exact (h.1 p hp).1
  have hl9 : ∀ z, z < 96 → len (z / 16) ≤ 9 := fun z hz => hT.1 _ (by omega)
  have hc : U (x / 16) (x % 16) < 4 := hT.2 _ _ (by omega) hm
  have hx15 : x % 16 < 15 := by have := hl9 x hx96; omega
  have e1 : ei_sm (fun r => ei_b (ei_bl U len (F r) = U (x / 16) (x % 16))) p = ei_sm (fun r => ei_b (ei_bl U len (F r) = U (x / 16) (x % 16) ∧ ei_lt U (F r) x)) N := by
    rw [ei_scut _ (show p ≤ N by omega)]
    refine ei_sc (fun r hr => ?_)
    rw [ei_band]
    refine ei_bc ?_
    rw [← hx, ei_ltF h hr hp]
    exact ⟨fun k => ⟨k.2, k.1⟩, fun k => ⟨k.2, k.1⟩⟩
  rw [e1, Nat.add_assoc, ← ei_sadd, ei_rx h (fun z => ei_b (ei_bl U len z < U (x / 16) (x % 16)) + ei_b (ei_bl U len z = U (x / 16) (x % 16) ∧ ei_lt U z x)), ei_rx h (fun z => ei_b (ei_lt U z (x + 1)))]
  have e2 : ei_sm (fun z => ei_b (E z) * ei_b (ei_lt U z (x + 1))) 96 = ei_sm (fun z => ei_b (E z ∧ z % 16 = 0)) 96 + ei_sm (fun z => ei_b (E z ∧ 0 < z % 16 ∧ ei_lt U z (x + 1))) 96 := by
    rw [← ei_sadd]
    refine ei_sc (fun z _ => ?_)
    rw [ei_band]
    by_cases g : z % 16 = 0
    · rw [ei_bf (p := E z ∧ 0 < z % 16 ∧ ei_lt U z (x + 1)) (fun k => by omega), Nat.add_zero]
      exact ei_bc ⟨fun k => ⟨k.1, g⟩, fun k => ⟨k.1, ei_lt_0s g (by omega)⟩⟩
    · rw [ei_bf (p := E z ∧ z % 16 = 0) (fun k => g k.2), Nat.zero_add]
      exact ei_bc ⟨fun k => ⟨k.1, by omega, k.2⟩, fun k => ⟨k.1, k.2.2⟩⟩
  have e3 : ei_sm (fun z => ei_b (E z ∧ z % 16 = 0)) 96 = ei_tx len 6 := by
    rw [show (96 : Nat) = 16 * 6 from rfl, ei_s96]
    unfold ei_tx
    refine ei_sc (fun t ht => ?_)
    rw [ei_s1 (a := 0) (by omega) (fun i hi hne => ei_bf (fun k => by omega))]
    refine ei_bc ?_
    rw [c4 t ht]
    exact ⟨fun k => k.1, fun k => ⟨k, by omega⟩⟩
  have e4 : ei_sm (fun z => ei_b (E z ∧ 0 < z % 16 ∧ ei_lt U z (x + 1))) 96 = ei_sm (fun z => ei_b (E (z + 1) ∧ 0 < (z + 1) % 16 ∧ ei_lt U (z + 1) (x + 1))) 96 := by
    have k := ei_sh (fun z => ei_b (E z ∧ 0 < z % 16 ∧ ei_lt U z (x + 1))) 96
    rw [ei_ss] at k
    have k1 : ei_b (E 96 ∧ 0 < 96 % 16 ∧ ei_lt U 96 (x + 1)) = 0 := ei_bf (fun k => by omega)
    have k2 : ei_b (E 0 ∧ 0 < 0 % 16 ∧ ei_lt U 0 (x + 1)) = 0 := ei_bf (fun k => by omega)
    rw [k1, k2] at k
    omega
  rw [e2, e3, e4]
  refine congrArg (fun v => ei_tx len 6 + v) (ei_sc (fun z hz => ?_))
  show ei_b (E z) * (ei_b (ei_bl U len z < U (x / 16) (x % 16)) + ei_b (ei_bl U len z = U (x / 16) (x % 16) ∧ ei_lt U z x)) = ei_b (E (z + 1) ∧ 0 < (z + 1) % 16 ∧ ei_lt U (z + 1) (x + 1))
  by_cases g : E z
  · rw [ei_bt g, Nat.one_mul]
    have g9 := hl9 z hz
    by_cases g2 : z % 16 < len (z / 16)
    · rw [ei_bl_lt g2, ei_bc (p := E (z + 1) ∧ 0 < (z + 1) % 16 ∧ ei_lt U (z + 1) (x + 1)) (q := U (z / 16) (z % 16) < U (x / 16) (x % 16) ∨ (U (z / 16) (z % 16) = U (x / 16) (x % 16) ∧ ei_lt U z x)) (by
        rw [ei_lt_ss (show z % 16 < 15 by omega) hx15]
        constructor
        · exact fun k => k.2.2
        · intro k
          refine ⟨?_, by omega, k⟩
          rcases c2 z hz g g2 with q | q
          · exact q
          · rw [q] at k
            rcases k with k | k
            · exact absurd k (Nat.lt_irrefl _)
            · exact absurd k.2 (ei_irr U x))]
      by_cases g3 : U (z / 16) (z % 16) < U (x / 16) (x % 16)
      · rw [ei_bt g3, ei_bf (p := U (z / 16) (z % 16) = U (x / 16) (x % 16) ∧ ei_lt U z x) (fun k => by omega), ei_bt (Or.inl g3)]
      · rw [ei_bf g3, Nat.zero_add]
        exact ei_bc ⟨fun k => Or.inr k, fun k => by
          rcases k with k | k
          · exact absurd k g3
          · exact k⟩
    · have g4 := c1 z hz g
      rw [ei_bl_eq (show z % 16 = len (z / 16) by omega), ei_bf (show ¬ (4 + z / 16 < U (x / 16) (x % 16)) by omega), ei_bf (p := 4 + z / 16 = U (x / 16) (x % 16) ∧ ei_lt U z x) (fun k => by omega), ei_bf (p := E (z + 1) ∧ 0 < (z + 1) % 16 ∧ ei_lt U (z + 1) (x + 1)) (fun k => by
        by_cases g5 : z + 1 < 96
        · have g6 := c1 (z + 1) g5 k.1
          rw [show (z + 1) / 16 = z / 16 by omega] at g6
          omega
        · omega)]
  · rw [ei_bf g, Nat.zero_mul, ei_bf (fun k => g (c3 z hz k.1 k.2.1))]
/-- the rank of an empty ending -/
theorem ei_slb {U : Nat → Nat → Nat} {len : Nat → Nat} {E : Nat → Prop} {F : Nat → Nat} {N s : Nat} (h : ei_S U E F N) (hs : s < 6) (c4 : ∀ t, t < s → (0 < len t ↔ E (16 * t))) :
    ei_tx len s = ei_sm (fun r => ei_b (ei_lt U (F r) (16 * s))) N := by
  rw [ei_rx h (fun z => ei_b (ei_lt U z (16 * s))), show (96 : Nat) = 16 * 6 from rfl, ei_s96]
  unfold ei_tx
  rw [ei_scut _ (show s ≤ 6 by omega)]
  refine ei_sc (fun t ht => ?_)
  rw [ei_s1 (a := 0) (by omega) (fun i hi hne => by rw [ei_bf (ei_lt_s0 (by omega) (by omega)), Nat.mul_zero])]
  show ei_b (t < s) * ei_b (0 < len t) = ei_b (E (16 * t + 0)) * ei_b (ei_lt U (16 * t + 0) (16 * s))
  rw [ei_band, ei_band]
  refine ei_bc ?_
  rw [ei_lt_00 (show (16 * t + 0) % 16 = 0 by omega) (show 16 * s % 16 = 0 by omega), show (16 * t + 0) / 16 = t by omega, show 16 * s / 16 = s by omega]
  constructor
  · exact fun k => ⟨(c4 t k.1).mp k.2, k.1⟩
  · exact fun k => ⟨k.2, (c4 t k.2).mpr k.1⟩
/-- the same over whole texts -/
theorem ei_slbC {U : Nat → Nat → Nat} {len : Nat → Nat} {F : Nat → Nat} {N s q : Nat} (h : ei_S U (ei_E len) F N) (hs : s < 6) (hq : q < N) (e : F q = 16 * s) : ei_tx len s = q := by
  rw [ei_slb h hs (fun t ht => by
    unfold ei_E
    rw [show 16 * t / 16 = t by omega]
    exact ⟨fun k => ⟨k, by omega⟩, fun k => k.1⟩), ← e]
  exact ei_ix h hq
theorem ei_stpC {U : Nat → Nat → Nat} {len : Nat → Nat} {F : Nat → Nat} {N p q : Nat} (hT : ei_T U len) (h : ei_S U (ei_E len) F N) (hp : p < N) (hq : q < N) (e : F q = F p + 1) (hm : F p % 16 < len (F p / 16)) :
    ei_tx len 6 + ei_sm (fun r => ei_b (ei_bl U len (F r) < U (F p / 16) (F p % 16))) N + ei_sm (fun r => ei_b (ei_bl U len (F r) = U (F p / 16) (F p % 16))) p = q := by
  have hl9 : ∀ z, z < 96 → len (z / 16) ≤ 9 := fun z hz => hT.1 _ (by omega)
  rw [ei_stp hT h hp rfl hm (fun z _ k => k.2) (fun z hz k g => Or.inl (by
    have k9 := hl9 z hz
    refine ⟨?_, ?_⟩
    · rw [show (z + 1) / 16 = z / 16 by omega]
      exact k.1
    · rw [show (z + 1) / 16 = z / 16 by omega]
      omega)) (fun z hz k g => by
    refine ⟨?_, ?_⟩
    · have k1 := k.1
      rw [show (z + 1) / 16 = z / 16 by omega] at k1
      exact k1
    · have k2 := k.2
      rw [show (z + 1) / 16 = z / 16 by omega] at k2
      omega) (fun t _ => by
    unfold ei_E
    rw [show 16 * t / 16 = t by omega]
    exact ⟨fun k => ⟨k, by omega⟩, fun k => k.1⟩), ← e]
  exact ei_ix h hq
/-- the next longer ending, the next shorter one -/
theorem ei_up {U : Nat → Nat → Nat} {len : Nat → Nat} {F : Nat → Nat} {N p : Nat} (hT : ei_T U len) (h : ei_S U (ei_E len) F N) (hp : p < N) (hm : F p % 16 < len (F p / 16)) : ∃ q, q < N ∧ F q = F p + 1 := by
  have k := h.1 p hp
  have k9 := hT.1 (F p / 16) (by omega)
  refine h.2.1 (F p + 1) (by omega) ⟨?_, ?_⟩
  · rw [show (F p + 1) / 16 = F p / 16 by omega]
    exact k.2.1
  · rw [show (F p + 1) / 16 = F p / 16 by omega]
    omega
theorem ei_dw {U : Nat → Nat → Nat} {len : Nat → Nat} {F : Nat → Nat} {N p : Nat} (h : ei_S U (ei_E len) F N) (hp : p < N) (hm : 0 < F p % 16) : ∃ q, q < N ∧ F p = F q + 1 := by
  have k := h.1 p hp
  have k2 := k.2.2
  have k1 := k.2.1
  obtain ⟨q, hq, e⟩ := h.2.1 (F p - 1) (by omega) ⟨by
    rw [show (F p - 1) / 16 = F p / 16 by omega]
    exact k1, by
    rw [show (F p - 1) / 16 = F p / 16 by omega]
    omega⟩
  exact ⟨q, hq, by omega⟩
theorem ei_at {U : Nat → Nat → Nat} {len : Nat → Nat} {F : Nat → Nat} {N s m : Nat} (h : ei_S U (ei_E len) F N) (hT : ei_T U len) (hs : s < 6) (h0 : 0 < len s) (hm : m ≤ len s) : ∃ q, q < N ∧ F q = 16 * s + m := by
  have k9 := hT.1 s hs
  refine h.2.1 (16 * s + m) (by omega) ⟨?_, ?_⟩
  · rw [show (16 * s + m) / 16 = s by omega]
    exact h0
  · rw [show (16 * s + m) / 16 = s by omega]
    omega
/-- slot s has the endings of the lengths in K, the others all theirs -/
def ei_G (len : Nat → Nat) (s : Nat) (K : Nat → Prop) (z : Nat) : Prop := (z / 16 = s → K (z % 16)) ∧ (z / 16 ≠ s → ei_E len z)
/-- the rank of the next ending while a text is put in -/
theorem ei_stpG {U : Nat → Nat → Nat} {len : Nat → Nat} {F : Nat → Nat} {N p s k : Nat} (hT : ei_T U len) (hs : s < 6) (hk : k < len s) (h : ei_S U (ei_G len s (fun m => m < k + 1)) F N) (hp : p < N) (e : F p = 16 * s + k) :
    ei_tx len 6 + ei_sm (fun r => ei_b (ei_bl U len (F r) < U s k)) N + ei_sm (fun r => ei_b (ei_bl U len (F r) = U s k)) p = ei_sm (fun r => ei_b (ei_lt U (F r) (16 * s + (k + 1)))) N := by
  have hl9 : ∀ z, z < 96 → len (z / 16) ≤ 9 := fun z hz => hT.1 _ (by omega)
  have k9 := hT.1 s hs
  have d1 : (16 * s + k) / 16 = s := by omega
  have d2 : (16 * s + k) % 16 = k := by omega
  have R := ei_stp hT h hp e (by rw [d1, d2]; exact hk) (fun z hz g => by
    by_cases c : z / 16 = s
    · have := g.1 c
      rw [c]
      omega
    · exact (g.2 c).2) (fun z hz g g2 => by
    have z9 := hl9 z hz
    have q1 : (z + 1) / 16 = z / 16 := by omega
    have q2 : (z + 1) % 16 = z % 16 + 1 := by omega
    by_cases c : z / 16 = s
    · have g3 := g.1 c
      by_cases c2 : z % 16 = k
      · exact Or.inr (by omega)
      · refine Or.inl ⟨fun _ => ?_, fun c3 => absurd (by rw [q1]; exact c) c3⟩
        rw [q2]
        show z % 16 + 1 < k + 1
        have g4 : z % 16 < k + 1 := g3
        omega
    · refine Or.inl ⟨fun c3 => absurd (by rw [← q1]; exact c3) c, fun _ => ⟨?_, ?_⟩⟩
      · rw [q1]
        exact (g.2 c).1
      · rw [q1, q2]
        exact g2) (fun z hz g g2 => by
    have q1 : (z + 1) / 16 = z / 16 := by omega
    have q2 : (z + 1) % 16 = z % 16 + 1 := by omega
    refine ⟨fun c => ?_, fun c => ⟨?_, ?_⟩⟩
    · have g3 : (z + 1) % 16 < k + 1 := g.1 (by rw [q1]; exact c)
      show z % 16 < k + 1
      omega
    · have g3 := (g.2 (by rw [q1]; exact c)).1
      rw [q1] at g3
      exact g3
    · have g3 := (g.2 (by rw [q1]; exact c)).2
      rw [q1] at g3
      omega) (fun t ht => by
    have q1 : 16 * t / 16 = t := by omega
    have q2 : 16 * t % 16 = 0 := by omega
    unfold ei_G ei_E
    rw [q1, q2]
    by_cases c : t = s
    · exact ⟨fun _ => ⟨fun _ => by omega, fun z => absurd c z⟩, fun _ => by rw [c]; omega⟩
    · exact ⟨fun g => ⟨fun z => absurd z c, fun _ => ⟨g, by omega⟩⟩, fun g => (g.2 c).1⟩)
  rw [d1, d2] at R
  exact R
end
section
/-! patterns: w letters Q 0 (the last one), Q 1, .. ; which endings begin with them; the ranges of the backward search -/
def ei_pr (U : Nat → Nat → Nat) (Q : Nat → Nat) (w z : Nat) : Prop := w ≤ z % 16 ∧ ∀ i, i < w → U (z / 16) (z % 16 - w + i) = Q i
theorem ei_pr0 (U : Nat → Nat → Nat) (Q : Nat → Nat) (z : Nat) : ei_pr U Q 0 z := ⟨Nat.zero_le _, fun i hi => absurd hi (by omega)⟩
theorem ei_prs {U : Nat → Nat → Nat} {Q : Nat → Nat} {w z : Nat} (hz : z % 16 < 15) : ei_pr U Q (w + 1) (z + 1) ↔ (U (z / 16) (z % 16) = Q w ∧ ei_pr U Q w z) := by
  have q1 : (z + 1) / 16 = z / 16 := by omega
  have q2 : (z + 1) % 16 = z % 16 + 1 := by omega
  unfold ei_pr
  rw [q1, q2]
  constructor
  · intro h
    have h1 := h.1
    refine ⟨?_, by omega, fun i hi => ?_⟩
    · have k := h.2 w (by omega)
      rw [show z % 16 + 1 - (w + 1) + w = z % 16 by omega] at k
      exact k
    · have k := h.2 i (by omega)
      rw [show z % 16 + 1 - (w + 1) + i = z % 16 - w + i by omega] at k
      exact k
  · intro h
    have h1 := h.2.1
    refine ⟨by omega, fun i hi => ?_⟩
    by_cases c : i = w
    · rw [c, show z % 16 + 1 - (w + 1) + w = z % 16 by omega]
      exact h.1
    · rw [show z % 16 + 1 - (w + 1) + i = z % 16 - w + i by omega]
      exact h.2.2 i (by omega)
theorem ei_prdn {U : Nat → Nat → Nat} {Q : Nat → Nat} {w i z : Nat} (hi : i ≤ w) (h : ei_pr U Q w z) : ei_pr U Q i (z - (w - i)) := by
  have h1 := h.1
  have q1 : (z - (w - i)) / 16 = z / 16 := by omega
  have q2 : (z - (w - i)) % 16 = z % 16 - (w - i) := by omega
  unfold ei_pr
  rw [q1, q2]
  refine ⟨by omega, fun k hk => ?_⟩
  have g := h.2 k (by omega)
  rw [show z % 16 - (w - i) - i + k = z % 16 - w + k by omega]
  exact g
theorem ei_prcg {U : Nat → Nat → Nat} {Q R : Nat → Nat} {w z : Nat} (e : ∀ i, i < w → R i = Q i) : ei_pr U Q w z ↔ ei_pr U R w z := by
  unfold ei_pr
  exact ⟨fun h => ⟨h.1, fun i hi => by rw [e i hi]; exact h.2 i hi⟩, fun h => ⟨h.1, fun i hi => by rw [← e i hi]; exact h.2 i hi⟩⟩
/-- the q-th place at which P holds -/
theorem ei_nth {P : Nat → Prop} {q : Nat} : ∀ {n : Nat}, q < ei_sm (fun r => ei_b (P r)) n → ∃ p, p < n ∧ P p ∧ ei_sm (fun r => ei_b (P r)) p = q := by
  intro n
  induction n with
  | zero => exact fun h => absurd h (Nat.not_lt_zero q)
  | succ n ih =>
    intro h
    by_cases c : q < ei_sm (fun r => ei_b (P r)) n
    · obtain ⟨p, h1, h2, h3⟩ := ih c
      exact ⟨p, by omega, h2, h3⟩
    · rw [ei_ss] at h
      by_cases g : P n
      · rw [ei_bt g] at h
        exact ⟨n, by omega, g, by omega⟩
      · rw [ei_bf g] at h
        exact absurd h (by omega)
/-- as many texts as whole endings; so the ranks of endings with a letter before them find room -/
theorem ei_full {U : Nat → Nat → Nat} {len : Nat → Nat} {F : Nat → Nat} {N : Nat} (hT : ei_T U len) (h : ei_S U (ei_E len) F N) : ei_tx len 6 + ei_sm (fun r => ei_b (ei_bl U len (F r) < 4)) N = N := by
  have e1 : ei_sm (fun r => ei_b (¬ ei_bl U len (F r) < 4)) N = ei_tx len 6 := by
    rw [ei_rx h (fun z => ei_b (¬ ei_bl U len z < 4)), show (96 : Nat) = 16 * 6 from rfl, ei_s96]
    unfold ei_tx
    refine ei_sc (fun t ht => ?_)
    have h9 := hT.1 t ht
    by_cases c : 0 < len t
    · rw [ei_s1 (a := len t) (by omega) (fun m hm hne => by
        rw [ei_band]
        refine ei_bf (fun k => k.2 ?_)
        have q1 : (16 * t + m) / 16 = t := by omega
        have q2 : (16 * t + m) % 16 = m := by omega
        have k1 := k.1.2
        rw [q1, q2] at k1
        rw [ei_bl_lt (by rw [q1, q2]; omega), q1, q2]
        exact hT.2 t m ht (by omega))]
      have q1 : (16 * t + len t) / 16 = t := by omega
      have q2 : (16 * t + len t) % 16 = len t := by omega
      rw [ei_band, ei_bt c, ei_bt ⟨⟨by rw [q1]; exact c, by rw [q1, q2]; exact Nat.le_refl _⟩, by
        rw [ei_bl_eq (by rw [q1, q2]), q1]
        omega⟩]
    · rw [ei_bf c]
      refine ei_s0 (fun m hm => ?_)
      rw [ei_band]
      refine ei_bf (fun k => c ?_)
      have k1 := k.1.1
      rw [show (16 * t + m) / 16 = t by omega] at k1
      exact k1
  rw [← e1, ← ei_sadd]
  have e2 : ei_sm (fun r => ei_b (¬ ei_bl U len (F r) < 4) + ei_b (ei_bl U len (F r) < 4)) N = ei_sm (fun r => ei_b (r < N)) N := ei_sc (fun r hr => by
    rw [ei_bt hr]
    by_cases c : ei_bl U len (F r) < 4
    · rw [ei_bt c, ei_bf (fun k => k c)]
    · rw [ei_bf c, ei_bt c])
  rw [e2, ei_slt (Nat.le_refl N)]
/-- the ranks from lo to hi are those of the endings that begin with the pattern -/
def ei_ra (U : Nat → Nat → Nat) (F : Nat → Nat) (N : Nat) (Q : Nat → Nat) (w lo hi : Nat) : Prop := lo ≤ hi ∧ hi ≤ N ∧ ∀ r, r < N → ((lo ≤ r ∧ r < hi) ↔ ei_pr U Q w (F r))
theorem ei_ra0 (U : Nat → Nat → Nat) (F : Nat → Nat) (N : Nat) (Q : Nat → Nat) : ei_ra U F N Q 0 0 N := ⟨Nat.zero_le _, Nat.le_refl _, fun r hr => ⟨fun _ => ei_pr0 U Q _, fun _ => ⟨Nat.zero_le _, hr⟩⟩⟩
/-- one letter more in front -/
theorem ei_ras {U : Nat → Nat → Nat} {len : Nat → Nat} {F : Nat → Nat} {N : Nat} {Q : Nat → Nat} {w lo hi : Nat} (hT : ei_T U len) (h : ei_S U (ei_E len) F N) (hr : ei_ra U F N Q w lo hi) (hc : Q w < 4) :
    ei_ra U F N Q (w + 1) (ei_tx len 6 + ei_sm (fun r => ei_b (ei_bl U len (F r) < Q w)) N + ei_sm (fun r => ei_b (ei_bl U len (F r) = Q w)) lo) (ei_tx len 6 + ei_sm (fun r => ei_b (ei_bl U len (F r) < Q w)) N + ei_sm (fun r => ei_b (ei_bl U len (F r) = Q w)) hi) := by
  obtain ⟨r1, r2, r3⟩ := hr
  have cut : ∀ p, p < N → ei_bl U len (F p) = Q w → F p % 16 < len (F p / 16) ∧ U (F p / 16) (F p % 16) = Q w := by
    intro p hp e
    by_cases c : F p % 16 = len (F p / 16)
    · rw [ei_bl_eq c] at e
      omega
    · have k := (h.1 p hp).2.2
      have k2 : F p % 16 < len (F p / 16) := by omega
      rw [ei_bl_lt k2] at e
      exact ⟨k2, e⟩
  refine ⟨?_, ?_, fun r hrN => ⟨fun g => ?_, fun g => ?_⟩⟩
  · have := ei_smn (f := fun r => ei_b (ei_bl U len (F r) = Q w)) r1
    omega
  · have k1 := ei_smn (f := fun r => ei_b (ei_bl U len (F r) = Q w)) r2
    have k2 := ei_full hT h
    have k3 : ei_sm (fun r => ei_b (ei_bl U len (F r) < Q w) + ei_b (ei_bl U len (F r) = Q w)) N ≤ ei_sm (fun r => ei_b (ei_bl U len (F r) < 4)) N := by
      refine ei_sle (fun r _ => ?_)
      by_cases c1 : ei_bl U len (F r) < Q w
      · rw [ei_bt c1, ei_bf (show ¬ ei_bl U len (F r) = Q w by omega), ei_bt (show ei_bl U len (F r) < 4 by omega)]
        exact Nat.le_refl 1
      · rw [ei_bf c1, Nat.zero_add]
        by_cases c2 : ei_bl U len (F r) = Q w
        · rw [ei_bt c2, ei_bt (show ei_bl U len (F r) < 4 by omega)]
          exact Nat.le_refl 1
        · rw [ei_bf c2]
          exact Nat.zero_le _
    rw [ei_sadd] at k3
    omega
  · obtain ⟨g1, g2⟩ := g
    obtain ⟨p, p1, p2, p3⟩ := ei_nth (P := fun r => ei_bl U len (F r) = Q w) (q := r - (ei_tx len 6 + ei_sm (fun r => ei_b (ei_bl U len (F r) < Q w)) N)) (n := hi) (by omega)
    have pN : p < N := by omega
    obtain ⟨m1, m2⟩ := cut p pN p2
    obtain ⟨q, hq, e⟩ := ei_up hT h pN m1
    have k := ei_stpC hT h pN hq e m1
    rw [m2] at k
    have k2 : q = r := by omega
    have plo : lo ≤ p := by
      rcases Nat.lt_or_ge p lo with z | z
      · have z1 := ei_smn (f := fun r => ei_b (ei_bl U len (F r) = Q w)) (show p + 1 ≤ lo by omega)
        rw [ei_ss] at z1
        have z2 : ei_b (ei_bl U len (F p) = Q w) = 1 := ei_bt p2
        omega
      · exact z
    have f9 := hT.1 (F p / 16) (by have := (h.1 p pN).1; omega)
    rw [← k2, e, ei_prs (by omega)]
    exact ⟨m2, (r3 p pN).mp ⟨plo, p1⟩⟩
  · have g0 : 0 < F r % 16 := by have := g.1; omega
    obtain ⟨p, pN, e⟩ := ei_dw h hrN g0
    have kE := (h.1 r hrN).2.2
    have f9 := hT.1 (F r / 16) (by have := (h.1 r hrN).1; omega)
    rw [e] at g0 kE f9
    have q1 : (F p + 1) / 16 = F p / 16 := by omega
    rw [q1] at kE f9
    have m1 : F p % 16 < len (F p / 16) := by omega
    rw [e, ei_prs (by omega)] at g
    have k := ei_stpC hT h pN hrN e m1
    rw [g.1] at k
    obtain ⟨plo, phi⟩ := (r3 p pN).mpr g.2
    have z1 := ei_smn (f := fun r => ei_b (ei_bl U len (F r) = Q w)) plo
    have z2 := ei_smn (f := fun r => ei_b (ei_bl U len (F r) = Q w)) (show p + 1 ≤ hi by omega)
    rw [ei_ss] at z2
    have z3 : ei_b (ei_bl U len (F p) = Q w) = 1 := ei_bt (by rw [ei_bl_lt m1]; exact g.1)
    omega
/-- how many endings begin with the pattern -/
noncomputable def ei_cn (U : Nat → Nat → Nat) (F : Nat → Nat) (N : Nat) (Q : Nat → Nat) (w : Nat) : Nat := ei_sm (fun r => ei_b (ei_pr U Q w (F r))) N
theorem ei_sint {lo hi N : Nat} (h1 : lo ≤ hi) (h2 : hi ≤ N) : ei_sm (fun r => ei_b (lo ≤ r ∧ r < hi)) N = hi - lo := by
  have e : ei_sm (fun r => ei_b (lo ≤ r ∧ r < hi) + ei_b (r < lo)) N = ei_sm (fun r => ei_b (r < hi)) N := ei_sc (fun r _ => by
    by_cases c : r < lo
    · rw [ei_bt c, ei_bf (p := lo ≤ r ∧ r < hi) (fun k => by omega), ei_bt (show r < hi by omega)]
    · rw [ei_bf c, Nat.add_zero]
      exact ei_bc ⟨fun k => k.2, fun k => ⟨by omega, k⟩⟩)
  rw [ei_sadd, ei_slt h2, ei_slt (by omega)] at e
  omega
theorem ei_racn {U : Nat → Nat → Nat} {F : Nat → Nat} {N : Nat} {Q : Nat → Nat} {w lo hi : Nat} (h : ei_ra U F N Q w lo hi) : ei_cn U F N Q w = hi - lo := by
  unfold ei_cn
  rw [← ei_sint h.1 h.2.1]
  exact ei_sc (fun r hr => ei_bc (h.2.2 r hr).symm)
/-- a range that is empty stays so -/
theorem ei_raE {U : Nat → Nat → Nat} {len : Nat → Nat} {F : Nat → Nat} {N : Nat} {Q : Nat → Nat} {i w lo hi : Nat} (h : ei_S U (ei_E len) F N) (hr : ei_ra U F N Q i lo hi) (hi' : i ≤ w) (he : hi ≤ lo) : ei_cn U F N Q w = 0 := by
  unfold ei_cn
  refine ei_s0 (fun r hrN => ei_bf (fun g => ?_))
  have g1 := g.1
  have k := (h.1 r hrN).2
  have kz := (h.1 r hrN).1
  obtain ⟨q, hq, e⟩ := h.2.1 (F r - (w - i)) (by omega) ⟨by
    rw [show (F r - (w - i)) / 16 = F r / 16 by omega]
    exact k.1, by
    have k2 := k.2
    rw [show (F r - (w - i)) / 16 = F r / 16 by omega]
    omega⟩
  have g2 := ei_prdn hi' g
  rw [← e] at g2
  have g3 := (hr.2.2 q hq).mpr g2
  omega
/-- a range that isn't empty is the only one -/
theorem ei_raU {U : Nat → Nat → Nat} {F : Nat → Nat} {N : Nat} {Q : Nat → Nat} {w lo hi lo' hi' : Nat} (h : ei_ra U F N Q w lo hi) (g : ei_ra U F N Q w lo' hi') (ne : lo < hi) : lo' = lo ∧ hi' = hi := by
  have e1 := ei_racn h
  have e2 := ei_racn g
  obtain ⟨h1, h2, h3⟩ := h
  obtain ⟨g1, g2, g3⟩ := g
  have a1 := (g3 lo (by omega)).mpr ((h3 lo (by omega)).mp ⟨Nat.le_refl _, ne⟩)
  have a2 := (h3 lo' (by omega)).mpr ((g3 lo' (by omega)).mp ⟨Nat.le_refl _, by omega⟩)
  omega
theorem ei_cncg {U : Nat → Nat → Nat} {F : Nat → Nat} {N : Nat} {Q R : Nat → Nat} {w : Nat} (e : ∀ i, i < w → R i = Q i) : ei_cn U F N Q w = ei_cn U F N R w := by
  unfold ei_cn
  exact ei_sc (fun r _ => ei_bc (ei_prcg e))
theorem ei_cn0 (U : Nat → Nat → Nat) (F : Nat → Nat) (N : Nat) (Q : Nat → Nat) : ei_cn U F N Q 0 = N := ei_racn (ei_ra0 U F N Q)
/-- a pattern with a letter more behind it -/
def ei_Q (Q : Nat → Nat) (l : Nat) (i : Nat) : Nat := if i = 0 then l else Q (i - 1)
/-- how many texts end with the pattern -/
noncomputable def ei_en (U : Nat → Nat → Nat) (len : Nat → Nat) (Q : Nat → Nat) (w : Nat) (s : Nat) : Nat := ei_sm (fun t => ei_b (0 < len t ∧ w ≤ len t ∧ ∀ i, i < w → U t i = Q i)) s
theorem ei_prQ {U : Nat → Nat → Nat} {Q : Nat → Nat} {w z l : Nat} : ei_pr U (ei_Q Q l) (w + 1) z ↔ (w < z % 16 ∧ U (z / 16) (z % 16 - 1 - w) = l ∧ ei_pr U Q w z) := by
  unfold ei_pr
  constructor
  · intro h
    have h1 := h.1
    refine ⟨by omega, ?_, by omega, fun i hi => ?_⟩
    · have k := h.2 0 (by omega)
      rw [show z % 16 - (w + 1) + 0 = z % 16 - 1 - w by omega] at k
      exact k
    · have k := h.2 (i + 1) (by omega)
      rw [show z % 16 - (w + 1) + (i + 1) = z % 16 - w + i by omega] at k
      exact k
  · intro h
    obtain ⟨h1, h2, h3, h4⟩ := h
    refine ⟨by omega, fun i hi => ?_⟩
    cases i with
    | zero =>
      rw [show z % 16 - (w + 1) + 0 = z % 16 - 1 - w by omega]
      exact h2
    | succ i =>
      rw [show z % 16 - (w + 1) + (i + 1) = z % 16 - w + i by omega]
      exact h4 i (by omega)
/-- an ending that begins with the pattern goes on with a letter or stops there -/
theorem ei_cut {U : Nat → Nat → Nat} {len : Nat → Nat} {F : Nat → Nat} {N : Nat} {Q : Nat → Nat} {w : Nat} (hT : ei_T U len) (h : ei_S U (ei_E len) F N) (hw : w ≤ 9) :
    ei_cn U F N Q w = ei_sm (fun l => ei_cn U F N (ei_Q Q l) (w + 1)) 4 + ei_en U len Q w 6 := by
  have e1 : ei_sm (fun r => ei_b (ei_pr U Q w (F r) ∧ F r % 16 = w)) N = ei_en U len Q w 6 := by
    rw [ei_rx h (fun z => ei_b (ei_pr U Q w z ∧ z % 16 = w)), show (96 : Nat) = 16 * 6 from rfl, ei_s96]
    unfold ei_en
    refine ei_sc (fun t ht => ?_)
    rw [ei_s1 (a := w) (by omega) (fun m hm hne => by
      rw [ei_bf (p := ei_pr U Q w (16 * t + m) ∧ (16 * t + m) % 16 = w) (fun k => by have := k.2; omega), Nat.mul_zero])]
    rw [ei_band]
    refine ei_bc ?_
    have q1 : (16 * t + w) / 16 = t := by omega
    have q2 : (16 * t + w) % 16 = w := by omega
    unfold ei_E ei_pr
    rw [q1, q2]
    constructor
    · intro k
      refine ⟨k.1.1, k.1.2, fun i hi => ?_⟩
      have g := k.2.1.2 i hi
      rw [show w - w + i = i by omega] at g
      exact g
    · intro k
      refine ⟨⟨k.1, k.2.1⟩, ⟨Nat.le_refl w, fun i hi => ?_⟩, rfl⟩
      rw [show w - w + i = i by omega]
      exact k.2.2 i hi
  have e2 : ∀ r, r < N → ei_b (ei_pr U Q w (F r)) = ei_b (ei_pr U (ei_Q Q 0) (w + 1) (F r)) + ei_b (ei_pr U (ei_Q Q 1) (w + 1) (F r)) + ei_b (ei_pr U (ei_Q Q 2) (w + 1) (F r)) + ei_b (ei_pr U (ei_Q Q 3) (w + 1) (F r)) + ei_b (ei_pr U Q w (F r) ∧ F r % 16 = w) := by
    intro r hr
    have hk := h.1 r hr
    have hk2 := hk.2.2
    rw [ei_bc (ei_prQ (l := 0)), ei_bc (ei_prQ (l := 1)), ei_bc (ei_prQ (l := 2)), ei_bc (ei_prQ (l := 3))]
    by_cases c : ei_pr U Q w (F r)
    · rw [ei_bt c]
      by_cases c2 : w < F r % 16
      · have u4 : U (F r / 16) (F r % 16 - 1 - w) < 4 := hT.2 _ _ (by omega) (by omega)
        rw [ei_bf (p := ei_pr U Q w (F r) ∧ F r % 16 = w) (fun k => by have := k.2; omega), Nat.add_zero]
        rw [ei_bc (p := w < F r % 16 ∧ U (F r / 16) (F r % 16 - 1 - w) = 0 ∧ ei_pr U Q w (F r)) (q := U (F r / 16) (F r % 16 - 1 - w) = 0) ⟨fun k => k.2.1, fun k => ⟨c2, k, c⟩⟩]
        rw [ei_bc (p := w < F r % 16 ∧ U (F r / 16) (F r % 16 - 1 - w) = 1 ∧ ei_pr U Q w (F r)) (q := U (F r / 16) (F r % 16 - 1 - w) = 1) ⟨fun k => k.2.1, fun k => ⟨c2, k, c⟩⟩]
        rw [ei_bc (p := w < F r % 16 ∧ U (F r / 16) (F r % 16 - 1 - w) = 2 ∧ ei_pr U Q w (F r)) (q := U (F r / 16) (F r % 16 - 1 - w) = 2) ⟨fun k => k.2.1, fun k => ⟨c2, k, c⟩⟩]
        rw [ei_bc (p := w < F r % 16 ∧ U (F r / 16) (F r % 16 - 1 - w) = 3 ∧ ei_pr U Q w (F r)) (q := U (F r / 16) (F r % 16 - 1 - w) = 3) ⟨fun k => k.2.1, fun k => ⟨c2, k, c⟩⟩]
        generalize U (F r / 16) (F r % 16 - 1 - w) = v at u4
        rcases (show v = 0 ∨ v = 1 ∨ v = 2 ∨ v = 3 by omega) with e | e | e | e
        · rw [ei_bt e, ei_bf (show ¬ v = 1 by omega), ei_bf (show ¬ v = 2 by omega), ei_bf (show ¬ v = 3 by omega)]
        · rw [ei_bt e, ei_bf (show ¬ v = 0 by omega), ei_bf (show ¬ v = 2 by omega), ei_bf (show ¬ v = 3 by omega)]
        · rw [ei_bt e, ei_bf (show ¬ v = 0 by omega), ei_bf (show ¬ v = 1 by omega), ei_bf (show ¬ v = 3 by omega)]
        · rw [ei_bt e, ei_bf (show ¬ v = 0 by omega), ei_bf (show ¬ v = 1 by omega), ei_bf (show ¬ v = 2 by omega)]
      · have c3 : F r % 16 = w := by have := c.1; omega
        have z : ∀ l, ei_b (w < F r % 16 ∧ U (F r / 16) (F r % 16 - 1 - w) = l ∧ ei_pr U Q w (F r)) = 0 := fun l => ei_bf (fun k => c2 k.1)
        rw [z, z, z, z, ei_bt ⟨c, c3⟩]
    · have z : ∀ l, ei_b (w < F r % 16 ∧ U (F r / 16) (F r % 16 - 1 - w) = l ∧ ei_pr U Q w (F r)) = 0 := fun l => ei_bf (fun k => c k.2.2)
      rw [z, z, z, z, ei_bf c, ei_bf (fun k => c k.1)]
  rw [← e1]
  unfold ei_cn
  rw [ei_sc e2, ei_sadd, ei_sadd, ei_sadd, ei_sadd]
  show _ = 0 + _ + _ + _ + _ + _
  dsimp only
  omega
/-- the lengths of all endings together -/
theorem ei_gauss (n : Nat) : ei_sm (fun m => m) (n + 1) * 2 = n * (n + 1) := by
  induction n with
  | zero => rfl
  | succ n ih =>
    rw [ei_ss, Nat.add_mul, ih, Nat.mul_comm (n + 1) 2, ← Nat.add_mul, Nat.mul_comm]
theorem ei_lens {U : Nat → Nat → Nat} {len : Nat → Nat} {F : Nat → Nat} {N : Nat} (hT : ei_T U len) (h : ei_S U (ei_E len) F N) : ei_sm (fun r => F r % 16) N = ei_sm (fun s => len s * (len s + 1) / 2) 6 := by
  rw [ei_rx h (fun z => z % 16), show (96 : Nat) = 16 * 6 from rfl, ei_s96]
  refine ei_sc (fun t ht => ?_)
  have h9 := hT.1 t ht
  have e : ei_sm (fun m => ei_b (ei_E len (16 * t + m)) * ((16 * t + m) % 16)) 16 = ei_sm (fun m => m) (len t + 1) := by
    rw [ei_scut (fun m => m) (show len t + 1 ≤ 16 by omega)]
    refine ei_sc (fun m hm => ?_)
    have q1 : (16 * t + m) / 16 = t := by omega
    have q2 : (16 * t + m) % 16 = m := by omega
    show ei_b (ei_E len (16 * t + m)) * ((16 * t + m) % 16) = ei_b (m < len t + 1) * m
    unfold ei_E
    rw [q1, q2]
    by_cases c : 0 < len t
    · rw [ei_bc (p := 0 < len t ∧ m ≤ len t) (q := m < len t + 1) ⟨fun k => by omega, fun k => ⟨c, by omega⟩⟩]
    · rw [ei_bf (p := 0 < len t ∧ m ≤ len t) (fun k => c k.1)]
      by_cases c2 : m < len t + 1
      · rw [show m = 0 by omega, Nat.mul_zero, Nat.mul_zero]
      · rw [ei_bf c2]
  have g := ei_gauss (len t)
  show ei_sm (fun m => ei_b (ei_E len (16 * t + m)) * ((16 * t + m) % 16)) 16 = len t * (len t + 1) / 2
  rw [e, ← g]
  omega
/-- letters that two endings share at their begin -/
noncomputable def ei_lc (U : Nat → Nat → Nat) (s t : Nat) : Nat → Nat → Nat
  | m + 1, n + 1 => ei_b (U s m = U t n) * (ei_lc U s t m n + 1)
  | _, _ => 0
end
section
/-! the walks of the small methods: counting in the row, putting in, taking out -/
theorem ei_ld {a : Nat → Int32} {i v : Nat} {x : Int32} (h : a i = nI v) (hx : x = nI i) (hi : i < 2 ^ 31) : a x.toNatClampNeg = nI v := by
  rw [hx, nI_clamp hi]
  exact h
theorem ei_txt {len : Nat → Nat} {i : Nat} (h : 0 < len i) : ei_tx len (i + 1) = ei_tx len i + 1 := by
  unfold ei_tx
  rw [ei_ss, ei_bt h]
theorem ei_txf {len : Nat → Nat} {i : Nat} (h : ¬ 0 < len i) : ei_tx len (i + 1) = ei_tx len i := by
  unfold ei_tx
  rw [ei_ss, ei_bf h, Nat.add_zero]
theorem ei_sbt {P : Nat → Prop} {i : Nat} (h : P i) : ei_sm (fun r => ei_b (P r)) (i + 1) = ei_sm (fun r => ei_b (P r)) i + 1 := by
  rw [ei_ss, ei_bt h]
theorem ei_sbf {P : Nat → Prop} {i : Nat} (h : ¬ P i) : ei_sm (fun r => ei_b (P r)) (i + 1) = ei_sm (fun r => ei_b (P r)) i := by
  rw [ei_ss, ei_bf h, Nat.add_zero]
section
variable {fd fs fp fl fh : Int32} {a1 a2 a3 a4 a5 a6 a7 : Nat → Int32} {len B : Nat → Nat} {N : Nat}
theorem ei_wtexts {post : Int32 → Prop} (h3 : ∀ s, s < 6 → a3 s = nI (len s)) (h9 : ∀ s, s < 6 → len s ≤ 9) (hp : post (nI (ei_tx len 6))) : wpX_texts post (fd, fs, fp, fl, fh, a1, a2, a3, a4, a5, a6, a7) := by
  refine loop_0 (σ := Unit) (fun n i _ => wX_texts_4 post fd fs fp fl fh a1 a2 a3 a4 a5 a6 a7 n (nI (ei_tx len i)) (nI i)) (fun _ _ => True) 6 () trivial (fun n _ _ => pk_le 6 6 (fun _ => hp) (fun z => absurd z (by omega))) (fun n i _ hi _ hw => ?_)
  have k9 := h9 i hi
  have t : wX_texts_4 post fd fs fp fl fh a1 a2 a3 a4 a5 a6 a7 n (nI (ei_tx len (i + 1))) (nI (i + 1)) := hw () trivial
  refine pk_le 6 i (fun z => absurd z (by omega)) (fun _ => ⟨pk_in i 6 hi, ?_⟩)
  refine pk_le (len i) 0 (fun z => nm_r (nI_1 i) ?_) (fun z => nm_r (nI_1 _) (nm_r (nI_1 i) ?_)) (ei_ld (h3 i hi) rfl (by omega))
  · rw [ei_txf (by omega)] at t
    exact t
  · rw [ei_txt (by omega)] at t
    exact t
theorem ei_wslots {post : Int32 → Prop} {s : Nat} (h3 : ∀ s, s < 6 → a3 s = nI (len s)) (h9 : ∀ s, s < 6 → len s ≤ 9) (hs : s ≤ 6) (hp : post (nI (ei_tx len s))) : wpX_slotsBelow post (fd, fs, fp, fl, fh, a1, a2, a3, a4, a5, a6, a7) (nI s) := by
  refine loop_0 (σ := Unit) (fun n i _ => wX_slotsBelow_4 post (nI s) fd fs fp fl fh a1 a2 a3 a4 a5 a6 a7 n (nI (ei_tx len i)) (nI i)) (fun _ _ => True) s () trivial (fun n _ _ => pk_le s s (fun _ => hp) (fun z => absurd z (by omega))) (fun n i _ hi _ hw => ?_)
  have k9 := h9 i (by omega)
  have t : wX_slotsBelow_4 post (nI s) fd fs fp fl fh a1 a2 a3 a4 a5 a6 a7 n (nI (ei_tx len (i + 1))) (nI (i + 1)) := hw () trivial
  refine pk_le s i (fun z => absurd z (by omega)) (fun _ => ⟨pk_in i 6 (by omega), ?_⟩)
  refine pk_le (len i) 0 (fun z => nm_r (nI_1 i) ?_) (fun z => nm_r (nI_1 _) (nm_r (nI_1 i) ?_)) (ei_ld (h3 i (by omega)) rfl (by omega))
  · rw [ei_txf (by omega)] at t
    exact t
  · rw [ei_txt (by omega)] at t
    exact t
theorem ei_wupTo {post : Int32 → Prop} {c e : Nat} (h2 : ∀ r, r < N → a2 r = nI (B r)) (hB : ∀ r, r < N → B r < 16) (hN : N ≤ 60) (hc : c < 16) (he : e ≤ N) (hp : post (nI (ei_sm (fun r => ei_b (B r = c)) e))) : wpX_upTo post (fd, fs, fp, fl, fh, a1, a2, a3, a4, a5, a6, a7) (nI c) (nI e) := by
  refine loop_0 (σ := Unit) (fun n i _ => wX_upTo_5 post (nI c) (nI e) fd fs fp fl fh a1 a2 a3 a4 a5 a6 a7 n (nI (ei_sm (fun r => ei_b (B r = c)) i)) (nI i)) (fun _ _ => True) e () trivial (fun n _ _ => pk_le e e (fun _ => hp) (fun z => absurd z (by omega))) (fun n i _ hi _ hw => ?_)
  have k9 := hB i (by omega)
  have t : wX_upTo_5 post (nI c) (nI e) fd fs fp fl fh a1 a2 a3 a4 a5 a6 a7 n (nI (ei_sm (fun r => ei_b (B r = c)) (i + 1))) (nI (i + 1)) := hw () trivial
  refine pk_le e i (fun z => absurd z (by omega)) (fun _ => ⟨pk_in i 60 (by omega), ?_⟩)
  refine pk_eq (B i) c (fun z => nm_r (nI_1 _) (nm_r (nI_1 i) ?_)) (fun z => nm_r (nI_1 i) ?_) (ei_ld (h2 i (by omega)) rfl (by omega))
  · rw [ei_sbt (P := fun r => B r = c) z] at t
    exact t
  · rw [ei_sbf (P := fun r => B r = c) z] at t
    exact t
theorem ei_wlesser {post : Int32 → Prop} {c : Nat} (h3 : ∀ s, s < 6 → a3 s = nI (len s)) (h9 : ∀ s, s < 6 → len s ≤ 9) (h2 : ∀ r, r < N → a2 r = nI (B r)) (hB : ∀ r, r < N → B r < 16) (hN : N ≤ 60) (hc : c < 16) (hp : post (nI (ei_tx len 6 + ei_sm (fun r => ei_b (B r < c)) N))) : wpX_lesser post (fd, nI N, fp, fl, fh, a1, a2, a3, a4, a5, a6, a7) (nI c) := by
  refine ei_wtexts h3 h9 ?_
  refine loop_0 (σ := Unit) (fun n i _ => wX_lesser_7 post (nI c) fd (nI N) fp fl fh a1 a2 a3 a4 a5 a6 a7 n (nI (ei_tx len 6 + ei_sm (fun r => ei_b (B r < c)) i)) (nI i)) (fun _ _ => True) N () trivial (fun n _ _ => pk_le N N (fun _ => hp) (fun z => absurd z (by omega))) (fun n i _ hi _ hw => ?_)
  have k9 := hB i (by omega)
  have t : wX_lesser_7 post (nI c) fd (nI N) fp fl fh a1 a2 a3 a4 a5 a6 a7 n (nI (ei_tx len 6 + ei_sm (fun r => ei_b (B r < c)) (i + 1))) (nI (i + 1)) := hw () trivial
  refine pk_le N i (fun z => absurd z (by omega)) (fun _ => ⟨pk_in i 60 (by omega), ?_⟩)
  refine pk_le c (B i) (fun z => nm_r (nI_1 i) ?_) (fun z => nm_r (nI_1 _) (nm_r (nI_1 i) ?_)) rfl (ei_ld (h2 i (by omega)) rfl (by omega))
  · rw [ei_sbf (P := fun r => B r < c) (show ¬ B i < c by omega)] at t
    exact t
  · rw [ei_sbt (P := fun r => B r < c) z] at t
    exact t
theorem ei_wstep {post : Int32 → Prop} {c p : Nat} (h3 : ∀ s, s < 6 → a3 s = nI (len s)) (h9 : ∀ s, s < 6 → len s ≤ 9) (h2 : ∀ r, r < N → a2 r = nI (B r)) (hB : ∀ r, r < N → B r < 16) (hN : N ≤ 60) (hc : c < 16) (hpN : p ≤ N) (hp : post (nI (ei_tx len 6 + ei_sm (fun r => ei_b (B r < c)) N + ei_sm (fun r => ei_b (B r = c)) p))) : wpX_step post (fd, nI N, fp, fl, fh, a1, a2, a3, a4, a5, a6, a7) (nI c) (nI p) := by
  refine ei_wlesser h3 h9 h2 hB hN hc ?_
  refine ei_wupTo h2 hB hN hc hpN ?_
  rw [nI_add]
  exact hp
theorem ei_wextend {post : St1 → Prop} {c lo hi : Nat} (h3 : ∀ s, s < 6 → a3 s = nI (len s)) (h9 : ∀ s, s < 6 → len s ≤ 9) (h2 : ∀ r, r < N → a2 r = nI (B r)) (hB : ∀ r, r < N → B r < 16) (hN : N ≤ 60) (hc : c < 16) (hlo : lo ≤ N) (hhi : hi ≤ N) (hp : post (fd, nI N, fp, nI (ei_tx len 6 + ei_sm (fun r => ei_b (B r < c)) N + ei_sm (fun r => ei_b (B r = c)) lo), nI (ei_tx len 6 + ei_sm (fun r => ei_b (B r < c)) N + ei_sm (fun r => ei_b (B r = c)) hi), a1, a2, a3, a4, a5, a6, a7)) : wpX_extend post (fd, nI N, fp, nI lo, nI hi, a1, a2, a3, a4, a5, a6, a7) (nI c) := by
  refine ei_wlesser h3 h9 h2 hB hN hc ?_
  refine ei_wupTo h2 hB hN hc hlo ?_
  refine ei_wupTo h2 hB hN hc hhi ?_
  exact nm_r (nI_add _ _) (nm_r (nI_add _ _) hp)
theorem ei_wins_l {post : St1 → Prop} {r : Nat} {c : Int32} (hN : N < 60) : ∀ (j : Nat) (a2 : Nat → Int32), r + j ≤ N → (∀ a : Nat → Int32, (∀ k, k < r → a k = a2 k) → a r = c → (∀ k, r < k → k ≤ r + j → a k = a2 (k - 1)) → (∀ k, r + j < k → a k = a2 k) → post (fd, nI (N + 1), fp, fl, fh, a1, a, a3, a4, a5, a6, a7)) → wX_insert_5 post (nI r) c fd (nI N) fp fl fh (j + 1) (nI (r + j)) a1 a2 a3 a4 a5 a6 a7 := by
  intro j
  induction j with
  | zero =>
    intro a2 hj H
    refine pk_le (r + 0) r (fun _ => ⟨pk_in r 60 (by omega), nm_r (by rw [nI_clamp (by omega)]) (nm_r (nI_1 N) ?_)⟩) (fun z => absurd z (by omega))
    refine H (upd a2 r c) (fun k hk => pk_un (by omega)) pk_us (fun k h1 h2 => absurd h2 (by omega)) (fun k hk => pk_un (by omega))
  | succ j ih =>
    intro a2 hj H
    have e1 : nI (r + (j + 1)) - 1 = nI (r + j) := nI_pred (r + j)
    have e2 : nI (r + (j + 1)) + (-1) = nI (r + j) := pk_m1 (r + j)
    refine pk_le (r + (j + 1)) r (fun z => absurd z (by omega)) (fun _ => ⟨pk_in (r + j) 60 (by omega) e1, pk_in (r + (j + 1)) 60 (by omega), nm_r (e' := upd a2 (r + (j + 1)) (a2 (r + j))) (by rw [e1, nI_clamp (by omega), nI_clamp (by omega)]) (nm_r e2 ?_)⟩)
    refine ih _ (by omega) (fun a h1 h2 h3 h4 => H a (fun k hk => ?_) h2 (fun k hk hk2 => ?_) (fun k hk => ?_))
    · rw [h1 k hk]
      exact pk_un (by omega)
    · by_cases e : k = r + (j + 1)
      · rw [h4 k (by omega), e, pk_us]
        rfl
      · rw [h3 k hk (by omega)]
        exact pk_un (by omega)
    · rw [h4 k (by omega)]
      exact pk_un (by omega)
theorem ei_wins {post : St1 → Prop} {r : Nat} {c : Int32} (hN : N < 60) (hr : r ≤ N) (H : ∀ a : Nat → Int32, (∀ k, k < r → a k = a2 k) → a r = c → (∀ k, r < k → k ≤ N → a k = a2 (k - 1)) → post (fd, nI (N + 1), fp, fl, fh, a1, a, a3, a4, a5, a6, a7)) : wpX_insert post (fd, nI N, fp, fl, fh, a1, a2, a3, a4, a5, a6, a7) (nI r) c := by
  have t := ei_wins_l (post := post) (fd := fd) (fp := fp) (fl := fl) (fh := fh) (a1 := a1) (a3 := a3) (a4 := a4) (a5 := a5) (a6 := a6) (a7 := a7) (r := r) (c := c) hN (N - r) a2 (by omega) (fun a h1 h2 h3 _ => H a h1 h2 (fun k hk hk2 => h3 k hk (by omega)))
  rw [show r + (N - r) = N by omega] at t
  exact ⟨_, t⟩
theorem ei_wdel {post : St1 → Prop} {r : Nat} (hN : N < 60) (hr : r ≤ N) (H : ∀ a : Nat → Int32, (∀ k, k < r → a k = a2 k) → (∀ k, r ≤ k → k < N → a k = a2 (k + 1)) → post (fd, nI N, fp, fl, fh, a1, a, a3, a4, a5, a6, a7)) : wpX_delete post (fd, nI (N + 1), fp, fl, fh, a1, a2, a3, a4, a5, a6, a7) (nI r) := by
  refine nm_r (nI_pred N) ?_
  refine pk_loop (fun n i s => wX_delete_12 post fd (nI N) fp fl fh n (nI i) a1 s a3 a4 a5 a6 a7) (fun i s => r ≤ i ∧ (∀ k, k < r → s k = a2 k) ∧ (∀ k, r ≤ k → k < i → s k = a2 (k + 1)) ∧ (∀ k, i ≤ k → s k = a2 k)) N r a2 hr ⟨Nat.le_refl r, fun _ _ => rfl, fun k h1 h2 => absurd h2 (by omega), fun _ _ => rfl⟩ (fun n s h => pk_le N N (fun _ => H s h.2.1 h.2.2.1) (fun z => absurd z (by omega))) (fun n i s hi h hw => ?_)
  obtain ⟨h0, h1, h2, h3⟩ := h
  refine pk_le N i (fun z => absurd z (by omega)) (fun _ => ⟨pk_in (i + 1) 60 (by omega) (nI_1 i), pk_in i 60 (by omega), nm_r (e' := upd s i (s (i + 1))) (by rw [nI_1, nI_clamp (by omega), nI_clamp (by omega)]) (nm_r (nI_1 i) (hw _ ⟨by omega, fun k hk => ?_, fun k hk hk2 => ?_, fun k hk => ?_⟩))⟩)
  · rw [pk_un (by omega)]
    exact h1 k hk
  · by_cases e : k = i
    · rw [e, pk_us]
      exact h3 (i + 1) (by omega)
    · rw [pk_un e]
      exact h2 k hk (by omega)
  · rw [pk_un (by omega)]
    exact h3 k (by omega)
end
end
section
/-! the walks of the questions that change nothing: rank, letter, number, length -/
/-- the state holds the index of the texts -/
def ei_P (U : Nat → Nat → Nat) (len F : Nat → Nat) (N : Nat) (a2 a3 : Nat → Int32) : Prop := ei_T U len ∧ ei_S U (ei_E len) F N ∧ (∀ r, r < N → a2 r = nI (ei_bl U len (F r))) ∧ (∀ s, s < 6 → a3 s = nI (len s))
/-- the law's number of an ending -/
def ei_nm (len : Nat → Nat) (z : Nat) : Nat := 16 * (z / 16) + (len (z / 16) - z % 16)
theorem ei_bl10 {U : Nat → Nat → Nat} {len : Nat → Nat} {z : Nat} (hT : ei_T U len) (hz : z < 96) (h : z % 16 ≤ len (z / 16)) : ei_bl U len z < 10 := by
  by_cases c : z % 16 = len (z / 16)
  · rw [ei_bl_eq c]
    omega
  · rw [ei_bl_lt (by omega)]
    have := hT.2 (z / 16) (z % 16) (by omega) (by omega)
    omega
section
variable {fd fs fp fl fh : Int32} {a1 a2 a3 a4 a5 a6 a7 : Nat → Int32} {U : Nat → Nat → Nat} {len F : Nat → Nat} {N : Nat}
theorem ei_P60 (h : ei_P U len F N a2 a3) : N ≤ 60 := by
  obtain ⟨hT, hS, _, _⟩ := h
  have hN := ei_num hS
  have k : ei_sm (fun z => ei_b (ei_E len z)) 96 ≤ 60 := by
    rw [← ei_c60]
    refine ei_sle (fun z hz => ?_)
    by_cases e : ei_E len z
    · have k9 := hT.1 (z / 16) (by omega)
      have k2 := e.2
      rw [ei_bt e, if_pos (by omega)]
      exact Nat.le_refl 1
    · rw [ei_bf e]
      exact Nat.zero_le _
  omega
theorem ei_P16 (h : ei_P U len F N a2 a3) : ∀ r, r < N → ei_bl U len (F r) < 16 := by
  intro r hr
  have k := h.2.1.1 r hr
  have := ei_bl10 h.1 k.1 k.2.2
  omega
theorem ei_wstepC {post : Int32 → Prop} {p q : Nat} (h : ei_P U len F N a2 a3) (hp : p < N) (hq : q < N) (e : F q = F p + 1) (hm : F p % 16 < len (F p / 16)) (H : post (nI q)) : wpX_step post (fd, nI N, fp, fl, fh, a1, a2, a3, a4, a5, a6, a7) (a2 p) (nI p) := by
  have h60 := ei_P60 h
  have h16 := ei_P16 h
  have c16 := h16 p hp
  obtain ⟨hT, hS, h2, h3⟩ := h
  have k := ei_stpC hT hS hp hq e hm
  rw [h2 p hp]
  refine ei_wstep (B := fun r => ei_bl U len (F r)) h3 hT.1 h2 h16 h60 c16 (by omega) ?_
  show post (nI (ei_tx len 6 + ei_sm (fun r => ei_b (ei_bl U len (F r) < ei_bl U len (F p))) N + ei_sm (fun r => ei_b (ei_bl U len (F r) = ei_bl U len (F p))) p))
  rw [ei_bl_lt hm, k]
  exact H
theorem ei_wrankOf {post : Int32 → Prop} {s i r : Nat} (h : ei_P U len F N a2 a3) (hs : s < 6) (h0 : 0 < len s) (hi : i ≤ len s) (hr : r < N) (e : F r = 16 * s + (len s - i)) (H : post (nI r)) : wpX_rankOf post (fd, nI N, fp, fl, fh, a1, a2, a3, a4, a5, a6, a7) (nI s) (nI i) := by
  have h60 := ei_P60 h
  have h9 := h.1.1 s hs
  have key : ∀ j q, q < N → i + j ≤ len s → F q = 16 * s + (len s - (i + j)) → wX_rankOf_14 post (nI i) fd (nI N) fp fl fh a1 a2 a3 a4 a5 a6 a7 (j + 1) (nI q) (nI (i + j)) := by
    intro j
    induction j with
    | zero =>
      intro q hq hj eq
      have qr : q = r := ei_inj h.2.1 hq hr (by rw [eq, e]; rfl)
      refine pk_le (i + 0) i (fun _ => ?_) (fun z => absurd z (by omega))
      rw [qr]
      exact H
    | succ j ih =>
      intro q hq hj eq
      have m1 : F q / 16 = s := by omega
      have m2 : F q % 16 = len s - (i + (j + 1)) := by omega
      have hm : F q % 16 < len (F q / 16) := by rw [m1, m2]; omega
      obtain ⟨q', hq', e'⟩ := ei_up h.1 h.2.1 hq hm
      refine pk_le (i + (j + 1)) i (fun z => absurd z (by omega)) (fun _ => ⟨pk_in q 60 (by omega), ?_⟩)
      rw [nI_clamp (show q < 2 ^ 31 by omega)]
      exact ei_wstepC h hq hq' e' hm (nm_r (pk_m1 (i + j)) (ih q' hq' (by omega) (by omega)))
  obtain ⟨q0, hq0, e0⟩ := ei_at h.2.1 h.1 hs h0 (Nat.zero_le (len s))
  refine ei_wslots h.2.2.2 h.1.1 (by omega) ?_
  rw [ei_slbC h.2.1 hs hq0 (by omega)]
  refine ⟨pk_in s 6 hs, nm_r (ei_ld (h.2.2.2 s hs) rfl (by omega)) ⟨len s - i + 1, ?_⟩⟩
  have t := key (len s - i) q0 hq0 (by omega) (by omega)
  rw [show i + (len s - i) = len s by omega] at t
  exact t
theorem ei_wbad {post : Int32 → Prop} {s : Nat} (hs : s < 6) (H : post 0) : wpX_badSlot post (fd, fs, fp, fl, fh, a1, a2, a3, a4, a5, a6, a7) (nI s) :=
  pk_lt s 0 (fun z => absurd z (by omega)) (fun _ => pk_lt s 6 (fun _ => H) (fun z => absurd z (by omega)))
theorem ei_wlength {post : Int32 → Prop} {s : Nat} (h : ei_P U len F N a2 a3) (hs : s < 6) (H : post (nI (len s))) : wpX_length post (fd, fs, fp, fl, fh, a1, a2, a3, a4, a5, a6, a7) (nI s) := by
  unfold wpX_length
  refine ei_wbad hs ?_
  refine br_t rfl ⟨pk_in s 6 hs, ?_⟩
  rw [nI_clamp (show s < 2 ^ 31 by omega), h.2.2.2 s hs]
  exact H
theorem ei_wletter {post : Int32 → Prop} {s i : Nat} (h : ei_P U len F N a2 a3) (hs : s < 6) (hi : i < len s) (H : post (nI (U s (len s - 1 - i)))) : wpX_letter post (fd, nI N, fp, fl, fh, a1, a2, a3, a4, a5, a6, a7) (nI s) (nI i) := by
  have h60 := ei_P60 h
  have h9 := h.1.1 s hs
  obtain ⟨q, hq, e⟩ := ei_at h.2.1 h.1 hs (by omega) (show len s - 1 - i ≤ len s by omega)
  unfold wpX_letter
  refine ei_wbad hs ?_
  refine br_t rfl (pk_lt i 0 (fun z => absurd z (by omega)) (fun _ => ⟨pk_in s 6 hs, pk_lt i (len s) (fun _ => ?_) (fun z => absurd z (by omega)) rfl (ei_ld (h.2.2.2 s hs) rfl (by omega))⟩))
  rw [nI_1]
  refine ei_wrankOf h hs (by omega) (by omega) hq (by omega) ⟨pk_in q 60 (by omega), ?_⟩
  have m1 : F q / 16 = s := by omega
  have m2 : F q % 16 = len s - 1 - i := by omega
  rw [nI_clamp (show q < 2 ^ 31 by omega), h.2.2.1 q hq, ei_bl_lt (by rw [m1, m2]; omega), m1, m2]
  exact H
theorem ei_wletter0 {post : Int32 → Prop} {s i : Nat} (h : ei_P U len F N a2 a3) (hs : s < 6) (hi : len s ≤ i) (hi2 : i < 100) (H : post (-4)) : wpX_letter post (fd, nI N, fp, fl, fh, a1, a2, a3, a4, a5, a6, a7) (nI s) (nI i) := by
  have h9 := h.1.1 s hs
  unfold wpX_letter
  refine ei_wbad hs ?_
  exact br_t rfl (pk_lt i 0 (fun z => absurd z (by omega)) (fun _ => ⟨pk_in s 6 hs, pk_lt i (len s) (fun z => absurd z (by omega)) (fun _ => H) rfl (ei_ld (h.2.2.2 s hs) rfl (by omega))⟩))
theorem ei_wletterN {post : Int32 → Prop} {s : Nat} {x : Int32} (hs : s < 6) (hx : x < 0) (H : post (-4)) : wpX_letter post (fd, fs, fp, fl, fh, a1, a2, a3, a4, a5, a6, a7) (nI s) x := by
  unfold wpX_letter
  refine ei_wbad hs ?_
  exact br_t rfl (br_t hx H)
theorem ei_wnumber {post : Int32 → Prop} {r : Nat} (h : ei_P U len F N a2 a3) (hr : r < N) (H : post (nI (ei_nm len (F r)))) : wpX_numberOf post (fd, nI N, fp, fl, fh, a1, a2, a3, a4, a5, a6, a7) (nI r) := by
  have h60 := ei_P60 h
  have w45 : ∀ q k, q < N → F q % 16 = len (F q / 16) → F q / 16 = F r / 16 → k = len (F r / 16) - F r % 16 → wX_numberOf_45 post (nI q) (nI k) fd (nI N) fp fl fh a1 a2 a3 a4 a5 a6 a7 := by
    intro q k hq m1 m2 m3
    refine ⟨pk_in q 60 (by omega), ?_⟩
    have e : (16 : Int32) * (a2 (nI q).toNatClampNeg - 4) + nI k = nI (ei_nm len (F r)) := by
      rw [nI_clamp (show q < 2 ^ 31 by omega), h.2.2.1 q hq, ei_bl_eq m1, show (4 : Int32) = nI 4 from rfl, pk_sub (by omega), show (16 : Int32) = nI 16 from rfl, pk_mul, nI_add]
      unfold ei_nm
      rw [m3, ← m2, show 4 + F q / 16 - 4 = F q / 16 by omega]
    rw [e]
    exact H
  have key : ∀ j q k, q < N → F q % 16 + j = len (F q / 16) → F q / 16 = F r / 16 → k + j = len (F r / 16) - F r % 16 → wX_numberOf_7 post fd (nI N) fp fl fh a1 a2 a3 a4 a5 a6 a7 (j + 1) (nI q) (nI k) (nI k) := by
    intro j
    have h9 := h.1.1 (F r / 16) (by have := (h.2.1.1 r hr).1; omega)
    induction j with
    | zero =>
      intro q k hq m1 m2 m3
      refine pk_le 9 k (fun _ => w45 q k hq m1 m2 m3) (fun _ => ⟨pk_in q 60 (by omega), ?_⟩)
      have q96 := (h.2.1.1 q hq).1
      exact pk_le 4 (4 + F q / 16) (fun _ => w45 q k hq m1 m2 m3) (fun z => absurd z (by omega)) rfl (ei_ld (by rw [h.2.2.1 q hq, ei_bl_eq m1]) rfl (by omega))
    | succ j ih =>
      intro q k hq m1 m2 m3
      have hm : F q % 16 < len (F q / 16) := by omega
      have q96 := (h.2.1.1 q hq).1
      have u4 := h.1.2 _ _ (show F q / 16 < 6 by omega) hm
      obtain ⟨q', hq', e'⟩ := ei_up h.1 h.2.1 hq hm
      have d9 := h.1.1 (F q / 16) (by omega)
      have d1 : F q' / 16 = F q / 16 := by omega
      have d2 : F q' % 16 = F q % 16 + 1 := by omega
      refine pk_le 9 k (fun z => absurd z (by omega)) (fun _ => ⟨pk_in q 60 (by omega), ?_⟩)
      refine pk_le 4 (U (F q / 16) (F q % 16)) (fun z => absurd z (by omega)) (fun _ => ⟨pk_in q 60 (by omega), ?_⟩) rfl (ei_ld (by rw [h.2.2.1 q hq, ei_bl_lt hm]) rfl (by omega))
      rw [nI_clamp (show q < 2 ^ 31 by omega)]
      exact ei_wstepC h hq hq' e' hm (nm_r (nI_1 k) (nm_r (nI_1 k) (ih q' (k + 1) hq' (by rw [d1, d2]; omega) (by rw [d1, m2]) (by omega))))
  have k := (h.2.1.1 r hr).2.2
  exact ⟨len (F r / 16) - F r % 16 + 1, key (len (F r / 16) - F r % 16) r 0 hr (by omega) rfl (by omega)⟩
theorem ei_wending {post : Int32 → Prop} {r : Nat} (h : ei_P U len F N a2 a3) (hr : r < N) (H : post (nI (ei_nm len (F r)))) : wpX_ending post (fd, nI N, fp, fl, fh, a1, a2, a3, a4, a5, a6, a7) (nI r) := by
  have h60 := ei_P60 h
  exact pk_lt r 0 (fun z => absurd z (by omega)) (fun _ => pk_lt r N (fun _ => ei_wnumber h hr H) (fun z => absurd z (by omega)))
theorem ei_wending0 {post : Int32 → Prop} (hN : N ≤ 60) (H : post (-4)) : wpX_ending post (fd, nI N, fp, fl, fh, a1, a2, a3, a4, a5, a6, a7) (nI N) :=
  pk_lt N 0 (fun z => absurd z (by omega)) (fun _ => pk_lt N N (fun z => absurd z (by omega)) (fun _ => H))
/-- rank of the number 16 s + i -/
theorem ei_wrank {post : Int32 → Prop} {s i r : Nat} (h : ei_P U len F N a2 a3) (hs : s < 6) (h0 : 0 < len s) (hi : i ≤ len s) (hr : r < N) (e : F r = 16 * s + (len s - i)) (H : post (nI r)) : wpX_rank post (fd, nI N, fp, fl, fh, a1, a2, a3, a4, a5, a6, a7) (nI (16 * s + i)) := by
  have h9 := h.1.1 s hs
  refine nm_r (e' := nI s) (by rw [pk_shrN (by omega) _ 4 (by decide)]; exact congrArg nI (by omega)) (nm_r (e' := nI i) (by rw [pk_andN (by omega) 4 (by decide)]; exact congrArg nI (by omega)) ?_)
  refine pk_lt (16 * s + i) 0 (fun z => absurd z (by omega)) (fun _ => pk_le 6 s (fun z => absurd z (by omega)) (fun _ => ⟨pk_in s 6 hs, pk_eq (len s) 0 (fun z => absurd z (by omega)) (fun _ => ⟨pk_in s 6 hs, ?_⟩) (ei_ld (h.2.2.2 s hs) rfl (by omega))⟩))
  exact pk_le i (len s) (fun _ => ei_wrankOf h hs h0 hi hr e H) (fun z => absurd z (by omega)) rfl (ei_ld (h.2.2.2 s hs) rfl (by omega))
theorem ei_wrank0 {post : Int32 → Prop} {s i : Nat} (h : ei_P U len F N a2 a3) (hs : s < 6) (hi : i < 16) (hn : ¬ (0 < len s ∧ i ≤ len s)) (H : post (-4)) : wpX_rank post (fd, nI N, fp, fl, fh, a1, a2, a3, a4, a5, a6, a7) (nI (16 * s + i)) := by
  have h9 := h.1.1 s hs
  refine nm_r (e' := nI s) (by rw [pk_shrN (by omega) _ 4 (by decide)]; exact congrArg nI (by omega)) (nm_r (e' := nI i) (by rw [pk_andN (by omega) 4 (by decide)]; exact congrArg nI (by omega)) ?_)
  refine pk_lt (16 * s + i) 0 (fun z => absurd z (by omega)) (fun _ => pk_le 6 s (fun z => absurd z (by omega)) (fun _ => ⟨pk_in s 6 hs, pk_eq (len s) 0 (fun _ => H) (fun _ => ⟨pk_in s 6 hs, ?_⟩) (ei_ld (h.2.2.2 s hs) rfl (by omega))⟩))
  exact pk_le i (len s) (fun z => absurd z (by omega)) (fun _ => H) rfl (ei_ld (h.2.2.2 s hs) rfl (by omega))
/-- rank of the number of an ending -/
theorem ei_wrankF {post : Int32 → Prop} {r : Nat} (h : ei_P U len F N a2 a3) (hr : r < N) (H : post (nI r)) : wpX_rank post (fd, nI N, fp, fl, fh, a1, a2, a3, a4, a5, a6, a7) (nI (ei_nm len (F r))) := by
  have k := h.2.1.1 r hr
  have k1 := k.2.1
  have k2 := k.2.2
  exact ei_wrank h (show F r / 16 < 6 by omega) k1 (show len (F r / 16) - F r % 16 ≤ len (F r / 16) by omega) hr (by omega) H
end
end
section
/-! the walks of the patterns: spread, narrow, count, place -/
/-- the number of the pattern l 0, l 1, .. (first letter first) -/
def ei_pv (l : Nat → Nat) : Nat → Nat
  | 0 => 1
  | j + 1 => 4 * ei_pv l j + l j
theorem ei_pv_lt {l : Nat → Nat} : ∀ {w : Nat}, (∀ j, j < w → l j < 4) → ei_pv l w + 1 ≤ 2 * 4 ^ w := by
  intro w
  induction w with
  | zero => exact fun _ => Nat.le_refl 2
  | succ w ih =>
    intro h
    have k := ih (fun j hj => h j (by omega))
    have k2 := h w (by omega)
    show 4 * ei_pv l w + l w + 1 ≤ 2 * 4 ^ (w + 1)
    rw [Nat.pow_succ]
    omega
theorem ei_pv_ge (l : Nat → Nat) (w : Nat) : 1 ≤ ei_pv l w := by
  induction w with
  | zero => exact Nat.le_refl 1
  | succ w ih =>
    show 1 ≤ 4 * ei_pv l w + l w
    omega
theorem ei_pv_cg {l l' : Nat → Nat} : ∀ {w : Nat}, (∀ j, j < w → l' j = l j) → ei_pv l' w = ei_pv l w := by
  intro w
  induction w with
  | zero => exact fun _ => rfl
  | succ w ih =>
    intro h
    show 4 * ei_pv l' w + l' w = 4 * ei_pv l w + l w
    rw [ih (fun j hj => h j (by omega)), h w (by omega)]
theorem ei_pw {w : Nat} (h : w ≤ 6) : 4 ^ w ≤ 4096 := Nat.pow_le_pow_right (n := 4) (by decide) h
/-- the pattern's letters, last one first -/
def ei_rv (l : Nat → Nat) (w i : Nat) : Nat := l (w - 1 - i)
section
variable {fd fs fp fl fh : Int32} {a1 a2 a3 a4 a5 a6 a7 : Nat → Int32} {U : Nat → Nat → Nat} {len F l : Nat → Nat} {N w : Nat}
theorem ei_wspread {post : Int32 → St1 → Prop} (hw : w ≤ 6) (hl : ∀ j, j < w → l j < 4) (H : ∀ a : Nat → Int32, (∀ k, k < w → a k = nI (ei_rv l w k)) → post 1 (fd, fs, nI w, fl, fh, a1, a2, a3, a, a5, a6, a7)) : wpX_spread post (fd, fs, fp, fl, fh, a1, a2, a3, a4, a5, a6, a7) (nI (ei_pv l w)) := by
  have key : ∀ j i (a : Nat → Int32), i + j = w → (∀ k, k < i → a k = nI (ei_rv l w k)) → wX_spread_23 post fd fs fl fh (j + 1) (nI (ei_pv l j)) (nI i) (nI i) a1 a2 a3 a a5 a6 a7 := by
    intro j
    induction j with
    | zero =>
      intro i a hi ha
      refine pk_le 7 i (fun z => absurd z (by omega)) (fun _ => pk_le 1 1 (fun _ => ?_) (fun z => absurd z (by omega)))
      refine pk_eq 1 1 (fun _ => ?_) (fun z => absurd rfl z)
      have e : i = w := by omega
      rw [e]
      exact H a (fun k hk => ha k (by omega))
    | succ j ih =>
      intro i a hi ha
      have g1 := ei_pv_ge l j
      have g2 := ei_pv_lt (l := l) (w := j) (fun k hk => hl k (by omega))
      have g3 := ei_pw (w := j) (by omega)
      have g4 := hl j (by omega)
      have e0 : ei_pv l (j + 1) = 4 * ei_pv l j + l j := rfl
      have e1 : nI (ei_pv l (j + 1)) &&& 3 = nI (l j) := by
        rw [pk_andN (by omega) 2 (by decide)]
        exact congrArg nI (by omega)
      have e2 : nI (ei_pv l (j + 1)) >>> ((2 : Int32) &&& 31) = nI (ei_pv l j) := by
        rw [pk_shrN (by omega) _ 2 (by decide)]
        exact congrArg nI (by omega)
      refine pk_le 7 i (fun z => absurd z (by omega)) (fun _ => pk_le (ei_pv l (j + 1)) 1 (fun z => absurd z (by omega)) (fun _ => ⟨pk_in i 8 (by omega), nm_r (e' := upd a i (nI (l j))) (by rw [e1, nI_clamp (by omega)]) (nm_r (nI_1 i) (nm_r e2 (nm_r (nI_1 i) ?_)))⟩))
      refine ih (i + 1) _ (by omega) (fun k hk => ?_)
      by_cases c : k = i
      · rw [c, pk_us]
        unfold ei_rv
        rw [show w - 1 - i = j by omega]
      · rw [pk_un c]
        exact ha k (by omega)
  have g1 := ei_pv_ge l w
  have g2 := ei_pv_lt hl
  have g3 := ei_pw hw
  exact pk_lt (ei_pv l w) 1 (fun z => absurd z (by omega)) (fun _ => pk_lt (ei_pv l w) 8192 (fun _ => ⟨w + 1, key w 0 a4 (by omega) (fun k hk => absurd hk (by omega))⟩) (fun z => absurd z (by omega)))
theorem ei_wnarrow {post : St1 → Prop} {Q : Nat → Nat} (h : ei_P U len F N a2 a3) (hw : w ≤ 6) (hQ : ∀ k, k < w → Q k < 4) (h4 : ∀ k, k < w → a4 k = nI (Q k)) (H : ∀ lo hi, lo ≤ hi → hi ≤ N → hi - lo = ei_cn U F N Q w → (lo < hi → ei_ra U F N Q w lo hi) → post (fd, nI N, nI w, nI lo, nI hi, a1, a2, a3, a4, a5, a6, a7)) : wpX_narrow post (fd, nI N, nI w, fl, fh, a1, a2, a3, a4, a5, a6, a7) := by
  have h60 := ei_P60 h
  have key : ∀ j i lo hi, i + j = w → ei_ra U F N Q i lo hi → wX_narrow_15 post (j + 1) (nI i) fd (nI N) (nI w) (nI lo) (nI hi) a1 a2 a3 a4 a5 a6 a7 := by
    intro j
    induction j with
    | zero =>
      intro i lo hi hi' hr
      have e : i = w := by omega
      rw [e] at hr
      refine pk_le w i (fun _ => ?_) (fun z => absurd z (by omega))
      exact H lo hi hr.1 hr.2.1 (ei_racn hr).symm (fun _ => hr)
    | succ j ih =>
      intro i lo hi hi' hr
      have b1 := hr.1
      have b2 := hr.2.1
      refine pk_le w i (fun z => absurd z (by omega)) (fun _ => pk_le hi lo (fun z => ?_) (fun z => ⟨pk_in i 8 (by omega), ?_⟩))
      · exact H lo hi hr.1 hr.2.1 (by rw [ei_raE h.2.1 hr (by omega) z]; omega) (fun z2 => absurd z2 (by omega))
      · rw [nI_clamp (show i < 2 ^ 31 by omega), h4 i (by omega)]
        have q4 := hQ i (by omega)
        refine ei_wextend (B := fun r => ei_bl U len (F r)) h.2.2.2 h.1.1 h.2.2.1 (ei_P16 h) h60 (by omega) (by omega) b2 ?_
        refine nm_r (nI_1 i) (ih (i + 1) _ _ (by omega) ?_)
        exact ei_ras h.1 h.2.1 hr q4
  exact ⟨w + 1, key w 0 0 N (by omega) (ei_ra0 U F N Q)⟩
theorem ei_wcount {post : Int32 → St1 → Prop} (h : ei_P U len F N a2 a3) (hw : w ≤ 6) (hl : ∀ j, j < w → l j < 4) (H : ∀ fp fl fh a4, post (nI (ei_cn U F N (ei_rv l w) w)) (fd, nI N, fp, fl, fh, a1, a2, a3, a4, a5, a6, a7)) : wpX_count post (fd, nI N, fp, fl, fh, a1, a2, a3, a4, a5, a6, a7) (nI (ei_pv l w)) := by
  have h60 := ei_P60 h
  unfold wpX_count
  refine ei_wspread hw hl (fun a ha => ?_)
  refine br_f (by decide) ?_
  refine ei_wnarrow (Q := ei_rv l w) h hw (fun k hk => hl _ (by omega)) ha (fun lo hi b1 b2 b3 b4 => ?_)
  refine pk_le hi lo (fun z => ?_) (fun z => ?_)
  · have e : ei_cn U F N (ei_rv l w) w = 0 := by omega
    rw [e] at H
    exact H _ _ _ _
  · rw [pk_sub (by omega), b3]
    exact H _ _ _ _
theorem ei_wplace {post : Int32 → St1 → Prop} {k lo hi : Nat} (h : ei_P U len F N a2 a3) (hw : w ≤ 6) (hl : ∀ j, j < w → l j < 4) (hra : ei_ra U F N (ei_rv l w) w lo hi) (hk : lo + k < hi) (H : ∀ fp fl fh a4, post (nI (ei_nm len (F (lo + k)))) (fd, nI N, fp, fl, fh, a1, a2, a3, a4, a5, a6, a7)) : wpX_place post (fd, nI N, fp, fl, fh, a1, a2, a3, a4, a5, a6, a7) (nI (ei_pv l w)) (nI k) := by
  have h60 := ei_P60 h
  have r1 := hra.2.1
  unfold wpX_place
  refine ei_wspread hw hl (fun a ha => ?_)
  refine br_f (by decide) ?_
  refine ei_wnarrow (Q := ei_rv l w) h hw (fun k hk => hl _ (by omega)) ha (fun lo' hi' b1 b2 b3 b4 => ?_)
  have e1 := ei_racn hra
  obtain ⟨e2, e3⟩ := ei_raU hra (b4 (by omega)) (by omega)
  rw [e2, e3]
  refine pk_lt k 0 (fun z => absurd z (by omega)) (fun _ => pk_lt k (hi - lo) (fun _ => ?_) (fun z => absurd z (by omega)) rfl (pk_sub (by omega)))
  rw [nI_add]
  exact ei_wnumber h (by omega) (H _ _ _ _)
theorem ei_wplace0 {post : Int32 → St1 → Prop} {k : Nat} (h : ei_P U len F N a2 a3) (hw : w ≤ 6) (hl : ∀ j, j < w → l j < 4) (hk : ei_cn U F N (ei_rv l w) w ≤ k) (hk2 : k < 100) (H : ∀ fp fl fh a4, post (-4) (fd, nI N, fp, fl, fh, a1, a2, a3, a4, a5, a6, a7)) : wpX_place post (fd, nI N, fp, fl, fh, a1, a2, a3, a4, a5, a6, a7) (nI (ei_pv l w)) (nI k) := by
  have h60 := ei_P60 h
  unfold wpX_place
  refine ei_wspread hw hl (fun a ha => ?_)
  refine br_f (by decide) ?_
  refine ei_wnarrow (Q := ei_rv l w) h hw (fun k hk => hl _ (by omega)) ha (fun lo' hi' b1 b2 b3 b4 => ?_)
  exact pk_lt k 0 (fun z => absurd z (by omega)) (fun _ => pk_lt k (hi' - lo') (fun z => absurd z (by omega)) (fun _ => H _ _ _ _) rfl (pk_sub (by omega)))
end
end
section
/-! the walks of unpack, commonAt, common, distinct -/
theorem ei_sb2 (x a b : Int32) : x - a - b = x - (a + b) := by grind
/-- unpacked: the slots below s, and in slot s the endings of less than k letters -/
def ei_I (U : Nat → Nat → Nat) (len F : Nat → Nat) (N s k : Nat) (a6 a7 : Nat → Int32) : Prop := (∀ r, r < N → (F r / 16 < s ∨ (F r / 16 = s ∧ F r % 16 < k)) → a7 r = nI (ei_nm len (F r))) ∧ (∀ t m, t < 6 → m < len t → (t < s ∨ (t = s ∧ m < k)) → a6 (9 * t + (len t - 1 - m)) = nI (U t m))
theorem ei_Ind {U : Nat → Nat → Nat} {len F : Nat → Nat} {N s k : Nat} {a6 a7 : Nat → Int32} (h : ei_I U len F N s k a6 a7) (hk : len s < k ∨ len s = 0) (hS : ei_S U (ei_E len) F N) : ei_I U len F N (s + 1) 0 a6 a7 := by
  refine ⟨fun r hr c => h.1 r hr ?_, fun t m ht hm c => h.2 t m ht hm ?_⟩
  · have g := (hS.1 r hr).2
    rcases Nat.lt_or_ge (F r / 16) s with z | z
    · exact Or.inl z
    · have e : F r / 16 = s := by omega
      have g1 := g.1
      have g2 := g.2
      rw [e] at g1 g2
      exact Or.inr ⟨e, by omega⟩
  · rcases Nat.lt_or_ge t s with z | z
    · exact Or.inl z
    · have e : t = s := by omega
      rw [e] at hm
      exact Or.inr ⟨e, by omega⟩
section
variable {fd fs fp fl fh : Int32} {a1 a2 a3 a4 a5 a6 a7 : Nat → Int32} {U : Nat → Nat → Nat} {len F l : Nat → Nat} {N : Nat}
theorem ei_wunpack {post : St1 → Prop} (h : ei_P U len F N a2 a3) (H : ∀ a6 a7, ei_I U len F N 6 0 a6 a7 → post (fd, nI N, fp, fl, fh, a1, a2, a3, a4, a5, a6, a7)) : wpX_unpack post (fd, nI N, fp, fl, fh, a1, a2, a3, a4, a5, a6, a7) := by
  have h60 := ei_P60 h
  have inner : ∀ (J2 : Int32 → (Nat → Int32) → (Nat → Int32) → (Nat → Int32) → (Nat → Int32) → (Nat → Int32) → (Nat → Int32) → (Nat → Int32) → Prop) (s : Nat), s < 6 → 0 < len s → (∀ a6 a7, ei_I U len F N (s + 1) 0 a6 a7 → J2 (nI (s + 1)) a1 a2 a3 a4 a5 a6 a7) → ∀ j q a6 a7, q < N → j ≤ len s → F q = 16 * s + (len s - j) → ei_I U len F N s (len s - j) a6 a7 → wX_unpack_21 post J2 (nI s) fd (nI N) fp fl fh (j + 2) (nI q) (nI j) a1 a2 a3 a4 a5 a6 a7 := by
    intro J2 s hs h0 HJ j
    have h9 := h.1.1 s hs
    have st : ∀ q a7 j, q < N → j ≤ len s → F q = 16 * s + (len s - j) → (∀ r, r < N → (F r / 16 < s ∨ (F r / 16 = s ∧ F r % 16 < len s - j)) → a7 r = nI (ei_nm len (F r))) → ∀ r, r < N → (F r / 16 < s ∨ (F r / 16 = s ∧ F r % 16 < len s - j + 1)) → upd a7 q (nI (16 * s + j)) r = nI (ei_nm len (F r)) := by
      intro q a7 j hq hj e hI r hr c
      by_cases d : r = q
      · rw [d, pk_us]
        unfold ei_nm
        rw [e, show (16 * s + (len s - j)) / 16 = s by omega, show (16 * s + (len s - j)) % 16 = len s - j by omega]
        exact congrArg nI (by omega)
      · rw [pk_un d]
        have d2 : F r ≠ F q := fun z => d (ei_inj h.2.1 hr hq z)
        exact hI r hr (by omega)
    induction j with
    | zero =>
      intro q a6 a7 hq hj e hI
      have v : (16 : Int32) * nI s + nI 0 = nI (16 * s + 0) := by
        rw [show (16 : Int32) = nI 16 from rfl, pk_mul, nI_add]
      refine pk_lt 0 0 (fun z => absurd z (by omega)) (fun _ => ⟨pk_in s 6 hs, pk_le (len s) 0 (fun z => absurd z (by omega)) (fun _ => ⟨pk_in q 60 (by omega), nm_r (e' := upd a7 q (nI (16 * s + 0))) (by rw [nI_clamp (by omega), v]) ?_⟩) (ei_ld (h.2.2.2 s hs) rfl (by omega))⟩)
      refine pk_le 0 0 (fun _ => nm_r (e' := -1) rfl ?_) (fun z => absurd z (by omega))
      refine br_t (by decide) (nm_r (nI_1 s) (HJ _ _ ?_))
      refine ei_Ind (k := len s - 0 + 1) ⟨st q a7 0 hq hj e hI.1, fun t m ht hm c => hI.2 t m ht hm ?_⟩ (by omega) h.2.1
      rcases c with c | c
      · exact Or.inl c
      · refine Or.inr ⟨c.1, ?_⟩
        rw [c.1] at hm
        omega
    | succ j ih =>
      intro q a6 a7 hq hj e hI
      have m1 : F q / 16 = s := by omega
      have m2 : F q % 16 = len s - (j + 1) := by omega
      have hm : F q % 16 < len (F q / 16) := by rw [m1, m2]; omega
      obtain ⟨q', hq', e'⟩ := ei_up h.1 h.2.1 hq hm
      have v : (16 : Int32) * nI s + nI (j + 1) = nI (16 * s + (j + 1)) := by
        rw [show (16 : Int32) = nI 16 from rfl, pk_mul, nI_add]
      have v2 : nI s * 9 + nI (j + 1) - 1 = nI (9 * s + j) := by
        rw [show (9 : Int32) = nI 9 from rfl, pk_mul, nI_add, show s * 9 + (j + 1) = 9 * s + j + 1 by omega, nI_pred]
      have v3 : a2 q = nI (U s (len s - (j + 1))) := by
        rw [h.2.2.1 q hq, ei_bl_lt hm, m1, m2]
      refine pk_lt (j + 1) 0 (fun z => absurd z (by omega)) (fun _ => ⟨pk_in s 6 hs, pk_le (len s) 0 (fun z => absurd z (by omega)) (fun _ => ⟨pk_in q 60 (by omega), nm_r (e' := upd a7 q (nI (16 * s + (j + 1)))) (by rw [nI_clamp (by omega), v]) ?_⟩) (ei_ld (h.2.2.2 s hs) rfl (by omega))⟩)
      refine pk_le (j + 1) 0 (fun z => absurd z (by omega)) (fun _ => ⟨pk_in q 60 (by omega), pk_in (9 * s + j) 54 (by omega) v2, nm_r (e' := upd a6 (9 * s + j) (nI (U s (len s - (j + 1))))) (by rw [v2, nI_clamp (by omega), nI_clamp (by omega), v3]) ⟨pk_in q 60 (by omega), ?_⟩⟩)
      rw [nI_clamp (show q < 2 ^ 31 by omega)]
      refine ei_wstepC h hq hq' e' hm (nm_r (pk_m1 j) (ih q' _ _ hq' (by omega) (by omega) ⟨?_, fun t m ht hm' c => ?_⟩))
      · rw [show len s - j = len s - (j + 1) + 1 by omega]
        exact st q a7 (j + 1) hq hj e hI.1
      · by_cases d : t = s ∧ m = len s - (j + 1)
        · rw [d.1, d.2, show 9 * s + (len s - 1 - (len s - (j + 1))) = 9 * s + j by omega, pk_us]
        · have t9 := h.1.1 t ht
          rw [pk_un (by
            intro z
            have z1 : t = s := by omega
            rw [z1] at z hm'
            exact d ⟨z1, by omega⟩)]
          refine hI.2 t m ht hm' ?_
          rcases c with c | c
          · exact Or.inl c
          · refine Or.inr ⟨c.1, ?_⟩
            have c2 := c.2
            rcases Nat.lt_or_ge m (len s - (j + 1)) with y | y
            · exact y
            · exact absurd ⟨c.1, by omega⟩ d
  have outer : ∀ j s a6 a7, s + j = 6 → ei_I U len F N s 0 a6 a7 → wX_unpack_2 post fd (nI N) fp fl fh (j + 1) (nI s) a1 a2 a3 a4 a5 a6 a7 := by
    intro j
    induction j with
    | zero =>
      intro s a6 a7 hs hI
      have e : s = 6 := by omega
      rw [e] at hI
      exact pk_le 6 s (fun _ => H a6 a7 hI) (fun z => absurd z (by omega))
    | succ j ih =>
      intro s a6 a7 hs hI
      have h9 := h.1.1 s (by omega)
      refine pk_le 6 s (fun z => absurd z (by omega)) (fun _ => ?_)
      refine ei_wslots h.2.2.2 h.1.1 (by omega) ⟨pk_in s 6 (by omega), nm_r (ei_ld (h.2.2.2 s (by omega)) rfl (by omega)) ?_⟩
      by_cases c : 0 < len s
      · obtain ⟨q, hq, e⟩ := ei_at h.2.1 h.1 (show s < 6 by omega) c (Nat.zero_le (len s))
        rw [ei_slbC h.2.1 (by omega) hq (by omega)]
        exact ⟨len s + 2, inner _ s (by omega) c (fun b6 b7 hb => ih (s + 1) b6 b7 (by omega) hb) (len s) q a6 a7 hq (Nat.le_refl _) (by omega) (by rw [show len s - len s = 0 by omega]; exact hI)⟩
      · refine ⟨1, ?_⟩
        refine pk_lt (len s) 0 (fun z => absurd z (by omega)) (fun _ => ⟨pk_in s 6 (by omega), pk_le (len s) 0 (fun _ => nm_r (nI_1 s) (ih (s + 1) a6 a7 (by omega) (ei_Ind hI (by omega) h.2.1))) (fun z => absurd z (by omega)) (ei_ld (h.2.2.2 s (by omega)) rfl (by omega))⟩)
  exact ⟨6 + 1, outer 6 0 a6 a7 rfl ⟨fun r _ c => absurd c (by omega), fun t m _ _ c => absurd c (by omega)⟩⟩
/-- letters that the endings of rank r and r + 1 share -/
noncomputable def ei_cv (U : Nat → Nat → Nat) (F : Nat → Nat) (r : Nat) : Nat := ei_lc U (F r / 16) (F (r + 1) / 16) (F r % 16) (F (r + 1) % 16)
theorem ei_lc_le (U : Nat → Nat → Nat) (s t : Nat) : ∀ m n, ei_lc U s t m n ≤ m := by
  intro m
  induction m with
  | zero => intro n; cases n <;> exact Nat.le_refl 0
  | succ m ih =>
    intro n
    cases n with
    | zero => exact Nat.zero_le _
    | succ n =>
      show ei_b (U s m = U t n) * (ei_lc U s t m n + 1) ≤ m + 1
      have k := ih n
      by_cases c : U s m = U t n
      · rw [ei_bt c]
        omega
      · rw [ei_bf c]
        omega
theorem ei_wcommonAt {post : Int32 → Prop} {r : Nat} (h : ei_P U len F N a2 a3) (hI : ei_I U len F N 6 0 a6 a7) (hr : r + 1 < N) (H : post (nI (ei_cv U F r))) : wpX_commonAt post (fd, fs, fp, fl, fh, a1, a2, a3, a4, a5, a6, a7) (nI r) := by
  have h60 := ei_P60 h
  have z1 := h.2.1.1 r (by omega)
  have z2 := h.2.1.1 (r + 1) hr
  have y1 := z1.2.2
  have y2 := z2.2.2
  have s1 : F r / 16 < 6 := by omega
  have s2 : F (r + 1) / 16 < 6 := by omega
  have l1 := h.1.1 _ s1
  have l2 := h.1.1 _ s2
  have v1 : a7 (nI r).toNatClampNeg = nI (ei_nm len (F r)) := by
    rw [nI_clamp (by omega)]
    exact hI.1 r (by omega) (Or.inl s1)
  have v2 : a7 (nI r + 1).toNatClampNeg = nI (ei_nm len (F (r + 1))) := by
    rw [nI_1, nI_clamp (by omega)]
    exact hI.1 (r + 1) hr (Or.inl s2)
  have n1 : ei_nm len (F r) = 16 * (F r / 16) + (len (F r / 16) - F r % 16) := rfl
  have n2 : ei_nm len (F (r + 1)) = 16 * (F (r + 1) / 16) + (len (F (r + 1) / 16) - F (r + 1) % 16) := rfl
  have H' : post (nI (ei_lc U (F r / 16) (F (r + 1) / 16) (F r % 16) (F (r + 1) % 16))) := H
  generalize ei_nm len (F r) = x1 at v1 n1
  generalize ei_nm len (F (r + 1)) = x2 at v2 n2
  generalize F r / 16 = s at *
  generalize F (r + 1) / 16 = t at *
  generalize F r % 16 = m at *
  generalize F (r + 1) % 16 = n at *
  have key : ∀ m n k, m ≤ len s → n ≤ len t → k + m ≤ 9 → post (nI (k + ei_lc U s t m n)) → wX_commonAt_50 post (nI s) (nI t) fd fs fp fl fh a1 a2 a3 a4 a5 a6 a7 (m + 2) (nI (len s - m)) (nI (len t - n)) (nI k) (nI k) := by
    intro m
    induction m with
    | zero =>
      intro n k hm hn hk hp
      have e : ei_lc U s t 0 n = 0 := by cases n <;> rfl
      rw [e] at hp
      exact pk_le 9 k (fun _ => hp) (fun _ => ⟨pk_in s 6 s1, pk_le (len s) (len s - 0) (fun _ => hp) (fun z => absurd z (by omega)) (ei_ld (h.2.2.2 s s1) rfl (by omega))⟩)
    | succ m ih =>
      intro n k hm hn hk hp
      refine pk_le 9 k (fun z => absurd z (by omega)) (fun _ => ⟨pk_in s 6 s1, pk_le (len s) (len s - (m + 1)) (fun z => absurd z (by omega)) (fun _ => ⟨pk_in t 6 s2, ?_⟩) (ei_ld (h.2.2.2 s s1) rfl (by omega))⟩)
      cases n with
      | zero =>
        exact pk_le (len t) (len t - 0) (fun _ => hp) (fun z => absurd z (by omega)) (ei_ld (h.2.2.2 t s2) rfl (by omega))
      | succ n =>
        have p1 : nI s * 9 + nI (len s - (m + 1)) = nI (9 * s + (len s - 1 - m)) := by
          rw [show (9 : Int32) = nI 9 from rfl, pk_mul, nI_add]
          exact congrArg nI (by omega)
        have p2 : nI t * 9 + nI (len t - (n + 1)) = nI (9 * t + (len t - 1 - n)) := by
          rw [show (9 : Int32) = nI 9 from rfl, pk_mul, nI_add]
          exact congrArg nI (by omega)
        have w1 : a6 (nI s * 9 + nI (len s - (m + 1))).toNatClampNeg = nI (U s m) := by
          rw [p1, nI_clamp (by omega)]
          exact hI.2 s m s1 (by omega) (Or.inl s1)
        have w2 : a6 (nI t * 9 + nI (len t - (n + 1))).toNatClampNeg = nI (U t n) := by
          rw [p2, nI_clamp (by omega)]
          exact hI.2 t n s2 (by omega) (Or.inl s2)
        have u1 := h.1.2 s m s1 (by omega)
        have u2 := h.1.2 t n s2 (by omega)
        have q1 : nI (len s - (m + 1)) + 1 = nI (len s - m) := by
          rw [nI_1]
          exact congrArg nI (by omega)
        have q2 : nI (len t - (n + 1)) + 1 = nI (len t - n) := by
          rw [nI_1]
          exact congrArg nI (by omega)
        have e : ei_lc U s t (m + 1) (n + 1) = ei_b (U s m = U t n) * (ei_lc U s t m n + 1) := rfl
        rw [e] at hp
        refine pk_le (len t) (len t - (n + 1)) (fun z => absurd z (by omega)) (fun _ => ?_) (ei_ld (h.2.2.2 t s2) rfl (by omega))
        refine pk_eq k k (fun _ => ⟨pk_in (9 * s + (len s - 1 - m)) 54 (by omega) p1, pk_in (9 * t + (len t - 1 - n)) 54 (by omega) p2, ?_⟩) (fun z => absurd rfl z)
        refine pk_eq (U s m) (U t n) (fun c => nm_r (nI_1 k) (nm_r q1 (nm_r q2 (nm_r (nI_1 k) ?_)))) (fun c => nm_r q1 (nm_r q2 (nm_r (nI_1 k) ?_))) w1 w2
        · rw [ei_bt c] at hp
          refine ih n (k + 1) (by omega) (by omega) (by omega) ?_
          rw [show k + 1 + ei_lc U s t m n = k + 1 * (ei_lc U s t m n + 1) by omega]
          exact hp
        · rw [ei_bf c, Nat.zero_mul, Nat.add_zero] at hp
          refine pk_le 9 (k + 1) (fun _ => hp) (fun _ => ⟨pk_in s 6 s1, pk_le (len s) (len s - m) (fun _ => hp) (fun _ => ⟨pk_in t 6 s2, pk_le (len t) (len t - n) (fun _ => hp) (fun _ => pk_eq k (k + 1) (fun z => absurd z (by omega)) (fun _ => hp)) (ei_ld (h.2.2.2 t s2) rfl (by omega))⟩) (ei_ld (h.2.2.2 s s1) rfl (by omega))⟩)
  refine ⟨pk_in r 60 (by omega), nm_r (e' := nI s) (by rw [v1, pk_shrN (by omega) _ 4 (by decide)]; exact congrArg nI (by omega)) ⟨pk_in (r + 1) 60 (by omega) (nI_1 r), nm_r (e' := nI t) (by rw [v2, pk_shrN (by omega) _ 4 (by decide)]; exact congrArg nI (by omega)) ⟨pk_in r 60 (by omega), nm_r (e' := nI (len s - m)) (by rw [v1, pk_andN (by omega) 4 (by decide)]; exact congrArg nI (by omega)) ⟨pk_in (r + 1) 60 (by omega) (nI_1 r), nm_r (e' := nI (len t - n)) (by rw [v2, pk_andN (by omega) 4 (by decide)]; exact congrArg nI (by omega)) ⟨m + 2, ?_⟩⟩⟩⟩⟩
  refine key m n 0 y1 y2 (by omega) ?_
  rw [Nat.zero_add]
  exact H'
theorem ei_wcommon {post : Int32 → St1 → Prop} {r : Nat} (h : ei_P U len F N a2 a3) (hr : r + 1 < N) (H : ∀ a6 a7, post (nI (ei_cv U F r)) (fd, nI N, fp, fl, fh, a1, a2, a3, a4, a5, a6, a7)) : wpX_common post (fd, nI N, fp, fl, fh, a1, a2, a3, a4, a5, a6, a7) (nI r) := by
  have h60 := ei_P60 h
  refine pk_lt r 0 (fun z => absurd z (by omega)) (fun _ => pk_lt r (N - 1) (fun _ => ?_) (fun z => absurd z (by omega)) rfl (pk_sub (b := 1) (by omega)))
  exact ei_wunpack h (fun b6 b7 hI => ei_wcommonAt h hI hr (H b6 b7))
theorem ei_wcommon0 {post : Int32 → St1 → Prop} {r : Nat} (h : ei_P U len F N a2 a3) (hr : r + 1 = N) (H : post (-4) (fd, nI N, fp, fl, fh, a1, a2, a3, a4, a5, a6, a7)) : wpX_common post (fd, nI N, fp, fl, fh, a1, a2, a3, a4, a5, a6, a7) (nI r) := by
  have h60 := ei_P60 h
  exact pk_lt r 0 (fun z => absurd z (by omega)) (fun _ => pk_lt r (N - 1) (fun z => absurd z (by omega)) (fun _ => H) rfl (pk_sub (b := 1) (by omega)))
theorem ei_wdistinct {post : Int32 → St1 → Prop} (h : ei_P U len F N a2 a3) (H : ∀ a6 a7, post (nI (ei_sm (fun s => len s * (len s + 1) / 2) 6) - nI (ei_sm (ei_cv U F) (N - 1))) (fd, nI N, fp, fl, fh, a1, a2, a3, a4, a5, a6, a7)) : wpX_distinct post (fd, nI N, fp, fl, fh, a1, a2, a3, a4, a5, a6, a7) := by
  have h60 := ei_P60 h
  unfold wpX_distinct
  refine ei_wunpack h (fun b6 b7 hI => ?_)
  have loop2 : ∀ j r, r + j = N - 1 → wX_distinct_42 post fd (nI N) fp fl fh a1 a2 a3 a4 a5 b6 b7 (j + 1) (nI (ei_sm (fun s => len s * (len s + 1) / 2) 6) - nI (ei_sm (ei_cv U F) r)) (nI r) := by
    intro j
    induction j with
    | zero =>
      intro r hr
      have e : r = N - 1 := by omega
      refine pk_le N (r + 1) (fun _ => ?_) (fun z => absurd z (by omega)) rfl (nI_1 r)
      rw [e]
      exact H b6 b7
    | succ j ih =>
      intro r hr
      refine pk_le N (r + 1) (fun z => absurd z (by omega)) (fun _ => ?_) rfl (nI_1 r)
      refine ei_wcommonAt h hI (by omega) (nm_r (e' := nI (ei_sm (fun s => len s * (len s + 1) / 2) 6) - nI (ei_sm (ei_cv U F) (r + 1))) ?_ (nm_r (nI_1 r) (ih (r + 1) (by omega))))
      rw [ei_ss (ei_cv U F) r, ← nI_add]
      exact ei_sb2 _ _ _
  have loop1 : ∀ j s, s + j = 6 → wX_distinct_8 post fd (nI N) fp fl fh a1 a2 a3 a4 a5 b6 b7 (j + 1) (nI (ei_sm (fun s => len s * (len s + 1) / 2) s)) (nI s) := by
    intro j
    induction j with
    | zero =>
      intro s hs
      have e : s = 6 := by omega
      refine pk_le 6 s (fun _ => ⟨N - 1 + 1, ?_⟩) (fun z => absurd z (by omega))
      have t := loop2 (N - 1) 0 (by omega)
      rw [e]
      have e0 : nI (ei_sm (fun s => len s * (len s + 1) / 2) 6) - nI (ei_sm (ei_cv U F) 0) = nI (ei_sm (fun s => len s * (len s + 1) / 2) 6) := by
        rw [show ei_sm (ei_cv U F) 0 = 0 from rfl, pk_sub (Nat.zero_le _)]
        rfl
      rw [e0] at t
      exact t
    | succ j ih =>
      intro s hs
      have h9 := h.1.1 s (by omega)
      have hq : len s * (len s + 1) ≤ 9 * 10 := Nat.mul_le_mul h9 (by omega)
      have v : a3 (nI s).toNatClampNeg = nI (len s) := ei_ld (h.2.2.2 s (by omega)) rfl (by omega)
      refine pk_le 6 s (fun z => absurd z (by omega)) (fun _ => ⟨pk_in s 6 (by omega), pk_in s 6 (by omega), by decide, nm_r (e' := nI (ei_sm (fun s => len s * (len s + 1) / 2) (s + 1))) ?_ (nm_r (nI_1 s) (ih (s + 1) (by omega)))⟩)
      rw [v, nI_1, pk_mul, show (2 : Int32) = nI 2 from rfl, pk_div (by omega) (by omega) (by omega), nI_add]
      rfl
  exact ⟨6 + 1, loop1 6 0 rfl⟩
end
end
section
/-! the walks of draft, add, remove -/
def ei_D (d : Nat) (D : Nat → Nat) (a1 : Nat → Int32) : Prop := d ≤ 9 ∧ ∀ i, i < d → a1 i = nI (D i) ∧ D i < 4
/-- the letters of slot s are those of the draft -/
def ei_U (U : Nat → Nat → Nat) (s d : Nat) (D : Nat → Nat) (t m : Nat) : Nat := if t = s then D (d - 1 - m) else U t m
def ei_L (len : Nat → Nat) (s d t : Nat) : Nat := if t = s then d else len t
theorem ei_Ls (len : Nat → Nat) (s d : Nat) : ei_L len s d s = d := if_pos rfl
theorem ei_Ln {len : Nat → Nat} {s d t : Nat} (h : t ≠ s) : ei_L len s d t = len t := if_neg h
theorem ei_Us (U : Nat → Nat → Nat) (s d : Nat) (D : Nat → Nat) (m : Nat) : ei_U U s d D s m = D (d - 1 - m) := if_pos rfl
theorem ei_Un {U : Nat → Nat → Nat} {s d t : Nat} {D : Nat → Nat} {m : Nat} (h : t ≠ s) : ei_U U s d D t m = U t m := if_neg h
theorem ei_n60z {U : Nat → Nat → Nat} {E : Nat → Prop} {F : Nat → Nat} {N : Nat} (h : ei_S U E F N) (hE : ∀ z, z < 96 → E z → z % 16 ≤ 9) : N ≤ 60 := by
  have hN := ei_num h
  have k : ei_sm (fun z => ei_b (E z)) 96 ≤ 60 := by
    rw [← ei_c60]
    refine ei_sle (fun z hz => ?_)
    by_cases e : E z
    · rw [ei_bt e, if_pos (hE z hz e)]
      exact Nat.le_refl 1
    · rw [ei_bf e]
      exact Nat.zero_le _
  omega
section
variable {fd fs fp fl fh : Int32} {a1 a2 a3 a4 a5 a6 a7 : Nat → Int32} {U : Nat → Nat → Nat} {len F D : Nat → Nat} {N d s : Nat}
theorem ei_wdraft {post : Int32 → St1 → Prop} {l : Nat} (hl : l < 4) (hD : ei_D d D a1) (H9 : d = 9 → post (-2) (nI d, fs, fp, fl, fh, a1, a2, a3, a4, a5, a6, a7)) (H : d < 9 → ∀ a, ei_D (d + 1) (fun i => if i = d then l else D i) a → post (nI (d + 1)) (nI (d + 1), fs, fp, fl, fh, a, a2, a3, a4, a5, a6, a7)) : wpX_draft post (nI d, fs, fp, fl, fh, a1, a2, a3, a4, a5, a6, a7) (nI l) := by
  have h9 := hD.1
  refine pk_lt l 0 (fun z => absurd z (by omega)) (fun _ => pk_lt l 4 (fun _ => pk_eq d 9 H9 (fun z => ⟨pk_in d 9 (by omega), nm_r (e' := upd a1 d (nI l)) (by rw [nI_clamp (by omega)]) (nm_r (nI_1 d) (H (by omega) _ ⟨by omega, fun i hi => ?_⟩))⟩)) (fun z => absurd z (by omega)))
  by_cases c : i = d
  · dsimp only
    rw [c, pk_us, if_pos rfl]
    exact ⟨rfl, hl⟩
  · dsimp only
    rw [pk_un c, if_neg c]
    exact hD.2 i (by omega)
/-- an ending is put in -/
theorem ei_wput {post : St1 → Prop} {E G : Nat → Prop} {y j : Nat} (h : ei_S U E F N) (h2 : ∀ r, r < N → a2 r = nI (ei_bl U len (F r))) (hy : y < 96) (hE : ¬ E y) (hj : j = ei_sm (fun r => ei_b (ei_lt U (F r) y)) N) (hG : ∀ z, z < 96 → ((E z ∨ z = y) ↔ G z)) (h9 : ∀ z, z < 96 → G z → z % 16 ≤ 9)
    (H : ∀ F' a, N + 1 ≤ 60 → j ≤ N → ei_S U G F' (N + 1) → F' j = y → (∀ r, r < N + 1 → a r = nI (ei_bl U len (F' r))) → post (fd, nI (N + 1), fp, fl, fh, a1, a, a3, a4, a5, a6, a7)) : wpX_insert post (fd, nI N, fp, fl, fh, a1, a2, a3, a4, a5, a6, a7) (nI j) (nI (ei_bl U len y)) := by
  have k := ei_ins h hy hE hj
  have k2 := ei_Scg (V := U) k hG (fun _ _ _ _ _ => rfl)
  have k60 := ei_n60z k2 h9
  have jN : j ≤ N := by
    rw [hj]
    exact (ei_jx h y).1
  refine ei_wins (by omega) jN (fun a q1 q2 q3 => H _ a k60 jN k2 ?_ (fun r hr => ?_))
  · rw [if_neg (Nat.lt_irrefl j), if_pos rfl]
  · by_cases c : r < j
    · rw [if_pos c, q1 r c]
      exact h2 r (by omega)
    · rw [if_neg c]
      by_cases c2 : r = j
      · rw [if_pos c2, c2]
        exact q2
      · rw [if_neg c2, q3 r (by omega) (by omega)]
        exact h2 (r - 1) (by omega)
theorem ei_wadd_l {post : Int32 → St1 → Prop} (hs : s < 6) (hT : ei_T U len) (h0 : 0 < len s) (h1 : ∀ k, k < len s → a1 (len s - 1 - k) = nI (U s k)) (h3 : ∀ t, t < 6 → a3 t = nI (len t)) (H : ∀ F' N' a2', ei_P U len F' N' a2' a3 → 0 < N' → post (nI N') (0, nI N', fp, fl, fh, a1, a2', a3, a4, a5, a6, a7)) :
    ∀ j k F N a2 p, k + j = len s → ei_S U (ei_G len s (fun m => m < k)) F N → (∀ r, r < N → a2 r = nI (ei_bl U len (F r))) → p = ei_sm (fun r => ei_b (ei_lt U (F r) (16 * s + k))) N → wX_add_55 post (nI s) (j + 1) (nI p) (nI j + (-1)) fd (nI N) fp fl fh a1 a2 a3 a4 a5 a6 a7 := by
  have l9 := hT.1 s hs
  have hl9 : ∀ z, z < 96 → len (z / 16) ≤ 9 := fun z hz => hT.1 _ (by omega)
  have gG : ∀ k, k ≤ len s → ∀ z, z < 96 → ((ei_G len s (fun m => m < k) z ∨ z = 16 * s + k) ↔ ei_G len s (fun m => m < k + 1) z) := by
    intro k hk z hz
    constructor
    · intro g
      rcases g with g | g
      · exact ⟨fun c => Nat.lt_succ_of_lt (g.1 c), g.2⟩
      · exact ⟨fun c => by show z % 16 < k + 1; omega, fun c => absurd (by omega) c⟩
    · intro g
      by_cases c : z / 16 = s
      · have g1 : z % 16 < k + 1 := g.1 c
        by_cases c2 : z % 16 = k
        · exact Or.inr (by omega)
        · exact Or.inl ⟨fun _ => by show z % 16 < k; omega, fun c3 => absurd c c3⟩
      · exact Or.inl ⟨fun c3 => absurd c3 c, g.2⟩
  have g9 : ∀ k, k ≤ len s → ∀ z, z < 96 → ei_G len s (fun m => m < k + 1) z → z % 16 ≤ 9 := by
    intro k hk z hz g
    by_cases c : z / 16 = s
    · have g1 : z % 16 < k + 1 := g.1 c
      omega
    · have g2 := (g.2 c).2
      have := hl9 z hz
      omega
  have gn : ∀ k, k ≤ 9 → ¬ ei_G len s (fun m => m < k) (16 * s + k) := by
    intro k hk g
    have g1 : (16 * s + k) % 16 < k := g.1 (by omega)
    omega
  intro j
  induction j with
  | zero =>
    intro k F N a2 p hk hS h2 hp
    refine br_t (by decide) ?_
    have e : (4 : Int32) + nI s = nI (ei_bl U len (16 * s + k)) := by
      rw [ei_bl_eq (by rw [show (16 * s + k) / 16 = s by omega]; omega), show (16 * s + k) / 16 = s by omega, show (4 : Int32) = nI 4 from rfl, nI_add]
    rw [e]
    refine ei_wput hS h2 (by omega) (gn k (by omega)) hp (gG k (by omega)) (g9 k (by omega)) (fun F' a q1 q2 q3 q4 q5 => ?_)
    refine H F' (N + 1) a ⟨hT, ei_Scg (V := U) q3 (fun z hz => ?_) (fun _ _ _ _ _ => rfl), q5, h3⟩ (by omega)
    unfold ei_G
    by_cases c : z / 16 = s
    · refine ⟨fun g => ⟨by rw [c]; exact h0, ?_⟩, fun g => ⟨fun _ => ?_, fun c2 => absurd c c2⟩⟩
      · have g1 : z % 16 < k + 1 := g.1 c
        rw [c]
        omega
      · have g1 := g.2
        rw [c] at g1
        show z % 16 < k + 1
        omega
    · exact ⟨fun g => g.2 c, fun g => ⟨fun c2 => absurd c2 c, fun _ => g⟩⟩
  | succ j ih =>
    intro k F N a2 p hk hS h2 hp
    have kl : k < len s := by omega
    have d1 : (16 * s + k) / 16 = s := by omega
    have d2 : (16 * s + k) % 16 = k := by omega
    have u4 := hT.2 s k hs kl
    have e0 : nI (j + 1) + (-1) = nI j := pk_m1 j
    have e1 : a1 (nI j).toNatClampNeg = nI (U s k) := by
      rw [nI_clamp (by omega), ← h1 k kl]
      exact congrArg a1 (by omega)
    have e2 : ei_bl U len (16 * s + k) = U s k := by
      rw [ei_bl_lt (by rw [d1, d2]; exact kl), d1, d2]
    rw [e0]
    refine pk_lt j 0 (fun z => absurd z (by omega)) (fun _ => ⟨pk_in j 9 (by omega), ?_⟩)
    rw [e1, ← e2]
    refine ei_wput hS h2 (by omega) (gn k (by omega)) hp (gG k (by omega)) (g9 k (by omega)) (fun F' a q1 q2 q3 q4 q5 => ⟨pk_in j 9 (by omega), ?_⟩)
    rw [e1]
    have b16 : ∀ r, r < N + 1 → ei_bl U len (F' r) < 16 := by
      intro r hr
      have f := q3.1 r hr
      have f2 : F' r % 16 ≤ len (F' r / 16) := by
        by_cases c : F' r / 16 = s
        · have f3 : F' r % 16 < k + 1 := f.2.1 c
          rw [c]
          omega
        · exact (f.2.2 c).2
      have := ei_bl10 hT f.1 f2
      omega
    refine ei_wstep (B := fun r => ei_bl U len (F' r)) h3 hT.1 q5 b16 q1 (by omega) (by omega) (nm_e ?_)
    exact ih (k + 1) F' (N + 1) a _ (by omega) q3 q5 (ei_stpG hT hs kl q3 (by omega) q4)
theorem ei_wadd {post : Int32 → St1 → Prop} (hs : s < 6) (hD : ei_D d D a1) (h : ei_P U len F N a2 a3) (H1 : 0 < len s → post (-2) (nI d, nI N, fp, fl, fh, a1, a2, a3, a4, a5, a6, a7)) (H2 : len s = 0 → d = 0 → post (-4) (nI d, nI N, fp, fl, fh, a1, a2, a3, a4, a5, a6, a7))
    (H3 : len s = 0 → 0 < d → ∀ F' N' a2' a3', ei_P (ei_U U s d D) (ei_L len s d) F' N' a2' a3' → 0 < N' → post (nI N') (0, nI N', fp, fl, fh, a1, a2', a3', a4, a5, a6, a7)) : wpX_add post (nI d, nI N, fp, fl, fh, a1, a2, a3, a4, a5, a6, a7) (nI s) := by
  obtain ⟨hT, hS, h2, h3⟩ := h
  have l9 := hT.1 s hs
  have d9 := hD.1
  unfold wpX_add
  refine ei_wbad hs ?_
  refine br_t rfl ⟨pk_in s 6 hs, pk_le (len s) 0 (fun z => pk_eq d 0 (fun z2 => H2 (by omega) z2) (fun z2 => ⟨pk_in s 6 hs, nm_r (e' := upd a3 s (nI d)) (by rw [nI_clamp (by omega)]) ?_⟩)) (fun z => H1 z) (ei_ld (h3 s hs) rfl (by omega))⟩
  have c0 : len s = 0 := by omega
  have hT' : ei_T (ei_U U s d D) (ei_L len s d) := by
    refine ⟨fun t ht => ?_, fun t m ht hm => ?_⟩
    · by_cases c : t = s
      · rw [c, ei_Ls]
        exact d9
      · rw [ei_Ln c]
        exact hT.1 t ht
    · by_cases c : t = s
      · rw [c, ei_Ls] at hm
        rw [c, ei_Us]
        exact (hD.2 (d - 1 - m) (by omega)).2
      · rw [ei_Ln c] at hm
        rw [ei_Un c]
        exact hT.2 t m ht hm
  have h3' : ∀ t, t < 6 → upd a3 s (nI d) t = nI (ei_L len s d t) := by
    intro t ht
    by_cases c : t = s
    · rw [c, pk_us, ei_Ls]
    · rw [pk_un c, ei_Ln c]
      exact h3 t ht
  have nE : ∀ z, ei_E len z → z / 16 ≠ s := by
    intro z g c
    have g1 := g.1
    rw [c] at g1
    omega
  have hS' : ei_S (ei_U U s d D) (ei_G (ei_L len s d) s (fun m => m < 0)) F N := by
    refine ei_Scg hS (fun z hz => ?_) (fun z hz g k hk => ei_Un (nE z g))
    constructor
    · intro g
      refine ⟨fun c => absurd c (nE z g), fun c => ?_⟩
      unfold ei_E
      rw [ei_Ln c]
      exact g
    · intro g
      by_cases c : z / 16 = s
      · exact absurd (g.1 c) (Nat.not_lt_zero _)
      · have g2 := g.2 c
        unfold ei_E at g2
        rw [ei_Ln c] at g2
        exact g2
  have h2' : ∀ r, r < N → a2 r = nI (ei_bl (ei_U U s d D) (ei_L len s d) (F r)) := by
    intro r hr
    have c := nE _ (hS.1 r hr).2
    rw [h2 r hr]
    unfold ei_bl
    rw [ei_Ln c, ei_Un c]
  refine ei_wslots h3' hT'.1 (by omega) (nm_r (e' := nI d + (-1)) ?_ ⟨d + 1, ?_⟩)
  · exact Int32.sub_eq_add_neg _ _
  · refine ei_wadd_l hs hT' (by rw [ei_Ls]; omega) (fun k hk => ?_) h3' (H3 c0 (by omega) · · · _) d 0 F N a2 _ (by rw [ei_Ls]; omega) hS' h2' ?_
    · rw [ei_Ls] at hk ⊢
      rw [ei_Us]
      exact (hD.2 (d - 1 - k) (by omega)).1
    · refine ei_slb hS' hs (fun t ht => ?_)
      unfold ei_G ei_E
      rw [show 16 * t / 16 = t by omega]
      exact ⟨fun g => ⟨fun c => absurd c (by omega), fun _ => ⟨g, by omega⟩⟩, fun g => (g.2 (by omega)).1⟩
end
end
section
/-! the walk of remove -/
theorem ei_i_tot {x y : Int32} (h : ¬ x ≤ y) : y ≤ x := by
  rw [Int32.le_iff_toInt_le] at h ⊢
  omega
theorem ei_i_tr {x y z : Int32} (h : x ≤ y) (g : y ≤ z) : x ≤ z := by
  rw [Int32.le_iff_toInt_le] at h g ⊢
  omega
theorem ei_i_rf (x : Int32) : x ≤ x := by
  rw [Int32.le_iff_toInt_le]
  omega
theorem ei_i_m1 {p : Nat} (hp : p < 2 ^ 31) : ¬ nI p ≤ -1 := by
  rw [Int32.le_iff_toInt_le, nI_toInt hp]
  have e : (-1 : Int32).toInt = -1 := by decide
  rw [e]
  omega
theorem ei_sall {P : Nat → Prop} {n : Nat} (h : ei_sm (fun r => ei_b (P r)) n = 0) : ∀ i, i < n → ¬ P i := by
  intro i hi hP
  have k := ei_smn (f := fun r => ei_b (P r)) (show i + 1 ≤ n by omega)
  rw [ei_ss, ei_bt hP] at k
  omega
theorem ei_sone {P : Nat → Prop} {n a : Nat} (ha : a < n) (hP : P a) : ei_sm (fun r => ei_b (P r)) n = ei_sm (fun r => ei_b (P r ∧ r ≠ a)) n + 1 := by
  have e : ei_sm (fun r => ei_b (r = a)) n = 1 := by
    rw [ei_s1 ha (fun i _ hne => ei_bf hne)]
    exact ei_bt rfl
  rw [← e, ← ei_sadd]
  refine ei_sc (fun r _ => ?_)
  by_cases c : r = a
  · rw [ei_bt c, ei_bf (p := P r ∧ r ≠ a) (fun k => k.2 c), c, ei_bt hP]
  · rw [ei_bf c, Nat.add_zero]
    exact ei_bc ⟨fun k => ⟨k, c⟩, fun k => k.1⟩
section
variable {fd fs fp fl fh : Int32} {a1 a2 a3 a4 a5 a6 a7 : Nat → Int32} {U : Nat → Nat → Nat} {len F : Nat → Nat} {N s : Nat}
/-- where the last of the places is; it is taken out -/
theorem ei_wrem95 {post : Int32 → St1 → Prop} {J : Int32 → Int32 → Int32 → Int32 → Int32 → Int32 → (Nat → Int32) → (Nat → Int32) → (Nat → Int32) → (Nat → Int32) → (Nat → Int32) → (Nat → Int32) → (Nat → Int32) → Prop} {n i : Nat} {x1 : Int32} (hn : n ≤ 9) (hN : N < 60)
    (H : ∀ q, q ≤ n → (∀ k, k ≤ n → a5 k ≤ a5 q) → ∃ p, a5 q = nI p ∧ p ≤ N ∧ ∀ a : Nat → Int32, (∀ k, k < p → a k = a2 k) → (∀ k, p ≤ k → k < N → a k = a2 (k + 1)) → J (nI (i + 1)) fd (nI N) fp fl fh a1 a a3 a4 (upd a5 q (-1)) a6 a7) (hi : i < 100) :
    ∀ j k q, k + j = n + 1 → q ≤ n → (k = 0 → q = 0) → (∀ m, m < k → a5 m ≤ a5 q) → wX_remove_95 post J x1 (nI n) (nI i) fd (nI (N + 1)) fp fl fh a1 a2 a3 a4 a5 a6 a7 (j + 1) (nI q) (nI k) := by
  intro j
  induction j with
  | zero =>
    intro k q hk hq _ hm
    refine pk_lt n k (fun _ => ⟨pk_in q 10 (by omega), ?_⟩) (fun z => absurd z (by omega))
    obtain ⟨p, e, hp, t⟩ := H q hq (fun m hm' => hm m (by omega))
    rw [nI_clamp (show q < 2 ^ 31 by omega), e]
    exact ei_wdel hN hp (fun a h1 h2 => ⟨pk_in q 10 (by omega), nm_e (nm_r (nI_1 i) (t a h1 h2))⟩)
  | succ j ih =>
    intro k q hk hq h0 hm
    refine pk_lt n k (fun z => absurd z (by omega)) (fun _ => ⟨pk_in k 10 (by omega), pk_in q 10 (by omega), ?_⟩)
    rw [nI_clamp (show q < 2 ^ 31 by omega), nI_clamp (show k < 2 ^ 31 by omega)]
    refine br_c (fun c => nm_r (nI_1 k) (ih (k + 1) q (by omega) hq (fun z => absurd z (by omega)) (fun m hm' => ?_))) (fun c => nm_r (nI_1 k) (ih (k + 1) k (by omega) (by omega) (fun z => absurd z (by omega)) (fun m hm' => ?_)))
    · by_cases e : m = k
      · rw [e]
        exact c
      · exact hm m (by omega)
    · by_cases e : m = k
      · rw [e]
        exact ei_i_rf _
      · exact ei_i_tr (hm m (by omega)) (ei_i_tot c)
/-- one ending after the other is taken out -/
theorem ei_wrem83 {post : Int32 → St1 → Prop} (hs : s < 6) (hT : ei_T U len) (h3 : ∀ t, t < 6 → a3 t = nI (len t)) (H : ∀ F' N' a2' a3' a5', ei_P U (ei_L len s 0) F' N' a2' a3' → post (nI N') (fd, nI N', fp, fl, fh, a1, a2', a3', a4, a5', a6, a7)) :
    ∀ j i F N a2 a5 (K : Nat → Prop), i + j = len s + 1 → ei_sm (fun k => ei_b (K k)) (len s + 1) = j → (∀ k, K k → k ≤ len s) → ei_S U (ei_G len s K) F N → (∀ r, r < N → a2 r = nI (ei_bl U len (F r))) → (∀ k, k ≤ len s → K k → ∃ p, p < N ∧ a5 k = nI p ∧ F p = 16 * s + k) → (∀ k, k ≤ len s → ¬ K k → a5 k = -1) → wX_remove_83 post (nI s) (nI (len s)) (j + 1) (nI i) fd (nI N) fp fl fh a1 a2 a3 a4 a5 a6 a7 := by
  have l9 := hT.1 s hs
  intro j
  induction j with
  | zero =>
    intro i F N a2 a5 K hi hK hKl hS h2 k1 k2
    have nK : ∀ k, ¬ K k := fun k g => ei_sall hK k (by have := hKl k g; omega) g
    refine pk_lt (len s) i (fun _ => ⟨pk_in s 6 hs, nm_r (e' := upd a3 s 0) (by rw [nI_clamp (by omega)]) ?_⟩) (fun z => absurd z (by omega))
    have nE : ∀ z, ei_G len s K z → z / 16 ≠ s := fun z g c => nK _ (g.1 c)
    refine H F N a2 _ a5 ⟨⟨fun t ht => ?_, fun t m ht hm => ?_⟩, ei_Scg (V := U) hS (fun z hz => ?_) (fun _ _ _ _ _ => rfl), fun r hr => ?_, fun t ht => ?_⟩
    · by_cases c : t = s
      · rw [c, ei_Ls]
        omega
      · rw [ei_Ln c]
        exact hT.1 t ht
    · by_cases c : t = s
      · rw [c, ei_Ls] at hm
        omega
      · rw [ei_Ln c] at hm
        exact hT.2 t m ht hm
    · constructor
      · intro g
        have c := nE z g
        have g2 := g.2 c
        unfold ei_E
        rw [ei_Ln c]
        exact g2
      · intro g
        by_cases c : z / 16 = s
        · have g1 := g.1
          rw [c, ei_Ls] at g1
          omega
        · unfold ei_E at g
          rw [ei_Ln c] at g
          exact ⟨fun c2 => absurd c2 c, fun _ => g⟩
    · have c := nE _ (hS.1 r hr).2
      rw [h2 r hr]
      unfold ei_bl
      rw [ei_Ln c]
    · by_cases c : t = s
      · rw [c, pk_us, ei_Ls]
        rfl
      · rw [pk_un c, ei_Ln c]
        exact h3 t ht
  | succ j ih =>
    intro i F N a2 a5 K hi hK hKl hS h2 k1 k2
    obtain ⟨k0, b1, b2, _⟩ := ei_nth (P := K) (q := 0) (n := len s + 1) (by omega)
    obtain ⟨p0, c1, c2, c3⟩ := k1 k0 (by omega) b2
    have N60 : N ≤ 60 := ei_n60z hS (fun z hz g => by
      by_cases c : z / 16 = s
      · have := hKl _ (g.1 c)
        omega
      · have g2 := (g.2 c).2
        have := hT.1 (z / 16) (by omega)
        omega)
    obtain ⟨M, rfl⟩ : ∃ M, N = M + 1 := ⟨N - 1, by omega⟩
    refine pk_lt (len s) i (fun z => absurd z (by omega)) (fun _ => ⟨len s + 1 + 1, ?_⟩)
    refine ei_wrem95 l9 (by omega) (fun q hq hmax => ?_) (by omega) (len s + 1) 0 0 (by omega) (by omega) (fun _ => rfl) (fun m hm => absurd hm (by omega))
    have Kq : K q := by
      by_cases g : K q
      · exact g
      · have g1 := hmax k0 (by omega)
        rw [c2, k2 q hq g] at g1
        exact absurd g1 (ei_i_m1 (by omega))
    obtain ⟨p, d1, d2, d3⟩ := k1 q hq Kq
    refine ⟨p, d2, by omega, fun a q1 q2 => ?_⟩
    refine ih (i + 1) (fun r => if r < p then F r else F (r + 1)) M a _ (fun k => K k ∧ k ≠ q) (by omega) ?_ (fun k g => hKl k g.1) ?_ (fun r hr => ?_) (fun k hk g => ?_) (fun k hk g => ?_)
    · have := ei_sone (P := K) (n := len s + 1) (a := q) (by omega) Kq
      omega
    · refine ei_Scg (V := U) (ei_del hS d1) (fun z hz => ?_) (fun _ _ _ _ _ => rfl)
      rw [d3]
      constructor
      · intro g
        exact ⟨fun c => ⟨g.1.1 c, fun c4 => g.2 (by omega)⟩, g.1.2⟩
      · intro g
        refine ⟨⟨fun c => (g.1 c).1, g.2⟩, fun c4 => ?_⟩
        have := (g.1 (by omega)).2
        omega
    · by_cases c : r < p
      · rw [if_pos c, q1 r c]
        exact h2 r (by omega)
      · rw [if_neg c, q2 r (by omega) hr]
        exact h2 (r + 1) (by omega)
    · obtain ⟨p', f1, f2, f3⟩ := k1 k hk g.1
      have g1 := hmax k hk
      rw [f2, d2, nI_leI (by omega) (by omega)] at g1
      have g2 : p' ≠ p := fun c => g.2 (by rw [c] at f3; omega)
      refine ⟨p', by omega, ?_, ?_⟩
      · rw [pk_un g.2]
        exact f2
      · rw [if_pos (by omega)]
        exact f3
    · by_cases c : k = q
      · rw [c, pk_us]
      · rw [pk_un c]
        exact k2 k hk (fun g1 => g ⟨g1, c⟩)
theorem ei_wremove {post : Int32 → St1 → Prop} (hs : s < 6) (h : ei_P U len F N a2 a3) (H1 : len s = 0 → post (-4) (fd, nI N, fp, fl, fh, a1, a2, a3, a4, a5, a6, a7)) (H2 : 0 < len s → ∀ F' N' a2' a3' a5', ei_P U (ei_L len s 0) F' N' a2' a3' → post (nI N') (fd, nI N', fp, fl, fh, a1, a2', a3', a4, a5', a6, a7)) : wpX_remove post (fd, nI N, fp, fl, fh, a1, a2, a3, a4, a5, a6, a7) (nI s) := by
  have h60 := ei_P60 h
  have l9 := h.1.1 s hs
  unfold wpX_remove
  refine ei_wbad hs ?_
  refine br_t rfl ⟨pk_in s 6 hs, pk_eq (len s) 0 (fun z => H1 z) (fun z => ⟨pk_in s 6 hs, nm_r (ei_ld (h.2.2.2 s hs) rfl (by omega)) ?_⟩) (ei_ld (h.2.2.2 s hs) rfl (by omega))⟩
  have h0 : 0 < len s := by omega
  obtain ⟨q0, hq0, e0⟩ := ei_at h.2.1 h.1 hs h0 (Nat.zero_le (len s))
  have key : ∀ j i q b5, i + j = len s + 1 → q < N → (i ≤ len s → F q = 16 * s + i) → (∀ k, k < i → ∃ p, p < N ∧ b5 k = nI p ∧ F p = 16 * s + k) → wX_remove_38 post (nI s) (nI (len s)) fd (nI N) fp fl fh (j + 1) (nI q) (nI i) a1 a2 a3 a4 b5 a6 a7 := by
    intro j
    induction j with
    | zero =>
      intro i q b5 hi hq e hb
      refine pk_lt (len s) i (fun _ => ⟨len s + 1 + 1, ?_⟩) (fun z => absurd z (by omega))
      refine ei_wrem83 hs h.1 h.2.2.2 (H2 h0) (len s + 1) 0 F N a2 b5 (fun k => k < len s + 1) (by omega) (ei_slt (Nat.le_refl _)) (fun k g => by omega) ?_ h.2.2.1 (fun k hk _ => hb k (by omega)) (fun k hk g => absurd (by omega) g)
      refine ei_Scg (V := U) h.2.1 (fun z hz => ?_) (fun _ _ _ _ _ => rfl)
      constructor
      · intro g
        refine ⟨fun c => ?_, fun _ => g⟩
        have g2 := g.2
        rw [c] at g2
        show z % 16 < len s + 1
        omega
      · intro g
        by_cases c : z / 16 = s
        · have g1 : z % 16 < len s + 1 := g.1 c
          exact ⟨by rw [c]; exact h0, by rw [c]; omega⟩
        · exact g.2 c
    | succ j ih =>
      intro i q b5 hi hq e hb
      have e := e (by omega)
      have m1 : F q / 16 = s := by omega
      have m2 : F q % 16 = i := by omega
      have hb' : ∀ k, k < i + 1 → ∃ p, p < N ∧ upd b5 i (nI q) k = nI p ∧ F p = 16 * s + k := by
        intro k hk
        by_cases c : k = i
        · exact ⟨q, hq, by rw [c, pk_us], by rw [c]; exact e⟩
        · rw [pk_un c]
          exact hb k (by omega)
      refine pk_lt (len s) i (fun z => absurd z (by omega)) (fun _ => ⟨pk_in i 10 (by omega), nm_r (e' := upd b5 i (nI q)) (by rw [nI_clamp (by omega)]) ⟨pk_in q 60 (by omega), ?_⟩⟩)
      by_cases c : i = len s
      · exact pk_le 4 (4 + s) (fun _ => nm_r (nI_1 i) (ih (i + 1) q _ (by omega) hq (fun z => absurd z (by omega)) hb')) (fun z => absurd z (by omega)) rfl (ei_ld (by rw [h.2.2.1 q hq, ei_bl_eq (by rw [m1, m2, c]), m1]) rfl (by omega))
      · have hm : F q % 16 < len (F q / 16) := by rw [m1, m2]; omega
        have u4 := h.1.2 s i hs (by omega)
        obtain ⟨q', hq', e'⟩ := ei_up h.1 h.2.1 hq hm
        refine pk_le 4 (U s i) (fun z => absurd z (by omega)) (fun _ => ⟨pk_in q 60 (by omega), ?_⟩) rfl (ei_ld (by rw [h.2.2.1 q hq, ei_bl_lt hm, m1, m2]) rfl (by omega))
        rw [nI_clamp (show q < 2 ^ 31 by omega)]
        exact ei_wstepC h hq hq' e' hm (nm_r (nI_1 i) (ih (i + 1) q' _ (by omega) hq' (fun _ => by omega) hb'))
  refine ei_wslots h.2.2.2 h.1.1 (by omega) ⟨len s + 1 + 1, ?_⟩
  rw [ei_slbC h.2.1 hs hq0 (by omega)]
  exact key (len s + 1) 0 q0 a5 (by omega) hq0 (fun _ => e0) (fun k hk => absurd hk (by omega))
end
end
section
/-! the law's own helpers: pattern, ends, turn -/
theorem ei_wpattern (x : Int32) : ∃ (w : Nat) (l : Nat → Nat), w ≤ 6 ∧ (∀ j, j < w → l j < 4) ∧ ∀ post : Int32 → Prop, post (nI (ei_pv l w)) → wpL_pattern post () x := by
  refine ⟨x.toBitVec.toNat % 2 ^ 3 % 7, fun i => (x >>> ((3 + 2 * nI i) &&& 31)).toBitVec.toNat % 2 ^ 2, by omega, fun j _ => by show _ % 2 ^ 2 < 4; omega, fun post hp => ?_⟩
  have e7 : (x &&& 7) - (x &&& 7) / 7 * 7 = nI (x.toBitVec.toNat % 2 ^ 3 % 7) := by
    rw [pk_and x 3 (by decide)]
    exact pk_rem (d := 7) (by omega) (by omega) (by omega)
  have hw6 : x.toBitVec.toNat % 2 ^ 3 % 7 ≤ 6 := by omega
  generalize x.toBitVec.toNat % 2 ^ 3 % 7 = w at hp e7 hw6
  have key : ∀ j i, i + j = 6 → wL_pattern_12 post x (nI w) (j + 1) (nI (ei_pv (fun i => (x >>> ((3 + 2 * nI i) &&& 31)).toBitVec.toNat % 2 ^ 2) (min i w))) (nI i) := by
    intro j
    induction j with
    | zero =>
      intro i hi
      refine pk_le 6 i (fun _ => ?_) (fun z => absurd z (by omega))
      rw [show min i w = w by omega]
      exact hp
    | succ j ih =>
      intro i hi
      have t := ih (i + 1) (by omega)
      refine pk_le 6 i (fun z => absurd z (by omega)) (fun _ => pk_le w i (fun z => nm_r (nI_1 i) ?_) (fun z => nm_r (e' := nI (ei_pv (fun i => (x >>> ((3 + 2 * nI i) &&& 31)).toBitVec.toNat % 2 ^ 2) (min (i + 1) w))) ?_ (nm_r (nI_1 i) t)))
      · rw [show min (i + 1) w = min i w by omega] at t
        exact t
      · rw [show min (i + 1) w = i + 1 by omega, show min i w = i by omega, pk_and _ 2 (by decide), show (4 : Int32) = nI 4 from rfl, pk_mul, nI_add]
        rfl
  refine ⟨by decide, nm_r e7 ⟨6 + 1, ?_⟩⟩
  have t := key 6 0 rfl
  rw [Nat.zero_min] at t
  exact t
section
variable {fd fs fp fl fh : Int32} {a1 a2 a3 a4 a5 a6 a7 : Nat → Int32} {U : Nat → Nat → Nat} {len F l : Nat → Nat} {N w s : Nat}
theorem ei_wletL {post : Int32 → Prop} {i : Nat} (h : ei_P U len F N a2 a3) (hs : s < 6) (hi : i < 100) (H1 : i < len s → post (nI (U s i))) (H2 : len s ≤ i → post (-4)) : wpX_letter post (fd, nI N, fp, fl, fh, a1, a2, a3, a4, a5, a6, a7) (nI s) (nI (len s) - 1 - nI i) := by
  have l9 := h.1.1 s hs
  have e : nI (len s) - 1 - nI i = nI (len s) - nI (1 + i) := by
    rw [ei_sb2, ← nI_add]
    rfl
  rw [e]
  by_cases c : i < len s
  · rw [pk_sub (by omega)]
    refine ei_wletter h hs (by omega) ?_
    rw [show len s - 1 - (len s - (1 + i)) = i by omega]
    exact H1 c
  · exact ei_wletterN hs (pk_sneg (by omega) (by omega)) (H2 (by omega))
theorem ei_wends {post : Int32 → Prop} (h : ei_P U len F N a2 a3) (hw : w ≤ 6) (hl : ∀ j, j < w → l j < 4) (H : post (nI (ei_en U len (ei_rv l w) w 6))) : wpL_ends post (fd, nI N, fp, fl, fh, a1, a2, a3, a4, a5, a6, a7) (nI (ei_pv l w)) := by
  have inner : ∀ (J4 : Int32 → Int32 → Prop) (s c : Nat), s < 6 → J4 (nI (c + ei_b (0 < len s ∧ w ≤ len s ∧ ∀ i, i < w → U s i = ei_rv l w i))) (nI (s + 1)) → ∀ j i, i + j = 6 → wL_ends_35 post J4 (nI (ei_pv l w)) (nI c) (nI s) (nI (len s)) fd (nI N) fp fl fh a1 a2 a3 a4 a5 a6 a7 (j + 1) (nI (ei_pv l (w - i))) (nI (ei_b (0 < len s ∧ ∀ k, k < i → k < w → k < len s ∧ U s k = ei_rv l w k))) (nI i) := by
    intro J4 s c hs HJ j
    have l9 := h.1.1 s hs
    induction j with
    | zero =>
      intro i hi
      have e6 : i = 6 := by omega
      have eb : ei_b (0 < len s ∧ ∀ k, k < i → k < w → k < len s ∧ U s k = ei_rv l w k) = ei_b (0 < len s ∧ w ≤ len s ∧ ∀ i, i < w → U s i = ei_rv l w i) := by
        refine ei_bc ⟨fun g => ⟨g.1, ?_, fun k hk => (g.2 k (by omega) hk).2⟩, fun g => ⟨g.1, fun k _ hk => ⟨by have := g.2.1; omega, g.2.2 k hk⟩⟩⟩
        rcases Nat.eq_zero_or_pos w with z | z
        · omega
        · have := (g.2 (w - 1) (by omega) (by omega)).1
          omega
      rw [eb]
      refine pk_le 6 i (fun _ => ?_) (fun z => absurd z (by omega))
      by_cases g : 0 < len s ∧ w ≤ len s ∧ ∀ i, i < w → U s i = ei_rv l w i
      · rw [ei_bt g] at HJ ⊢
        exact pk_eq 1 0 (fun z => absurd z (by omega)) (fun _ => nm_r (nI_1 c) (nm_r (nI_1 s) HJ))
      · rw [ei_bf g] at HJ ⊢
        exact pk_eq 0 0 (fun _ => nm_r (nI_1 s) HJ) (fun z => absurd rfl z)
    | succ j ih =>
      intro i hi
      have t := ih (i + 1) (by omega)
      have iw : i < w → ei_pv l (w - i) = 4 * ei_pv l (w - (i + 1)) + l (w - (i + 1)) := by
        intro z
        rw [show w - i = w - (i + 1) + 1 by omega]
        rfl
      have wi : w ≤ i → ei_pv l (w - i) = 1 ∧ ei_pv l (w - (i + 1)) = 1 := by
        intro z
        rw [show w - i = 0 by omega, show w - (i + 1) = 0 by omega]
        exact ⟨rfl, rfl⟩
      have g1 := ei_pv_ge l (w - (i + 1))
      have g2 := ei_pv_lt (l := l) (w := w - i) (fun k hk => hl k (by omega))
      have g3 := ei_pw (w := w - i) (by omega)
      have g4 : i < w → l (w - (i + 1)) < 4 := fun z => hl _ (by omega)
      have fin : ∀ z0, z0 = nI (ei_b (0 < len s ∧ ∀ k, k < i + 1 → k < w → k < len s ∧ U s k = ei_rv l w k)) → wL_ends_81 post J4 (wL_ends_35 post J4 (nI (ei_pv l w)) (nI c) (nI s) (nI (len s)) fd (nI N) fp fl fh a1 a2 a3 a4 a5 a6 a7 (j + 1)) (nI (ei_pv l w)) (nI c) (nI s) (nI (len s)) (nI (ei_pv l (w - i))) (nI i) z0 fd (nI N) fp fl fh a1 a2 a3 a4 a5 a6 a7 := by
        intro z0 ez
        rw [ez]
        refine pk_le 4 (ei_pv l (w - i)) (fun z => ?_) (fun z => nm_r (nI_1 i) ?_)
        · have c1 : i < w := by
            rcases Nat.lt_or_ge i w with y | y
            · exact y
            · have := wi y
              omega
          have k1 := iw c1
          have k2 := g4 c1
          refine nm_r (e' := nI (ei_pv l (w - (i + 1)))) ?_ (nm_r (nI_1 i) t)
          rw [pk_shrN (by omega) _ 2 (by decide)]
          exact congrArg nI (by omega)
        · have c1 : w ≤ i := by
            rcases Nat.lt_or_ge i w with y | y
            · have := iw y
              omega
            · exact y
          rw [(wi c1).2] at t
          rw [(wi c1).1]
          exact t
      have sm : (0 < len s ∧ ∀ k, k < i + 1 → k < w → k < len s ∧ U s k = ei_rv l w k) ↔ ((0 < len s ∧ ∀ k, k < i → k < w → k < len s ∧ U s k = ei_rv l w k) ∧ (i < w → i < len s ∧ U s i = ei_rv l w i)) := by
        constructor
        · exact fun g => ⟨⟨g.1, fun k hk => g.2 k (by omega)⟩, g.2 i (by omega)⟩
        · refine fun g => ⟨g.1.1, fun k hk => ?_⟩
          by_cases e : k = i
          · rw [e]
            exact g.2
          · exact g.1.2 k (by omega)
      rw [ei_bc sm] at fin
      have rvi : ei_rv l w i = l (w - (i + 1)) := by
        unfold ei_rv
        rw [show w - 1 - i = w - (i + 1) by omega]
      have x3 : i < w → nI (ei_pv l (w - i)) &&& 3 = nI (ei_rv l w i) := by
        intro z
        have k1 := iw z
        have k2 := g4 z
        rw [pk_andN (by omega) 2 (by decide), rvi]
        exact congrArg nI (by omega)
      refine pk_le 6 i (fun z => absurd z (by omega)) (fun _ => ?_)
      by_cases g : 0 < len s ∧ ∀ k, k < i → k < w → k < len s ∧ U s k = ei_rv l w k
      · rw [ei_bt g]
        have big : w ≤ i → ∀ r : Int32, ((nI 1 = 0 → wL_ends_80 post J4 (wL_ends_35 post J4 (nI (ei_pv l w)) (nI c) (nI s) (nI (len s)) fd (nI N) fp fl fh a1 a2 a3 a4 a5 a6 a7 (j + 1)) (nI (ei_pv l w)) (nI c) (nI s) (nI (len s)) (nI (ei_pv l (w - i))) (nI i) fd (nI N) fp fl fh a1 a2 a3 a4 a5 a6 a7) ∧ (¬ nI 1 = 0 → (nI (ei_pv l (w - i)) < 4 → wL_ends_76 post J4 (wL_ends_35 post J4 (nI (ei_pv l w)) (nI c) (nI s) (nI (len s)) fd (nI N) fp fl fh a1 a2 a3 a4 a5 a6 a7 (j + 1)) (nI (ei_pv l w)) (nI c) (nI s) (nI (len s)) (nI (ei_pv l (w - i))) (nI i) fd (nI N) fp fl fh a1 a2 a3 a4 a5 a6 a7) ∧ (¬ nI (ei_pv l (w - i)) < 4 → ((r = nI (ei_pv l (w - i)) &&& 3 → wL_ends_76 post J4 (wL_ends_35 post J4 (nI (ei_pv l w)) (nI c) (nI s) (nI (len s)) fd (nI N) fp fl fh a1 a2 a3 a4 a5 a6 a7 (j + 1)) (nI (ei_pv l w)) (nI c) (nI s) (nI (len s)) (nI (ei_pv l (w - i))) (nI i) fd (nI N) fp fl fh a1 a2 a3 a4 a5 a6 a7) ∧ (¬ r = nI (ei_pv l (w - i)) &&& 3 → wL_ends_80 post J4 (wL_ends_35 post J4 (nI (ei_pv l w)) (nI c) (nI s) (nI (len s)) fd (nI N) fp fl fh a1 a2 a3 a4 a5 a6 a7 (j + 1)) (nI (ei_pv l w)) (nI c) (nI s) (nI (len s)) (nI (ei_pv l (w - i))) (nI i) fd (nI N) fp fl fh a1 a2 a3 a4 a5 a6 a7))))) := by
          intro c1 r
          refine br_f (by decide) (pk_lt (ei_pv l (w - i)) 4 (fun _ => fin 1 ?_) (fun z => ?_))
          · rw [ei_bt ⟨g, fun z => absurd z (by omega)⟩]
            rfl
          · have := (wi c1).1
            exact absurd z (by omega)
        by_cases c1 : i < w
        · have k1 := iw c1
          have k2 := g4 c1
          have k3 := x3 c1
          refine ei_wletL h hs (by omega) (fun c2 => ?_) (fun c2 => ?_)
          · refine br_f (by decide) (pk_lt (ei_pv l (w - i)) 4 (fun z => absurd z (by omega)) (fun _ => ?_))
            have u4 := h.1.2 s i hs c2
            refine pk_eq (U s i) (ei_rv l w i) (fun z => fin 1 ?_) (fun z => fin 0 ?_) rfl k3
            · rw [ei_bt ⟨g, fun _ => ⟨c2, z⟩⟩]
              rfl
            · rw [ei_bf (fun q => z (q.2 c1).2)]
              rfl
          · refine br_f (by decide) (pk_lt (ei_pv l (w - i)) 4 (fun z => absurd z (by omega)) (fun _ => br_f ?_ (fin 0 ?_)))
            · rw [k3]
              intro z
              have z2 := congrArg Int32.toInt z
              rw [nI_toInt (by omega)] at z2
              have z3 : (-4 : Int32).toInt = -4 := by decide
              omega
            · rw [ei_bf (fun q => by have := (q.2 c1).1; omega)]
              rfl
        · exact ei_wletL h hs (by omega) (fun _ => big (by omega) _) (fun _ => big (by omega) _)
      · rw [ei_bf g]
        have e0 : (0 : Int32) = nI (ei_b ((0 < len s ∧ ∀ k, k < i → k < w → k < len s ∧ U s k = ei_rv l w k) ∧ (i < w → i < len s ∧ U s i = ei_rv l w i))) := by
          rw [ei_bf (fun q => g q.1)]
          rfl
        exact ei_wletL h hs (by omega) (fun _ => br_t (by decide) (fin 0 e0)) (fun _ => br_t (by decide) (fin 0 e0))
  have outer : ∀ j s, s + j = 6 → wL_ends_4 post (nI (ei_pv l w)) fd (nI N) fp fl fh a1 a2 a3 a4 a5 a6 a7 (j + 1) (nI (ei_en U len (ei_rv l w) w s)) (nI s) := by
    intro j
    induction j with
    | zero =>
      intro s hs
      have e : s = 6 := by omega
      rw [e]
      exact pk_le 6 6 (fun _ => H) (fun z => absurd z (by omega))
    | succ j ih =>
      intro s hs
      have l9 := h.1.1 s (by omega)
      refine pk_le 6 s (fun z => absurd z (by omega)) (fun _ => ?_)
      refine ei_wlength h (by omega) ?_
      have t := inner (wL_ends_4 post (nI (ei_pv l w)) fd (nI N) fp fl fh a1 a2 a3 a4 a5 a6 a7 (j + 1)) s (ei_en U len (ei_rv l w) w s) (by omega) (ih (s + 1) (by omega)) 6 0 rfl
      have eb : ei_b (0 < len s ∧ ∀ k, k < 0 → k < w → k < len s ∧ U s k = ei_rv l w k) = ei_b (0 < len s) := ei_bc ⟨fun g => g.1, fun g => ⟨g, fun k hk => absurd hk (by omega)⟩⟩
      rw [eb] at t
      refine pk_le (len s) 0 (fun z => ⟨7, ?_⟩) (fun z => ⟨7, ?_⟩)
      · rw [ei_bf (show ¬ 0 < len s by omega)] at t
        exact t
      · rw [ei_bt z] at t
        exact t
  exact ⟨6 + 1, outer 6 0 rfl⟩
end
end
section
/-! a state and its picture: the texts and the draft; one turn of the script -/
def ei_K (U : Nat → Nat → Nat) (len : Nat → Nat) (d : Nat) (D : Nat → Nat) (u : St1) : Prop := ∃ (F : Nat → Nat) (N : Nat) (fp fl fh : Int32) (a1 a2 a3 a4 a5 a6 a7 : Nat → Int32), u = (nI d, nI N, fp, fl, fh, a1, a2, a3, a4, a5, a6, a7) ∧ ei_D d D a1 ∧ ei_P U len F N a2 a3
theorem ei_wturn (U : Nat → Nat → Nat) (len : Nat → Nat) (d : Nat) (D : Nat → Nat) (op x : Int32) : ∃ (U' : Nat → Nat → Nat) (len' : Nat → Nat) (d' : Nat) (D' : Nat → Nat), ∀ u, ei_K U len d D u → ∀ post : Int32 → St1 → Prop, (∀ r u', ei_K U' len' d' D' u' → post r u') → wpL_turn post u op x := by
  have eo : op &&& 31 = nI (op.toBitVec.toNat % 2 ^ 5) := pk_and op 5 (by decide)
  have ho : op.toBitVec.toNat % 2 ^ 5 < 32 := by omega
  generalize op.toBitVec.toNat % 2 ^ 5 = o at eo ho
  have ey : (x &&& 7) - (x &&& 7) / 6 * 6 = nI (x.toBitVec.toNat % 2 ^ 3 % 6) := by
    rw [pk_and x 3 (by decide)]
    exact pk_rem (d := 6) (by omega) (by omega) (by omega)
  have hs : x.toBitVec.toNat % 2 ^ 3 % 6 < 6 := by omega
  generalize x.toBitVec.toNat % 2 ^ 3 % 6 = s at ey hs
  by_cases c1 : o < 22
  · obtain ⟨l, hl, el⟩ : ∃ l, l < 4 ∧ ∀ (post : Int32 → St1 → Prop) (fd fs fp fl fh : Int32) (a1 a2 a3 a4 a5 a6 a7 : Nat → Int32), wpX_draft post (fd, fs, fp, fl, fh, a1, a2, a3, a4, a5, a6, a7) (nI l) → (((x &&& 16) = 0 → wL_turn_28 post (x &&& 1) fd fs fp fl fh a1 a2 a3 a4 a5 a6 a7) ∧ (¬ (x &&& 16) = 0 → wL_turn_28 post (x &&& 3) fd fs fp fl fh a1 a2 a3 a4 a5 a6 a7)) := by
      by_cases c : (x &&& 16) = 0
      · refine ⟨x.toBitVec.toNat % 2 ^ 1, by omega, fun post fd fs fp fl fh a1 a2 a3 a4 a5 a6 a7 hw => br_t c ?_⟩
        rw [pk_and x 1 (by decide)]
        exact hw
      · refine ⟨x.toBitVec.toNat % 2 ^ 2, by omega, fun post fd fs fp fl fh a1 a2 a3 a4 a5 a6 a7 hw => br_f c ?_⟩
        rw [pk_and x 2 (by decide)]
        exact hw
    by_cases c : d = 9
    · refine ⟨U, len, d, D, fun u hu post H => ?_⟩
      obtain ⟨F, N, fp, fl, fh, a1, a2, a3, a4, a5, a6, a7, rfl, hD, hP⟩ := hu
      refine nm_r eo (pk_le 22 o (fun z => absurd z (by omega)) (fun _ => el _ _ _ _ _ _ _ _ _ _ _ _ _ ?_))
      exact ei_wdraft hl hD (fun _ => H _ _ ⟨F, N, fp, fl, fh, a1, a2, a3, a4, a5, a6, a7, rfl, hD, hP⟩) (fun z => absurd z (by omega))
    · refine ⟨U, len, d + 1, fun i => if i = d then l else D i, fun u hu post H => ?_⟩
      obtain ⟨F, N, fp, fl, fh, a1, a2, a3, a4, a5, a6, a7, rfl, hD, hP⟩ := hu
      refine nm_r eo (pk_le 22 o (fun z => absurd z (by omega)) (fun _ => el _ _ _ _ _ _ _ _ _ _ _ _ _ ?_))
      exact ei_wdraft hl hD (fun z => absurd z c) (fun _ a ha => H _ _ ⟨F, N, fp, fl, fh, a, a2, a3, a4, a5, a6, a7, rfl, ha, hP⟩)
  · by_cases c2 : o < 29
    · by_cases c3 : 0 < len s ∨ d = 0
      · refine ⟨U, len, d, D, fun u hu post H => ?_⟩
        obtain ⟨F, N, fp, fl, fh, a1, a2, a3, a4, a5, a6, a7, rfl, hD, hP⟩ := hu
        refine nm_r eo (pk_le 22 o (fun _ => pk_le 29 o (fun z => absurd z (by omega)) (fun _ => ⟨by decide, ?_⟩)) (fun z => absurd z (by omega)))
        rw [ey]
        exact ei_wadd hs hD hP (fun _ => H _ _ ⟨F, N, fp, fl, fh, a1, a2, a3, a4, a5, a6, a7, rfl, hD, hP⟩) (fun _ _ => H _ _ ⟨F, N, fp, fl, fh, a1, a2, a3, a4, a5, a6, a7, rfl, hD, hP⟩) (fun z1 z2 => absurd c3 (by omega))
      · refine ⟨ei_U U s d D, ei_L len s d, 0, D, fun u hu post H => ?_⟩
        obtain ⟨F, N, fp, fl, fh, a1, a2, a3, a4, a5, a6, a7, rfl, hD, hP⟩ := hu
        refine nm_r eo (pk_le 22 o (fun _ => pk_le 29 o (fun z => absurd z (by omega)) (fun _ => ⟨by decide, ?_⟩)) (fun z => absurd z (by omega)))
        rw [ey]
        exact ei_wadd hs hD hP (fun z => absurd z (by omega)) (fun _ z => absurd z (by omega)) (fun z1 z2 F' N' b2 b3 hP' _ => H _ _ ⟨F', N', fp, fl, fh, a1, b2, b3, a4, a5, a6, a7, rfl, ⟨Nat.zero_le _, fun i hi => absurd hi (by omega)⟩, hP'⟩)
    · by_cases c3 : o < 31
      · by_cases c4 : len s = 0
        · refine ⟨U, len, d, D, fun u hu post H => ?_⟩
          obtain ⟨F, N, fp, fl, fh, a1, a2, a3, a4, a5, a6, a7, rfl, hD, hP⟩ := hu
          refine nm_r eo (pk_le 22 o (fun _ => pk_le 29 o (fun _ => pk_le 31 o (fun z => absurd z (by omega)) (fun _ => ⟨by decide, ?_⟩)) (fun z => absurd z (by omega))) (fun z => absurd z (by omega)))
          rw [ey]
          exact ei_wremove hs hP (fun _ => H _ _ ⟨F, N, fp, fl, fh, a1, a2, a3, a4, a5, a6, a7, rfl, hD, hP⟩) (fun z => absurd z (by omega))
        · refine ⟨U, ei_L len s 0, d, D, fun u hu post H => ?_⟩
          obtain ⟨F, N, fp, fl, fh, a1, a2, a3, a4, a5, a6, a7, rfl, hD, hP⟩ := hu
          refine nm_r eo (pk_le 22 o (fun _ => pk_le 29 o (fun _ => pk_le 31 o (fun z => absurd z (by omega)) (fun _ => ⟨by decide, ?_⟩)) (fun z => absurd z (by omega))) (fun z => absurd z (by omega)))
          rw [ey]
          exact ei_wremove hs hP (fun z => absurd z c4) (fun _ F' N' b2 b3 b5 hP' => H _ _ ⟨F', N', fp, fl, fh, a1, b2, b3, a4, b5, a6, a7, rfl, hD, hP'⟩)
      · by_cases c4 : (x &&& 7) = 0
        · refine ⟨U, len, 0, D, fun u hu post H => ?_⟩
          obtain ⟨F, N, fp, fl, fh, a1, a2, a3, a4, a5, a6, a7, rfl, hD, hP⟩ := hu
          exact nm_r eo (pk_le 22 o (fun _ => pk_le 29 o (fun _ => pk_le 31 o (fun _ => br_t c4 (H _ _ ⟨F, N, fp, fl, fh, a1, a2, a3, a4, a5, a6, a7, rfl, ⟨Nat.zero_le _, fun i hi => absurd hi (by omega)⟩, hP⟩)) (fun z => absurd z (by omega))) (fun z => absurd z (by omega))) (fun z => absurd z (by omega)))
        · refine ⟨U, len, d, D, fun u hu post H => ?_⟩
          obtain ⟨F, N, fp, fl, fh, a1, a2, a3, a4, a5, a6, a7, rfl, hD, hP⟩ := hu
          exact nm_r eo (pk_le 22 o (fun _ => pk_le 29 o (fun _ => pk_le 31 o (fun _ => br_f c4 (H _ _ ⟨F, N, fp, fl, fh, a1, a2, a3, a4, a5, a6, a7, rfl, hD, hP⟩)) (fun z => absurd z (by omega))) (fun z => absurd z (by omega))) (fun z => absurd z (by omega)))
/-- another enumeration of the same texts -/
theorem ei_Pcg {U V : Nat → Nat → Nat} {len len' F G : Nat → Nat} {N M : Nat} {a2 a3 b2 b3 : Nat → Int32} (h : ei_P U len F N a2 a3) (g : ei_P V len' G M b2 b3) (hl : ∀ t, t < 6 → len' t = len t) (hV : ∀ t m, t < 6 → m < len t → U t m = V t m) : M = N ∧ ei_P U len F N b2 b3 := by
  obtain ⟨hT, hS, h2, h3⟩ := h
  obtain ⟨gT, gS, g2, g3⟩ := g
  have gS' : ei_S U (ei_E len) G M := by
    refine ei_Scg gS (fun z hz => ?_) (fun z hz e k hk => ?_)
    · unfold ei_E
      rw [hl (z / 16) (by omega)]
    · have e2 := e.2
      rw [hl (z / 16) (by omega)] at e2
      exact hV _ _ (by omega) (by omega)
  obtain ⟨u1, u2⟩ := ei_uniq hS gS'
  refine ⟨u1, hT, hS, fun r hr => ?_, fun t ht => by rw [g3 t ht, hl t ht]⟩
  rw [g2 r (by omega), u2 r hr]
  have k := hS.1 r hr
  unfold ei_bl
  rw [hl (F r / 16) (by omega)]
  by_cases c : F r % 16 = len (F r / 16)
  · rw [if_pos c, if_pos c]
  · have k2 := k.2.2
    rw [if_neg c, if_neg c, hV _ _ (by omega) (by omega)]
end
section
/-! the law's last part: the copy with one text more and less answers the same -/
theorem ei_wrankV {U : Nat → Nat → Nat} {len F : Nat → Nat} {N s i : Nat} (hT : ei_T U len) (hS : ei_S U (ei_E len) F N) (hs : s < 6) (hi : i < 16) : ∃ v : Int32, ∀ (post : Int32 → Prop) (fd fp fl fh : Int32) (a1 a2 a3 a4 a5 a6 a7 : Nat → Int32), ei_P U len F N a2 a3 → post v → wpX_rank post (fd, nI N, fp, fl, fh, a1, a2, a3, a4, a5, a6, a7) (nI (16 * s + i)) := by
  by_cases c : 0 < len s ∧ i ≤ len s
  · obtain ⟨r, hr, e⟩ := ei_at hS hT hs c.1 (show len s - i ≤ len s by omega)
    exact ⟨nI r, fun post fd fp fl fh a1 a2 a3 a4 a5 a6 a7 h H => ei_wrank h hs c.1 c.2 hr e H⟩
  · exact ⟨-4, fun post fd fp fl fh a1 a2 a3 a4 a5 a6 a7 h H => ei_wrank0 h hs hi c H⟩
theorem ei_wletterV {U : Nat → Nat → Nat} {len F : Nat → Nat} {N s i : Nat} (hs : s < 6) (hi : i < 16) : ∃ v : Int32, ∀ (post : Int32 → Prop) (fd fp fl fh : Int32) (a1 a2 a3 a4 a5 a6 a7 : Nat → Int32), ei_P U len F N a2 a3 → post v → wpX_letter post (fd, nI N, fp, fl, fh, a1, a2, a3, a4, a5, a6, a7) (nI s) (nI i) := by
  by_cases c : i < len s
  · exact ⟨_, fun post fd fp fl fh a1 a2 a3 a4 a5 a6 a7 h H => ei_wletter h hs c H⟩
  · exact ⟨-4, fun post fd fp fl fh a1 a2 a3 a4 a5 a6 a7 h H => ei_wletter0 h hs (by omega) (by omega) H⟩
theorem ei_wdraftU {post : Int32 → St1 → Prop} {fs fp fl fh : Int32} {a1 a2 a3 a4 a5 a6 a7 : Nat → Int32} {d l : Nat} {D : Nat → Nat} (hl : l < 4) (hD : ei_D d D a1) (H : ∀ (d' : Nat) (D' : Nat → Nat) (a : Nat → Int32) (r : Int32), ei_D d' D' a → 0 < d' → post r (nI d', fs, fp, fl, fh, a, a2, a3, a4, a5, a6, a7)) : wpX_draft post (nI d, fs, fp, fl, fh, a1, a2, a3, a4, a5, a6, a7) (nI l) :=
  ei_wdraft hl hD (fun z => H d D a1 _ hD (by omega)) (fun _ a ha => H (d + 1) _ a _ ha (by omega))
section
variable {post : Int32 → Prop} {L : Nat} {xs : Nat → Int32} {kc ks : Nat} {ed ep el eh gd gp gl gh : Int32} {e1 e2 e3 e4 e5 e6 e7 g1 g2 g3 g4 g5 g6 g7 : Nat → Int32} {U : Nat → Nat → Nat} {len F l : Nat → Nat} {N w : Nat}
theorem ei_w434 (he : ei_P U len F N e2 e3) (hg : ei_P U len F N g2 g3) (hw : w ≤ 6) (hl : ∀ j, j < w → l j < 4) (hp : post 1) :
    ∀ j k, k + j = 96 → wL_law_434 post L xs (nI N) (nI (ei_pv l w)) (nI (ei_cn U F N (ei_rv l w) w)) (nI N) kc ks ed (nI N) ep el eh e1 e2 e3 e4 e5 e6 e7 gd (nI N) gp gl gh g1 g2 g3 g4 g5 g6 g7 (j + 1) (nI k) := by
  have h60 := ei_P60 he
  have c60 : ei_cn U F N (ei_rv l w) w ≤ N := by
    unfold ei_cn
    have k : ei_sm (fun r => ei_b (ei_pr U (ei_rv l w) w (F r))) N ≤ ei_sm (fun r => ei_b (r < N)) N := ei_sle (fun r hr => by
      rw [ei_bt hr]
      exact ei_ble _)
    rw [ei_slt (Nat.le_refl N)] at k
    exact k
  intro j
  induction j with
  | zero =>
    intro k hk
    refine pk_le 96 k (fun _ => br_t rfl ?_) (fun z => absurd z (by omega))
    refine ei_wcount hg hw hl (fun _ _ _ _ => br_t rfl ?_)
    exact ei_wplace0 he hw hl (Nat.le_refl _) (by omega) (fun _ _ _ _ => br_t rfl hp)
  | succ j ih =>
    intro k hk
    have q1 : nI k >>> ((4 : Int32) &&& 31) = nI (k / 16) := pk_shrN (by omega) _ 4 (by decide)
    have q2 : nI k &&& 15 = nI (k % 16) := pk_andN (by omega) 4 (by decide)
    have q3 : nI k = nI (16 * (k / 16) + k % 16) := congrArg nI (by omega)
    obtain ⟨v1, V1⟩ := ei_wrankV he.1 he.2.1 (show k / 16 < 6 by omega) (show k % 16 < 16 by omega)
    obtain ⟨v2, V2⟩ := ei_wletterV (U := U) (len := len) (F := F) (N := N) (show k / 16 < 6 by omega) (show k % 16 < 16 by omega)
    rw [← q3] at V1
    refine pk_le 96 k (fun z => absurd z (by omega)) (fun _ => ?_)
    rw [q1, q2]
    refine V1 _ _ _ _ _ _ _ _ _ _ _ _ hg ?_
    refine V1 _ _ _ _ _ _ _ _ _ _ _ _ he (br_t rfl ?_)
    refine V2 _ _ _ _ _ _ _ _ _ _ _ _ hg ?_
    exact V2 _ _ _ _ _ _ _ _ _ _ _ _ he (br_t rfl (nm_r (nI_1 k) (ih (k + 1) (by omega))))
theorem ei_w382 {x3 : Int32} {d : Nat} {D : Nat → Nat} (he : ei_P U len F N e2 e3) (hg : ei_P U len F N g2 g3) (hD : ei_D d D g1) (hw : w ≤ 6) (hl : ∀ j, j < w → l j < 4) (hp : post 1) :
    wL_law_382 post L xs x3 (nI N) (nI (ei_pv l w)) (nI (ei_cn U F N (ei_rv l w) w)) kc ks ed (nI N) ep el eh e1 e2 e3 e4 e5 e6 e7 (nI d) (nI N) gp gl gh g1 g2 g3 g4 g5 g6 g7 := by
  have h60 := ei_P60 he
  have et : ((x3 >>> ((15 : Int32) &&& 31)) &&& 7) - ((x3 >>> ((15 : Int32) &&& 31)) &&& 7) / 6 * 6 = nI ((x3 >>> ((15 : Int32) &&& 31)).toBitVec.toNat % 2 ^ 3 % 6) := by
    rw [pk_and _ 3 (by decide)]
    exact pk_rem (d := 6) (by omega) (by omega) (by omega)
  have hs : (x3 >>> ((15 : Int32) &&& 31)).toBitVec.toNat % 2 ^ 3 % 6 < 6 := by omega
  generalize (x3 >>> ((15 : Int32) &&& 31)).toBitVec.toNat % 2 ^ 3 % 6 = t at et hs
  have ec : (x3 >>> ((18 : Int32) &&& 31)) &&& 3 = nI ((x3 >>> ((18 : Int32) &&& 31)).toBitVec.toNat % 2 ^ 2) := pk_and _ 2 (by decide)
  have hc : (x3 >>> ((18 : Int32) &&& 31)).toBitVec.toNat % 2 ^ 2 < 4 := by omega
  generalize (x3 >>> ((18 : Int32) &&& 31)).toBitVec.toNat % 2 ^ 2 = c at ec hc
  refine ⟨by decide, nm_r et ?_⟩
  rw [ec]
  refine ei_wdraftU hc hD (fun d' D' b1 _ hD' h0 => ?_)
  refine ei_wadd hs hD' hg (fun z => ?_) (fun _ z => absurd z (by omega)) (fun z _ F' N' b2 b3 hP' hN' => ?_)
  · exact br_f (by decide) ⟨97, ei_w434 he hg hw hl hp 96 0 rfl⟩
  · have n60 := ei_P60 hP'
    refine pk_le 0 N' (fun _ => ?_) (fun z => absurd z (by omega))
    refine ei_wremove hs hP' (fun z2 => ?_) (fun _ F2 N2 c2 c3 c5 hP2 => ?_)
    · rw [ei_Ls] at z2
      exact absurd z2 (by omega)
    · obtain ⟨e, hP3⟩ := ei_Pcg he hP2 (fun q hq => by
        by_cases y : q = t
        · rw [y, ei_Ls]
          exact z.symm
        · rw [ei_Ln y, ei_Ln y]) (fun q m hq hm => by
        have y : q ≠ t := fun y => by
          rw [y, z] at hm
          omega
        rw [ei_Un y])
      rw [e]
      exact ⟨97, ei_w434 he hP3 hw hl hp 96 0 rfl⟩
end
end
section
/-! the law's middle: the pattern's places, its longer patterns -/
theorem ei_raX {U : Nat → Nat → Nat} {len F : Nat → Nat} {N : Nat} {Q : Nat → Nat} (hT : ei_T U len) (hS : ei_S U (ei_E len) F N) : ∀ w, (∀ k, k < w → Q k < 4) → ∃ lo hi, ei_ra U F N Q w lo hi := by
  intro w
  induction w with
  | zero => exact fun _ => ⟨0, N, ei_ra0 U F N Q⟩
  | succ w ih =>
    intro h
    obtain ⟨lo, hi, k⟩ := ih (fun k hk => h k (by omega))
    exact ⟨_, _, ei_ras hT hS k (h w (by omega))⟩
theorem ei_pv_pw (l : Nat → Nat) (w : Nat) : 4 ^ w ≤ ei_pv l w := by
  induction w with
  | zero => exact Nat.le_refl 1
  | succ w ih =>
    show 4 ^ (w + 1) ≤ 4 * ei_pv l w + l w
    rw [Nat.pow_succ]
    omega
section
variable {post : Int32 → Prop} {L : Nat} {xs : Nat → Int32} {kc ks : Nat} {ed ep el eh gp gl gh : Int32} {e1 e2 e3 e4 e5 e6 e7 g1 g2 g3 g4 g5 g6 g7 : Nat → Int32} {U : Nat → Nat → Nat} {len F l D : Nat → Nat} {N w d : Nat} {x3 : Int32}
theorem ei_w331 (he : ei_P U len F N e2 e3) (hg : ei_P U len F N g2 g3) (hD : ei_D d D g1) (hw : w ≤ 6) (hl : ∀ j, j < w → l j < 4) (hp : post 1) (ep el eh : Int32) (e4 : Nat → Int32) :
    ∃ fu, wL_law_331 post L xs x3 (nI N) (nI (ei_pv l w)) (nI (ei_cn U F N (ei_rv l w) w)) kc ks fu (-1) 0 ed (nI N) ep el eh e1 e2 e3 e4 e5 e6 e7 (nI d) (nI N) gp gl gh g1 g2 g3 g4 g5 g6 g7 := by
  have h60 := ei_P60 he
  obtain ⟨lo, hi, hra⟩ := ei_raX (Q := ei_rv l w) he.1 he.2.1 w (fun k hk => hl _ (by omega))
  have r1 := hra.1
  have r2 := hra.2.1
  have ec := ei_racn hra
  have key : ∀ j k (last : Int32) (ep el eh : Int32) (e4 : Nat → Int32), k + j = ei_cn U F N (ei_rv l w) w → last < nI (lo + k) → wL_law_331 post L xs x3 (nI N) (nI (ei_pv l w)) (nI (ei_cn U F N (ei_rv l w) w)) kc ks (j + 1) last (nI k) ed (nI N) ep el eh e1 e2 e3 e4 e5 e6 e7 (nI d) (nI N) gp gl gh g1 g2 g3 g4 g5 g6 g7 := by
    intro j
    induction j with
    | zero =>
      intro k last ep el eh e4 hk _
      exact pk_le 60 k (fun _ => ei_w382 he hg hD hw hl hp) (fun _ => pk_le (ei_cn U F N (ei_rv l w) w) k (fun _ => ei_w382 he hg hD hw hl hp) (fun z => absurd z (by omega)))
    | succ j ih =>
      intro k last ep el eh e4 hk hlt
      refine pk_le 60 k (fun z => absurd z (by omega)) (fun _ => pk_le (ei_cn U F N (ei_rv l w) w) k (fun z => absurd z (by omega)) (fun _ => ?_))
      refine ei_wplace he hw hl hra (by omega) (fun fp fl fh b4 => ?_)
      refine ei_wrankF he (by omega) (br_t hlt (nm_r (nI_1 k) (ih (k + 1) _ _ _ _ _ (by omega) ?_)))
      exact nI_lt (by omega) (by omega)
  refine ⟨ei_cn U F N (ei_rv l w) w + 1, key (ei_cn U F N (ei_rv l w) w) 0 (-1) ep el eh e4 (by omega) ?_⟩
  rw [Int32.lt_iff_toInt_lt, nI_toInt (by omega)]
  have z : (-1 : Int32).toInt = -1 := by decide
  omega
theorem ei_w265 (he : ei_P U len F N e2 e3) (hg : ei_P U len F N g2 g3) (hD : ei_D d D g1) (hw : w ≤ 6) (hl : ∀ j, j < w → l j < 4) (hp : post 1) (ep el eh : Int32) (e4 : Nat → Int32) :
    ∃ fu, wL_law_265 post L xs x3 (nI N) (nI (ei_pv l w)) (nI (ei_cn U F N (ei_rv l w) w)) kc ks fu 0 0 ed (nI N) ep el eh e1 e2 e3 e4 e5 e6 e7 (nI d) (nI N) gp gl gh g1 g2 g3 g4 g5 g6 g7 := by
  have h60 := ei_P60 he
  have p1 := ei_pv_lt hl
  have p2 := ei_pw hw
  by_cases c : 2048 ≤ ei_pv l w
  · have f301 : wL_law_301 post L xs x3 (nI N) (nI (ei_pv l w)) (nI (ei_cn U F N (ei_rv l w) w)) 0 kc ks ed (nI N) ep el eh e1 e2 e3 e4 e5 e6 e7 (nI d) (nI N) gp gl gh g1 g2 g3 g4 g5 g6 g7 :=
      pk_le 2048 (ei_pv l w) (fun _ => ei_w331 he hg hD hw hl hp ep el eh e4) (fun z => absurd z (by omega))
    exact ⟨1, pk_le 4 0 (fun z => absurd z (by omega)) (fun _ => pk_le 2048 (ei_pv l w) (fun _ => f301) (fun z => absurd z (by omega)))⟩
  · have w5 : w ≤ 5 := by
      rcases Nat.lt_or_ge 5 w with z | z
      · have e : w = 6 := by omega
        have k := ei_pv_pw l w
        rw [e] at k
        have k2 : 4 ^ 6 = 4096 := by decide
        rw [e] at c
        omega
      · exact z
    have key : ∀ j k (ep el eh : Int32) (e4 : Nat → Int32), k + j = 4 → wL_law_265 post L xs x3 (nI N) (nI (ei_pv l w)) (nI (ei_cn U F N (ei_rv l w) w)) kc ks (j + 1) (nI (ei_sm (fun q => ei_cn U F N (ei_Q (ei_rv l w) q) (w + 1)) k)) (nI k) ed (nI N) ep el eh e1 e2 e3 e4 e5 e6 e7 (nI d) (nI N) gp gl gh g1 g2 g3 g4 g5 g6 g7 := by
      intro j
      induction j with
      | zero =>
        intro k ep el eh e4 hk
        have ek : k = 4 := by omega
        rw [ek]
        refine pk_le 4 4 (fun _ => ?_) (fun z => absurd z (by omega))
        refine pk_le 2048 (ei_pv l w) (fun z => absurd z (by omega)) (fun _ => ?_)
        refine ei_wends he hw hl (br_t ?_ (ei_w331 he hg hD hw hl hp ep el eh e4))
        rw [nI_add, ← ei_cut he.1 he.2.1 (by omega)]
      | succ j ih =>
        intro k ep el eh e4 hk
        have l4 : ∀ i, i < w + 1 → (fun i => if i = w then k else l i) i < 4 := by
          intro i hi
          by_cases y : i = w
          · show (if i = w then k else l i) < 4
            rw [if_pos y]
            omega
          · show (if i = w then k else l i) < 4
            rw [if_neg y]
            exact hl i (by omega)
        have pe : (4 : Int32) * nI (ei_pv l w) + nI k = nI (ei_pv (fun i => if i = w then k else l i) (w + 1)) := by
          rw [show (4 : Int32) = nI 4 from rfl, pk_mul, nI_add]
          show nI (4 * ei_pv l w + k) = nI (4 * ei_pv (fun i => if i = w then k else l i) w + (if w = w then k else l w))
          rw [if_pos rfl, ei_pv_cg (l := l) (fun i hi => if_neg (by omega))]
        have ce : ei_cn U F N (ei_rv (fun i => if i = w then k else l i) (w + 1)) (w + 1) = ei_cn U F N (ei_Q (ei_rv l w) k) (w + 1) := by
          refine ei_cncg (fun i hi => ?_)
          unfold ei_Q ei_rv
          show (if i = 0 then k else l (w - 1 - (i - 1))) = (if w + 1 - 1 - i = w then k else l (w + 1 - 1 - i))
          by_cases y : i = 0
          · rw [if_pos y, if_pos (by omega)]
          · rw [if_neg y, if_neg (by omega)]
            exact congrArg l (by omega)
        refine pk_le 4 k (fun z => absurd z (by omega)) (fun _ => pk_le 2048 (ei_pv l w) (fun z => absurd z (by omega)) (fun _ => ?_))
        rw [pe]
        refine ei_wcount he (by omega) l4 (fun fp fl fh b4 => ?_)
        rw [ce]
        exact nm_r (nI_add _ _) (nm_r (nI_1 k) (ih (k + 1) fp fl fh b4 (by omega)))
    exact ⟨5, key 4 0 ep el eh e4 rfl⟩
end
end
section
/-! the law's head: all ranks, the turns, the whole -/
section
variable {post : Int32 → Prop} {L : Nat} {xs : Nat → Int32} {kc ks : Nat} {ed ep el eh gp gl gh : Int32} {e1 e2 e3 e4 e5 e6 e7 g1 g2 g3 g4 g5 g6 g7 : Nat → Int32} {U : Nat → Nat → Nat} {len F D : Nat → Nat} {N d : Nat} {x3 : Int32}
theorem ei_w206 (he : ei_P U len F N e2 e3) (hg : ei_P U len F N g2 g3) (hD : ei_D d D g1) (hp : post 1) :
    wL_law_206 post L xs x3 (nI N) (nI (ei_sm (fun r => F r % 16) N)) (nI (ei_sm (ei_cv U F) (N - 1))) kc ks ed (nI N) ep el eh e1 e2 e3 e4 e5 e6 e7 (nI d) (nI N) gp gl gh g1 g2 g3 g4 g5 g6 g7 := by
  have h60 := ei_P60 he
  unfold wL_law_206
  refine ei_wcount (w := 0) (l := fun _ => 0) he (by omega) (fun j hj => absurd hj (by omega)) (fun fp fl fh b4 => ?_)
  refine br_t (by rw [ei_cn0]) ?_
  refine ei_wdistinct he (fun b6 b7 => br_t (by rw [ei_lens he.1 he.2.1]) ?_)
  refine ei_wending0 h60 (br_t rfl ?_)
  obtain ⟨w, l, hw, hl, hpat⟩ := ei_wpattern (x3 &&& 32767)
  refine hpat _ ?_
  exact ei_wcount he hw hl (fun fp fl fh b4 => ei_w265 he hg hD hw hl hp fp fl fh b4)
theorem ei_w92 (he : ei_P U len F N e2 e3) (hg : ei_P U len F N g2 g3) (hD : ei_D d D g1) (hp : post 1) :
    ∃ fu, wL_law_92 post L xs x3 (nI N) kc ks fu 0 0 0 ed (nI N) ep el eh e1 e2 e3 e4 e5 e6 e7 (nI d) (nI N) gp gl gh g1 g2 g3 g4 g5 g6 g7 := by
  have h60 := ei_P60 he
  have key : ∀ j r (ep el eh : Int32) (e4 e6 e7 : Nat → Int32), r + j = N → wL_law_92 post L xs x3 (nI N) kc ks (j + 1) (nI (ei_sm (fun r => F r % 16) r)) (nI (ei_sm (ei_cv U F) (min r (N - 1)))) (nI r) ed (nI N) ep el eh e1 e2 e3 e4 e5 e6 e7 (nI d) (nI N) gp gl gh g1 g2 g3 g4 g5 g6 g7 := by
    intro j
    induction j with
    | zero =>
      intro r ep el eh e4 e6 e7 hr
      have er : r = N := by omega
      rw [er, show min N (N - 1) = N - 1 by omega]
      exact pk_le 60 N (fun _ => ei_w206 he hg hD hp) (fun _ => pk_le N N (fun _ => ei_w206 he hg hD hp) (fun z => absurd z (by omega)))
    | succ j ih =>
      intro r ep el eh e4 e6 e7 hr
      have fz := he.2.1.1 r (by omega)
      have fz2 := fz.2.2
      have l9 := he.1.1 (F r / 16) (by omega)
      have nm : ei_nm len (F r) = 16 * (F r / 16) + (len (F r / 16) - F r % 16) := rfl
      have q1 : nI (ei_nm len (F r)) >>> ((4 : Int32) &&& 31) = nI (F r / 16) := by
        rw [pk_shrN (by omega) _ 4 (by decide)]
        exact congrArg nI (by omega)
      have q2 : nI (ei_nm len (F r)) &&& 15 = nI (len (F r / 16) - F r % 16) := by
        rw [pk_andN (by omega) 4 (by decide)]
        exact congrArg nI (by omega)
      have q3 : nI (ei_sm (fun r => F r % 16) r) + nI (len (F r / 16)) - nI (len (F r / 16) - F r % 16) = nI (ei_sm (fun r => F r % 16) (r + 1)) := by
        rw [nI_add, pk_sub (by omega), ei_ss]
        exact congrArg nI (by omega)
      refine pk_le 60 r (fun z => absurd z (by omega)) (fun _ => pk_le N r (fun z => absurd z (by omega)) (fun _ => ?_))
      refine ei_wending he (by omega) ?_
      by_cases c : r + 1 < N
      · refine ei_wcommon he c (fun b6 b7 => ?_)
        have t := ih (r + 1) ep el eh e4 b6 b7 (by omega)
        rw [show min (r + 1) (N - 1) = r + 1 by omega] at t
        rw [show min r (N - 1) = r by omega]
        have cv9 : ei_cv U F r ≤ 15 := by
          have := ei_lc_le U (F r / 16) (F (r + 1) / 16) (F r % 16) (F (r + 1) % 16)
          unfold ei_cv
          omega
        refine ei_wrankF he (by omega) (br_t rfl ?_)
        refine br_f ?_ ?_
        · intro z
          have z2 := congrArg Int32.toInt z
          rw [nI_toInt (by omega)] at z2
          have z3 : (-4 : Int32).toInt = -4 := by decide
          omega
        · refine pk_eq r (N - 1) (fun z => absurd z (by omega)) (fun _ => ?_) rfl (pk_sub (b := 1) (by omega))
          refine br_t rfl ?_
          rw [q1, q2]
          refine ei_wlength he (by omega) (nm_r q3 ?_)
          refine pk_le (ei_cv U F r) 0 (fun z => nm_r (nI_1 r) ?_) (fun z => nm_r (e' := nI (ei_sm (ei_cv U F) (r + 1))) (nI_add _ _) (nm_r (nI_1 r) t))
          rw [ei_ss (ei_cv U F) r, show ei_cv U F r = 0 by omega, Nat.add_zero] at t
          exact t
      · refine ei_wcommon0 he (by omega) ?_
        have t := ih (r + 1) ep el eh e4 e6 e7 (by omega)
        rw [show min (r + 1) (N - 1) = min r (N - 1) by omega] at t
        refine ei_wrankF he (by omega) (br_t rfl ?_)
        refine br_t rfl ?_
        refine pk_eq r (N - 1) (fun _ => ?_) (fun z => absurd (by omega) z) rfl (pk_sub (b := 1) (by omega))
        refine br_t rfl ?_
        rw [q1, q2]
        exact ei_wlength he (by omega) (nm_r q3 (br_t (by decide) (nm_r (nI_1 r) t)))
  have t := key N 0 ep el eh e4 e6 e7 (by omega)
  rw [Nat.zero_min] at t
  exact ⟨_, t⟩
end
theorem ei_w32 {post : Int32 → Prop} {L : Nat} {xs : Nat → Int32} {kc ks : Nat} {x3 : Int32} (hL : L ≤ 260) (hp : post 1) : ∀ (j k : Nat), k ≤ 300 → L ≤ k + 1 + 2 * j → ∀ (U : Nat → Nat → Nat) (len : Nat → Nat) (d : Nat) (D : Nat → Nat) (ed es ep el eh : Int32) (e1 e2 e3 e4 e5 e6 e7 : Nat → Int32) (gd gs gp gl gh : Int32) (g1 g2 g3 g4 g5 g6 g7 : Nat → Int32), ei_K U len d D (ed, es, ep, el, eh, e1, e2, e3, e4, e5, e6, e7) → ei_K U len d D (gd, gs, gp, gl, gh, g1, g2, g3, g4, g5, g6, g7) → wL_law_32 post L xs x3 kc ks (j + 1) (nI k) ed es ep el eh e1 e2 e3 e4 e5 e6 e7 gd gs gp gl gh g1 g2 g3 g4 g5 g6 g7 := by
  intro j
  have done : ∀ (U : Nat → Nat → Nat) (len : Nat → Nat) (d : Nat) (D : Nat → Nat) (ed es ep el eh : Int32) (e1 e2 e3 e4 e5 e6 e7 : Nat → Int32) (gd gs gp gl gh : Int32) (g1 g2 g3 g4 g5 g6 g7 : Nat → Int32), ei_K U len d D (ed, es, ep, el, eh, e1, e2, e3, e4, e5, e6, e7) → ei_K U len d D (gd, gs, gp, gl, gh, g1, g2, g3, g4, g5, g6, g7) → ∃ fu, wL_law_92 post L xs x3 es kc ks fu 0 0 0 ed es ep el eh e1 e2 e3 e4 e5 e6 e7 gd gs gp gl gh g1 g2 g3 g4 g5 g6 g7 := by
    intro U len d D ed es ep el eh e1 e2 e3 e4 e5 e6 e7 gd gs gp gl gh g1 g2 g3 g4 g5 g6 g7 he hg
    obtain ⟨F, N, _, _, _, _, _, _, _, _, _, _, e, hD, hP⟩ := he
    cases e
    obtain ⟨G, M, _, _, _, _, _, _, _, _, _, _, e, gD, gP⟩ := hg
    cases e
    obtain ⟨eM, gP'⟩ := ei_Pcg hP gP (fun _ _ => rfl) (fun _ _ _ _ => rfl)
    rw [eM]
    exact ei_w92 hP gP' gD hp
  induction j with
  | zero =>
    intro k hk hkL U len d D ed es ep el eh e1 e2 e3 e4 e5 e6 e7 gd gs gp gl gh g1 g2 g3 g4 g5 g6 g7 he hg
    exact pk_le L (k + 1) (fun _ => done U len d D _ _ _ _ _ _ _ _ _ _ _ _ _ _ _ _ _ _ _ _ _ _ _ _ he hg) (fun z => absurd z (by omega)) rfl (nI_1 k)
  | succ j ih =>
    intro k hk hkL U len d D ed es ep el eh e1 e2 e3 e4 e5 e6 e7 gd gs gp gl gh g1 g2 g3 g4 g5 g6 g7 he hg
    refine pk_le L (k + 1) (fun _ => done U len d D _ _ _ _ _ _ _ _ _ _ _ _ _ _ _ _ _ _ _ _ _ _ _ _ he hg) (fun z => ⟨pk_in k L (by omega), pk_in (k + 1) L (by omega) (nI_1 k), ?_⟩) rfl (nI_1 k)
    obtain ⟨U', len', d', D', T⟩ := ei_wturn U len d D (xs (nI k).toNatClampNeg) (xs (nI k + 1).toNatClampNeg)
    refine T _ he _ (fun r u hu => ?_)
    obtain ⟨u1, u2, u3, u4, u5, u6, u7, u8, u9, u10, u11, u12⟩ := u
    refine ⟨pk_in k L (by omega), pk_in (k + 1) L (by omega) (nI_1 k), ?_⟩
    refine T _ hg _ (fun r2 v hv => ?_)
    obtain ⟨v1, v2, v3, v4, v5, v6, v7, v8, v9, v10, v11, v12⟩ := v
    exact nm_r (nI_add k 2) (ih (k + 2) (by omega) (by omega) U' len' d' D' _ _ _ _ _ _ _ _ _ _ _ _ _ _ _ _ _ _ _ _ _ _ _ _ hu hv)
theorem ei_K0 : ei_K (fun _ _ => 0) (fun _ => 0) 0 (fun _ => 0) (0, 0, 0, 0, 0, (fun _ => 0), (fun _ => 0), (fun _ => 0), (fun _ => 0), (fun _ => 0), (fun _ => 0), (fun _ => 0)) := by
  refine ⟨fun _ => 0, 0, 0, 0, 0, _, _, _, _, _, _, _, rfl, ⟨by omega, fun i hi => absurd hi (by omega)⟩, ⟨fun _ _ => Nat.zero_le _, fun s m _ hm => absurd hm (Nat.not_lt_zero _)⟩, ⟨fun r hr => absurd hr (by omega), fun z _ g => absurd g.1 (Nat.not_lt_zero _), fun i j _ hj => absurd hj (by omega)⟩, fun r hr => absurd hr (by omega), fun s _ => rfl⟩
theorem i_vc (xs : Nat → Int32) (L : Nat) (hL : L ≤ 260) : wpL_law (fun r => r = 1) L xs := by
  refine ⟨7, 207, by omega, by omega, by omega, by omega, by omega, by omega, by omega, by omega, by omega, by omega, by omega, by omega, by omega, by omega, by omega, by omega, by omega, by omega, 7, 207, by omega, by omega, by omega, by omega, by omega, by omega, by omega, by omega, by omega, by omega, by omega, by omega, by omega, by omega, by omega, by omega, ?_⟩
  refine pk_le L 0 (fun _ => ⟨131, ?_⟩) (fun z => ⟨pk_in 0 L z, nm_e ⟨131, ?_⟩⟩)
  · exact ei_w32 (post := fun r => r = 1) hL rfl 130 1 (by omega) (by omega) _ _ _ _ _ _ _ _ _ _ _ _ _ _ _ _ _ _ _ _ _ _ _ _ _ _ _ _ ei_K0 ei_K0
  · exact ei_w32 (post := fun r => r = 1) hL rfl 130 1 (by omega) (by omega) _ _ _ _ _ _ _ _ _ _ _ _ _ _ _ _ _ _ _ _ _ _ _ _ _ _ _ _ ei_K0 ei_K0
end
