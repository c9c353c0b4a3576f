section
/-! arrays of naturals, as the states hold them -/
def hr_f (A : Nat → Nat) : Nat → Int32 := fun j => nI (A j)
def hr_u (A : Nat → Nat) (k x : Nat) : Nat → Nat := fun j => if j = k then x else A j
theorem hr_us {A : Nat → Nat} {k x : Nat} : hr_u A k x k = x := if_pos rfl
theorem hr_un {A : Nat → Nat} {k x j : Nat} (h : j ≠ k) : hr_u A k x j = A j := if_neg h
theorem hr_upd (A : Nat → Nat) (k x : Nat) : upd (hr_f A) k (nI x) = hr_f (hr_u A k x) := by
  funext j
  show (if j = k then nI x else nI (A j)) = nI (if j = k then x else A j)
  by_cases e : j = k
  · rw [if_pos e, if_pos e]
  · rw [if_neg e, if_neg e]
/-- level c of a table of 8 places a level -/
def hr_o (A : Nat → Nat) (c : Nat) : Nat → Nat := fun i => A (8 * c + i)
theorem hr_ush (A : Nat → Nat) (t z x : Nat) : (fun j => hr_u A (t + z) x (t + j)) = hr_u (fun j => A (t + j)) z x := by
  funext j
  show hr_u A (t + z) x (t + j) = hr_u (fun j => A (t + j)) z x j
  by_cases e : j = z
  · rw [e, hr_us, hr_us]
  · rw [hr_un (by omega), hr_un e]
/-! counts of begins behind a -/
def hr_k (b : Nat → Nat) (a : Nat) : Nat → Nat
  | 0 => 0
  | i + 1 => hr_k b a i + if i = 0 ∨ a < b i then 1 else 0
def hr_c (b : Nat → Nat) (a : Nat) : Nat → Nat
  | 0 => 0
  | i + 1 => hr_c b a i + if a < b i then 1 else 0
theorem hr_c_le (b : Nat → Nat) (a n : Nat) : hr_c b a n ≤ hr_k b a n := by
  induction n with
  | zero => exact Nat.le_refl 0
  | succ n ih =>
    show hr_c b a n + (if a < b n then 1 else 0) ≤ hr_k b a n + (if n = 0 ∨ a < b n then 1 else 0)
    by_cases h : a < b n
    · rw [if_pos h, if_pos (Or.inr h)]; omega
    · rw [if_neg h]; omega
theorem hr_c_congr {b b' : Nat → Nat} {a n : Nat} (h : ∀ j, j < n → b j = b' j) : hr_c b a n = hr_c b' a n := by
  induction n with
  | zero => rfl
  | succ n ih =>
    show hr_c b a n + (if a < b n then 1 else 0) = hr_c b' a n + (if a < b' n then 1 else 0)
    rw [ih (fun j hj => h j (by omega)), h n (by omega)]
theorem hr_c_add (b : Nat → Nat) (a z m : Nat) : hr_c b a (z + m) = hr_c b a z + hr_c (fun j => b (z + j)) a m := by
  induction m with
  | zero => rfl
  | succ m ih =>
    show hr_c b a (z + m) + (if a < b (z + m) then 1 else 0) = hr_c b a z + (hr_c (fun j => b (z + j)) a m + (if a < b (z + m) then 1 else 0))
    rw [ih]; omega
theorem hr_c_u (b : Nat → Nat) (a z x : Nat) : hr_c (hr_u b z x) a (z + 1) = hr_c b a z + if a < x then 1 else 0 := by
  show hr_c (hr_u b z x) a z + (if a < hr_u b z x z then 1 else 0) = _
  rw [hr_us, hr_c_congr (fun j hj => hr_un (by omega))]
theorem hr_k_congr {b b' : Nat → Nat} {a n : Nat} (h : ∀ j, j < n → b j = b' j) : hr_k b a n = hr_k b' a n := by
  induction n with
  | zero => rfl
  | succ n ih =>
    show hr_k b a n + (if n = 0 ∨ a < b n then 1 else 0) = hr_k b' a n + (if n = 0 ∨ a < b' n then 1 else 0)
    rw [ih (fun j hj => h j (by omega)), h n (by omega)]
theorem hr_k_le (b : Nat → Nat) (a n : Nat) : hr_k b a n ≤ n := by
  induction n with
  | zero => exact Nat.le_refl 0
  | succ n ih =>
    show hr_k b a n + (if n = 0 ∨ a < b n then 1 else 0) ≤ n + 1
    split <;> omega
theorem hr_k_pos (b : Nat → Nat) (a n : Nat) (h : 0 < n) : 1 ≤ hr_k b a n := by
  induction n with
  | zero => omega
  | succ n ih =>
    show 1 ≤ hr_k b a n + (if n = 0 ∨ a < b n then 1 else 0)
    by_cases e : n = 0
    · rw [if_pos (Or.inl e)]; omega
    · have := ih (by omega); omega
theorem hr_k_anti (b : Nat → Nat) {a a' : Nat} (h : a ≤ a') (n : Nat) : hr_k b a' n ≤ hr_k b a n := by
  induction n with
  | zero => exact Nat.le_refl 0
  | succ n ih =>
    show hr_k b a' n + (if n = 0 ∨ a' < b n then 1 else 0) ≤ hr_k b a n + (if n = 0 ∨ a < b n then 1 else 0)
    by_cases e : n = 0 ∨ a' < b n
    · rw [if_pos e, if_pos (e.elim Or.inl (fun z => Or.inr (by omega)))]; omega
    · rw [if_neg e]; omega
/-! one column more -/
theorem hr_mod (x c : Nat) : x % 2 ^ (c + 1) = x % 2 ^ c + 2 ^ c * (x / 2 ^ c % 2) := Nat.mod_pow_succ
theorem hr_le_same {x y c : Nat} (h : x / 2 ^ c % 2 = y / 2 ^ c % 2) : x % 2 ^ (c + 1) ≤ y % 2 ^ (c + 1) ↔ x % 2 ^ c ≤ y % 2 ^ c := by
  rw [hr_mod x c, hr_mod y c, h]
  generalize 2 ^ c * (y / 2 ^ c % 2) = q
  omega
theorem hr_lt_same {x y c : Nat} (h : x / 2 ^ c % 2 = y / 2 ^ c % 2) : x % 2 ^ (c + 1) < y % 2 ^ (c + 1) ↔ x % 2 ^ c < y % 2 ^ c := by
  rw [hr_mod x c, hr_mod y c, h]
  generalize 2 ^ c * (y / 2 ^ c % 2) = q
  omega
theorem hr_lt_01 {x y c : Nat} (hx : x / 2 ^ c % 2 = 0) (hy : y / 2 ^ c % 2 = 1) : x % 2 ^ (c + 1) < y % 2 ^ (c + 1) := by
  rw [hr_mod x c, hr_mod y c, hx, hy, Nat.mul_zero, Nat.mul_one]
  have := Nat.mod_lt x (Nat.two_pow_pos c)
  omega
theorem hr_bit2 (x c : Nat) : x / 2 ^ c % 2 = 0 ∨ x / 2 ^ c % 2 = 1 := by
  generalize x / 2 ^ c = q
  omega
/-- the top bit of the numbers below 2^(c+1) grows with them -/
theorem hr_bit_mono {x y c : Nat} (h : x % 2 ^ (c + 1) ≤ y % 2 ^ (c + 1)) : x / 2 ^ c % 2 ≤ y / 2 ^ c % 2 := by
  rcases hr_bit2 x c with hx | hx
  · omega
  · rcases hr_bit2 y c with hy | hy
    · have := hr_lt_01 hy hx; omega
    · omega
/-! a level, a step from one level to the next -/
def hr_L (n : Nat) (V : Nat → Nat) (c : Nat) (o b : Nat → Nat) : Prop :=
  (∀ i, i < n → o i < n) ∧ (∀ i j, i < n → j < n → o i = o j → i = j) ∧ (∀ r, r < n → ∃ i, i < n ∧ o i = r) ∧ (∀ i, i < n → b i ≤ c) ∧ (∀ i j, i < j → j < n → V (o i) % 2 ^ c ≤ V (o j) % 2 ^ c)
def hr_S (n : Nat) (V : Nat → Nat) (c : Nat) (b o' b' : Nat → Nat) : Prop :=
  (∀ i, i + 1 < n → (b' (i + 1) ≤ c ↔ V (o' i) / 2 ^ c % 2 = V (o' (i + 1)) / 2 ^ c % 2)) ∧ (∀ a, a ≤ c → hr_k b a n ≤ hr_k b' a n)
theorem hr_L_congr {n : Nat} {V : Nat → Nat} {c : Nat} {o b o' b' : Nat → Nat} (ho : ∀ i, i < n → o' i = o i) (hb : ∀ i, i < n → b' i = b i) (h : hr_L n V c o b) : hr_L n V c o' b' := by
  obtain ⟨h1, h2, h3, h4, h5⟩ := h
  refine ⟨fun i hi => by rw [ho i hi]; exact h1 i hi, fun i j hi hj e => h2 i j hi hj (by rw [← ho i hi, ← ho j hj]; exact e), fun r hr => ?_, fun i hi => by rw [hb i hi]; exact h4 i hi, fun i j hij hj => by rw [ho i (by omega), ho j hj]; exact h5 i j hij hj⟩
  obtain ⟨i, hi, e⟩ := h3 r hr
  exact ⟨i, hi, by rw [ho i hi]; exact e⟩
theorem hr_S_congr {n : Nat} {V : Nat → Nat} {c : Nat} {b o' b' d p' d' : Nat → Nat} (hb : ∀ i, i < n → d i = b i) (ho : ∀ i, i < n → p' i = o' i) (hb' : ∀ i, i < n → d' i = b' i) (h : hr_S n V c b o' b') : hr_S n V c d p' d' := by
  obtain ⟨h1, h2⟩ := h
  refine ⟨fun i hi => by rw [hb' _ hi, ho i (by omega), ho _ hi]; exact h1 i hi, fun a ha => ?_⟩
  rw [hr_k_congr hb, hr_k_congr hb']
  exact h2 a ha
/-! the loop of part: one of its two lists (rows with bit e), z long, f: the places they came from -/
def hr_Q (V : Nat → Nat) (c : Nat) (o : Nat → Nat) (e i z s : Nat) (q p f : Nat → Nat) : Prop :=
  (∀ j, j < z → f j < i ∧ V (o (f j)) / 2 ^ c % 2 = e ∧ q j = o (f j)) ∧ (∀ j k, j < k → k < z → f j < f k) ∧ (∀ j, 0 < j → j < z → p j ≤ c) ∧ (0 < z → p 0 = c + 1) ∧ (z = 0 → s = c + 1) ∧ (0 < z → s ≤ c)
theorem hr_Qs {V : Nat → Nat} {c : Nat} {o : Nat → Nat} {e i z s B : Nat} {q p f : Nat → Nat} (h : hr_Q V c o e i z s q p f) (hB : B ≤ c) : hr_Q V c o e (i + 1) z (max s B) q p f := by
  obtain ⟨h1, h2, h3, h4, h5, h6⟩ := h
  refine ⟨fun j hj => ?_, h2, h3, h4, fun hz => ?_, fun hz => ?_⟩
  · obtain ⟨a1, a2, a3⟩ := h1 j hj
    exact ⟨by omega, a2, a3⟩
  · have := h5 hz; omega
  · have := h6 hz; omega
theorem hr_Qa {V : Nat → Nat} {c : Nat} {o : Nat → Nat} {e i z s B : Nat} {q p f : Nat → Nat} (h : hr_Q V c o e i z s q p f) (hB : B ≤ c) (hb : V (o i) / 2 ^ c % 2 = e) : hr_Q V c o e (i + 1) (z + 1) 0 (hr_u q z (o i)) (hr_u p z (max s B)) (hr_u f z i) := by
  obtain ⟨h1, h2, h3, h4, h5, h6⟩ := h
  refine ⟨fun j hj => ?_, fun j k hjk hk => ?_, fun j h0 hj => ?_, fun _ => ?_, fun hz => absurd hz (by omega), fun _ => Nat.zero_le _⟩
  · by_cases ej : j = z
    · rw [ej, hr_us, hr_us]
      exact ⟨by omega, hb, rfl⟩
    · rw [hr_un ej, hr_un ej]
      obtain ⟨a1, a2, a3⟩ := h1 j (by omega)
      exact ⟨by omega, a2, a3⟩
  · by_cases ek : k = z
    · rw [ek, hr_us, hr_un (by omega)]
      exact (h1 j (by omega)).1
    · rw [hr_un ek, hr_un (by omega)]
      exact h2 j k hjk (by omega)
  · by_cases ej : j = z
    · rw [ej, hr_us]
      have := h6 (by omega)
      omega
    · rw [hr_un ej]
      exact h3 j h0 (by omega)
  · by_cases ez : z = 0
    · rw [ez, hr_us]
      have := h5 ez
      omega
    · rw [hr_un (by omega)]
      exact h4 (by omega)
/-- both lists, behind i rows of the old order -/
def hr_P (V : Nat → Nat) (c : Nat) (o b : Nat → Nat) (i z m s0 s1 : Nat) (q p q1 p1 : Nat → Nat) : Prop :=
  z + m = i ∧ (∃ f g : Nat → Nat, hr_Q V c o 0 i z s0 q p f ∧ hr_Q V c o 1 i m s1 q1 p1 g ∧ (∀ k, k < i → (∃ j, j < z ∧ f j = k) ∨ (∃ j, j < m ∧ g j = k))) ∧ (∀ a, a ≤ c → hr_k b a i ≤ hr_c p a z + hr_c p1 a m)
theorem hr_P0 (V : Nat → Nat) (c : Nat) (o b q p q1 p1 : Nat → Nat) : hr_P V c o b 0 0 0 (c + 1) (c + 1) q p q1 p1 := by
  have hQ : ∀ (e : Nat) (q p : Nat → Nat), hr_Q V c o e 0 0 (c + 1) q p (fun j => j) := fun e q p =>
    ⟨fun j hj => absurd hj (by omega), fun j k h hk => absurd hk (by omega), fun j h hj => absurd hj (by omega), fun h => absurd h (by omega), fun _ => rfl, fun h => absurd h (by omega)⟩
  exact ⟨rfl, ⟨fun j => j, fun j => j, hQ 0 q p, hQ 1 q1 p1, fun k hk => absurd hk (by omega)⟩, fun a _ => Nat.le_refl 0⟩
theorem hr_P_z {V : Nat → Nat} {c : Nat} {o b : Nat → Nat} {i z m s0 s1 : Nat} {q p q1 p1 : Nat → Nat} (h : hr_P V c o b i z m s0 s1 q p q1 p1) (hB : b i ≤ c) (hb : V (o i) / 2 ^ c % 2 = 0) :
    hr_P V c o b (i + 1) (z + 1) m 0 (max s1 (b i)) (hr_u q z (o i)) (hr_u p z (max s0 (b i))) q1 p1 := by
  obtain ⟨h1, ⟨f, g, hf, hg, hc⟩, hk⟩ := h
  refine ⟨by omega, ⟨hr_u f z i, g, hr_Qa hf hB hb, hr_Qs hg hB, fun k hk => ?_⟩, fun a ha => ?_⟩
  · by_cases e : k = i
    · exact Or.inl ⟨z, by omega, by rw [hr_us, e]⟩
    · rcases hc k (by omega) with ⟨j, hj, ej⟩ | ⟨j, hj, ej⟩
      · exact Or.inl ⟨j, by omega, by rw [hr_un (by omega)]; exact ej⟩
      · exact Or.inr ⟨j, hj, ej⟩
  · have h5 := hf.2.2.2.2.1
    have := hk a ha
    rw [hr_c_u]
    show hr_k b a i + (if i = 0 ∨ a < b i then 1 else 0) ≤ _
    by_cases e : i = 0 ∨ a < b i
    · have hm : a < max s0 (b i) := by
        rcases e with e | e
        · have := h5 (by omega); omega
        · omega
      rw [if_pos e, if_pos hm]; omega
    · rw [if_neg e]; omega
theorem hr_P_o {V : Nat → Nat} {c : Nat} {o b : Nat → Nat} {i z m s0 s1 : Nat} {q p q1 p1 : Nat → Nat} (h : hr_P V c o b i z m s0 s1 q p q1 p1) (hB : b i ≤ c) (hb : V (o i) / 2 ^ c % 2 = 1) :
    hr_P V c o b (i + 1) z (m + 1) (max s0 (b i)) 0 q p (hr_u q1 m (o i)) (hr_u p1 m (max s1 (b i))) := by
  obtain ⟨h1, ⟨f, g, hf, hg, hc⟩, hk⟩ := h
  refine ⟨by omega, ⟨f, hr_u g m i, hr_Qs hf hB, hr_Qa hg hB hb, fun k hk => ?_⟩, fun a ha => ?_⟩
  · by_cases e : k = i
    · exact Or.inr ⟨m, by omega, by rw [hr_us, e]⟩
    · rcases hc k (by omega) with ⟨j, hj, ej⟩ | ⟨j, hj, ej⟩
      · exact Or.inl ⟨j, hj, ej⟩
      · exact Or.inr ⟨j, by omega, by rw [hr_un (by omega)]; exact ej⟩
  · have h5 := hg.2.2.2.2.1
    have := hk a ha
    rw [hr_c_u]
    show hr_k b a i + (if i = 0 ∨ a < b i then 1 else 0) ≤ _
    by_cases e : i = 0 ∨ a < b i
    · have hm : a < max s1 (b i) := by
        rcases e with e | e
        · have := h5 (by omega); omega
        · omega
      rw [if_pos e, if_pos hm]; omega
    · rw [if_neg e]; omega
/-- the end of part: the new level -/
theorem hr_P_end {n : Nat} {V : Nat → Nat} {c : Nat} {o b : Nat → Nat} {z m s0 s1 : Nat} {q p q1 p1 o' b' : Nat → Nat} (hL : hr_L n V c o b) (h : hr_P V c o b n z m s0 s1 q p q1 p1)
    (hz : ∀ j, j < z → o' j = q j ∧ b' j = p j) (hm : ∀ j, j < m → o' (z + j) = q1 j ∧ b' (z + j) = p1 j) : hr_L n V (c + 1) o' b' ∧ hr_S n V c b o' b' := by
  obtain ⟨l1, l2, l3, l4, l5⟩ := hL
  obtain ⟨h1, ⟨f, g, ⟨f1, f2, f3, f4, f5, f6⟩, ⟨g1, g2, g3, g4, g5, g6⟩, hc⟩, hk⟩ := h
  -- the source of each new place
  have F : ∀ j, j < z → o' j = o (f j) := fun j hj => (hz j hj).1.trans (f1 j hj).2.2
  have G : ∀ j, j < m → o' (z + j) = o (g j) := fun j hj => (hm j hj).1.trans (g1 j hj).2.2
  have G' : ∀ i, z ≤ i → i < n → i - z < m ∧ o' i = o (g (i - z)) := fun i hi hn => by
    refine ⟨by omega, ?_⟩
    have e := G (i - z) (by omega)
    rw [show z + (i - z) = i by omega] at e
    exact e
  have B0 : ∀ i, i < z → V (o' i) / 2 ^ c % 2 = 0 := fun i hi => by rw [F i hi]; exact (f1 i hi).2.1
  have B1 : ∀ i, z ≤ i → i < n → V (o' i) / 2 ^ c % 2 = 1 := fun i hi hn => by
    rw [(G' i hi hn).2]
    exact (g1 (i - z) (by omega)).2.1
  have b1 : ∀ i, z ≤ i → i < n → b' i = p1 (i - z) := fun i hi hn => by
    have e := (hm (i - z) (by omega)).2
    rw [show z + (i - z) = i by omega] at e
    exact e
  have fin : ∀ j k, j < z → k < z → f j = f k → j = k := fun j k hj hk e => by
    rcases Nat.lt_trichotomy j k with t | t | t
    · have := f2 j k t hk; omega
    · exact t
    · have := f2 k j t hj; omega
  have gin : ∀ j k, j < m → k < m → g j = g k → j = k := fun j k hj hk e => by
    rcases Nat.lt_trichotomy j k with t | t | t
    · have := g2 j k t hk; omega
    · exact t
    · have := g2 k j t hj; omega
  refine ⟨⟨fun i hi => ?_, fun i j hi hj e => ?_, fun r hr => ?_, fun i hi => ?_, fun i j hij hj => ?_⟩, fun i hi => ?_, fun a ha => ?_⟩
  · by_cases t : i < z
    · rw [F i t]; exact l1 _ (f1 i t).1
    · obtain ⟨t1, t2⟩ := G' i (by omega) hi
      rw [t2]; exact l1 _ (g1 _ t1).1
  · by_cases ti : i < z
    · by_cases tj : j < z
      · rw [F i ti, F j tj] at e
        exact fin i j ti tj (l2 _ _ (f1 i ti).1 (f1 j tj).1 e)
      · have x0 := B0 i ti
        have x1 := B1 j (by omega) hj
        rw [e] at x0
        omega
    · by_cases tj : j < z
      · have x0 := B0 j tj
        have x1 := B1 i (by omega) hi
        rw [e] at x1
        omega
      · obtain ⟨t1, t2⟩ := G' i (by omega) hi
        obtain ⟨u1, u2⟩ := G' j (by omega) hj
        rw [t2, u2] at e
        have := gin _ _ t1 u1 (l2 _ _ (g1 _ t1).1 (g1 _ u1).1 e)
        omega
  · obtain ⟨k, hk, ek⟩ := l3 r hr
    rcases hc k hk with ⟨j, hj, ej⟩ | ⟨j, hj, ej⟩
    · exact ⟨j, by omega, by rw [F j hj, ej]; exact ek⟩
    · exact ⟨z + j, by omega, by rw [G j hj, ej]; exact ek⟩
  · by_cases t : i < z
    · rw [(hz i t).2]
      by_cases i0 : i = 0
      · have := f4 (by omega)
        rw [i0]; omega
      · have := f3 i (by omega) t; omega
    · rw [b1 i (by omega) hi]
      by_cases i0 : i - z = 0
      · have := g4 (by omega)
        rw [i0]; omega
      · have := g3 (i - z) (by omega) (by omega); omega
  · by_cases tj : j < z
    · rw [hr_le_same (by rw [B0 i (by omega), B0 j tj]), F i (by omega), F j tj]
      exact l5 _ _ (f2 i j hij tj) (f1 j tj).1
    · by_cases ti : i < z
      · exact Nat.le_of_lt (hr_lt_01 (B0 i ti) (B1 j (by omega) hj))
      · rw [hr_le_same (by rw [B1 i (by omega) (by omega), B1 j (by omega) hj])]
        obtain ⟨t1, t2⟩ := G' i (by omega) (by omega)
        obtain ⟨u1, u2⟩ := G' j (by omega) hj
        rw [t2, u2]
        exact l5 _ _ (g2 _ _ (by omega) u1) (g1 _ u1).1
  · by_cases t : i + 1 < z
    · rw [B0 i (by omega), B0 (i + 1) t, (hz _ t).2]
      exact ⟨fun _ => rfl, fun _ => f3 _ (by omega) t⟩
    · rw [b1 (i + 1) (by omega) hi, B1 (i + 1) (by omega) hi]
      by_cases t2 : i + 1 = z
      · rw [B0 i (by omega), show i + 1 - z = 0 by omega, g4 (by omega)]
        omega
      · rw [B1 i (by omega) (by omega)]
        exact ⟨fun _ => rfl, fun _ => g3 _ (by omega) (by omega)⟩
  · have e : hr_c b' a n = hr_c p a z + hr_c p1 a m := by
      rw [← h1, hr_c_add, hr_c_congr (fun j hj => (hz j hj).2), hr_c_congr (b := fun j => b' (z + j)) (fun j hj => (hm j hj).2)]
    have e1 := hk a ha
    have e2 := hr_c_le b' a n
    omega
end
section
/-! the place of a row in an order -/
def hr_pl (o : Nat → Nat) (r : Nat) : Nat → Nat
  | 0 => 0
  | i + 1 => if o i = r then i else hr_pl o r i
theorem hr_pl_at {n : Nat} {o : Nat → Nat} (inj : ∀ i j, i < n → j < n → o i = o j → i = j) {p : Nat} (hp : p < n) : ∀ k, p < k → k ≤ n → hr_pl o (o p) k = p := by
  intro k
  induction k with
  | zero => intro h _; omega
  | succ k ih =>
    intro h hk
    show (if o k = o p then k else hr_pl o (o p) k) = p
    by_cases e : o k = o p
    · rw [if_pos e]
      exact inj k p (by omega) hp e
    · rw [if_neg e]
      have : p ≠ k := fun z => e (by rw [z])
      exact ih (by omega) (by omega)
theorem hr_pl_of {n : Nat} {V : Nat → Nat} {c : Nat} {o b : Nat → Nat} (h : hr_L n V c o b) {p : Nat} (hp : p < n) : hr_pl o (o p) n = p := hr_pl_at h.2.1 hp n hp (Nat.le_refl n)
theorem hr_pl_ex {n : Nat} {V : Nat → Nat} {c : Nat} {o b : Nat → Nat} (h : hr_L n V c o b) {r : Nat} (hr : r < n) : hr_pl o r n < n ∧ o (hr_pl o r n) = r := by
  obtain ⟨p, hp, e⟩ := h.2.2.1 r hr
  rw [← e, hr_pl_of h hp]
  exact ⟨hp, rfl⟩
theorem hr_pl_lt (o : Nat → Nat) (r : Nat) : ∀ n, hr_pl o r n ≤ n := by
  intro n
  induction n with
  | zero => exact Nat.le_refl 0
  | succ n ih =>
    show (if o n = r then n else hr_pl o r n) ≤ n + 1
    split <;> omega
/-! the latest begin of k places from lo on -/
def hr_m (b : Nat → Nat) (lo : Nat) : Nat → Nat
  | 0 => 0
  | k + 1 => max (hr_m b lo k) (b (lo + k))
theorem hr_m_le (b : Nat → Nat) (lo x : Nat) : ∀ k, hr_m b lo k ≤ x ↔ ∀ t, t < k → b (lo + t) ≤ x := by
  intro k
  induction k with
  | zero => exact ⟨fun _ t ht => absurd ht (by omega), fun _ => Nat.zero_le x⟩
  | succ k ih =>
    show max (hr_m b lo k) (b (lo + k)) ≤ x ↔ _
    rw [Nat.max_le, ih]
    constructor
    · intro h t ht
      by_cases e : t = k
      · rw [e]; exact h.2
      · exact h.1 t (by omega)
    · intro h
      exact ⟨fun t ht => h t (by omega), h k (by omega)⟩
/-! since when two rows agree, by their places -/
def hr_g (n : Nat) (o b : Nat → Nat) (r s : Nat) : Nat :=
  hr_m b (min (hr_pl o r n) (hr_pl o s n) + 1) (max (hr_pl o r n) (hr_pl o s n) - min (hr_pl o r n) (hr_pl o s n))
theorem hr_g_comm (n : Nat) (o b : Nat → Nat) (r s : Nat) : hr_g n o b r s = hr_g n o b s r := by
  unfold hr_g
  rw [Nat.min_comm, Nat.max_comm]
theorem hr_g_le {n : Nat} {V : Nat → Nat} {c : Nat} {o b : Nat → Nat} (h : hr_L n V c o b) {r s : Nat} (hr : r < n) (hs : s < n) : hr_g n o b r s ≤ c := by
  have h1 := (hr_pl_ex h hr).1
  have h2 := (hr_pl_ex h hs).1
  exact (hr_m_le _ _ _ _).mpr (fun t ht => h.2.2.2.1 _ (by omega))
/-- rows at places i ≤ j of level c + 1: the same bit c iff no begin between them is c + 1 -/
theorem hr_span {n : Nat} {V : Nat → Nat} {c : Nat} {b o' b' : Nat → Nat} (hL : hr_L n V (c + 1) o' b') (hS : hr_S n V c b o' b') {i : Nat} : ∀ d, i + d < n → (hr_m b' (i + 1) d ≤ c ↔ V (o' i) / 2 ^ c % 2 = V (o' (i + d)) / 2 ^ c % 2) := by
  intro d hd
  rw [hr_m_le]
  have mono : ∀ x y, x < y → y < n → V (o' x) / 2 ^ c % 2 ≤ V (o' y) / 2 ^ c % 2 := fun x y h hy => hr_bit_mono (hL.2.2.2.2 x y h hy)
  constructor
  · induction d with
    | zero => intro _; rfl
    | succ d ih =>
      intro h
      have e1 := ih (by omega) (fun t ht => h t (by omega))
      have e2 := h d (by omega)
      rw [show i + 1 + d = i + d + 1 by omega, hS.1 (i + d) (by omega)] at e2
      exact e1.trans e2
  · intro e t ht
    rw [show i + 1 + t = i + t + 1 by omega, hS.1 (i + t) (by omega)]
    have a1 : V (o' i) / 2 ^ c % 2 ≤ V (o' (i + t)) / 2 ^ c % 2 := by
      by_cases z : t = 0
      · subst z; exact Nat.le_refl _
      · exact mono _ _ (by omega) (by omega)
    have a2 := mono (i + t) (i + t + 1) (by omega) (by omega)
    have a3 : V (o' (i + t + 1)) / 2 ^ c % 2 ≤ V (o' (i + d)) / 2 ^ c % 2 := by
      by_cases z : i + t + 1 = i + d
      · exact Nat.le_of_eq (by rw [z])
      · exact mono _ _ (by omega) (by omega)
    omega
theorem hr_g_iff {n : Nat} {V : Nat → Nat} {c : Nat} {b o' b' : Nat → Nat} (hL : hr_L n V (c + 1) o' b') (hS : hr_S n V c b o' b') {r s : Nat} (hr : r < n) (hs : s < n) : hr_g n o' b' r s ≤ c ↔ V r / 2 ^ c % 2 = V s / 2 ^ c % 2 := by
  obtain ⟨i1, i2⟩ := hr_pl_ex hL hr
  obtain ⟨j1, j2⟩ := hr_pl_ex hL hs
  unfold hr_g
  generalize hr_pl o' r n = i at *
  generalize hr_pl o' s n = j at *
  rcases Nat.le_total i j with h | h
  · rw [Nat.min_eq_left h, Nat.max_eq_right h, hr_span hL hS (j - i) (by omega), show i + (j - i) = j by omega, i2, j2]
  · rw [Nat.min_eq_right h, Nat.max_eq_left h, hr_span hL hS (i - j) (by omega), show j + (i - j) = i by omega, i2, j2]
    exact eq_comm
/-! the longest agreement of two rows: G c since when they agree before c -/
def hr_lg (G : Nat → Nat) : Nat → Nat
  | 0 => 0
  | c + 1 => max (hr_lg G c) (c - G c)
theorem hr_lg_le (G : Nat → Nat) : ∀ c, hr_lg G c ≤ c := by
  intro c
  induction c with
  | zero => exact Nat.le_refl 0
  | succ c ih =>
    show max (hr_lg G c) (c - G c) ≤ c + 1
    omega
theorem hr_lg_pos (G : Nat → Nat) : ∀ k, 0 < hr_lg G k ↔ ∃ c, c < k ∧ G c < c := by
  intro k
  induction k with
  | zero => exact ⟨fun h => absurd h (by show ¬ 0 < 0; omega), fun ⟨c, h, _⟩ => absurd h (by omega)⟩
  | succ k ih =>
    show 0 < max (hr_lg G k) (k - G k) ↔ _
    constructor
    · intro h
      by_cases z : 0 < hr_lg G k
      · obtain ⟨c, h1, h2⟩ := ih.mp z
        exact ⟨c, by omega, h2⟩
      · exact ⟨k, by omega, by omega⟩
    · rintro ⟨c, h1, h2⟩
      by_cases z : c = k
      · subst z; omega
      · have := ih.mpr ⟨c, by omega, h2⟩
        omega
theorem hr_lg_congr {G G' : Nat → Nat} {k : Nat} (h : ∀ c, c < k → G c = G' c) : hr_lg G k = hr_lg G' k := by
  induction k with
  | zero => rfl
  | succ k ih =>
    show max (hr_lg G k) (k - G k) = max (hr_lg G' k) (k - G' k)
    rw [ih (fun c hc => h c (by omega)), h k (by omega)]
/-! the whole tables -/
abbrev hr_A : Type := (Nat → Nat) × (Nat → Nat) × (Nat → Nat) × (Nat → Nat)
def hr_T (n : Nat) (V : Nat → Nat) (A : hr_A) : Prop :=
  (∀ c, c ≤ 12 → hr_L n V c (hr_o A.1 c) (hr_o A.2.1 c)) ∧ (∀ c, c < 12 → hr_S n V c (hr_o A.2.1 c) (hr_o A.1 (c + 1)) (hr_o A.2.1 (c + 1)))
/-- two rows agree in some column -/
def hr_ag (V : Nat → Nat) (r s : Nat) : Prop := ∃ c, c < 12 ∧ V r / 2 ^ c % 2 = V s / 2 ^ c % 2
theorem hr_ag_comm {V : Nat → Nat} {r s : Nat} : hr_ag V r s ↔ hr_ag V s r := ⟨fun ⟨c, h, e⟩ => ⟨c, h, e.symm⟩, fun ⟨c, h, e⟩ => ⟨c, h, e.symm⟩⟩
def hr_G (n : Nat) (A : hr_A) (r s c : Nat) : Nat := hr_g n (hr_o A.1 c) (hr_o A.2.1 c) r s
theorem hr_G_le {n : Nat} {V : Nat → Nat} {A : hr_A} (h : hr_T n V A) {r s c : Nat} (hr : r < n) (hs : s < n) (hc : c ≤ 12) : hr_G n A r s c ≤ c := hr_g_le (h.1 c hc) hr hs
theorem hr_G_iff {n : Nat} {V : Nat → Nat} {A : hr_A} (h : hr_T n V A) {r s c : Nat} (hr : r < n) (hs : s < n) (hc : c < 12) : hr_G n A r s (c + 1) ≤ c ↔ V r / 2 ^ c % 2 = V s / 2 ^ c % 2 := hr_g_iff (h.1 (c + 1) (by omega)) (h.2 c hc) hr hs
theorem hr_lg_ag {n : Nat} {V : Nat → Nat} {A : hr_A} (h : hr_T n V A) {r s : Nat} (hr : r < n) (hs : s < n) : 0 < hr_lg (hr_G n A r s) 13 ↔ hr_ag V r s := by
  rw [hr_lg_pos]
  constructor
  · rintro ⟨c, h1, h2⟩
    obtain ⟨d, rfl⟩ : ∃ d, c = d + 1 := ⟨c - 1, by omega⟩
    exact ⟨d, by omega, (hr_G_iff h hr hs (by omega)).mp (by omega)⟩
  · rintro ⟨c, h1, h2⟩
    have := (hr_G_iff h hr hs h1).mpr h2
    exact ⟨c + 1, by omega, by omega⟩
/-! the best begin of a row's neighbours -/
def hr_bs (n : Nat) (A : hr_A) (r c : Nat) : Nat :=
  min (if 0 < hr_pl (hr_o A.1 c) r n then hr_o A.2.1 c (hr_pl (hr_o A.1 c) r n) else c) (if hr_pl (hr_o A.1 c) r n + 1 < n then hr_o A.2.1 c (hr_pl (hr_o A.1 c) r n + 1) else c)
theorem hr_bs_le {n : Nat} {V : Nat → Nat} {A : hr_A} (h : hr_T n V A) {r c : Nat} (hr : r < n) (hc : c ≤ 12) : hr_bs n A r c ≤ c := by
  have hL := h.1 c hc
  obtain ⟨i1, i2⟩ := hr_pl_ex hL hr
  unfold hr_bs
  generalize hr_pl (hr_o A.1 c) r n = i at *
  by_cases z : 0 < i
  · rw [if_pos z]
    exact Nat.le_trans (Nat.min_le_left _ _) (hL.2.2.2.1 i i1)
  · rw [if_neg z]
    exact Nat.min_le_left _ _
theorem hr_bs_min {n : Nat} {V : Nat → Nat} {A : hr_A} (h : hr_T n V A) {r s c : Nat} (hr : r < n) (hs : s < n) (hne : s ≠ r) (hc : c ≤ 12) : hr_bs n A r c ≤ hr_G n A r s c := by
  have hL := h.1 c hc
  obtain ⟨i1, i2⟩ := hr_pl_ex hL hr
  obtain ⟨j1, j2⟩ := hr_pl_ex hL hs
  have hij : hr_pl (hr_o A.1 c) r n ≠ hr_pl (hr_o A.1 c) s n := fun e => hne (by rw [← i2, ← j2, e])
  have key := (hr_m_le (hr_o A.2.1 c) (min (hr_pl (hr_o A.1 c) r n) (hr_pl (hr_o A.1 c) s n) + 1) (hr_G n A r s c) (max (hr_pl (hr_o A.1 c) r n) (hr_pl (hr_o A.1 c) s n) - min (hr_pl (hr_o A.1 c) r n) (hr_pl (hr_o A.1 c) s n))).mp (Nat.le_refl _)
  unfold hr_bs
  generalize hr_pl (hr_o A.1 c) r n = i at *
  generalize hr_pl (hr_o A.1 c) s n = j at *
  rcases Nat.lt_or_ge i j with t | t
  · have k := key 0 (by omega)
    rw [show min i j + 1 + 0 = i + 1 by omega] at k
    rw [if_pos (show i + 1 < n by omega)]
    exact Nat.le_trans (Nat.min_le_right _ _) k
  · have k := key (i - j - 1) (by omega)
    rw [show min i j + 1 + (i - j - 1) = i by omega] at k
    rw [if_pos (show 0 < i by omega)]
    exact Nat.le_trans (Nat.min_le_left _ _) k
theorem hr_bs_ex {n : Nat} {V : Nat → Nat} {A : hr_A} (h : hr_T n V A) {r c : Nat} (hr : r < n) (hc : c ≤ 12) (hb : hr_bs n A r c ≠ c) : ∃ s, s < n ∧ s ≠ r ∧ hr_G n A r s c = hr_bs n A r c := by
  have hL := h.1 c hc
  obtain ⟨i1, i2⟩ := hr_pl_ex hL hr
  have at_ : ∀ j, j < n → hr_G n A r (hr_o A.1 c j) c = hr_m (hr_o A.2.1 c) (min (hr_pl (hr_o A.1 c) r n) j + 1) (max (hr_pl (hr_o A.1 c) r n) j - min (hr_pl (hr_o A.1 c) r n) j) := fun j hj => by
    unfold hr_G hr_g
    rw [hr_pl_of hL hj]
  have one : ∀ lo, hr_m (hr_o A.2.1 c) lo 1 = hr_o A.2.1 c lo := fun lo => by
    show max 0 (hr_o A.2.1 c (lo + 0)) = _
    rw [Nat.add_zero]
    omega
  have up : 0 < hr_pl (hr_o A.1 c) r n → ∃ s, s < n ∧ s ≠ r ∧ hr_G n A r s c = hr_o A.2.1 c (hr_pl (hr_o A.1 c) r n) := fun z => by
    generalize hr_pl (hr_o A.1 c) r n = i at *
    refine ⟨hr_o A.1 c (i - 1), hL.1 _ (by omega), fun e => ?_, ?_⟩
    · have := hL.2.1 (i - 1) i (by omega) i1 (by rw [i2]; exact e)
      omega
    · rw [at_ (i - 1) (by omega), show max i (i - 1) - min i (i - 1) = 1 by omega, show min i (i - 1) + 1 = i by omega, one]
  have down : hr_pl (hr_o A.1 c) r n + 1 < n → ∃ s, s < n ∧ s ≠ r ∧ hr_G n A r s c = hr_o A.2.1 c (hr_pl (hr_o A.1 c) r n + 1) := fun z => by
    generalize hr_pl (hr_o A.1 c) r n = i at *
    refine ⟨hr_o A.1 c (i + 1), hL.1 _ (by omega), fun e => ?_, ?_⟩
    · have := hL.2.1 (i + 1) i (by omega) i1 (by rw [i2]; exact e)
      omega
    · rw [at_ (i + 1) (by omega), show max i (i + 1) - min i (i + 1) = 1 by omega, show min i (i + 1) + 1 = i + 1 by omega, one]
  have hle := hr_bs_le h hr hc
  revert hb hle
  unfold hr_bs
  generalize hr_pl (hr_o A.1 c) r n = i at *
  by_cases z : 0 < i
  · rw [if_pos z]
    by_cases z' : i + 1 < n
    · rw [if_pos z']
      intro _ _
      rcases Nat.le_total (hr_o A.2.1 c i) (hr_o A.2.1 c (i + 1)) with t | t
      · rw [Nat.min_eq_left t]; exact up z
      · rw [Nat.min_eq_right t]; exact down z'
    · rw [if_neg z']
      intro hb hle
      have : min (hr_o A.2.1 c i) c = hr_o A.2.1 c i := by omega
      rw [this]
      exact up z
  · rw [if_neg z]
    by_cases z' : i + 1 < n
    · rw [if_pos z']
      intro hb hle
      have : min c (hr_o A.2.1 c (i + 1)) = hr_o A.2.1 c (i + 1) := by omega
      rw [this]
      exact down z'
    · rw [if_neg z']
      intro hb _
      exact absurd (Nat.min_self c) hb
/-- when row r wins before column c -/
def hr_W (n : Nat) (V : Nat → Nat) (A : hr_A) (r c : Nat) : Prop :=
  hr_bs n A r c ≠ c ∧ (∃ s, s < n ∧ s ≠ r ∧ hr_G n A r s c = hr_bs n A r c) ∧ (∀ s, s < n → s ≠ r → hr_G n A r s c = hr_bs n A r c → (c = 12 ∨ V r / 2 ^ c % 2 ≠ V s / 2 ^ c % 2))
/-- the last number below k with P -/
theorem hr_last (P : Nat → Prop) : ∀ k, (∃ c, c < k ∧ P c) → ∃ c, c < k ∧ P c ∧ ∀ d, c < d → d < k → ¬ P d := by
  intro k
  induction k with
  | zero => rintro ⟨c, h, _⟩; omega
  | succ k ih =>
    rintro ⟨c, h, hP⟩
    by_cases z : P k
    · exact ⟨k, by omega, z, fun d h1 h2 => by omega⟩
    · have hc : c ≠ k := fun e => z (by rw [← e]; exact hP)
      obtain ⟨d, d1, d2, d3⟩ := ih ⟨c, by omega, hP⟩
      refine ⟨d, by omega, d2, fun x h1 h2 => ?_⟩
      by_cases e : x = k
      · rw [e]; exact z
      · exact d3 x h1 (by omega)
theorem hr_W_iff {n : Nat} {V : Nat → Nat} {A : hr_A} (h : hr_T n V A) {r : Nat} (hr : r < n) : (∃ c, 1 ≤ c ∧ c < 13 ∧ hr_W n V A r c) ↔ ∃ s, s < n ∧ s ≠ r ∧ hr_ag V r s := by
  constructor
  · rintro ⟨c, h1, h2, w1, ⟨s, s1, s2, s3⟩, w3⟩
    obtain ⟨d, rfl⟩ : ∃ d, c = d + 1 := ⟨c - 1, by omega⟩
    have := hr_bs_le h hr (show d + 1 ≤ 12 by omega)
    exact ⟨s, s1, s2, d, by omega, (hr_G_iff h hr s1 (by omega)).mp (by omega)⟩
  · rintro ⟨s, s1, s2, c, c1, c2⟩
    obtain ⟨d, d1, ⟨t, t1, t2, t3⟩, d3⟩ := hr_last (fun c => ∃ s, s < n ∧ s ≠ r ∧ V r / 2 ^ c % 2 = V s / 2 ^ c % 2) 12 ⟨c, c1, s, s1, s2, c2⟩
    have g := (hr_G_iff h hr t1 d1).mpr t3
    have m := hr_bs_min h hr t1 t2 (show d + 1 ≤ 12 by omega)
    have hb : hr_bs n A r (d + 1) ≠ d + 1 := by omega
    refine ⟨d + 1, by omega, by omega, hb, hr_bs_ex h hr (by omega) hb, fun x x1 x2 _ => ?_⟩
    by_cases z : d + 1 = 12
    · exact Or.inl z
    · exact Or.inr (fun e => d3 (d + 1) (by omega) (by omega) ⟨x, x1, x2, e⟩)
/-! sums -/
def hr_sum (f : Nat → Nat) : Nat → Nat
  | 0 => 0
  | k + 1 => hr_sum f k + f k
theorem hr_sum_mono {f g : Nat → Nat} (h : ∀ i, f i ≤ g i) (n : Nat) : hr_sum f n ≤ hr_sum g n := by
  induction n with
  | zero => exact Nat.le_refl 0
  | succ n ih =>
    show hr_sum f n + f n ≤ hr_sum g n + g n
    have := h n
    omega
theorem hr_sum_le {f : Nat → Nat} {B : Nat} (h : ∀ i, f i ≤ B) (n : Nat) : hr_sum f n ≤ n * B := by
  induction n with
  | zero => exact Nat.zero_le _
  | succ n ih =>
    show hr_sum f n + f n ≤ (n + 1) * B
    rw [Nat.succ_mul]
    have := h n
    omega
/-- matches: one pair, one row, one end, all -/
def hr_e1 (V : Nat → Nat) (A : hr_A) (c k i t : Nat) : Nat :=
  if k ≤ c - hr_m (hr_o A.2.1 c) (i + 1) (t + 1) ∧ (c = 12 ∨ V (hr_o A.1 c i) / 2 ^ c % 2 ≠ V (hr_o A.1 c (i + 1 + t)) / 2 ^ c % 2) then 1 else 0
def hr_e2 (n : Nat) (V : Nat → Nat) (A : hr_A) (c k i : Nat) : Nat := hr_sum (hr_e1 V A c k i) (n - (i + 1))
def hr_e3 (n : Nat) (V : Nat → Nat) (A : hr_A) (c k : Nat) : Nat := hr_sum (hr_e2 n V A c k) n
def hr_e4 (n : Nat) (V : Nat → Nat) (A : hr_A) (k : Nat) : Nat := hr_sum (fun c => hr_e3 n V A (c + 1) k) 12
theorem hr_e1_le (V : Nat → Nat) (A : hr_A) (c k i t : Nat) : hr_e1 V A c k i t ≤ 1 := by
  unfold hr_e1
  split <;> omega
theorem hr_e2_le {n : Nat} (hn : n ≤ 8) (V : Nat → Nat) (A : hr_A) (c k i : Nat) : hr_e2 n V A c k i ≤ 8 := by
  have := hr_sum_le (hr_e1_le V A c k i) (n - (i + 1))
  unfold hr_e2
  omega
theorem hr_e3_le {n : Nat} (hn : n ≤ 8) (V : Nat → Nat) (A : hr_A) (c k : Nat) : hr_e3 n V A c k ≤ 64 := by
  have := hr_sum_le (hr_e2_le hn V A c k) n
  unfold hr_e3
  omega
theorem hr_e4_le {n : Nat} (hn : n ≤ 8) (V : Nat → Nat) (A : hr_A) (k : Nat) : hr_e4 n V A k ≤ 768 := by
  have := hr_sum_le (fun c => hr_e3_le hn V A (c + 1) k) 12
  unfold hr_e4
  omega
theorem hr_e1_anti (V : Nat → Nat) (A : hr_A) (c i t : Nat) {k k' : Nat} (h : k ≤ k') : hr_e1 V A c k' i t ≤ hr_e1 V A c k i t := by
  unfold hr_e1
  by_cases z : k' ≤ c - hr_m (hr_o A.2.1 c) (i + 1) (t + 1) ∧ (c = 12 ∨ V (hr_o A.1 c i) / 2 ^ c % 2 ≠ V (hr_o A.1 c (i + 1 + t)) / 2 ^ c % 2)
  · exact Nat.le_of_eq (by rw [if_pos z, if_pos ⟨Nat.le_trans h z.1, z.2⟩])
  · rw [if_neg z]
    exact Nat.zero_le _
theorem hr_e4_anti (n : Nat) (V : Nat → Nat) (A : hr_A) {k k' : Nat} (h : k ≤ k') : hr_e4 n V A k' ≤ hr_e4 n V A k :=
  hr_sum_mono (fun c => hr_sum_mono (fun i => hr_sum_mono (fun t => hr_e1_anti V A (c + 1) i t h) _) _) _
/-! bits from the top: x and y agree in the columns from d to c -/
theorem hr_top {x y c : Nat} : ∀ t d, d + t = c → (∀ k, d ≤ k → k < c → x / 2 ^ k % 2 = y / 2 ^ k % 2) → (x % 2 ^ c < y % 2 ^ c ↔ x % 2 ^ d < y % 2 ^ d) := by
  intro t
  induction t generalizing c with
  | zero => intro d hd _; rw [show d = c by omega]
  | succ t ih =>
    intro d hd h
    obtain ⟨e, rfl⟩ : ∃ e, c = e + 1 := ⟨c - 1, by omega⟩
    rw [hr_lt_same (h e (by omega) (by omega))]
    exact ih d (by omega) (fun k h1 h2 => h k h1 (by omega))
theorem hr_same {x y : Nat} : ∀ c, x % 2 ^ c = y % 2 ^ c → ∀ k, k < c → x / 2 ^ k % 2 = y / 2 ^ k % 2 := by
  intro c
  induction c with
  | zero => intro _ k hk; omega
  | succ c ih =>
    intro h k hk
    have a := hr_bit_mono (Nat.le_of_eq h)
    have b := hr_bit_mono (Nat.le_of_eq h.symm)
    by_cases e : k = c
    · rw [e]; omega
    · refine ih ?_ k (by omega)
      have h1 := (hr_le_same (x := x) (y := y) (c := c) (by omega)).mp (Nat.le_of_eq h)
      have h2 := (hr_le_same (x := y) (y := x) (c := c) (by omega)).mp (Nat.le_of_eq h.symm)
      omega
end
section
/-! walks: reading and writing arrays of naturals -/
abbrev hr_s (n bt : Nat) (V : Nat → Nat) (A : hr_A) : St1 := (nI n, nI bt, hr_f V, hr_f A.1, hr_f A.2.1, hr_f A.2.2.1, hr_f A.2.2.2)
theorem hr_get {A : Nat → Nat} {x : Int32} (k : Nat) (hx : x = nI k) (hk : k < 2 ^ 31) : hr_f A x.toNatClampNeg = nI (A k) := by
  rw [hx, nI_clamp hk]
  rfl
theorem hr_upd1 {A : Nat → Nat} {x v : Int32} (k w : Nat) (hx : x = nI k) (hv : v = nI w) (hk : k < 2 ^ 31) : upd (hr_f A) x.toNatClampNeg v = hr_f (hr_u A k w) := by
  rw [hx, nI_clamp hk, hv]
  exact hr_upd A k w
theorem hr_ix (c i : Nat) : (8 : Int32) * nI c + nI i = nI (8 * c + i) := by
  rw [show (8 : Int32) = nI 8 from rfl, pk_mul, nI_add]
theorem hr_sh : ∀ n, n < 32 → ((nI n &&& 31).toBitVec.smod 32).toNat = n := by decide +kernel
theorem hr_b31 (x c : Nat) : x / 2 ^ c % 2 < 2 ^ 31 := Nat.lt_of_lt_of_le (Nat.mod_lt _ (by decide)) (by decide)
theorem hr_bitI {x c : Nat} (hc : c < 32) (hx : x < 4096) : (nI x >>> (nI c &&& 31)) &&& 1 = nI (x / 2 ^ c % 2) := by
  rw [pk_shrN (by omega) _ c (hr_sh c hc)]
  exact pk_andN (Nat.lt_of_le_of_lt (Nat.div_le_self _ _) (by omega)) 1 (by decide)
theorem hr_at {post : Int32 → Prop} {x y : Int32} {V : Nat → Nat} {a2 a3 a4 a5 : Nat → Int32} {r c : Nat} (hr : r < 8) (hc : c < 32) (hV : V r < 4096) (hp : post (nI (V r / 2 ^ c % 2))) : wpX_at post (x, y, hr_f V, a2, a3, a4, a5) (nI r) (nI c) := by
  refine ⟨pk_in r 8 hr, ?_⟩
  rw [hr_get r rfl (by omega), hr_bitI hc hV]
  exact hp
/-- part's second loop: the ones behind the zeros -/
theorem hr_166 {post : St1 → Prop} {n bt t z m : Nat} {V : Nat → Nat} {A : hr_A} (hm : m ≤ 8) (ht : t + z + m ≤ 104)
    (H : ∀ Q P : Nat → Nat, (∀ j, j < t + z → Q j = A.1 j ∧ P j = A.2.1 j) → (∀ j, j < m → Q (t + z + j) = A.2.2.1 j ∧ P (t + z + j) = A.2.2.2 j) → post (hr_s n bt V (Q, P, A.2.2.1, A.2.2.2))) :
    ∃ fu, wX_part_166 post (nI t) (nI z) (nI m) (nI n) (nI bt) fu 0 (hr_f V) (hr_f A.1) (hr_f A.2.1) (hr_f A.2.2.1) (hr_f A.2.2.2) := by
  refine pk_loop (σ := (Nat → Nat) × (Nat → Nat)) (fun fu i s => wX_part_166 post (nI t) (nI z) (nI m) (nI n) (nI bt) fu (nI i) (hr_f V) (hr_f s.1) (hr_f s.2) (hr_f A.2.2.1) (hr_f A.2.2.2))
    (fun i s => (∀ j, j < t + z → s.1 j = A.1 j ∧ s.2 j = A.2.1 j) ∧ (∀ j, j < i → s.1 (t + z + j) = A.2.2.1 j ∧ s.2 (t + z + j) = A.2.2.2 j)) m 0 (A.1, A.2.1) (Nat.zero_le m) ⟨fun j _ => ⟨rfl, rfl⟩, fun j hj => absurd hj (by omega)⟩ ?_ ?_
  · intro fu s h
    exact pk_le m m (fun _ => H s.1 s.2 h.1 h.2) (fun q => absurd q (by omega))
  · intro fu i s hi h hw
    have ex : nI t + nI z + nI i = nI (t + z + i) := by rw [nI_add, nI_add]
    have u : ∀ (S B : Nat → Nat), upd (hr_f S) (nI t + nI z + nI i).toNatClampNeg (hr_f B (nI i).toNatClampNeg) = hr_f (hr_u S (t + z + i) (B i)) := fun S B => hr_upd1 (t + z + i) (B i) ex (hr_get i rfl (by omega)) (by omega)
    refine pk_le m i (fun q => absurd q (by omega)) (fun _ => ⟨pk_in i 8 (by omega), pk_in (t + z + i) 104 (by omega) ex, nm_r (u s.1 A.2.2.1) ⟨pk_in i 8 (by omega), pk_in (t + z + i) 104 (by omega) ex, nm_r (u s.2 A.2.2.2) (nm_r (nI_1 i) (hw (hr_u s.1 (t + z + i) (A.2.2.1 i), hr_u s.2 (t + z + i) (A.2.2.2 i)) ⟨fun j hj => ?_, fun j hj => ?_⟩))⟩⟩)
    · show hr_u s.1 (t + z + i) (A.2.2.1 i) j = A.1 j ∧ hr_u s.2 (t + z + i) (A.2.2.2 i) j = A.2.1 j
      rw [hr_un (by omega), hr_un (by omega)]
      exact h.1 j hj
    · show hr_u s.1 (t + z + i) (A.2.2.1 i) (t + z + j) = A.2.2.1 j ∧ hr_u s.2 (t + z + i) (A.2.2.2 i) (t + z + j) = A.2.2.2 j
      by_cases e : j = i
      · rw [e, hr_us, hr_us]
        exact ⟨rfl, rfl⟩
      · rw [hr_un (by omega), hr_un (by omega)]
        exact h.2 j (by omega)
theorem hr_P_s {V : Nat → Nat} {c : Nat} {o b : Nat → Nat} {i z m s0 s1 : Nat} {q p q1 p1 : Nat → Nat} (h : hr_P V c o b i z m s0 s1 q p q1 p1) : s0 ≤ c + 1 ∧ s1 ≤ c + 1 ∧ z + m = i := by
  obtain ⟨h1, ⟨f, g, hf, hg, _⟩, _⟩ := h
  obtain ⟨_, _, _, _, f5, f6⟩ := hf
  obtain ⟨_, _, _, _, g5, g6⟩ := hg
  refine ⟨?_, ?_, h1⟩
  · by_cases e : z = 0
    · have := f5 e; omega
    · have := f6 (by omega); omega
  · by_cases e : m = 0
    · have := g5 e; omega
    · have := g6 (by omega); omega
/-- part's first loop -/
theorem hr_29 {post : St1 → Prop} {n bt c : Nat} {V : Nat → Nat} {A : hr_A} (hn : n ≤ 8) (hc : c < 12) (hV : ∀ j, V j < 4096) (hL : hr_L n V c (hr_o A.1 c) (hr_o A.2.1 c))
    (H : ∀ A' : hr_A, (∀ j, j < 8 * c + 8 → A'.1 j = A.1 j ∧ A'.2.1 j = A.2.1 j) → hr_L n V (c + 1) (hr_o A'.1 (c + 1)) (hr_o A'.2.1 (c + 1)) → hr_S n V c (hr_o A.2.1 c) (hr_o A'.1 (c + 1)) (hr_o A'.2.1 (c + 1)) → post (hr_s n bt V A')) :
    ∃ fu, wX_part_29 post (nI c) (nI (8 * c)) (nI (8 * c + 8)) (nI n) (nI bt) fu 0 0 (nI (c + 1)) (nI (c + 1)) 0 (hr_f V) (hr_f A.1) (hr_f A.2.1) (hr_f A.2.2.1) (hr_f A.2.2.2) := by
  refine pk_loop (σ := (Nat × Nat × Nat × Nat) × hr_A) (fun fu i s => wX_part_29 post (nI c) (nI (8 * c)) (nI (8 * c + 8)) (nI n) (nI bt) fu (nI s.1.1) (nI s.1.2.1) (nI s.1.2.2.1) (nI s.1.2.2.2) (nI i) (hr_f V) (hr_f s.2.1) (hr_f s.2.2.1) (hr_f s.2.2.2.1) (hr_f s.2.2.2.2))
    (fun i s => (∀ j, j < 8 * c + 8 → s.2.1 j = A.1 j ∧ s.2.2.1 j = A.2.1 j) ∧ hr_P V c (hr_o A.1 c) (hr_o A.2.1 c) i s.1.1 s.1.2.1 s.1.2.2.1 s.1.2.2.2 (fun j => s.2.1 (8 * c + 8 + j)) (fun j => s.2.2.1 (8 * c + 8 + j)) s.2.2.2.1 s.2.2.2.2)
    n 0 ((0, 0, c + 1, c + 1), A) (Nat.zero_le n) ⟨fun j _ => ⟨rfl, rfl⟩, hr_P0 _ _ _ _ _ _ _ _⟩ ?_ ?_
  · rintro fu ⟨⟨z, m, s0, s1⟩, Q, P, Y, X⟩ ⟨hf', hP'⟩
    have hf : ∀ j, j < 8 * c + 8 → Q j = A.1 j ∧ P j = A.2.1 j := hf'
    have hP : hr_P V c (hr_o A.1 c) (hr_o A.2.1 c) n z m s0 s1 (fun j => Q (8 * c + 8 + j)) (fun j => P (8 * c + 8 + j)) Y X := hP'
    clear hf' hP'
    obtain ⟨_, _, hzm⟩ := hr_P_s hP
    refine pk_le n n (fun _ => ?_) (fun q => absurd q (by omega))
    refine hr_166 (t := 8 * c + 8) (z := z) (m := m) (A := (Q, P, Y, X)) (by omega) (by omega) (fun Q' P' hq hr => ?_)
    have hend := hr_P_end (o' := hr_o Q' (c + 1)) (b' := hr_o P' (c + 1)) hL hP
      (fun j hj => ⟨(hq (8 * c + 8 + j) (by omega)).1, (hq (8 * c + 8 + j) (by omega)).2⟩)
      (fun j hj => by
        have e := hr j hj
        show Q' (8 * (c + 1) + (z + j)) = Y j ∧ P' (8 * (c + 1) + (z + j)) = X j
        rw [show 8 * (c + 1) + (z + j) = 8 * c + 8 + z + j by omega]
        exact e)
    exact H (Q', P', Y, X) (fun j hj => ⟨(hq j (by omega)).1.trans (hf j hj).1, (hq j (by omega)).2.trans (hf j hj).2⟩) hend.1 hend.2
  · rintro fu i ⟨⟨z, m, s0, s1⟩, Q, P, Y, X⟩ hi ⟨hf', hP'⟩ hw
    have hf : ∀ j, j < 8 * c + 8 → Q j = A.1 j ∧ P j = A.2.1 j := hf'
    have hP : hr_P V c (hr_o A.1 c) (hr_o A.2.1 c) i z m s0 s1 (fun j => Q (8 * c + 8 + j)) (fun j => P (8 * c + 8 + j)) Y X := hP'
    clear hf' hP'
    obtain ⟨hs0, hs1, hzm⟩ := hr_P_s hP
    have hr8 : hr_o A.1 c i < n := hL.1 i hi
    have hB : hr_o A.2.1 c i ≤ c := hL.2.2.2.1 i hi
    have eQ : hr_f Q (nI (8 * c) + nI i).toNatClampNeg = nI (hr_o A.1 c i) := by
      rw [hr_get (8 * c + i) (nI_add _ _) (by omega)]
      exact congrArg nI (hf _ (by omega)).1
    have eP : hr_f P (nI (8 * c) + nI i).toNatClampNeg = nI (hr_o A.2.1 c i) := by
      rw [hr_get (8 * c + i) (nI_add _ _) (by omega)]
      exact congrArg nI (hf _ (by omega)).2
    have K : wX_part_90 post (wX_part_29 post (nI c) (nI (8 * c)) (nI (8 * c + 8)) (nI n) (nI bt) fu) (nI c) (nI (8 * c)) (nI (8 * c + 8)) (nI z) (nI m) (nI (max s0 (hr_o A.2.1 c i))) (nI i) (nI (hr_o A.1 c i)) (nI (max s1 (hr_o A.2.1 c i))) (nI n) (nI bt) (hr_f V) (hr_f Q) (hr_f P) (hr_f Y) (hr_f X) := by
      unfold wX_part_90
      refine hr_at (by omega) (by omega) (hV _) ?_
      refine pk_eq (V (hr_o A.1 c i) / 2 ^ c % 2) 0 (fun hb => ?_) (fun hb => ?_) rfl rfl (hr_b31 _ _) (by omega)
      · have hP' := hr_P_z hP hB hb
        rw [← hr_ush Q (8 * c + 8) z (hr_o A.1 c i), ← hr_ush P (8 * c + 8) z (max s0 (hr_o A.2.1 c i))] at hP'
        refine ⟨pk_in (8 * c + 8 + z) 104 (by omega) (nI_add _ _), nm_r (hr_upd1 (8 * c + 8 + z) (hr_o A.1 c i) (nI_add _ _) rfl (by omega)) ⟨pk_in (8 * c + 8 + z) 104 (by omega) (nI_add _ _), nm_r (hr_upd1 (8 * c + 8 + z) (max s0 (hr_o A.2.1 c i)) (nI_add _ _) rfl (by omega)) (nm_r (nI_1 z) (nm_r (nI_1 i) ?_))⟩⟩
        refine hw ((z + 1, m, 0, max s1 (hr_o A.2.1 c i)), hr_u Q (8 * c + 8 + z) (hr_o A.1 c i), hr_u P (8 * c + 8 + z) (max s0 (hr_o A.2.1 c i)), Y, X) ⟨fun j hj => ?_, hP'⟩
        show hr_u Q (8 * c + 8 + z) (hr_o A.1 c i) j = A.1 j ∧ hr_u P (8 * c + 8 + z) (max s0 (hr_o A.2.1 c i)) j = A.2.1 j
        rw [hr_un (by omega), hr_un (by omega)]
        exact hf j hj
      · have hP' := hr_P_o hP hB ((hr_bit2 _ _).resolve_left hb)
        refine ⟨pk_in m 8 (by omega), nm_r (hr_upd1 m (hr_o A.1 c i) rfl rfl (by omega)) ⟨pk_in m 8 (by omega), nm_r (hr_upd1 m (max s1 (hr_o A.2.1 c i)) rfl rfl (by omega)) (nm_r (nI_1 m) (nm_r (nI_1 i) ?_))⟩⟩
        exact hw ((z, m + 1, max s0 (hr_o A.2.1 c i), 0), Q, P, hr_u Y m (hr_o A.1 c i), hr_u X m (max s1 (hr_o A.2.1 c i))) ⟨hf, hP'⟩
    have K2 : wX_part_74 post (wX_part_29 post (nI c) (nI (8 * c)) (nI (8 * c + 8)) (nI n) (nI bt) fu) (nI c) (nI (8 * c)) (nI (8 * c + 8)) (nI z) (nI m) (nI s1) (nI i) (nI (hr_o A.1 c i)) (nI (hr_o A.2.1 c i)) (nI (max s0 (hr_o A.2.1 c i))) (nI n) (nI bt) (hr_f V) (hr_f Q) (hr_f P) (hr_f Y) (hr_f X) := by
      refine pk_le (hr_o A.2.1 c i) s1 (fun q => ?_) (fun q => ?_)
      · rw [show max s1 (hr_o A.2.1 c i) = s1 by omega] at K
        exact K
      · rw [show max s1 (hr_o A.2.1 c i) = hr_o A.2.1 c i by omega] at K
        exact K
    refine pk_le n i (fun q => absurd q (by omega)) (fun _ => ⟨pk_in (8 * c + i) 104 (by omega) (nI_add _ _), nm_r eQ ⟨pk_in (8 * c + i) 104 (by omega) (nI_add _ _), nm_r eP ?_⟩⟩)
    refine pk_le (hr_o A.2.1 c i) s0 (fun q => ?_) (fun q => ?_)
    · rw [show max s0 (hr_o A.2.1 c i) = s0 by omega] at K2
      exact K2
    · rw [show max s0 (hr_o A.2.1 c i) = hr_o A.2.1 c i by omega] at K2
      exact K2
theorem hr_part {post : St1 → Prop} {n bt c : Nat} {V : Nat → Nat} {A : hr_A} (hn : n ≤ 8) (hc : c < 12) (hV : ∀ j, V j < 4096) (hL : hr_L n V c (hr_o A.1 c) (hr_o A.2.1 c))
    (H : ∀ A' : hr_A, (∀ j, j < 8 * c + 8 → A'.1 j = A.1 j ∧ A'.2.1 j = A.2.1 j) → hr_L n V (c + 1) (hr_o A'.1 (c + 1)) (hr_o A'.2.1 (c + 1)) → hr_S n V c (hr_o A.2.1 c) (hr_o A'.1 (c + 1)) (hr_o A'.2.1 (c + 1)) → post (hr_s n bt V A')) :
    wpX_part post (hr_s n bt V A) (nI c) :=
  nm_r (pk_mul 8 c) (nm_r (nI_add (8 * c) 8) (nm_r (nI_1 c) (nm_r (nI_1 c) (hr_29 hn hc hV hL H))))
/-- build's second loop -/
theorem hr_40 {post : St1 → Prop} {n bt : Nat} {V : Nat → Nat} (hn : n ≤ 8) (hV : ∀ j, V j < 4096) (H : ∀ A' : hr_A, hr_T n V A' → post (hr_s n 1 V A')) (A : hr_A) (hA : hr_L n V 0 (hr_o A.1 0) (hr_o A.2.1 0)) :
    ∃ fu, wX_build_40 post fu 0 (nI n) (nI bt) (hr_f V) (hr_f A.1) (hr_f A.2.1) (hr_f A.2.2.1) (hr_f A.2.2.2) := by
  refine pk_loop (σ := hr_A) (fun fu c A => wX_build_40 post fu (nI c) (nI n) (nI bt) (hr_f V) (hr_f A.1) (hr_f A.2.1) (hr_f A.2.2.1) (hr_f A.2.2.2))
    (fun c A => (∀ d, d ≤ c → hr_L n V d (hr_o A.1 d) (hr_o A.2.1 d)) ∧ (∀ d, d < c → hr_S n V d (hr_o A.2.1 d) (hr_o A.1 (d + 1)) (hr_o A.2.1 (d + 1)))) 12 0 A (by omega) ⟨fun d hd => ?_, fun d hd => absurd hd (by omega)⟩ ?_ ?_
  · obtain rfl : d = 0 := by omega
    exact hA
  · intro fu A h
    exact pk_le 12 12 (fun _ => H A h) (fun q => absurd q (by omega))
  · intro fu c A hc h hw
    refine pk_le 12 c (fun q => absurd q (by omega)) (fun _ => hr_part hn hc hV (h.1 c (Nat.le_refl c)) (fun A' hf hL hS => nm_r (nI_1 c) (hw A' ⟨fun d hd => ?_, fun d hd => ?_⟩)))
    · by_cases e : d = c + 1
      · rw [e]; exact hL
      · exact hr_L_congr (fun i hi => (hf (8 * d + i) (by omega)).1) (fun i hi => (hf (8 * d + i) (by omega)).2) (h.1 d (by omega))
    · by_cases e : d = c
      · rw [e]
        exact hr_S_congr (fun i hi => (hf (8 * c + i) (by omega)).2) (fun i hi => rfl) (fun i hi => rfl) hS
      · exact hr_S_congr (fun i hi => (hf (8 * d + i) (by omega)).2) (fun i hi => (hf (8 * (d + 1) + i) (by omega)).1) (fun i hi => (hf (8 * (d + 1) + i) (by omega)).2) (h.2 d (by omega))
/-- what every state of the law's object keeps -/
def hr_K (n bt : Nat) (V : Nat → Nat) (A : hr_A) : Prop := n ≤ 8 ∧ (∀ j, V j < 4096) ∧ (bt = 0 ∨ (bt = 1 ∧ hr_T n V A))
theorem hr_build {post : St1 → Prop} {n bt : Nat} {V : Nat → Nat} {A : hr_A} (k : hr_K n bt V A) (H : ∀ A' : hr_A, hr_T n V A' → (bt = 1 → A' = A) → post (hr_s n 1 V A')) : wpX_build post (hr_s n bt V A) := by
  obtain ⟨hn, hV, hb⟩ := k
  rcases hb with hb | ⟨hb, hT⟩
  · subst hb
    refine br_t nI_0 ?_
    refine pk_loop (σ := (Nat → Nat) × (Nat → Nat)) (fun fu i s => wX_build_10 post (nI n) (nI 0) fu (nI i) (hr_f V) (hr_f s.1) (hr_f s.2) (hr_f A.2.2.1) (hr_f A.2.2.2)) (fun i s => ∀ j, j < i → s.1 j = j ∧ s.2 j = 0) n 0 (A.1, A.2.1) (Nat.zero_le n) (fun j hj => absurd hj (by omega)) ?_ ?_
    · intro fu s h
      refine pk_le n n (fun _ => ?_) (fun q => absurd q (by omega))
      refine hr_40 hn hV (fun A' hT => H A' hT (fun z => absurd z (by omega))) (s.1, s.2, A.2.2.1, A.2.2.2) ?_
      have ho : ∀ i, i < n → hr_o s.1 0 i = i := fun i hi => by
        show s.1 (8 * 0 + i) = i
        rw [show 8 * 0 + i = i by omega]
        exact (h i hi).1
      have hb : ∀ i, i < n → hr_o s.2 0 i = 0 := fun i hi => by
        show s.2 (8 * 0 + i) = 0
        rw [show 8 * 0 + i = i by omega]
        exact (h i hi).2
      refine hr_L_congr (o := fun i => i) (b := fun _ => 0) ho hb ⟨fun i hi => hi, fun i j _ _ e => e, fun r hr => ⟨r, hr, rfl⟩, fun i _ => Nat.le_refl 0, fun i j _ _ => ?_⟩
      show V i % 1 ≤ V j % 1
      omega
    · intro fu i s hi h hw
      refine pk_le n i (fun q => absurd q (by omega)) (fun _ => ⟨pk_in i 104 (by omega), nm_r (hr_upd1 i i rfl rfl (by omega)) ⟨pk_in i 104 (by omega), nm_r (hr_upd1 i 0 rfl rfl (by omega)) (nm_r (nI_1 i) (hw (hr_u s.1 i i, hr_u s.2 i 0) (fun j hj => ?_)))⟩⟩)
      show hr_u s.1 i i j = j ∧ hr_u s.2 i 0 j = 0
      by_cases e : j = i
      · rw [e, hr_us, hr_us]
        exact ⟨rfl, rfl⟩
      · rw [hr_un e, hr_un e]
        exact h j (by omega)
  · subst hb
    exact br_f (by decide) (H A hT (fun _ => rfl))
end
section
/-! walks of the readers: parts, matches, kinds, having, ordered -/
theorem hr_parts {post : Int32 → Prop} {x y : Int32} {V : Nat → Nat} {a2 a3 a4 a5 : Nat → Int32} {r s c : Nat} (hr : r < 8) (hs : s < 8) (hc : c ≤ 12) (hV : ∀ j, V j < 4096)
    (H1 : (c = 12 ∨ V r / 2 ^ c % 2 ≠ V s / 2 ^ c % 2) → post 1) (H0 : ¬ (c = 12 ∨ V r / 2 ^ c % 2 ≠ V s / 2 ^ c % 2) → post 0) : wpX_parts post (x, y, hr_f V, a2, a3, a4, a5) (nI r) (nI s) (nI c) :=
  pk_eq c 12 (fun z => H1 (Or.inl z)) (fun z => hr_at hr (by omega) (hV r) (hr_at hs (by omega) (hV s)
    (pk_eq (V r / 2 ^ c % 2) (V s / 2 ^ c % 2) (fun e => H0 (fun q => q.elim z (fun g => g e))) (fun e => H1 (Or.inr e)) rfl rfl (hr_b31 _ _) (hr_b31 _ _))))
theorem hr_ea {post : Int32 → Prop} {n bt c k : Nat} {V : Nat → Nat} {A : hr_A} (hn : n ≤ 8) (hV : ∀ j, V j < 4096) (hL : hr_L n V c (hr_o A.1 c) (hr_o A.2.1 c)) (hc : c ≤ 12) (hk : k ≤ 12) (hp : post (nI (hr_e3 n V A c k))) :
    wpX_endingAt post (hr_s n bt V A) (nI c) (nI k) := by
  refine pk_loop (σ := Unit) (fun fu i _ => wX_endingAt_5 post (nI c) (nI k) (nI n) (nI bt) (hr_f V) (hr_f A.1) (hr_f A.2.1) (hr_f A.2.2.1) (hr_f A.2.2.2) fu (nI (hr_sum (hr_e2 n V A c k) i)) (nI i)) (fun _ _ => True) n 0 () (Nat.zero_le n) trivial ?_ ?_
  · intro fu _ _
    exact pk_le n n (fun _ => hp) (fun q => absurd q (by omega))
  · intro fu i _ hi _ hw
    refine pk_le n i (fun q => absurd q (by omega)) (fun _ => nm_r (nI_1 i) ?_)
    refine pk_loop (σ := Unit) (fun fu' t _ => wX_endingAt_23 post (wX_endingAt_5 post (nI c) (nI k) (nI n) (nI bt) (hr_f V) (hr_f A.1) (hr_f A.2.1) (hr_f A.2.2.1) (hr_f A.2.2.2) fu) (nI c) (nI k) (nI i) (nI n) (nI bt) (hr_f V) (hr_f A.1) (hr_f A.2.1) (hr_f A.2.2.1) (hr_f A.2.2.2) fu' (nI (hr_sum (hr_e2 n V A c k) i + hr_sum (hr_e1 V A c k i) t)) (nI (hr_m (hr_o A.2.1 c) (i + 1) t)) (nI (i + 1 + t))) (fun _ _ => True) (n - (i + 1)) 0 () (Nat.zero_le _) trivial ?_ ?_
    · intro fu' _ _
      exact pk_le n (i + 1 + (n - (i + 1))) (fun _ => nm_r (nI_1 i) (hw () trivial)) (fun q => absurd q (by omega))
    · intro fu' t _ ht _ hw'
      have hb : hr_o A.2.1 c (i + 1 + t) ≤ c := hL.2.2.2.1 _ (by omega)
      have hm : hr_m (hr_o A.2.1 c) (i + 1) t ≤ c := (hr_m_le _ _ _ _).mpr (fun u hu => hL.2.2.2.1 _ (by omega))
      have hM : hr_m (hr_o A.2.1 c) (i + 1) (t + 1) = max (hr_m (hr_o A.2.1 c) (i + 1) t) (hr_o A.2.1 c (i + 1 + t)) := rfl
      have hM' : hr_m (hr_o A.2.1 c) (i + 1) (t + 1) ≤ c := by omega
      have hoi : hr_o A.1 c i < n := hL.1 i hi
      have hoj : hr_o A.1 c (i + 1 + t) < n := hL.1 _ (by omega)
      have nx : ∀ e, hr_e1 V A c k i t = e → wX_endingAt_23 post (wX_endingAt_5 post (nI c) (nI k) (nI n) (nI bt) (hr_f V) (hr_f A.1) (hr_f A.2.1) (hr_f A.2.2.1) (hr_f A.2.2.2) fu) (nI c) (nI k) (nI i) (nI n) (nI bt) (hr_f V) (hr_f A.1) (hr_f A.2.1) (hr_f A.2.2.1) (hr_f A.2.2.2) fu' (nI (hr_sum (hr_e2 n V A c k) i + hr_sum (hr_e1 V A c k i) t + e)) (nI (hr_m (hr_o A.2.1 c) (i + 1) (t + 1))) (nI (i + 1 + t + 1)) := fun e he => by
        rw [← he, Nat.add_assoc (hr_sum (hr_e2 n V A c k) i)]
        exact hw' () trivial
      have K : wX_endingAt_60 post (wX_endingAt_5 post (nI c) (nI k) (nI n) (nI bt) (hr_f V) (hr_f A.1) (hr_f A.2.1) (hr_f A.2.2.1) (hr_f A.2.2.2) fu) (wX_endingAt_23 post (wX_endingAt_5 post (nI c) (nI k) (nI n) (nI bt) (hr_f V) (hr_f A.1) (hr_f A.2.1) (hr_f A.2.2.1) (hr_f A.2.2.2) fu) (nI c) (nI k) (nI i) (nI n) (nI bt) (hr_f V) (hr_f A.1) (hr_f A.2.1) (hr_f A.2.2.1) (hr_f A.2.2.2) fu') (nI c) (nI k) (nI (hr_sum (hr_e2 n V A c k) i + hr_sum (hr_e1 V A c k i) t)) (nI i) (nI (i + 1 + t)) (nI (hr_m (hr_o A.2.1 c) (i + 1) (t + 1))) (nI n) (nI bt) (hr_f V) (hr_f A.1) (hr_f A.2.1) (hr_f A.2.2.1) (hr_f A.2.2.2) := by
        unfold wX_endingAt_60
        refine ⟨pk_in (8 * c + i) 104 (by omega) (hr_ix c i), nm_r (e' := nI (hr_o A.1 c i)) (hr_get (8 * c + i) (hr_ix c i) (by omega)) ⟨pk_in (8 * c + (i + 1 + t)) 104 (by omega) (hr_ix c _), nm_r (e' := nI (hr_o A.1 c (i + 1 + t))) (hr_get (8 * c + (i + 1 + t)) (hr_ix c _) (by omega)) ?_⟩⟩
        refine pk_lt (c - hr_m (hr_o A.2.1 c) (i + 1) (t + 1)) k (fun q => nm_r (nI_1 _) ?_) (fun q => ?_) (pk_sub hM') rfl
        · exact nx 0 (if_neg (fun z => absurd z.1 (by omega)))
        · refine hr_parts (by omega) (by omega) hc hV (fun hp => br_f (by decide) (nm_r (nI_1 _) (nm_r (nI_1 _) ?_))) (fun hp => br_t rfl (nm_r (nI_1 _) ?_))
          · exact nx 1 (if_pos ⟨q, hp⟩)
          · exact nx 0 (if_neg (fun z => hp z.2))
      refine pk_le n (i + 1 + t) (fun q => absurd q (by omega)) (fun _ => ⟨pk_in (8 * c + (i + 1 + t)) 104 (by omega) (hr_ix c _), nm_r (e' := nI (hr_o A.2.1 c (i + 1 + t))) (hr_get (8 * c + (i + 1 + t)) (hr_ix c _) (by omega)) ?_⟩)
      refine pk_le (hr_o A.2.1 c (i + 1 + t)) (hr_m (hr_o A.2.1 c) (i + 1) t) (fun q => ?_) (fun q => ?_)
      · rw [show hr_m (hr_o A.2.1 c) (i + 1) (t + 1) = hr_m (hr_o A.2.1 c) (i + 1) t by omega] at K
        exact K
      · rw [show hr_m (hr_o A.2.1 c) (i + 1) (t + 1) = hr_o A.2.1 c (i + 1 + t) by omega] at K
        exact K
theorem hr_matches {post : Int32 → St1 → Prop} {n bt k : Nat} {V : Nat → Nat} {A : hr_A} (hK : hr_K n bt V A) (hk1 : 1 ≤ k) (hk2 : k ≤ 12)
    (H : ∀ A' : hr_A, hr_T n V A' → (bt = 1 → A' = A) → post (nI (hr_e4 n V A' k)) (hr_s n 1 V A')) : wpX_matches post (hr_s n bt V A) (nI k) := by
  refine pk_lt k 1 (fun q => absurd q (by omega)) (fun _ => pk_le k 12 (fun _ => hr_build hK (fun A' hT hs => ?_)) (fun q => absurd q (by omega)))
  refine pk_loop (σ := Unit) (fun fu i _ => wX_matches_21 post (nI k) (nI n) (nI 1) (hr_f V) (hr_f A'.1) (hr_f A'.2.1) (hr_f A'.2.2.1) (hr_f A'.2.2.2) fu (nI (hr_sum (fun c => hr_e3 n V A' (c + 1) k) i)) (nI (i + 1))) (fun _ _ => True) 12 0 () (Nat.zero_le _) trivial ?_ ?_
  · intro fu _ _
    exact pk_lt 12 (12 + 1) (fun _ => H A' hT hs) (fun q => absurd q (by omega))
  · intro fu i _ hi _ hw
    exact pk_lt 12 (i + 1) (fun q => absurd q (by omega)) (fun _ => hr_ea (bt := 1) hK.1 hK.2.1 (hT.1 (i + 1) (by omega)) (by omega) hk2 (nm_r (nI_add _ _) (nm_r (nI_1 _) (hw () trivial))))
theorem hr_kinds {post : Int32 → St1 → Prop} {n bt a b : Nat} {V : Nat → Nat} {A : hr_A} (hK : hr_K n bt V A) (hab : a ≤ b) (hb : b < 12)
    (H : ∀ A' : hr_A, hr_T n V A' → (bt = 1 → A' = A) → post (nI (hr_k (hr_o A'.2.1 (b + 1)) a n)) (hr_s n 1 V A')) : wpX_kinds post (hr_s n bt V A) (nI a) (nI b) := by
  have hn := hK.1
  refine pk_lt a 0 (fun q => absurd q (by omega)) (fun _ => pk_le 12 b (fun q => absurd q (by omega)) (fun _ => pk_le a b (fun _ => hr_build hK (fun A' hT hs => ?_)) (fun q => absurd q (by omega))))
  refine pk_loop (σ := Unit) (fun fu i _ => wX_kinds_26 post (nI a) (nI b) (nI n) (nI 1) (hr_f V) (hr_f A'.1) (hr_f A'.2.1) (hr_f A'.2.2.1) (hr_f A'.2.2.2) fu (nI (hr_k (hr_o A'.2.1 (b + 1)) a i)) (nI i)) (fun _ _ => True) n 0 () (Nat.zero_le _) trivial ?_ ?_
  · intro fu _ _
    exact pk_le n n (fun _ => H A' hT hs) (fun q => absurd q (by omega))
  · intro fu i _ hi _ hw
    have hx : (8 : Int32) * (nI b + 1) + nI i = nI (8 * (b + 1) + i) := by rw [nI_1]; exact hr_ix _ _
    have hbi : hr_o A'.2.1 (b + 1) i ≤ b + 1 := (hT.1 (b + 1) (by omega)).2.2.2.1 i hi
    have nx : ∀ e, (if i = 0 ∨ a < hr_o A'.2.1 (b + 1) i then 1 else 0) = e → wX_kinds_26 post (nI a) (nI b) (nI n) (nI 1) (hr_f V) (hr_f A'.1) (hr_f A'.2.1) (hr_f A'.2.2.1) (hr_f A'.2.2.2) fu (nI (hr_k (hr_o A'.2.1 (b + 1)) a i + e)) (nI (i + 1)) := fun e he => by
      rw [← he]
      exact hw () trivial
    refine pk_le n i (fun q => absurd q (by omega)) (fun _ => pk_eq i 0 (fun z => nm_r (nI_1 _) (nm_r (nI_1 _) (nx 1 (if_pos (Or.inl z))))) (fun z => ⟨pk_in (8 * (b + 1) + i) 104 (by omega) hx, ?_⟩))
    exact pk_le (hr_o A'.2.1 (b + 1) i) a (fun q => nm_r (nI_1 _) (nx 0 (if_neg (by omega)))) (fun q => nm_r (nI_1 _) (nm_r (nI_1 _) (nx 1 (if_pos (Or.inr q))))) (hr_get (8 * (b + 1) + i) hx (by omega)) rfl
theorem hr_having {post : Int32 → St1 → Prop} {n bt x : Nat} {V : Nat → Nat} {A : hr_A} (hK : hr_K n bt V A) (hx : x < 4096)
    (H : ∀ A' : hr_A, hr_T n V A' → (bt = 1 → A' = A) → post (nI n) (hr_s n 1 V A')) : wpX_having post (hr_s n bt V A) 0 0 (nI x) := by
  have hn := hK.1
  refine pk_lt 0 0 (fun q => absurd q (by omega)) (fun _ => pk_lt 12 0 (fun q => absurd q (by omega)) (fun _ => pk_lt 0 0 (fun q => absurd q (by omega)) (fun _ => pk_lt 12 0 (fun q => absurd q (by omega)) (fun _ => pk_lt 12 0 (fun q => absurd q (by omega)) (fun _ => pk_lt x 0 (fun q => absurd q (by omega)) (fun _ => pk_le x 4095 (fun _ => hr_build hK (fun A' hT hs => ?_)) (fun q => absurd q (by omega))))))))
  refine nm_r (e' := (0 : Int32)) (by decide) (nm_r (e' := nI 0) (by decide) ?_)
  refine pk_loop (σ := Unit) (fun fu i _ => wX_having_66 post 0 (nI x) 0 (nI 0) (nI n) (nI 1) (hr_f V) (hr_f A'.1) (hr_f A'.2.1) (hr_f A'.2.2.1) (hr_f A'.2.2.2) fu (nI i) (nI (min i 1)) (nI i)) (fun _ _ => True) n 0 () (Nat.zero_le _) trivial ?_ ?_
  · intro fu _ _
    exact pk_le n n (fun _ => H A' hT hs) (fun q => absurd q (by omega))
  · intro fu i _ hi _ hw
    have hL := hT.1 0 (by omega)
    have hb : hr_o A'.2.1 0 i ≤ 0 := hL.2.2.2.1 i hi
    have ho : hr_o A'.1 0 i < n := hL.1 i hi
    have nx : wX_having_66 post 0 (nI x) 0 (nI 0) (nI n) (nI 1) (hr_f V) (hr_f A'.1) (hr_f A'.2.1) (hr_f A'.2.2.1) (hr_f A'.2.2.2) fu (nI (i + 1)) (nI 1) (nI (i + 1)) := by
      have t := hw () trivial
      rw [show min (i + 1) 1 = 1 by omega] at t
      exact t
    have K : wX_having_149 post (wX_having_66 post 0 (nI x) 0 (nI 0) (nI n) (nI 1) (hr_f V) (hr_f A'.1) (hr_f A'.2.1) (hr_f A'.2.2.1) (hr_f A'.2.2.2) fu) 0 (nI x) 0 (nI 0) (nI i) (nI 1) (nI i) (nI n) (nI 1) (hr_f V) (hr_f A'.1) (hr_f A'.2.1) (hr_f A'.2.2.1) (hr_f A'.2.2.2) :=
      br_f (by decide) (nm_r (nI_1 i) (nm_r (nI_1 i) nx))
    refine pk_le n i (fun q => absurd q (by omega)) (fun _ => pk_eq (min i 1) 0 (fun z => ?_) (fun z => ?_))
    · refine pk_eq i 0 (fun z0 => ⟨pk_in (8 * 0 + i) 104 (by omega) (hr_ix 0 i), pk_in (hr_o A'.1 0 i) 8 (by omega) (hr_get (8 * 0 + i) (hr_ix 0 i) (by omega)), br_t ?_ K⟩) (fun z0 => absurd z (by omega))
      rw [Int32.and_zero, Int32.and_zero]
    · refine ⟨pk_in (8 * 0 + i) 104 (by omega) (hr_ix 0 i), ?_⟩
      exact pk_lt 0 (hr_o A'.2.1 0 i) (fun q => absurd q (by omega)) (fun _ => K) rfl (hr_get (8 * 0 + i) (hr_ix 0 i) (by omega))
theorem hr_ordered {post : Int32 → St1 → Prop} {n bt c i : Nat} {V : Nat → Nat} {A : hr_A} (hK : hr_K n bt V A) (hc : c ≤ 12) (hi : i < 1000)
    (H : i < n → ∀ A' : hr_A, hr_T n V A' → (bt = 1 → A' = A) → post (nI (hr_o A'.1 c i)) (hr_s n 1 V A')) (H' : n ≤ i → post (-4) (hr_s n bt V A)) : wpX_ordered post (hr_s n bt V A) (nI c) (nI i) := by
  have hn := hK.1
  refine pk_lt c 0 (fun q => absurd q (by omega)) (fun _ => pk_lt 12 c (fun q => absurd q (by omega)) (fun _ => pk_lt i 0 (fun q => absurd q (by omega)) (fun _ => pk_lt i n (fun q => ?_) (fun q => ?_))))
  · refine br_t rfl (hr_build hK (fun A' hT hs => ⟨pk_in (8 * c + i) 104 (by omega) (hr_ix c i), ?_⟩))
    have e := H q A' hT hs
    rw [show nI (hr_o A'.1 c i) = hr_f A'.1 ((8 : Int32) * nI c + nI i).toNatClampNeg from (hr_get (8 * c + i) (hr_ix c i) (by omega)).symm] at e
    exact e
  · exact br_f (by decide) (H' q)
end
section
/-! walks: places, agreeSince, longest, winning -/
theorem hr_10 : ¬ (1 : Int32) = 0 := by decide
theorem hr_placeOf {post : Int32 → Prop} {n bt r c : Nat} {V : Nat → Nat} {A : hr_A} (hn : n ≤ 8) (hL : hr_L n V c (hr_o A.1 c) (hr_o A.2.1 c)) (hc : c ≤ 12) (hr : r < n) (hp : post (nI (hr_pl (hr_o A.1 c) r n))) :
    wpX_placeOf post (hr_s n bt V A) (nI r) (nI c) := by
  refine pk_loop (σ := Unit) (fun fu i _ => wX_placeOf_5 post (nI r) (nI c) (nI n) (nI bt) (hr_f V) (hr_f A.1) (hr_f A.2.1) (hr_f A.2.2.1) (hr_f A.2.2.2) fu (nI (hr_pl (hr_o A.1 c) r i)) (nI i)) (fun _ _ => True) n 0 () (Nat.zero_le n) trivial ?_ ?_
  · intro fu _ _
    exact pk_le n n (fun _ => hp) (fun q => absurd q (by omega))
  · intro fu i _ hi _ hw
    have ho : hr_o A.1 c i < n := hL.1 i hi
    have nx : ∀ e, (if hr_o A.1 c i = r then i else hr_pl (hr_o A.1 c) r i) = e → wX_placeOf_5 post (nI r) (nI c) (nI n) (nI bt) (hr_f V) (hr_f A.1) (hr_f A.2.1) (hr_f A.2.2.1) (hr_f A.2.2.2) fu (nI e) (nI (i + 1)) := fun e he => by
      rw [← he]
      exact hw () trivial
    refine pk_le n i (fun q => absurd q (by omega)) (fun _ => ⟨pk_in (8 * c + i) 104 (by omega) (hr_ix c i), ?_⟩)
    exact pk_eq (hr_o A.1 c i) r (fun q => nm_r (nI_1 i) (nx _ (if_pos q))) (fun q => nm_r (nI_1 i) (nx _ (if_neg q))) (hr_get (8 * c + i) (hr_ix c i) (by omega)) rfl
theorem hr_57 {post : Int32 → Prop} {n bt c lo hi : Nat} {V : Nat → Nat} {A : hr_A} (hn : n ≤ 8) (hL : hr_L n V c (hr_o A.1 c) (hr_o A.2.1 c)) (hc : c ≤ 12) (hlo : lo ≤ hi) (hhi : hi < n) (hp : post (nI (hr_m (hr_o A.2.1 c) (lo + 1) (hi - lo)))) :
    ∃ fu, wX_agreeSince_57 post (nI c) (nI hi) (nI n) (nI bt) (hr_f V) (hr_f A.1) (hr_f A.2.1) (hr_f A.2.2.1) (hr_f A.2.2.2) fu 0 (nI (lo + 1)) := by
  refine pk_loop (σ := Unit) (fun fu t _ => wX_agreeSince_57 post (nI c) (nI hi) (nI n) (nI bt) (hr_f V) (hr_f A.1) (hr_f A.2.1) (hr_f A.2.2.1) (hr_f A.2.2.2) fu (nI (hr_m (hr_o A.2.1 c) (lo + 1) t)) (nI (lo + 1 + t))) (fun _ _ => True) (hi - lo) 0 () (Nat.zero_le _) trivial ?_ ?_
  · intro fu _ _
    exact pk_lt hi (lo + 1 + (hi - lo)) (fun _ => hp) (fun q => absurd q (by omega))
  · intro fu t _ ht _ hw
    have hb : hr_o A.2.1 c (lo + 1 + t) ≤ c := hL.2.2.2.1 _ (by omega)
    have hm : hr_m (hr_o A.2.1 c) (lo + 1) t ≤ c := (hr_m_le _ _ _ _).mpr (fun u hu => hL.2.2.2.1 _ (by omega))
    have nx : ∀ e, max (hr_m (hr_o A.2.1 c) (lo + 1) t) (hr_o A.2.1 c (lo + 1 + t)) = e → wX_agreeSince_57 post (nI c) (nI hi) (nI n) (nI bt) (hr_f V) (hr_f A.1) (hr_f A.2.1) (hr_f A.2.2.1) (hr_f A.2.2.2) fu (nI e) (nI (lo + 1 + t + 1)) := fun e he => by
      rw [← he]
      exact hw () trivial
    refine pk_lt hi (lo + 1 + t) (fun q => absurd q (by omega)) (fun _ => ⟨pk_in (8 * c + (lo + 1 + t)) 104 (by omega) (hr_ix c _), nm_r (e' := nI (hr_o A.2.1 c (lo + 1 + t))) (hr_get (8 * c + (lo + 1 + t)) (hr_ix c _) (by omega)) ?_⟩)
    exact pk_le (hr_o A.2.1 c (lo + 1 + t)) (hr_m (hr_o A.2.1 c) (lo + 1) t) (fun q => nm_r (nI_1 _) (nx _ (by omega))) (fun q => nm_r (nI_1 _) (nx _ (by omega)))
theorem hr_agree {post : Int32 → Prop} {n bt r s c : Nat} {V : Nat → Nat} {A : hr_A} (hn : n ≤ 8) (hT : hr_T n V A) (hc : c ≤ 12) (hr : r < n) (hs : s < n) (hp : post (nI (hr_G n A r s c))) :
    wpX_agreeSince post (hr_s n bt V A) (nI r) (nI s) (nI c) := by
  have hL := hT.1 c hc
  have hi := (hr_pl_ex hL hr).1
  have hj := (hr_pl_ex hL hs).1
  refine hr_placeOf hn hL hc hr (hr_placeOf hn hL hc hs ?_)
  unfold hr_G hr_g at hp
  generalize hr_pl (hr_o A.1 c) r n = i at *
  generalize hr_pl (hr_o A.1 c) s n = j at *
  refine pk_le j i (fun q => ?_) (fun q => ?_)
  · rw [show min i j = j by omega, show max i j = i by omega] at hp
    exact pk_le j i (fun _ => nm_r (nI_1 j) (hr_57 hn hL hc q hi hp)) (fun z => absurd z (by omega))
  · rw [show min i j = i by omega, show max i j = j by omega] at hp
    exact pk_le j i (fun z => absurd z (by omega)) (fun _ => nm_r (nI_1 i) (hr_57 hn hL hc (by omega) hj hp))
theorem hr_noRow {post : Int32 → Prop} {n r : Nat} {y : Int32} {a1 a2 a3 a4 a5 : Nat → Int32} (hn : n ≤ 8) (hr : r < 1000) (H0 : r < n → post 0) (H1 : n ≤ r → post 1) : wpX_noRow post (nI n, y, a1, a2, a3, a4, a5) (nI r) :=
  pk_lt r 0 (fun q => absurd q (by omega)) (fun _ => pk_lt r n H0 H1)
theorem hr_longest {post : Int32 → St1 → Prop} {n bt r s : Nat} {V : Nat → Nat} {A : hr_A} (hK : hr_K n bt V A) (hr : r < 1000) (hs : s < 1000)
    (H : r < n → s < n → r ≠ s → ∀ A' : hr_A, hr_T n V A' → (bt = 1 → A' = A) → post (nI (hr_lg (hr_G n A' r s) 13)) (hr_s n 1 V A'))
    (H' : ¬ (r < n ∧ s < n ∧ r ≠ s) → post (-4) (hr_s n bt V A)) : wpX_longest post (hr_s n bt V A) (nI r) (nI s) := by
  have hn := hK.1
  unfold wpX_longest
  refine hr_noRow hn hr (fun h1 => ?_) (fun h1 => ?_)
  rotate_left
  · exact br_f hr_10 (H' (fun z => absurd z.1 (by omega)))
  refine br_t rfl ?_
  refine hr_noRow hn hs (fun h2 => ?_) (fun h2 => ?_)
  rotate_left
  · exact br_f hr_10 (H' (fun z => absurd z.2.1 (by omega)))
  refine br_t rfl (pk_eq r s (fun e => H' (fun z => z.2.2 e)) (fun ne => hr_build hK (fun A' hT hA => ?_)))
  have e1 : hr_lg (hr_G n A' r s) 1 = 0 := by
    show max 0 (0 - hr_G n A' r s 0) = 0
    omega
  suffices key : ∃ fu, wX_longest_33 post (nI r) (nI s) (nI n) (nI 1) (hr_f V) (hr_f A'.1) (hr_f A'.2.1) (hr_f A'.2.2.1) (hr_f A'.2.2.2) fu (nI (hr_lg (hr_G n A' r s) 1)) (nI 1) by
    rw [e1] at key
    exact key
  refine pk_loop (σ := Unit) (fun fu c _ => wX_longest_33 post (nI r) (nI s) (nI n) (nI 1) (hr_f V) (hr_f A'.1) (hr_f A'.2.1) (hr_f A'.2.2.1) (hr_f A'.2.2.2) fu (nI (hr_lg (hr_G n A' r s) c)) (nI c)) (fun _ _ => True) 13 1 () (by omega) trivial ?_ ?_
  · intro fu _ _
    exact pk_lt 12 13 (fun _ => H h1 h2 ne A' hT hA) (fun q => absurd q (by omega))
  · intro fu c _ hc _ hw
    have hg : hr_G n A' r s c ≤ c := hr_G_le hT h1 h2 (by omega)
    have hl := hr_lg_le (hr_G n A' r s) c
    have nx : ∀ e, max (hr_lg (hr_G n A' r s) c) (c - hr_G n A' r s c) = e → wX_longest_33 post (nI r) (nI s) (nI n) (nI 1) (hr_f V) (hr_f A'.1) (hr_f A'.2.1) (hr_f A'.2.2.1) (hr_f A'.2.2.2) fu (nI e) (nI (c + 1)) := fun e he => by
      rw [← he]
      exact hw () trivial
    refine pk_lt 12 c (fun q => absurd q (by omega)) (fun _ => hr_agree (bt := 1) hn hT (by omega) h1 h2 ?_)
    exact pk_le (c - hr_G n A' r s c) (hr_lg (hr_G n A' r s) c) (fun q => nm_r (nI_1 _) (nx _ (by omega))) (fun q => nm_r (pk_sub hg) (nm_r (nI_1 _) (nx _ (by omega)))) (pk_sub hg) rfl
theorem hr_best {post : Int32 → Prop} {n bt r c : Nat} {V : Nat → Nat} {A : hr_A} (hn : n ≤ 8) (hT : hr_T n V A) (hc : c ≤ 12) (hr : r < n) (hp : post (nI (hr_bs n A r c))) :
    wpX_bestSince post (hr_s n bt V A) (nI r) (nI c) := by
  have hL := hT.1 c hc
  have hi := (hr_pl_ex hL hr).1
  refine hr_placeOf hn hL hc hr ?_
  unfold hr_bs at hp
  generalize hr_pl (hr_o A.1 c) r n = i at *
  have k55 : ∀ u d, u ≤ 12 → d ≤ 12 → min u d = min (if 0 < i then hr_o A.2.1 c i else c) (if i + 1 < n then hr_o A.2.1 c (i + 1) else c) → wX_bestSince_55 post (nI u) (nI d) (nI n) (nI bt) (hr_f V) (hr_f A.1) (hr_f A.2.1) (hr_f A.2.2.1) (hr_f A.2.2.2) := fun u d hu hd e => by
    rw [← e] at hp
    refine pk_le d u (fun q => ?_) (fun q => ?_)
    · rw [Nat.min_eq_right q] at hp; exact hp
    · rw [Nat.min_eq_left (by omega)] at hp; exact hp
  have k26 : ∀ u, u ≤ 12 → u = (if 0 < i then hr_o A.2.1 c i else c) → wX_bestSince_26 post (nI c) (nI i) (nI u) (nI n) (nI bt) (hr_f V) (hr_f A.1) (hr_f A.2.1) (hr_f A.2.2.1) (hr_f A.2.2.2) := fun u hu e => by
    refine pk_le n (i + 1) (fun q => ?_) (fun q => ⟨pk_in (8 * c + i + 1) 104 (by omega) (by rw [hr_ix, nI_1]), ?_⟩) rfl (nI_1 i)
    · exact k55 u c hu hc (by rw [e, if_neg (show ¬ i + 1 < n by omega)])
    · rw [hr_get (8 * c + i + 1) (by rw [hr_ix, nI_1]) (by omega)]
      have hb := hL.2.2.2.1 (i + 1) q
      exact k55 u (hr_o A.2.1 c (i + 1)) hu (by omega) (by rw [e, if_pos q])
  refine pk_le i 0 (fun q => k26 c hc (by rw [if_neg (by omega)])) (fun q => ⟨pk_in (8 * c + i) 104 (by omega) (hr_ix c i), ?_⟩)
  rw [hr_get (8 * c + i) (hr_ix c i) (by omega)]
  have hb := hL.2.2.2.1 i hi
  exact k26 (hr_o A.2.1 c i) (by omega) (by rw [if_pos q])
/-- winsBefore's loop over the rows below i: how many agree since the best begin, whether one goes on -/
def hr_wI (n : Nat) (V : Nat → Nat) (A : hr_A) (r c i k op : Nat) : Prop :=
  k ≤ i ∧ (0 < k ↔ ∃ s, s < i ∧ s ≠ r ∧ hr_G n A r s c = hr_bs n A r c) ∧ op ≤ 1 ∧ (op = 0 ↔ ∀ s, s < i → s ≠ r → hr_G n A r s c = hr_bs n A r c → (c = 12 ∨ V r / 2 ^ c % 2 ≠ V s / 2 ^ c % 2))
theorem hr_wI_skip {n : Nat} {V : Nat → Nat} {A : hr_A} {r c i k op : Nat} (h : hr_wI n V A r c i k op) (hs : ¬ (i ≠ r ∧ hr_G n A r i c = hr_bs n A r c)) : hr_wI n V A r c (i + 1) k op := by
  obtain ⟨h1, h2, h3, h4⟩ := h
  refine ⟨by omega, h2.trans ⟨?_, ?_⟩, h3, h4.trans ⟨?_, ?_⟩⟩
  · rintro ⟨s, a, b, d⟩
    exact ⟨s, by omega, b, d⟩
  · rintro ⟨s, a, b, d⟩
    by_cases e : s = i
    · subst e; exact absurd ⟨b, d⟩ hs
    · exact ⟨s, by omega, b, d⟩
  · intro h s a b d
    by_cases e : s = i
    · subst e; exact absurd ⟨b, d⟩ hs
    · exact h s (by omega) b d
  · intro h s a b d
    exact h s (by omega) b d
theorem hr_wI_add {n : Nat} {V : Nat → Nat} {A : hr_A} {r c i k op op' : Nat} (h : hr_wI n V A r c i k op) (hs : i ≠ r) (hg : hr_G n A r i c = hr_bs n A r c) (h' : op' ≤ 1) (ho : op' = 0 ↔ op = 0 ∧ (c = 12 ∨ V r / 2 ^ c % 2 ≠ V i / 2 ^ c % 2)) : hr_wI n V A r c (i + 1) (k + 1) op' := by
  obtain ⟨h1, h2, h3, h4⟩ := h
  refine ⟨by omega, ⟨fun _ => ⟨i, by omega, hs, hg⟩, fun _ => by omega⟩, h', ho.trans ⟨?_, ?_⟩⟩
  · rintro ⟨a, b⟩ s x y z
    by_cases e : s = i
    · subst e; exact b
    · exact h4.mp a s (by omega) y z
  · intro h
    exact ⟨h4.mpr (fun s x y z => h s (by omega) y z), h i (by omega) hs hg⟩
theorem hr_wins {post : Int32 → Prop} {n bt r c : Nat} {V : Nat → Nat} {A : hr_A} (hn : n ≤ 8) (hV : ∀ j, V j < 4096) (hT : hr_T n V A) (hc : c ≤ 12) (hr : r < n) (H : ∀ w, w ≤ 8 → (0 < w ↔ hr_W n V A r c) → post (nI w)) :
    wpX_winsBefore post (hr_s n bt V A) (nI r) (nI c) := by
  have hbs := hr_bs_le hT hr hc
  refine hr_best hn hT hc hr ?_
  refine pk_eq (hr_bs n A r c) c (fun e => H 0 (by omega) ⟨fun z => absurd z (by omega), fun z => absurd e z.1⟩) (fun ne => ?_)
  refine pk_loop (σ := Nat × Nat) (fun fu i s => wX_winsBefore_23 post (nI r) (nI c) (nI (hr_bs n A r c)) (nI n) (nI bt) (hr_f V) (hr_f A.1) (hr_f A.2.1) (hr_f A.2.2.1) (hr_f A.2.2.2) fu (nI s.1) (nI s.2) (nI i)) (fun i s => hr_wI n V A r c i s.1 s.2) n 0 (0, 0) (Nat.zero_le n) ?_ ?_ ?_
  · exact ⟨Nat.le_refl 0, ⟨fun z => absurd z (by show ¬ 0 < 0; omega), fun ⟨s, z, _⟩ => absurd z (by omega)⟩, by omega, ⟨fun _ s z => absurd z (by omega), fun _ => rfl⟩⟩
  · rintro fu ⟨k, op⟩ h'
    have h : hr_wI n V A r c n k op := h'
    clear h'
    obtain ⟨h1, h2, h3, h4⟩ := h
    refine pk_le n n (fun _ => ?_) (fun q => absurd q (by omega))
    refine pk_eq op 0 (fun e => H k (by omega) ⟨fun z => ⟨ne, h2.mp z, h4.mp e⟩, fun z => h2.mpr z.2.1⟩) (fun e => H 0 (by omega) ⟨fun z => absurd z (by omega), fun z => absurd (h4.mpr z.2.2) e⟩) rfl rfl (by omega) (by omega)
  · rintro fu i ⟨k, op⟩ hi h' hw
    have h : hr_wI n V A r c i k op := h'
    clear h'
    have h3 : op ≤ 1 := h.2.2.1
    have hg : i ≠ r → hr_G n A r i c ≤ c := fun _ => hr_G_le hT hr hi hc
    refine pk_le n i (fun q => absurd q (by omega)) (fun _ => ?_)
    refine pk_eq i r (fun e => nm_r (nI_1 i) (hw (k, op) (hr_wI_skip h (fun z => z.1 e)))) (fun e => ?_)
    have hgi := hg e
    refine hr_agree hn hT hc hr hi ?_
    refine pk_eq (hr_G n A r i c) (hr_bs n A r c) (fun g => ?_) (fun g => nm_r (nI_1 i) (hw (k, op) (hr_wI_skip h (fun z => g z.2))))
    refine nm_r (nI_1 k) (hr_parts (by omega) (by omega) hc hV (fun hp => ?_) (fun hp => ?_))
    · refine pk_eq op 0 (fun z => br_f hr_10 (nm_r (nI_1 i) (hw (k + 1, 0) ?_))) (fun z => nm_r (nI_1 i) (hw (k + 1, 1) ?_)) rfl rfl (by omega) (by omega)
      · exact hr_wI_add h e g (by omega) ⟨fun _ => ⟨z, hp⟩, fun _ => rfl⟩
      · exact hr_wI_add h e g (by omega) ⟨fun q => absurd q (by omega), fun q => absurd q.1 z⟩
    · refine pk_eq op 0 (fun z => br_t rfl (nm_r (nI_1 i) (hw (k + 1, 1) ?_))) (fun z => nm_r (nI_1 i) (hw (k + 1, 1) ?_)) rfl rfl (by omega) (by omega)
      · exact hr_wI_add h e g (by omega) ⟨fun q => absurd q (by omega), fun q => absurd q.2 hp⟩
      · exact hr_wI_add h e g (by omega) ⟨fun q => absurd q (by omega), fun q => absurd q.1 z⟩
theorem hr_winning {post : Int32 → St1 → Prop} {n bt r : Nat} {V : Nat → Nat} {A : hr_A} (hK : hr_K n bt V A) (hr : r < 1000)
    (H : r < n → ∀ (A' : hr_A) (w : Nat), hr_T n V A' → (bt = 1 → A' = A) → w < 1000 → (0 < w ↔ ∃ s, s < n ∧ s ≠ r ∧ hr_ag V r s) → post (nI w) (hr_s n 1 V A'))
    (H' : n ≤ r → post (-4) (hr_s n bt V A)) : wpX_winning post (hr_s n bt V A) (nI r) := by
  have hn := hK.1
  unfold wpX_winning
  refine hr_noRow hn hr (fun h1 => ?_) (fun h1 => ?_)
  rotate_left
  · exact br_f hr_10 (H' h1)
  refine br_t rfl (hr_build hK (fun A' hT hA => ?_))
  refine pk_loop (σ := Nat) (fun fu c w => wX_winning_19 post (nI r) (nI n) (nI 1) (hr_f V) (hr_f A'.1) (hr_f A'.2.1) (hr_f A'.2.2.1) (hr_f A'.2.2.2) fu (nI w) (nI c)) (fun i w => 1 ≤ i ∧ w ≤ 8 * i ∧ (0 < w ↔ ∃ c, 1 ≤ c ∧ c < i ∧ hr_W n V A' r c)) 13 1 0 (by omega) ?_ ?_ ?_
  · exact ⟨by omega, by omega, fun z => absurd z (by omega), fun ⟨c, a, b, _⟩ => absurd a (by omega)⟩
  · rintro fu w ⟨_, hw, h⟩
    exact pk_lt 12 13 (fun _ => H h1 A' w hT hA (by omega) (h.trans (hr_W_iff hT h1))) (fun q => absurd q (by omega))
  · rintro fu c w hc ⟨c1, w8, h⟩ hw
    refine pk_lt 12 c (fun q => absurd q (by omega)) (fun _ => hr_wins (bt := 1) hn hK.2.1 hT (by omega) h1 (fun w' hw' hW => nm_r (nI_add w w') (nm_r (nI_1 c) (hw (w + w') ⟨by omega, by omega, ?_, ?_⟩))))
    · intro z
      by_cases e : 0 < w
      · obtain ⟨d, d1, d2, d3⟩ := h.mp e
        exact ⟨d, d1, by omega, d3⟩
      · exact ⟨c, c1, by omega, hW.mp (by omega)⟩
    · rintro ⟨d, d1, d2, d3⟩
      by_cases e : d = c
      · subst e
        have := hW.mpr d3
        omega
      · have := h.mpr ⟨d, d1, by omega, d3⟩
        omega
end
section
/-! walks: sameBack, isBefore, fit -/
theorem hr_nm (i : Nat) : nI i + (-1) = nI i - 1 := by
  rw [Int32.sub_eq_add_neg]
theorem hr_sb {post : Int32 → Prop} {n bt r x c : Nat} {V : Nat → Nat} {A : hr_A} (hr : r < 8) (hc : c ≤ 12) (hV : ∀ j, V j < 4096) (hx : x < 4096)
    (H : ∀ t, t ≤ c → (∀ k, c - t ≤ k → k < c → V r / 2 ^ k % 2 = x / 2 ^ k % 2) → (t < c → V r / 2 ^ (c - 1 - t) % 2 ≠ x / 2 ^ (c - 1 - t) % 2) → post (nI t)) :
    ∀ i t, t + i = c → (∀ k, i ≤ k → k < c → V r / 2 ^ k % 2 = x / 2 ^ k % 2) → wX_sameBack_8 post (nI r) (nI x) (nI n) (nI bt) (hr_f V) (hr_f A.1) (hr_f A.2.1) (hr_f A.2.2.1) (hr_f A.2.2.2) (i + 1) (nI t) (nI i - 1) := by
  intro i
  induction i with
  | zero =>
    intro t ht h
    exact br_t (by decide) (H t (by omega) (fun k _ hk => h k (Nat.zero_le k) hk) (fun z => absurd z (by omega)))
  | succ i ih =>
    intro t ht h
    rw [nI_pred]
    refine pk_lt i 0 (fun q => absurd q (by omega)) (fun _ => hr_at hr (by omega) (hV r) ?_)
    rw [hr_bitI (by omega) hx]
    refine pk_eq (V r / 2 ^ i % 2) (x / 2 ^ i % 2) (fun e => nm_r (nI_1 t) (nm_r (hr_nm i) (ih (t + 1) (by omega) (fun k hk hk' => ?_)))) (fun e => ?_) rfl rfl (hr_b31 _ _) (hr_b31 _ _)
    · by_cases z : k = i
      · rw [z]; exact e
      · exact h k (by omega) hk'
    · refine H t (by omega) (fun k hk hk' => h k (by omega) hk') (fun _ => ?_)
      rw [show c - 1 - t = i by omega]
      exact e
theorem hr_sameBack {post : Int32 → Prop} {n bt r x c : Nat} {V : Nat → Nat} {A : hr_A} (hr : r < 8) (hc : c ≤ 12) (hV : ∀ j, V j < 4096) (hx : x < 4096)
    (H : ∀ t, t ≤ c → (∀ k, c - t ≤ k → k < c → V r / 2 ^ k % 2 = x / 2 ^ k % 2) → (t < c → V r / 2 ^ (c - 1 - t) % 2 ≠ x / 2 ^ (c - 1 - t) % 2) → post (nI t)) :
    wpX_sameBack post (hr_s n bt V A) (nI r) (nI x) (nI c) :=
  nm_e ⟨c + 1, hr_sb hr hc hV hx H c 0 (by omega) (fun k h h' => absurd h' (by omega))⟩
theorem hr_before {post : Int32 → Prop} {n bt r x c : Nat} {V : Nat → Nat} {A : hr_A} (hr : r < 8) (hc : c ≤ 12) (hV : ∀ j, V j < 4096) (hx : x < 4096)
    (H1 : V r % 2 ^ c < x % 2 ^ c → post 1) (H0 : ¬ V r % 2 ^ c < x % 2 ^ c → post 0) : wpX_isBefore post (hr_s n bt V A) (nI r) (nI x) (nI c) := by
  refine hr_sameBack hr hc hV hx (fun t ht ha hd => ?_)
  refine pk_le c t (fun q => H0 ?_) (fun q => ?_)
  · have e : t = c := by omega
    have := hr_top (x := V r) (y := x) t 0 (by omega) (fun k _ hk => ha k (by omega) hk)
    rw [this]
    omega
  · obtain ⟨d, hd'⟩ : ∃ d, d = c - 1 - t := ⟨_, rfl⟩
    have e1 : nI c - 1 - nI t = nI d := by
      rw [show nI c - 1 = nI (c - 1) from pk_sub (show 1 ≤ c by omega), pk_sub (by omega), hd']
    have hne := hd q
    rw [← hd'] at hne
    have top := hr_top (x := V r) (y := x) t (d + 1) (by omega) (fun k hk hk' => ha k (by omega) hk')
    rw [e1]
    refine hr_at hr (by omega) (hV r) ?_
    refine pk_eq (V r / 2 ^ d % 2) 0 (fun e => H1 ?_) (fun e => H0 ?_) rfl rfl (hr_b31 _ _) (by omega)
    · rw [top]
      exact hr_lt_01 e ((hr_bit2 _ _).resolve_left (fun z => hne (by rw [e, z])))
    · rw [top]
      have b1 := (hr_bit2 (V r) d).resolve_left e
      have b0 := (hr_bit2 x d).resolve_right (fun z => hne (by rw [b1, z]))
      have := hr_lt_01 b0 b1
      omega
theorem hr_fit {post : Int32 → St1 → Prop} {n bt c r : Nat} {V : Nat → Nat} {A : hr_A} (hK : hr_K n bt V A) (hc : c ≤ 12) (hr : r < n)
    (H : ∀ A' : hr_A, hr_T n V A' → (bt = 1 → A' = A) → post (nI c) (hr_s n 1 V A')) : wpX_fit post (hr_s n bt V A) (nI c) (nI (V r)) := by
  have hn := hK.1
  have hV := hK.2.1
  have hx := hV r
  refine pk_lt c 0 (fun q => absurd q (by omega)) (fun _ => pk_lt 12 c (fun q => absurd q (by omega)) (fun _ => pk_lt (V r) 0 (fun q => absurd q (by omega)) (fun _ => pk_le (V r) 4095 (fun _ => hr_build hK (fun A' hT hs => ?_)) (fun q => absurd q (by omega)))))
  have hL := hT.1 c hc
  obtain ⟨q, hq, eq⟩ := hL.2.2.1 r hr
  refine pk_loop (σ := Nat) (fun fu i p => wX_fit_32 post (nI c) (nI (V r)) (nI n) (nI 1) (hr_f V) (hr_f A'.1) (hr_f A'.2.1) (hr_f A'.2.2.1) (hr_f A'.2.2.2) fu (nI p) (nI i))
    (fun i p => p ≤ i ∧ (∀ k, k < i → p ≤ k → ¬ V (hr_o A'.1 c k) % 2 ^ c < V r % 2 ^ c) ∧ (0 < p → V (hr_o A'.1 c (p - 1)) % 2 ^ c < V r % 2 ^ c)) n 0 0 (Nat.zero_le n) ⟨Nat.le_refl 0, fun k hk => absurd hk (by omega), fun z => absurd z (by omega)⟩ ?_ ?_
  · rintro fu p ⟨hp, hno, hyes⟩
    have hpq : p ≤ q := by
      by_cases z : 0 < p
      · have a := hyes z
        rcases Nat.lt_or_ge q p with t | t
        · exfalso
          rw [← eq] at a
          by_cases e : q = p - 1
          · rw [← e] at a; omega
          · have := hL.2.2.2.2 q (p - 1) (by omega) (by omega)
            omega
        · exact t
      · omega
    have hpn : p < n := by omega
    have same : V (hr_o A'.1 c p) % 2 ^ c = V r % 2 ^ c := by
      have a := hno p hpn (Nat.le_refl p)
      by_cases e : p = q
      · rw [e, eq]
      · have b := hL.2.2.2.2 p q (by omega) hq
        rw [eq] at b
        omega
    have k139 : ∀ u, u ≤ c → wX_fit_139 post (nI u) (nI c) (nI n) (nI 1) (hr_f V) (hr_f A'.1) (hr_f A'.2.1) (hr_f A'.2.2.1) (hr_f A'.2.2.2) := fun u hu =>
      pk_le u c (fun _ => H A' hT hs) (fun z => absurd z (by omega))
    have k108 : ∀ u, u ≤ c → wX_fit_108 post (nI c) (nI (V r)) (nI p) (nI u) (nI n) (nI 1) (hr_f V) (hr_f A'.1) (hr_f A'.2.1) (hr_f A'.2.2.1) (hr_f A'.2.2.2) := fun u hu => by
      refine pk_le n p (fun z => absurd z (by omega)) (fun _ => ⟨pk_in (8 * c + p) 104 (by omega) (hr_ix c p), ?_⟩)
      rw [hr_get (8 * c + p) (hr_ix c p) (by omega)]
      have ho := hL.1 p hpn
      refine hr_sameBack (r := hr_o A'.1 c p) (bt := 1) (by omega) hc hV hx (fun t ht ha hd => ?_)
      have e : t = c := by
        rcases Nat.lt_or_ge t c with z | z
        · exact absurd (hr_same c same (c - 1 - t) (by omega)) (hd z)
        · omega
      rw [e]
      exact k139 u hu
    refine pk_le n n (fun _ => ?_) (fun z => absurd z (by omega))
    refine pk_le p 0 (fun _ => k108 0 (by omega)) (fun z => ?_)
    have e1 : (8 : Int32) * nI c + nI p - 1 = nI (8 * c + (p - 1)) := by
      rw [hr_ix, show nI (8 * c + p) - 1 = nI (8 * c + p - 1) from pk_sub (show 1 ≤ 8 * c + p by omega), show 8 * c + p - 1 = 8 * c + (p - 1) by omega]
    refine ⟨pk_in (8 * c + (p - 1)) 104 (by omega) e1, ?_⟩
    rw [hr_get (8 * c + (p - 1)) e1 (by omega)]
    have ho := hL.1 (p - 1) (by omega)
    exact hr_sameBack (r := hr_o A'.1 c (p - 1)) (bt := 1) (by omega) hc hV hx (fun t ht _ _ => k108 t ht)
  · rintro fu i p hi ⟨hp, hno, hyes⟩ hw
    refine pk_le n i (fun z => absurd z (by omega)) (fun _ => ⟨pk_in (8 * c + i) 104 (by omega) (hr_ix c i), ?_⟩)
    rw [hr_get (8 * c + i) (hr_ix c i) (by omega)]
    have ho := hL.1 i hi
    refine hr_before (r := hr_o A'.1 c i) (bt := 1) (by omega) hc hV hx (fun z => br_f hr_10 (nm_r (nI_1 i) (nm_r (nI_1 i) (hw (i + 1) ⟨Nat.le_refl _, fun k hk hk' => absurd hk (by omega), fun _ => z⟩)))) (fun z => br_t rfl (nm_r (nI_1 i) (hw p ⟨by omega, fun k hk hk' => ?_, hyes⟩)))
    by_cases e : k = i
    · rw [e]; exact z
    · exact hno k (by omega) hk'
end
section
/-! walks: turn, the law's bits, add, remove, the law's turn -/
theorem hr_xorI (a b : Nat) : nI a ^^^ nI b = nI (a ^^^ b) := by
  apply Int32.toBitVec_inj.1
  show BitVec.ofNat 32 a ^^^ BitVec.ofNat 32 b = BitVec.ofNat 32 (a ^^^ b)
  apply BitVec.eq_of_getLsbD_eq
  intro i hi
  simp [hi]
theorem hr_orI (a b : Nat) : nI a ||| nI b = nI (a ||| b) := by
  apply Int32.toBitVec_inj.1
  show BitVec.ofNat 32 a ||| BitVec.ofNat 32 b = BitVec.ofNat 32 (a ||| b)
  apply BitVec.eq_of_getLsbD_eq
  intro i hi
  simp [hi]
theorem hr_shl {x c : Nat} (hc : c < 32) (h : x * 2 ^ c < 2 ^ 32) : nI x <<< (nI c &&& 31) = nI (x * 2 ^ c) := pk_shlN _ c (hr_sh c hc) h
theorem hr_one {c : Nat} (hc : c < 32) : (1 : Int32) <<< (nI c &&& 31) = nI (2 ^ c) := by
  have h : 2 ^ c < 2 ^ 32 := Nat.pow_lt_pow_right (by decide) hc
  have e := hr_shl (x := 1) hc (by omega)
  rw [Nat.one_mul] at e
  exact e
theorem hr_x12 {x c : Nat} (hx : x < 4096) (hc : c < 12) : x ^^^ 2 ^ c < 4096 := Nat.xor_lt_two_pow (n := 12) hx (Nat.pow_lt_pow_right (by decide) hc)
theorem hr_turn {post : Int32 → St1 → Prop} {n bt r c : Nat} {V : Nat → Nat} {A : hr_A} (hK : hr_K n bt V A) (hr : r < 1000) (hc : c < 12)
    (H : r < n → post (nI ((V r ^^^ 2 ^ c) / 2 ^ c % 2)) (hr_s n 0 (hr_u V r (V r ^^^ 2 ^ c)) A)) (H' : n ≤ r → post (-4) (hr_s n bt V A)) : wpX_turn post (hr_s n bt V A) (nI r) (nI c) := by
  have hn := hK.1
  have hV := hK.2.1
  unfold wpX_turn
  refine hr_noRow hn hr (fun h1 => ?_) (fun h1 => ?_)
  rotate_left
  · exact br_f hr_10 (H' h1)
  refine br_t rfl (pk_lt c 0 (fun q => absurd q (by omega)) (fun _ => pk_lt c 12 (fun _ => ?_) (fun q => absurd q (by omega))))
  refine ⟨pk_in r 8 (by omega), pk_in r 8 (by omega), nm_r (e' := hr_f (hr_u V r (V r ^^^ 2 ^ c))) ?_ ?_⟩
  · refine hr_upd1 r (V r ^^^ 2 ^ c) rfl ?_ (by omega)
    rw [hr_get r rfl (by omega), hr_one (by omega), hr_xorI]
  · refine hr_at (V := hr_u V r (V r ^^^ 2 ^ c)) (by omega) (by omega) ?_ ?_
    · rw [hr_us]; exact hr_x12 (hV r) hc
    · rw [hr_us]; exact H h1
theorem hr_u_V {V : Nat → Nat} (hV : ∀ j, V j < 4096) {r x : Nat} (hx : x < 4096) : ∀ j, hr_u V r x j < 4096 := fun j => by
  by_cases e : j = r
  · rw [e, hr_us]; exact hx
  · rw [hr_un e]; exact hV j
theorem hr_uu (V : Nat → Nat) (r x : Nat) : hr_u (hr_u V r x) r (V r) = V := by
  funext j
  by_cases e : j = r
  · rw [e, hr_us]
  · rw [hr_un e, hr_un e]
theorem hr_grow (x k : Nat) : x % 2 ^ k ||| (x / 2 ^ k % 2) * 2 ^ k = x % 2 ^ (k + 1) := by
  rw [hr_mod, Nat.or_comm, Nat.mul_comm, ← Nat.two_pow_add_eq_or_of_lt (Nat.mod_lt _ (Nat.two_pow_pos k)), Nat.add_comm]
theorem hr_bits {post : Int32 → St1 → Prop} {n bt r : Nat} {V : Nat → Nat} {A : hr_A} (hK : hr_K n bt V A) (hr : r < 1000)
    (H : r < n → post (nI (V r)) (hr_s n 0 V A)) (H' : n ≤ r → post (-1) (hr_s n bt V A)) : wpL_bits post (hr_s n bt V A) (nI r) := by
  have hV := hK.2.1
  have hn := hK.1
  rcases Nat.lt_or_ge r n with h | h
  · suffices key : ∃ fu, wL_bits_4 post (nI r) fu (nI (V r % 2 ^ 0)) (nI 0) (nI n) (nI bt) (hr_f V) (hr_f A.1) (hr_f A.2.1) (hr_f A.2.2.1) (hr_f A.2.2.2) by
      rw [Nat.pow_zero, Nat.mod_one] at key
      exact key
    refine pk_loop (σ := { b : Nat // hr_K n b V A }) (fun fu c s => wL_bits_4 post (nI r) fu (nI (V r % 2 ^ c)) (nI c) (nI n) (nI s.1) (hr_f V) (hr_f A.1) (hr_f A.2.1) (hr_f A.2.2.1) (hr_f A.2.2.2)) (fun c s => 0 < c → s.1 = 0) 12 0 ⟨bt, hK⟩ (Nat.zero_le _) (fun z => absurd z (by omega)) ?_ ?_
    · rintro fu ⟨b, hb⟩ hs
      obtain rfl : b = 0 := hs (by omega)
      refine pk_le 12 12 (fun _ => ?_) (fun q => absurd q (by omega))
      have e := H h
      rw [show nI (V r) = nI (V r % 2 ^ 12) from congrArg nI (Nat.mod_eq_of_lt (hV r)).symm] at e
      exact e
    · rintro fu c ⟨b, hb⟩ hc hs hw
      refine pk_le 12 c (fun q => absurd q (by omega)) (fun _ => ?_)
      refine hr_turn hb hr hc (fun _ => ?_) (fun q => absurd q (by omega))
      have hK' : hr_K n 0 (hr_u V r (V r ^^^ 2 ^ c)) A := ⟨hn, hr_u_V hV (hr_x12 (hV r) hc), Or.inl rfl⟩
      refine hr_turn hK' hr hc (fun _ => ?_) (fun q => absurd q (by omega))
      rw [hr_us, Nat.xor_assoc, Nat.xor_self, Nat.xor_zero, hr_uu]
      have nx := hw ⟨0, hn, hV, Or.inl rfl⟩ (fun _ => rfl)
      have hm : V r % 2 ^ c < 2 ^ 31 := Nat.lt_of_le_of_lt (Nat.mod_le _ _) (Nat.lt_trans (hV r) (by decide))
      refine pk_lt (V r / 2 ^ c % 2) 0 (fun q => absurd q (by omega)) (fun _ => ?_) rfl rfl (hr_b31 _ _) (by omega)
      refine pk_le 0 (V r % 2 ^ c) (fun _ => ?_) (fun q => absurd q (by omega)) rfl rfl (by omega) hm
      refine nm_r (e' := nI (V r % 2 ^ (c + 1))) ?_ (nm_r (nI_1 c) nx)
      have hsm : V r / 2 ^ c % 2 * 2 ^ c < 2 ^ 32 := by
        have h1 : V r / 2 ^ c % 2 * 2 ^ c ≤ 1 * 2 ^ c := Nat.mul_le_mul_right _ (by have := hr_bit2 (V r) c; omega)
        have h2 : 2 ^ c < 2 ^ 12 := Nat.pow_lt_pow_right (by decide) hc
        omega
      rw [hr_shl (by omega) hsm, hr_orI, hr_grow]
  · have key : ∀ fu, ∀ c x, c ≤ 12 → 12 - c < fu → (c = 0 ∨ x = (-1 : Int32)) → wL_bits_4 post (nI r) fu x (nI c) (nI n) (nI bt) (hr_f V) (hr_f A.1) (hr_f A.2.1) (hr_f A.2.2.1) (hr_f A.2.2.2) := by
      intro fu
      induction fu with
      | zero => intro c x _ hc; omega
      | succ fu ih =>
        intro c x hc hf hx
        refine pk_le 12 c (fun q => ?_) (fun q => ?_)
        · rw [hx.resolve_left (by omega)]
          exact H' h
        · refine hr_turn hK hr (by omega) (fun z => absurd z (by omega)) (fun _ => ?_)
          refine hr_turn hK hr (by omega) (fun z => absurd z (by omega)) (fun _ => ?_)
          exact br_t (by decide) (nm_r (nI_1 c) (ih (c + 1) _ (by omega) (by omega) (Or.inr rfl)))
    exact ⟨13, key 13 0 0 (by omega) (by omega) (Or.inl rfl)⟩
/-! the script's turns: any new state is one of ours -/
theorem hr_add {post : Int32 → St1 → Prop} {n bt x : Nat} {V : Nat → Nat} {A : hr_A} (hK : hr_K n bt V A) (hx : x < 4096)
    (H : ∀ (ρ : Int32) (n' bt' : Nat) (V' : Nat → Nat), hr_K n' bt' V' A → post ρ (hr_s n' bt' V' A)) : wpX_add post (hr_s n bt V A) (nI x) := by
  have hn := hK.1
  have hV := hK.2.1
  refine pk_lt x 0 (fun q => absurd q (by omega)) (fun _ => pk_le x 4095 (fun _ => pk_eq n 8 (fun _ => H _ n bt V hK) (fun ne => ⟨pk_in n 8 (by omega), nm_r (hr_upd1 n x rfl rfl (by omega)) (nm_r (nI_1 n) ?_)⟩)) (fun q => absurd q (by omega)))
  exact H _ (n + 1) 0 (hr_u V n x) ⟨by omega, hr_u_V hV hx, Or.inl rfl⟩
theorem hr_remove {post : Int32 → St1 → Prop} {n bt : Nat} {V : Nat → Nat} {A : hr_A} (hK : hr_K n bt V A)
    (H : ∀ (ρ : Int32) (n' bt' : Nat) (V' : Nat → Nat), hr_K n' bt' V' A → post ρ (hr_s n' bt' V' A)) : wpX_remove post (hr_s n bt V A) := by
  have hn := hK.1
  have hV := hK.2.1
  refine pk_eq n 0 (fun _ => H _ n bt V hK) (fun ne => nm_r (e' := nI (n - 1)) (pk_sub (show 1 ≤ n by omega)) ⟨pk_in (n - 1) 8 (by omega), ?_⟩)
  exact H _ (n - 1) 0 V ⟨by omega, hV, Or.inl rfl⟩
theorem hr_lturn {post : Int32 → St1 → Prop} {n bt : Nat} {V : Nat → Nat} {A : hr_A} (hK : hr_K n bt V A) (p q : Int32)
    (H : ∀ (ρ : Int32) (n' bt' : Nat) (V' : Nat → Nat), hr_K n' bt' V' A → post ρ (hr_s n' bt' V' A)) : wpL_turn post (hr_s n bt V A) p q := by
  have hn := hK.1
  have hV := hK.2.1
  refine nm_e (br_c (fun _ => br_c (fun _ => ⟨by decide, ?_⟩) (fun _ => hr_remove hK H)) (fun _ => br_c (fun _ => ?_) (fun _ => ?_)))
  · obtain ⟨a, ha, ea⟩ := pk_andE q (m := 7) 3 (by decide)
    obtain ⟨b, hb, eb⟩ := pk_andE (q >>> ((3 : Int32) &&& 31)) (m := 15) 4 (by decide)
    have er : (q >>> ((3 : Int32) &&& 31) &&& 15) - (q >>> ((3 : Int32) &&& 31) &&& 15) / 12 * 12 = nI (b % 12) := by
      rw [eb]
      exact pk_rem (d := 12) (by omega) (by omega) (by omega)
    rw [er, ea]
    exact hr_turn hK (by omega) (Nat.mod_lt _ (by omega)) (fun z => H _ n 0 _ ⟨hn, hr_u_V hV (hr_x12 (hV a) (Nat.mod_lt _ (by omega))), Or.inl rfl⟩) (fun z => H _ n bt V hK)
  · obtain ⟨a, ha, ea⟩ := pk_andE q (m := 4095) 12 (by decide)
    rw [ea]
    exact hr_add hK ha H
  · obtain ⟨a, ha, ea⟩ := pk_andE (q &&& (q >>> ((12 : Int32) &&& 31))) (m := 4095) 12 (by decide)
    rw [ea]
    exact hr_add hK ha H
end
section
/-! the law's loops, from the last to the first -/
theorem hr_n4 {x : Nat} (h : x < 2 ^ 31) : ¬ nI x = (-4 : Int32) := fun e => nI_pos h (by rw [e]; decide)
theorem hr_seen {n c : Nat} {V : Nat → Nat} {o b : Nat → Nat} (hL : hr_L n V c o b) {S : Nat} (hn : n ≤ 8) (h : ∀ t, S.testBit t = true ↔ ∃ j, j < 8 ∧ j < n ∧ o j = t) : S = 2 ^ n - 1 := by
  apply Nat.eq_of_testBit_eq
  intro t
  rw [Nat.testBit_two_pow_sub_one]
  by_cases z : t < n
  · rw [decide_eq_true z]
    obtain ⟨j, hj, e⟩ := hL.2.2.1 t z
    exact (h t).mpr ⟨j, by omega, hj, e⟩
  · rw [decide_eq_false z]
    cases hb : S.testBit t
    · rfl
    · obtain ⟨j, _, hj, e⟩ := (h t).mp hb
      have := hL.1 j hj
      omega
theorem hr_seen_add {n i : Nat} {o : Nat → Nat} {S : Nat} (hi : i < n) (h : ∀ t, S.testBit t = true ↔ ∃ j, j < i ∧ j < n ∧ o j = t) : ∀ t, (S ||| 2 ^ o i).testBit t = true ↔ ∃ j, j < i + 1 ∧ j < n ∧ o j = t := by
  intro t
  rw [Nat.testBit_or, Bool.or_eq_true, h t, Nat.testBit_two_pow, decide_eq_true_iff]
  constructor
  · rintro (⟨j, a, b, e⟩ | e)
    · exact ⟨j, by omega, b, e⟩
    · exact ⟨i, by omega, hi, e⟩
  · rintro ⟨j, a, b, e⟩
    by_cases z : j = i
    · subst z; exact Or.inr e
    · exact Or.inl ⟨j, by omega, b, e⟩
theorem hr_434 {post : Int32 → Prop} (hp : post 1) {L : Nat} {xs : Nat → Int32} {x2 : Int32} {kc ks n c : Nat} {V : Nat → Nat} {A : hr_A} (hK : hr_K n 1 V A) (hT : hr_T n V A) (hc : c ≤ 12) :
    ∃ fu, wL_law_434 post L xs x2 (nI n) (nI c) kc ks fu 0 0 (nI n) (nI 1) (hr_f V) (hr_f A.1) (hr_f A.2.1) (hr_f A.2.2.1) (hr_f A.2.2.2) := by
  have hn := hK.1
  have hV := hK.2.1
  have hL := hT.1 c hc
  refine pk_loop (σ := Nat) (fun fu i S => wL_law_434 post L xs x2 (nI n) (nI c) kc ks fu (nI S) (nI i) (nI n) (nI 1) (hr_f V) (hr_f A.1) (hr_f A.2.1) (hr_f A.2.2.1) (hr_f A.2.2.2))
    (fun i S => ∀ t, S.testBit t = true ↔ ∃ j, j < i ∧ j < n ∧ hr_o A.1 c j = t) 8 0 0 (Nat.zero_le _) ?_ ?_ ?_
  · intro t
    rw [Nat.zero_testBit]
    exact ⟨fun z => absurd z (by decide), fun ⟨j, a, _⟩ => absurd a (by omega)⟩
  · intro fu S h
    obtain ⟨x, hx, ex⟩ := pk_andE x2 (m := 4095) 12 (by decide)
    refine pk_le 8 8 (fun _ => br_t ?_ ?_) (fun q => absurd q (by omega))
    · rw [hr_seen hL hn h, hr_one (by omega)]
      exact (pk_sub Nat.one_le_two_pow).symm
    · rw [ex]
      refine hr_having hK hx (fun A' hT' hA => br_t rfl ?_)
      exact hr_ordered (A := A') ⟨hn, hV, Or.inr ⟨rfl, hT'⟩⟩ hc (by omega) (fun z => absurd z (by omega)) (fun _ => br_t rfl hp)
  · intro fu i S hi h hw
    refine pk_le 8 i (fun q => absurd q (by omega)) (fun _ => hr_ordered hK hc (by omega) (fun hin A' hT' hA => ?_) (fun hin => ?_))
    · obtain rfl : A' = A := hA rfl
      have ho : hr_o A'.1 c i < n := hL.1 i hin
      refine br_f (hr_n4 (by omega)) (pk_lt i n (fun _ => br_t rfl (pk_lt (hr_o A'.1 c i) 0 (fun q => absurd q (by omega)) (fun _ => nm_r (e' := nI (S ||| 2 ^ hr_o A'.1 c i)) ?_ (nm_r (nI_1 i) (hw _ (hr_seen_add hin h)))))) (fun q => absurd q (by omega)))
      rw [hr_one (by omega), hr_orI]
    · refine br_t rfl (pk_lt i n (fun q => absurd q (by omega)) (fun _ => br_t rfl (br_t (by decide) (nm_r (nI_1 i) (hw S (fun t => (h t).trans ⟨?_, ?_⟩))))))
      · rintro ⟨j, a, b, e⟩
        exact ⟨j, by omega, b, e⟩
      · rintro ⟨j, a, b, e⟩
        exact ⟨j, by omega, b, e⟩
theorem hr_416 {post : Int32 → Prop} (hp : post 1) {L : Nat} {xs : Nat → Int32} {x2 : Int32} {kc ks n : Nat} {V : Nat → Nat} {A : hr_A} (hK : hr_K n 1 V A) (hT : hr_T n V A) :
    wL_law_416 post L xs x2 (nI n) kc ks (nI n) (nI 1) (hr_f V) (hr_f A.1) (hr_f A.2.1) (hr_f A.2.2.1) (hr_f A.2.2.2) := by
  obtain ⟨b, hb, eb⟩ := pk_andE (x2 >>> ((8 : Int32) &&& 31)) (m := 15) 4 (by decide)
  have er : (x2 >>> ((8 : Int32) &&& 31) &&& 15) - (x2 >>> ((8 : Int32) &&& 31) &&& 15) / 13 * 13 = nI (b % 13) := by
    rw [eb]
    exact pk_rem (d := 13) (by omega) (by omega) (by omega)
  exact ⟨by decide, nm_r er (hr_434 hp hK hT (by have := Nat.mod_lt b (show 0 < 13 by omega); omega))⟩
theorem hr_392 {post : Int32 → Prop} (hp : post 1) {L : Nat} {xs : Nat → Int32} {x2 : Int32} {kc ks n a b : Nat} {V : Nat → Nat} {A : hr_A} (hK : hr_K n 1 V A) (hT : hr_T n V A) (hab : a ≤ b) (hb : b < 12) :
    wL_law_392 post L xs x2 (nI n) (nI a) (nI b) (nI (hr_k (hr_o A.2.1 (b + 1)) a n)) kc ks (nI n) (nI 1) (hr_f V) (hr_f A.1) (hr_f A.2.1) (hr_f A.2.2.1) (hr_f A.2.2.2) := by
  have hn := hK.1
  have k1 := hr_k_le (hr_o A.2.1 (b + 1)) a n
  have k2 := hr_k_le (hr_o A.2.1 (b + 1 + 1)) a n
  refine pk_le 11 b (fun _ => hr_416 hp hK hT) (fun q => ?_)
  rw [nI_1]
  refine hr_kinds hK (by omega) (by omega) (fun A' hT' hA => ?_)
  obtain rfl : A' = A := hA rfl
  have st := (hT.2 (b + 1) (by omega)).2 a (by omega)
  exact pk_le (hr_k (hr_o A'.2.1 (b + 1)) a n) (hr_k (hr_o A'.2.1 (b + 1 + 1)) a n) (fun _ => hr_416 hp hK hT) (fun q => absurd q (by omega))
theorem hr_363 {post : Int32 → Prop} (hp : post 1) {L : Nat} {xs : Nat → Int32} {x2 : Int32} {kc ks n a b z : Nat} {V : Nat → Nat} {A : hr_A} (hK : hr_K n 1 V A) (hT : hr_T n V A) (hab : a ≤ b) (hb : b < 12) (hz : z ≤ hr_k (hr_o A.2.1 (b + 1)) a n) :
    wL_law_363 post L xs x2 (nI n) (nI a) (nI b) (nI (hr_k (hr_o A.2.1 (b + 1)) a n)) (nI z) (nI (hr_k (hr_o A.2.1 (b + 1)) a n)) kc ks (nI n) (nI 1) (hr_f V) (hr_f A.1) (hr_f A.2.1) (hr_f A.2.2.1) (hr_f A.2.2.2) := by
  have hn := hK.1
  have k1 := hr_k_le (hr_o A.2.1 (b + 1)) a n
  have k2 := hr_k_le (hr_o A.2.1 (b + 1)) (a - 1) n
  refine pk_lt (hr_k (hr_o A.2.1 (b + 1)) a n) z (fun q => absurd q (by omega)) (fun _ => pk_lt n (hr_k (hr_o A.2.1 (b + 1)) a n) (fun q => absurd q (by omega)) (fun _ => pk_le a 0 (fun _ => hr_392 hp hK hT hab hb) (fun q => ?_)))
  rw [show nI a - 1 = nI (a - 1) from pk_sub (show 1 ≤ a by omega)]
  refine hr_kinds hK (by omega) hb (fun A' hT' hA => ?_)
  obtain rfl : A' = A := hA rfl
  have an := hr_k_anti (hr_o A'.2.1 (b + 1)) (show a - 1 ≤ a by omega) n
  exact pk_lt (hr_k (hr_o A'.2.1 (b + 1)) (a - 1) n) (hr_k (hr_o A'.2.1 (b + 1)) a n) (fun q => absurd q (by omega)) (fun _ => hr_392 hp hK hT hab hb)
/-- the law's loop over the columns: fit -/
theorem hr_276 {post : Int32 → Prop} {L : Nat} {xs : Nat → Int32} {J : Int32 → Int32 → Int32 → (Nat → Int32) → (Nat → Int32) → (Nat → Int32) → (Nat → Int32) → (Nat → Int32) → Prop} {x2 own : Int32} {kc ks n r bt : Nat} {V : Nat → Nat} {A : hr_A} (hK : hr_K n bt V A) (hr : r < 8) (ho : r < n → own = nI (V r))
    (hJ : ∀ (b : Nat) (B : hr_A), hr_K n b V B → J (nI (r + 1)) (nI n) (nI b) (hr_f V) (hr_f B.1) (hr_f B.2.1) (hr_f B.2.2.1) (hr_f B.2.2.2)) :
    ∃ fu, wL_law_276 post L xs J x2 (nI n) (nI r) own kc ks fu 0 (nI n) (nI bt) (hr_f V) (hr_f A.1) (hr_f A.2.1) (hr_f A.2.2.1) (hr_f A.2.2.2) := by
  have hn := hK.1
  refine pk_loop (σ := Nat × hr_A) (fun fu c s => wL_law_276 post L xs J x2 (nI n) (nI r) own kc ks fu (nI c) (nI n) (nI s.1) (hr_f V) (hr_f s.2.1) (hr_f s.2.2.1) (hr_f s.2.2.2.1) (hr_f s.2.2.2.2)) (fun c s => hr_K n s.1 V s.2) 13 0 (bt, A) (Nat.zero_le _) hK ?_ ?_
  · intro fu s h
    exact pk_le 13 13 (fun _ => nm_r (nI_1 r) (hJ s.1 s.2 h)) (fun q => absurd q (by omega))
  · intro fu c s hc h hw
    refine pk_le 13 c (fun q => absurd q (by omega)) (fun _ => pk_le n r (fun _ => nm_r (nI_1 r) (hJ s.1 s.2 h)) (fun q => ?_))
    rw [ho q]
    exact hr_fit h (by omega) q (fun A' hT hA => br_t rfl (nm_r (nI_1 c) (by
      have t := hw (1, A') ⟨h.1, h.2.1, Or.inr ⟨rfl, hT⟩⟩
      rw [ho q] at t
      exact t)))
/-- the law's loop over the second row: longest; then winning -/
theorem hr_132 {post : Int32 → Prop} {L : Nat} {xs : Nat → Int32} {J : Int32 → Int32 → Int32 → (Nat → Int32) → (Nat → Int32) → (Nat → Int32) → (Nat → Int32) → (Nat → Int32) → Prop} {x2 own : Int32} {kc ks n r bt : Nat} {V : Nat → Nat} {A : hr_A} (hK : hr_K n bt V A) (hr : r < 8) (ho : r < n → own = nI (V r)) (ho' : n ≤ r → own = -1)
    (hJ : ∀ (b : Nat) (B : hr_A), hr_K n b V B → J (nI (r + 1)) (nI n) (nI b) (hr_f V) (hr_f B.1) (hr_f B.2.1) (hr_f B.2.2.1) (hr_f B.2.2.2)) :
    ∃ fu, wL_law_132 post L xs J x2 (nI n) (nI r) own kc ks fu 0 0 (nI n) (nI bt) (hr_f V) (hr_f A.1) (hr_f A.2.1) (hr_f A.2.2.1) (hr_f A.2.2.2) := by
  have hn := hK.1
  have hV := hK.2.1
  refine pk_loop (σ := Nat × Nat × hr_A) (fun fu i s => wL_law_132 post L xs J x2 (nI n) (nI r) own kc ks fu (nI s.1) (nI i) (nI n) (nI s.2.1) (hr_f V) (hr_f s.2.2.1) (hr_f s.2.2.2.1) (hr_f s.2.2.2.2.1) (hr_f s.2.2.2.2.2))
    (fun i s => hr_K n s.2.1 V s.2.2 ∧ s.1 ≤ 1 ∧ (s.1 = 1 ↔ ∃ t, t < i ∧ r < n ∧ t < n ∧ t ≠ r ∧ hr_ag V r t)) 8 0 (0, bt, A) (Nat.zero_le _) ?_ ?_ ?_
  · exact ⟨hK, Nat.zero_le _, fun z => absurd z (by show ¬ 0 = 1; omega), fun ⟨t, a, _⟩ => absurd a (by omega)⟩
  · rintro fu ⟨g, b, B⟩ ⟨hB, hg, hag⟩
    have hB : hr_K n b V B := hB
    have hg' : g ≤ 1 := hg
    have hag' : g = 1 ↔ ∃ t, t < 8 ∧ r < n ∧ t < n ∧ t ≠ r ∧ hr_ag V r t := hag
    refine pk_le 8 8 (fun _ => hr_winning (A := B) hB (by omega) (fun hrn A' w hT hA hw hwag => ?_) (fun hrn => ?_)) (fun q => absurd q (by omega))
    · have K276 := hr_276 (post := post) (L := L) (xs := xs) (J := J) (x2 := x2) (own := own) (kc := kc) (ks := ks) (bt := 1) (A := A') ⟨hn, hV, Or.inr ⟨rfl, hT⟩⟩ hr ho hJ
      refine pk_le n r (fun q => absurd q (by omega)) (fun _ => pk_le w 0 (fun q => br_t ?_ K276) (fun q => br_t ?_ K276))
      · have : g ≠ 1 := fun e => by
          obtain ⟨t, a1, a2, a3, a4, a5⟩ := hag'.mp e
          have := hwag.mpr ⟨t, a3, a4, a5⟩
          omega
        obtain rfl : g = 0 := by omega
        rfl
      · obtain ⟨t, a3, a4, a5⟩ := hwag.mp q
        obtain rfl : g = 1 := hag'.mpr ⟨t, by omega, hrn, a3, a4, a5⟩
        rfl
    · exact pk_le n r (fun q => br_t rfl (br_t (ho' q) (hr_276 (A := B) hB hr ho hJ))) (fun q => absurd q (by omega))
  · rintro fu i ⟨g, b, B⟩ hi ⟨hB, hg, hag⟩ hw
    have hB' : hr_K n b V B := hB
    have hg' : g ≤ 1 := hg
    have hag' : g = 1 ↔ ∃ t, t < i ∧ r < n ∧ t < n ∧ t ≠ r ∧ hr_ag V r t := hag
    have old : g = 1 → ∃ t, t < i + 1 ∧ r < n ∧ t < n ∧ t ≠ r ∧ hr_ag V r t := fun e => by
      obtain ⟨t, a1, a2⟩ := hag'.mp e
      exact ⟨t, by omega, a2⟩
    refine pk_le 8 i (fun q => absurd q (by omega)) (fun _ => hr_longest (A := B) hB' (by omega) (by omega) (fun h1 h2 ne A' hT hA => ?_) (fun hno => ?_))
    · have hKA : hr_K n 1 V A' := ⟨hn, hV, Or.inr ⟨rfl, hT⟩⟩
      have hlg := hr_lg_le (hr_G n A' r i) 13
      have hpos := hr_lg_ag hT h1 h2
      refine hr_longest (A := A') hKA (by omega) (by omega) (fun _ _ _ A'' hT' hA' => ?_) (fun z => absurd ⟨h2, h1, fun e => ne e.symm⟩ z)
      obtain rfl : A'' = A' := hA' rfl
      have sym : hr_lg (hr_G n A'' r i) 13 = hr_lg (hr_G n A'' i r) 13 := hr_lg_congr (fun c _ => hr_g_comm n _ _ r i)
      refine br_t (congrArg nI sym) (br_f (hr_n4 (by omega)) (pk_eq r i (fun e => absurd e ne) (fun _ => pk_le n r (fun q => absurd q (by omega)) (fun _ => pk_lt i n (fun _ => br_t rfl ?_) (fun q => absurd q (by omega))))))
      refine pk_eq g 0 (fun g0 => pk_le (hr_lg (hr_G n A'' r i) 13) 0 (fun q => nm_r (nI_1 i) (hw (0, 1, A'') ⟨hKA, Nat.zero_le _, fun z => absurd z (by show ¬ 0 = 1; omega), ?_⟩)) (fun q => nm_r (nI_1 i) (hw (1, 1, A'') ⟨hKA, Nat.le_refl _, fun _ => ⟨i, by omega, h1, h2, fun e => ne e.symm, hpos.mp q⟩, fun _ => rfl⟩))) (fun g1 => nm_r (nI_1 i) (hw (1, 1, A'') ⟨hKA, Nat.le_refl _, fun _ => old (by omega), fun _ => rfl⟩)) rfl rfl (by omega) (by omega)
      rintro ⟨t, a1, a2, a3, a4, a5⟩
      exfalso
      by_cases e : t = i
      · subst e
        have := hpos.mpr a5
        omega
      · have := hag'.mpr ⟨t, by omega, a2, a3, a4, a5⟩
        omega
    · refine hr_longest (A := B) hB' (by omega) (by omega) (fun z1 z2 z3 => absurd ⟨z2, z1, fun e => z3 e.symm⟩ hno) (fun _ => br_t rfl (br_t rfl ?_))
      have hback : (∃ t, t < i + 1 ∧ r < n ∧ t < n ∧ t ≠ r ∧ hr_ag V r t) → g = 1 := by
        rintro ⟨t, a1, a2, a3, a4, a5⟩
        by_cases e : t = i
        · subst e
          exact absurd ⟨a2, a3, fun e => a4 e.symm⟩ hno
        · exact hag'.mpr ⟨t, by omega, a2, a3, a4, a5⟩
      have K : wL_law_198 post L xs J (wL_law_132 post L xs J x2 (nI n) (nI r) own kc ks fu) x2 (nI n) (nI r) own (nI g) (nI i) (-4) 1 1 kc ks (nI n) (nI b) (hr_f V) (hr_f B.1) (hr_f B.2.1) (hr_f B.2.2.1) (hr_f B.2.2.2) := by
        refine br_t rfl (pk_eq g 0 (fun g0 => br_t (by decide) (nm_r (nI_1 i) (hw (0, b, B) ⟨hB', Nat.zero_le _, fun z => absurd z (by show ¬ 0 = 1; omega), fun z => ?_⟩))) (fun g1 => nm_r (nI_1 i) (hw (1, b, B) ⟨hB', Nat.le_refl _, fun _ => old (by omega), fun _ => rfl⟩)) rfl rfl (by omega) (by omega))
        have := hback z
        omega
      refine pk_eq r i (fun _ => K) (fun ne => pk_le n r (fun _ => K) (fun h1 => pk_lt i n (fun h2 => absurd ⟨h1, h2, ne⟩ hno) (fun _ => K)))
/-- the law's loop over the rows, and what follows -/
theorem hr_111 {post : Int32 → Prop} (hp : post 1) {L : Nat} {xs : Nat → Int32} {x2 : Int32} {kc ks n bt : Nat} {V : Nat → Nat} {A : hr_A} (hK : hr_K n bt V A) :
    ∃ fu, wL_law_111 post L xs x2 (nI n) kc ks fu 0 (nI n) (nI bt) (hr_f V) (hr_f A.1) (hr_f A.2.1) (hr_f A.2.2.1) (hr_f A.2.2.2) := by
  have hn := hK.1
  have hV := hK.2.1
  refine pk_loop (σ := Nat × hr_A) (fun fu r s => wL_law_111 post L xs x2 (nI n) kc ks fu (nI r) (nI n) (nI s.1) (hr_f V) (hr_f s.2.1) (hr_f s.2.2.1) (hr_f s.2.2.2.1) (hr_f s.2.2.2.2)) (fun _ s => hr_K n s.1 V s.2) 8 0 (bt, A) (Nat.zero_le _) hK ?_ ?_
  · intro fu s h
    obtain ⟨a0, ha0, ea0⟩ := pk_andE x2 (m := 15) 4 (by decide)
    obtain ⟨b0, hb0, eb0⟩ := pk_andE (x2 >>> ((4 : Int32) &&& 31)) (m := 15) 4 (by decide)
    have ha : a0 % 12 < 12 := Nat.mod_lt _ (by omega)
    have hb : b0 % (12 - a0 % 12) < 12 - a0 % 12 := Nat.mod_lt _ (by omega)
    have ea : (x2 &&& 15) - (x2 &&& 15) / 12 * 12 = nI (a0 % 12) := by
      rw [ea0]
      exact pk_rem (d := 12) (by omega) (by omega) (by omega)
    generalize a0 % 12 = a at *
    have e12 : (12 : Int32) - nI a = nI (12 - a) := pk_sub (a := 12) (by omega)
    have eb : nI a + ((x2 >>> ((4 : Int32) &&& 31) &&& 15) - (x2 >>> ((4 : Int32) &&& 31) &&& 15) / (12 - nI a) * (12 - nI a)) = nI (a + b0 % (12 - a)) := by
      rw [eb0, e12, pk_rem (by omega) (by omega) (by omega), nI_add]
    generalize b0 % (12 - a) = d at *
    refine pk_le 8 8 (fun _ => ⟨by decide, nm_r ea ⟨by rw [e12]; exact nI_ne0 (by omega) (by omega), nm_r eb ?_⟩⟩) (fun q => absurd q (by omega))
    refine hr_kinds h (by omega) (by omega) (fun A' hT hA => ?_)
    have hKA : hr_K n 1 V A' := ⟨hn, hV, Or.inr ⟨rfl, hT⟩⟩
    exact pk_le n 0 (fun q => hr_363 hp hKA hT (by omega) (by omega) (Nat.zero_le _)) (fun q => hr_363 hp hKA hT (by omega) (by omega) (hr_k_pos _ _ _ q))
  · intro fu r s hr h hw
    refine pk_le 8 r (fun q => absurd q (by omega)) (fun _ => hr_bits h (by omega) (fun hrn => ?_) (fun hrn => ?_))
    · exact hr_132 (bt := 0) (A := s.2) ⟨hn, hV, Or.inl rfl⟩ hr (fun _ => rfl) (fun q => absurd q (by omega)) (fun b B hB => hw (b, B) hB)
    · exact hr_132 (bt := s.1) (A := s.2) h hr (fun q => absurd q (by omega)) (fun _ => rfl) (fun b B hB => hw (b, B) hB)
theorem hr_65 {post : Int32 → Prop} (hp : post 1) {L : Nat} {xs : Nat → Int32} {x2 : Int32} {kc ks n : Nat} {V : Nat → Nat} {A : hr_A} (hK : hr_K n 1 V A) :
    ∃ fu, wL_law_65 post L xs x2 (nI n) (nI (hr_e4 n V A 1)) kc ks fu 2 (nI n) (nI 1) (hr_f V) (hr_f A.1) (hr_f A.2.1) (hr_f A.2.2.1) (hr_f A.2.2.2) := by
  have hn := hK.1
  refine pk_loop (σ := Unit) (fun fu k _ => wL_law_65 post L xs x2 (nI n) (nI (hr_e4 n V A 1)) kc ks fu (nI k) (nI n) (nI 1) (hr_f V) (hr_f A.1) (hr_f A.2.1) (hr_f A.2.2.1) (hr_f A.2.2.2)) (fun k _ => 2 ≤ k) 13 2 () (by omega) (Nat.le_refl 2) ?_ ?_
  · intro fu _ _
    exact pk_le 13 13 (fun _ => hr_111 hp hK) (fun q => absurd q (by omega))
  · intro fu k _ hk h2 hw
    have l1 := hr_e4_le hn V A 1
    have lk := hr_e4_le hn V A k
    have lk' := hr_e4_le hn V A (k - 1)
    have m1 := hr_e4_anti n V A (show 1 ≤ k by omega)
    have m2 := hr_e4_anti n V A (show k - 1 ≤ k by omega)
    refine pk_le 13 k (fun q => absurd q (by omega)) (fun _ => hr_matches hK (by omega) (by omega) (fun A' hT hA => ?_))
    obtain rfl : A' = A := hA rfl
    refine pk_lt (hr_e4 n V A' 1) (hr_e4 n V A' k) (fun q => absurd q (by omega)) (fun _ => hr_matches hK (by omega) (by omega) (fun B hT' hB => ?_))
    obtain rfl : B = A' := hB rfl
    rw [show nI k - 1 = nI (k - 1) from pk_sub (show 1 ≤ k by omega)]
    refine hr_matches hK (by omega) (by omega) (fun C hT'' hC => ?_)
    obtain rfl : C = B := hC rfl
    exact pk_le (hr_e4 n V C k) (hr_e4 n V C (k - 1)) (fun _ => nm_r (nI_1 k) (hw () (by omega))) (fun q => absurd q (by omega))
theorem hr_rows {post : Int32 → Prop} {x y : Int32} {a1 a2 a3 a4 a5 : Nat → Int32} (h : post x) : wpX_rows post (x, y, a1, a2, a3, a4, a5) := h
theorem hr_23 {post : Int32 → Prop} (hp : post 1) {L : Nat} (hL : L ≤ 260) {xs : Nat → Int32} {x2 : Int32} {kc ks : Nat} :
    ∃ fu, wL_law_23 post L xs x2 kc ks fu 1 0 0 (fun _ => 0) (fun _ => 0) (fun _ => 0) (fun _ => 0) (fun _ => 0) := by
  refine loop_m (σ := Nat × Nat × Nat × (Nat → Nat) × hr_A) (fun fu s => wL_law_23 post L xs x2 kc ks fu (nI s.1) (nI s.2.1) (nI s.2.2.1) (hr_f s.2.2.2.1) (hr_f s.2.2.2.2.1) (hr_f s.2.2.2.2.2.1) (hr_f s.2.2.2.2.2.2.1) (hr_f s.2.2.2.2.2.2.2)) (fun s => hr_K s.2.1 s.2.2.1 s.2.2.2.1 s.2.2.2.2 ∧ s.1 ≤ 1000) (fun s => L - s.1) ?_ (1, 0, 0, fun _ => 0, fun _ => 0, fun _ => 0, fun _ => 0, fun _ => 0) ⟨⟨Nat.zero_le _, fun j => by show 0 < 4096; omega, Or.inl rfl⟩, by show 1 ≤ 1000; omega⟩
  rintro fu ⟨k, n, bt, V, A⟩ ⟨hK, hk⟩ hm
  have hK' : hr_K n bt V A := hK
  have hk' : k ≤ 1000 := hk
  refine pk_le L (k + 1) (fun _ => ?_) (fun q => ⟨pk_in k L (by omega), pk_in (k + 1) L (by omega) (nI_1 k), ?_⟩) rfl (nI_1 k)
  · refine hr_rows ?_
    refine hr_matches (k := 1) (A := A) hK' (by omega) (by omega) (fun A' hT hA => ?_)
    exact hr_65 hp ⟨hK'.1, hK'.2.1, Or.inr ⟨rfl, hT⟩⟩
  · refine hr_lturn (A := A) hK' _ _ (fun ρ n' bt' V' h => nm_r (nI_add k 2) (hm (k + 2, n', bt', V', A) ⟨h, ?_⟩ ?_))
    · show k + 2 ≤ 1000; omega
    · show L - (k + 2) < L - k; omega
end
section
theorem i_vc (xs : Nat → Int32) (L : Nat) (hL : L ≤ 260) : wpL_law (fun r => r = 1) L xs := by
  refine ⟨5, 232, by omega, by omega, ?_⟩
  refine ⟨by omega, by omega, by omega, by omega, by omega, by omega, by omega, by omega, by omega, by omega, ?_⟩
  exact pk_le L 0 (fun _ => hr_23 (post := fun r => r = 1) rfl hL) (fun q => ⟨pk_in 0 L q, nm_e (hr_23 (post := fun r => r = 1) rfl hL)⟩)
end
