section
/-! distances in plain numbers: what measure computes, and that six rounds are enough -/
/-- the roads that count: E, but none at the places of the set M -/
def yk_F (E : Nat → Nat → Nat) (M : Nat) (a b : Nat) : Nat := if M.testBit a = false ∧ M.testBit b = false then E a b else 0
/-- one look at a road -/
def yk_rx (F : Nat → Nat → Nat) (d : Nat → Nat) (a b : Nat) : Nat → Nat := fun v => if v = a ∧ 0 < F a b ∧ d b + F a b < d a then d b + F a b else d v
def yk_sw (F : Nat → Nat → Nat) (d : Nat → Nat) : Nat → Nat → Nat
  | 0 => d
  | j + 1 => yk_rx F (yk_sw F d j) (j / 6) (j % 6)
def yk_it (F : Nat → Nat → Nat) (d : Nat → Nat) : Nat → Nat → Nat
  | 0 => d
  | k + 1 => yk_sw F (yk_it F d k) 36
def yk_d0 (g : Nat) : Nat → Nat := fun v => if v = g then 0 else 1048576
theorem yk_rx_le (F : Nat → Nat → Nat) (d : Nat → Nat) (a b v : Nat) : yk_rx F d a b v ≤ d v := by
  unfold yk_rx
  split
  · rename_i h
    obtain ⟨h1, _, h3⟩ := h
    rw [h1]
    omega
  · exact Nat.le_refl _
theorem yk_rx_e (F : Nat → Nat → Nat) (d : Nat → Nat) (a b : Nat) (h : 0 < F a b) : yk_rx F d a b a ≤ d b + F a b := by
  unfold yk_rx
  split
  · exact Nat.le_refl _
  · rename_i hn
    rcases Nat.lt_or_ge (d b + F a b) (d a) with z | z
    · exact absurd ⟨rfl, h, z⟩ hn
    · exact z
theorem yk_rx_0 (F : Nat → Nat → Nat) (d : Nat → Nat) (a b : Nat) (h : F a b = 0 ∨ d a ≤ d b + F a b) : ∀ v, yk_rx F d a b v = d v := by
  intro v
  unfold yk_rx
  rw [if_neg]
  rintro ⟨_, h2, h3⟩
  omega
theorem yk_rx_1 (F : Nat → Nat → Nat) (d : Nat → Nat) (a b : Nat) (h : 0 < F a b) (h2 : d b + F a b < d a) : yk_rx F d a b a = d b + F a b := by
  unfold yk_rx
  rw [if_pos ⟨rfl, h, h2⟩]
theorem yk_rx_n (F : Nat → Nat → Nat) (d : Nat → Nat) (a b v : Nat) (h : v ≠ a) : yk_rx F d a b v = d v := by
  unfold yk_rx
  rw [if_neg]
  rintro ⟨h1, _⟩
  exact h h1
theorem yk_sw_anti (F : Nat → Nat → Nat) (d : Nat → Nat) (v j i : Nat) : yk_sw F d (j + i) v ≤ yk_sw F d j v := by
  induction i with
  | zero => exact Nat.le_refl _
  | succ i ih =>
    have h : yk_rx F (yk_sw F d (j + i)) ((j + i) / 6) ((j + i) % 6) v ≤ yk_sw F d (j + i) v := yk_rx_le F _ _ _ v
    exact Nat.le_trans h ih
theorem yk_sw_e (F : Nat → Nat → Nat) (d : Nat → Nat) (a b : Nat) (ha : a < 6) (hb : b < 6) (h : 0 < F a b) : yk_sw F d 36 a ≤ d b + F a b := by
  have e1 : (6 * a + b) / 6 = a := by omega
  have e2 : (6 * a + b) % 6 = b := by omega
  have h1 : yk_sw F d (6 * a + b + 1) a ≤ yk_sw F d (6 * a + b) b + F a b := by
    show yk_rx F (yk_sw F d (6 * a + b)) ((6 * a + b) / 6) ((6 * a + b) % 6) a ≤ _
    rw [e1, e2]
    exact yk_rx_e F _ a b h
  have h2 : yk_sw F d (6 * a + b) b ≤ yk_sw F d 0 b := by
    have t := yk_sw_anti F d b 0 (6 * a + b)
    rw [Nat.zero_add] at t
    exact t
  have h3 : yk_sw F d 36 a ≤ yk_sw F d (6 * a + b + 1) a := by
    have t := yk_sw_anti F d a (6 * a + b + 1) (36 - (6 * a + b + 1))
    rw [show 6 * a + b + 1 + (36 - (6 * a + b + 1)) = 36 by omega] at t
    exact t
  have h4 : yk_sw F d 0 b = d b := rfl
  omega
/-- a table of distances to g in the making: what is near has a place that is nearer behind a road -/
def yk_K (F : Nat → Nat → Nat) (g : Nat) (d : Nat → Nat) : Prop := d g = 0 ∧ (∀ v, d v ≤ 1048576) ∧ ∀ a, a < 6 → a ≠ g → d a < 1048576 → ∃ b, b < 6 ∧ 0 < F a b ∧ d b + F a b ≤ d a
theorem yk_K_rx {F : Nat → Nat → Nat} {g : Nat} {d : Nat → Nat} {a b : Nat} (hb : b < 6) (k : yk_K F g d) : yk_K F g (yk_rx F d a b) := by
  obtain ⟨k1, k2, k3⟩ := k
  refine ⟨?_, fun v => Nat.le_trans (yk_rx_le F d a b v) (k2 v), fun x hx hg hl => ?_⟩
  · have t := yk_rx_le F d a b g
    omega
  · by_cases c : x = a ∧ 0 < F a b ∧ d b + F a b < d a
    · have e : yk_rx F d a b x = d b + F a b := by
        unfold yk_rx
        rw [if_pos c]
      have t := yk_rx_le F d a b b
      refine ⟨b, hb, by rw [c.1]; exact c.2.1, ?_⟩
      rw [e, c.1]
      omega
    · have e : yk_rx F d a b x = d x := by
        unfold yk_rx
        rw [if_neg c]
      rw [e] at hl
      obtain ⟨y, y1, y2, y3⟩ := k3 x hx hg hl
      have t := yk_rx_le F d a b y
      exact ⟨y, y1, y2, by rw [e]; omega⟩
theorem yk_K_sw {F : Nat → Nat → Nat} {g : Nat} {d : Nat → Nat} (k : yk_K F g d) (j : Nat) : yk_K F g (yk_sw F d j) := by
  induction j with
  | zero => exact k
  | succ j ih => exact yk_K_rx (F := F) (d := yk_sw F d j) (a := j / 6) (b := j % 6) (Nat.mod_lt j (by decide)) ih
theorem yk_K_it {F : Nat → Nat → Nat} {g : Nat} {d : Nat → Nat} (k : yk_K F g d) (j : Nat) : yk_K F g (yk_it F d j) := by
  induction j with
  | zero => exact k
  | succ j ih => exact yk_K_sw ih 36
theorem yk_K_0 (F : Nat → Nat → Nat) (g : Nat) : yk_K F g (yk_d0 g) := by
  refine ⟨?_, fun v => ?_, fun a _ hg hl => ?_⟩
  · unfold yk_d0
    rw [if_pos rfl]
  · unfold yk_d0
    split <;> omega
  · unfold yk_d0 at hl
    rw [if_neg hg] at hl
    omega
theorem yk_it_anti (F : Nat → Nat → Nat) (d : Nat → Nat) (v j i : Nat) : yk_it F d (j + i) v ≤ yk_it F d j v := by
  induction i with
  | zero => exact Nat.le_refl _
  | succ i ih =>
    have h : yk_sw F (yk_it F d (j + i)) (0 + 36) v ≤ yk_sw F (yk_it F d (j + i)) 0 v := yk_sw_anti F _ v 0 36
    exact Nat.le_trans h ih
theorem yk_inf (f : Nat → Nat) : ∃ k, ∀ j, f k ≤ f j := by
  obtain ⟨m, ⟨k, hk⟩, hm⟩ := pk_least (fun m => ∃ k, f k = m) ⟨f 0, 0, rfl⟩
  refine ⟨k, fun j => ?_⟩
  rcases Nat.lt_or_ge (f j) (f k) with z | z
  · have hj : ∃ k, f k = f j := ⟨j, rfl⟩
    exact absurd hj (hm (f j) (by omega))
  · exact z
/-- how many places below n are nearer than x -/
def yk_ct (d : Nat → Nat) (x : Nat) : Nat → Nat
  | 0 => 0
  | n + 1 => yk_ct d x n + if d n < x then 1 else 0
theorem yk_ct_mono (d : Nat → Nat) {x y : Nat} (h : x ≤ y) (n : Nat) : yk_ct d x n ≤ yk_ct d y n := by
  induction n with
  | zero => exact Nat.le_refl _
  | succ n ih =>
    show yk_ct d x n + (if d n < x then 1 else 0) ≤ yk_ct d y n + (if d n < y then 1 else 0)
    split <;> split <;> omega
theorem yk_ct_s (d : Nat → Nat) {x y b : Nat} (h1 : x ≤ d b) (h2 : d b < y) (n : Nat) (hb : b < n) : yk_ct d x n + 1 ≤ yk_ct d y n := by
  induction n with
  | zero => omega
  | succ n ih =>
    show yk_ct d x n + (if d n < x then 1 else 0) + 1 ≤ yk_ct d y n + (if d n < y then 1 else 0)
    by_cases e : b = n
    · have t := yk_ct_mono d (show x ≤ y by omega) n
      rw [e] at h1 h2
      rw [if_neg (show ¬ d n < x by omega), if_pos h2]
      omega
    · have t := ih (by omega)
      split <;> split <;> omega
theorem yk_ct_le (d : Nat → Nat) (x n : Nat) : yk_ct d x n ≤ n := by
  induction n with
  | zero => exact Nat.le_refl _
  | succ n ih =>
    show yk_ct d x n + (if d n < x then 1 else 0) ≤ n + 1
    split <;> omega
theorem yk_ct_v (d : Nat → Nat) (v n : Nat) (hv : v < n) : yk_ct d (d v) n < n := by
  induction n with
  | zero => omega
  | succ n ih =>
    show yk_ct d (d v) n + (if d n < d v then 1 else 0) < n + 1
    by_cases e : v = n
    · have t := yk_ct_le d (d v) n
      rw [if_neg (show ¬ d n < d v by rw [e]; omega)]
      omega
    · have t := ih (by omega)
      split <;> omega
/-- a finished table: no road makes it better -/
def yk_OK (F : Nat → Nat → Nat) (g : Nat) (D : Nat → Nat) : Prop := yk_K F g D ∧ ∀ a b, a < 6 → b < 6 → 0 < F a b → D a ≤ D b + F a b
theorem yk_bf (F : Nat → Nat → Nat) (g : Nat) : yk_OK F g (yk_it F (yk_d0 g) 6) := by
  refine ⟨yk_K_it (yk_K_0 F g) 6, ?_⟩
  have hK := fun j => yk_K_it (yk_K_0 F g) j
  have hA := fun v j i => yk_it_anti F (yk_d0 g) v j i
  have hE : ∀ k a b, a < 6 → b < 6 → 0 < F a b → yk_it F (yk_d0 g) (k + 1) a ≤ yk_it F (yk_d0 g) k b + F a b := fun k a b ha hb h => yk_sw_e F (yk_it F (yk_d0 g) k) a b ha hb h
  generalize yk_it F (yk_d0 g) = f at hK hA hE
  have hd : ∃ d : Nat → Nat, ∀ v, (∃ k, f k v = d v) ∧ ∀ j, d v ≤ f j v :=
    ⟨fun v => f (Classical.choose (yk_inf (fun k => f k v))) v, fun v => ⟨⟨_, rfl⟩, Classical.choose_spec (yk_inf (fun k => f k v))⟩⟩
  obtain ⟨d, hd⟩ := hd
  have D2 : ∀ a b, a < 6 → b < 6 → 0 < F a b → d a ≤ d b + F a b := by
    intro a b ha hb h
    obtain ⟨⟨k, e⟩, _⟩ := hd b
    have t := hE k a b ha hb h
    have t2 := (hd a).2 (k + 1)
    omega
  have D3 : ∀ a, a < 6 → a ≠ g → d a < 1048576 → ∃ b, b < 6 ∧ 0 < F a b ∧ d b + F a b ≤ d a := by
    intro a ha hg hl
    obtain ⟨⟨k, e⟩, _⟩ := hd a
    obtain ⟨b, b1, b2, b3⟩ := (hK k).2.2 a ha hg (by omega)
    have t2 := (hd b).2 k
    exact ⟨b, b1, b2, by omega⟩
  have main : ∀ x v, d v = x → v < 6 → d v < 1048576 → f (yk_ct d (d v) 6) v ≤ d v := by
    intro x
    induction x using Nat.strongRecOn with
    | ind x ih =>
      intro v hx hv hl
      by_cases e : v = g
      · rw [e, (hK _).1]
        omega
      · obtain ⟨b, b1, b2, b3⟩ := D3 v hv e hl
        have t1 := ih (d b) (by omega) b rfl b1 (by omega)
        have t2 := hE (yk_ct d (d b) 6) v b hv b1 b2
        have t3 := yk_ct_s d (Nat.le_refl (d b)) (show d b < d v by omega) 6 b1
        have t4 := hA v (yk_ct d (d b) 6 + 1) (yk_ct d (d v) 6 - (yk_ct d (d b) 6 + 1))
        rw [show yk_ct d (d b) 6 + 1 + (yk_ct d (d v) 6 - (yk_ct d (d b) 6 + 1)) = yk_ct d (d v) 6 by omega] at t4
        omega
  have fin : ∀ v, v < 6 → f 6 v = d v := by
    intro v hv
    have u1 := (hd v).2 6
    by_cases e : d v < 1048576
    · have t1 := main (d v) v rfl hv e
      have t2 := yk_ct_v d v 6 hv
      have t4 := hA v (yk_ct d (d v) 6) (6 - yk_ct d (d v) 6)
      rw [show yk_ct d (d v) 6 + (6 - yk_ct d (d v) 6) = 6 by omega] at t4
      omega
    · have t1 := (hK 6).2.1 v
      omega
  intro a b ha hb h
  rw [fin a ha, fin b hb]
  exact D2 a b ha hb h
/-- fewer roads, greater distances -/
theorem yk_OK_mono {F F' : Nat → Nat → Nat} {g : Nat} {D D' : Nat → Nat} (h : yk_OK F g D) (h' : yk_OK F' g D') (hF : ∀ a b, a < 6 → b < 6 → 0 < F' a b → F a b = F' a b) : ∀ v, v < 6 → D v ≤ D' v := by
  have main : ∀ x v, D' v = x → v < 6 → D v ≤ D' v := by
    intro x
    induction x using Nat.strongRecOn with
    | ind x ih =>
      intro v hx hv
      by_cases e : v = g
      · rw [e, h.1.1]
        omega
      · by_cases l : D' v < 1048576
        · obtain ⟨b, b1, b2, b3⟩ := h'.1.2.2 v hv e l
          have t1 := ih (D' b) (by omega) b rfl b1
          have t2 := hF v b hv b1 b2
          have t3 := h.2 v b hv b1 (by omega)
          omega
        · have t := h.1.2.1 v
          omega
  exact fun v hv => main (D' v) v rfl hv
end
section
/-! ways in plain numbers -/
theorem yk_fd (a b : Nat → Nat) (m : Nat) : ∃ d, d ≤ m ∧ (∀ j, j < d → a j = b j) ∧ (d < m → ¬ a d = b d) := by
  induction m with
  | zero => exact ⟨0, Nat.le_refl 0, fun j h => absurd h (by omega), fun h => absurd h (by omega)⟩
  | succ m ih =>
    obtain ⟨d, h1, h2, h3⟩ := ih
    by_cases hd : d < m
    · exact ⟨d, by omega, h2, fun _ => h3 hd⟩
    · by_cases he : a d = b d
      · refine ⟨d + 1, by omega, fun j hj => ?_, fun h => absurd h (by omega)⟩
        by_cases e : j = d
        · rw [e, he]
        · exact h2 j (by omega)
      · exact ⟨d, by omega, h2, fun _ => he⟩
/-- different places below m: at most m -/
theorem yk_pig (m : Nat) : ∀ (n : Nat) (f : Nat → Nat), (∀ i, i < n → f i < m) → (∀ i j, i < n → j < n → f i = f j → i = j) → n ≤ m := by
  induction m with
  | zero =>
    intro n f h _
    rcases Nat.eq_zero_or_pos n with z | z
    · omega
    · exact absurd (h 0 z) (by omega)
  | succ m ih =>
    intro n f h hi
    by_cases c : ∃ i, i < n ∧ f i = m
    · obtain ⟨i0, hi0, e0⟩ := c
      have t := ih (n - 1) (fun i => if i < i0 then f i else f (i + 1)) ?_ ?_
      · omega
      · intro i hn
        split
        · rename_i l
          have t1 := h i (by omega)
          have t2 : f i ≠ m := fun e => absurd (hi i i0 (by omega) hi0 (by rw [e, e0])) (by omega)
          omega
        · rename_i l
          have t1 := h (i + 1) (by omega)
          have t2 : f (i + 1) ≠ m := fun e => absurd (hi (i + 1) i0 (by omega) hi0 (by rw [e, e0])) (by omega)
          omega
      · intro i j h1 h2 e
        split at e
        · split at e
          · exact hi i j (by omega) (by omega) e
          · have t := hi i (j + 1) (by omega) (by omega) e
            omega
        · split at e
          · have t := hi (i + 1) j (by omega) (by omega) e
            omega
          · have t := hi (i + 1) (j + 1) (by omega) (by omega) e
            omega
    · have t := ih n f (fun i hn => by
        have t1 := h i hn
        have t2 : f i ≠ m := fun e => c ⟨i, hn, e⟩
        omega) hi
      omega
/-- the length of the first k roads of p -/
def yk_sm (E : Nat → Nat → Nat) (p : Nat → Nat) : Nat → Nat
  | 0 => 0
  | k + 1 => yk_sm E p k + E (p k) (p (k + 1))
/-- the law's code of a way, its first k digits -/
def yk_cd (p : Nat → Nat) (n : Nat) : Nat → Nat
  | 0 => 0
  | k + 1 => yk_cd p n k * 7 + if k < n then p k + 1 else 0
def yk_key (E : Nat → Nat → Nat) (p : Nat → Nat) (n : Nat) : Nat := yk_sm E p (n - 1) * 1000000 + yk_cd p n 6
/-- a way from s to t: n places, all different, a road from each to the next -/
def yk_V (E : Nat → Nat → Nat) (s t : Nat) (p : Nat → Nat) (n : Nat) : Prop := 2 ≤ n ∧ n ≤ 6 ∧ p 0 = s ∧ p (n - 1) = t ∧ (∀ i, i < n → p i < 6) ∧ (∀ i j, i < n → j < n → p i = p j → i = j) ∧ ∀ j, j + 1 < n → 0 < E (p j) (p (j + 1))
theorem yk_sm_congr (E : Nat → Nat → Nat) {p q : Nat → Nat} (k : Nat) (h : ∀ j, j ≤ k → p j = q j) : yk_sm E p k = yk_sm E q k := by
  induction k with
  | zero => rfl
  | succ k ih =>
    show yk_sm E p k + E (p k) (p (k + 1)) = yk_sm E q k + E (q k) (q (k + 1))
    rw [ih (fun j hj => h j (by omega)), h k (by omega), h (k + 1) (by omega)]
theorem yk_sm_le {E : Nat → Nat → Nat} (hE : ∀ a b, a < 6 → b < 6 → E a b ≤ 20) (p : Nat → Nat) (k : Nat) (h : ∀ j, j ≤ k → p j < 6) : yk_sm E p k ≤ 20 * k := by
  induction k with
  | zero => exact Nat.le_refl _
  | succ k ih =>
    show yk_sm E p k + E (p k) (p (k + 1)) ≤ _
    have t1 := ih (fun j hj => h j (by omega))
    have t2 := hE (p k) (p (k + 1)) (h k (by omega)) (h (k + 1) (by omega))
    omega
theorem yk_sm_pos {E : Nat → Nat → Nat} {s t : Nat} {p : Nat → Nat} {n : Nat} (h : yk_V E s t p n) : 1 ≤ yk_sm E p (n - 1) := by
  obtain ⟨h2, _, _, _, _, _, hr⟩ := h
  have e : n - 1 = (n - 2) + 1 := by omega
  rw [e]
  show 1 ≤ yk_sm E p (n - 2) + E (p (n - 2)) (p (n - 2 + 1))
  have t := hr (n - 2) (by omega)
  omega
theorem yk_cd_lt {p : Nat → Nat} {n : Nat} (h : ∀ j, j < n → p j < 6) (k : Nat) : yk_cd p n k < 7 ^ k := by
  induction k with
  | zero => exact Nat.one_pos
  | succ k ih =>
    show yk_cd p n k * 7 + (if k < n then p k + 1 else 0) < 7 ^ (k + 1)
    rw [Nat.pow_succ]
    split
    · rename_i z
      have t := h k z
      omega
    · omega
theorem yk_cd_6 {p : Nat → Nat} {n : Nat} (h : ∀ j, j < n → p j < 6) : yk_cd p n 6 < 1000000 := Nat.lt_of_lt_of_le (yk_cd_lt h 6) (by decide)
theorem yk_cd_congr {p q : Nat → Nat} {n : Nat} (h : ∀ j, j < n → p j = q j) (k : Nat) : yk_cd p n k = yk_cd q n k := by
  induction k with
  | zero => rfl
  | succ k ih =>
    show yk_cd p n k * 7 + (if k < n then p k + 1 else 0) = yk_cd q n k * 7 + (if k < n then q k + 1 else 0)
    rw [ih]
    split
    · rename_i z
      rw [h k z]
    · rfl
theorem yk_cd_pre {p q : Nat → Nat} {n m : Nat} (k : Nat) (hn : k ≤ n) (hm : k ≤ m) (h : ∀ j, j < k → p j = q j) : yk_cd p n k = yk_cd q m k := by
  induction k with
  | zero => rfl
  | succ k ih =>
    show yk_cd p n k * 7 + (if k < n then p k + 1 else 0) = yk_cd q m k * 7 + (if k < m then q k + 1 else 0)
    rw [ih (by omega) (by omega) (fun j hj => h j (by omega)), if_pos (by omega), if_pos (by omega), h k (by omega)]
theorem yk_cd_cmp {p q : Nat → Nat} {n m j : Nat} (hp : ∀ i, i < n → p i < 6) (hn : j < n) (hm : j < m) (h : ∀ i, i < j → p i = q i) (hl : p j < q j) (k : Nat) : yk_cd p n (j + 1 + k) < yk_cd q m (j + 1 + k) := by
  induction k with
  | zero =>
    show yk_cd p n j * 7 + (if j < n then p j + 1 else 0) < yk_cd q m j * 7 + (if j < m then q j + 1 else 0)
    rw [yk_cd_pre (p := p) (q := q) (n := n) (m := m) j (by omega) (by omega) h, if_pos hn, if_pos hm]
    omega
  | succ k ih =>
    show yk_cd p n (j + 1 + k) * 7 + (if j + 1 + k < n then p (j + 1 + k) + 1 else 0) < yk_cd q m (j + 1 + k) * 7 + (if j + 1 + k < m then q (j + 1 + k) + 1 else 0)
    have b : (if j + 1 + k < n then p (j + 1 + k) + 1 else 0) < 7 := by
      split
      · rename_i z
        have t := hp (j + 1 + k) z
        omega
      · omega
    omega
theorem yk_cd_cmp6 {p q : Nat → Nat} {n m j : Nat} (hp : ∀ i, i < n → p i < 6) (hj : j < 6) (hn : j < n) (hm : j < m) (h : ∀ i, i < j → p i = q i) (hl : p j < q j) : yk_cd p n 6 < yk_cd q m 6 := by
  have t := yk_cd_cmp hp hn hm h hl (6 - (j + 1))
  rw [show j + 1 + (6 - (j + 1)) = 6 by omega] at t
  exact t
/-- two ways: the same, or there is a first place where they part -/
theorem yk_tri {E : Nat → Nat → Nat} {s t : Nat} {p q : Nat → Nat} {n m : Nat} (hp : yk_V E s t p n) (hq : yk_V E s t q m) : (n = m ∧ ∀ i, i < n → p i = q i) ∨ ∃ j, j < n ∧ j < m ∧ (∀ i, i < j → p i = q i) ∧ p j ≠ q j := by
  obtain ⟨d, d1, d2, d3⟩ := yk_fd p q (min n m)
  obtain ⟨p1, _, _, p4, _, p6, _⟩ := hp
  obtain ⟨q1, _, _, q4, _, q6, _⟩ := hq
  by_cases c : d < min n m
  · exact Or.inr ⟨d, by omega, by omega, d2, d3 c⟩
  · left
    have e : d = min n m := by omega
    rcases Nat.lt_trichotomy n m with z | z | z
    · have t1 := d2 (n - 1) (by omega)
      have t2 := q6 (n - 1) (m - 1) (by omega) (by omega) (by rw [← t1, p4, q4])
      omega
    · exact ⟨z, fun i hi => d2 i (by omega)⟩
    · have t1 := d2 (m - 1) (by omega)
      have t2 := p6 (m - 1) (n - 1) (by omega) (by omega) (by rw [t1, p4, q4])
      omega
theorem yk_key_congr (E : Nat → Nat → Nat) {p q : Nat → Nat} {n : Nat} (h0 : 1 ≤ n) (h : ∀ j, j < n → p j = q j) : yk_key E p n = yk_key E q n := by
  unfold yk_key
  rw [yk_sm_congr E (n - 1) (fun j hj => h j (by omega)), yk_cd_congr h]
/-- ways that part: which of them goes before -/
theorem yk_key_lt {E : Nat → Nat → Nat} {s t : Nat} {p q : Nat → Nat} {n m j : Nat} (hp : yk_V E s t p n) (hn : j < n) (hm : j < m) (h : ∀ i, i < j → p i = q i) (hs : yk_sm E p (n - 1) ≤ yk_sm E q (m - 1)) (hl : yk_sm E p (n - 1) < yk_sm E q (m - 1) ∨ p j < q j) : yk_key E p n < yk_key E q m := by
  unfold yk_key
  obtain ⟨_, p2, _, _, p5, _, _⟩ := hp
  have t := yk_cd_6 p5
  rcases Nat.lt_or_ge (yk_sm E p (n - 1)) (yk_sm E q (m - 1)) with z | z
  · omega
  · rcases hl with y | y
    · omega
    · have t2 := yk_cd_cmp6 p5 (by omega) hn hm h y
      have e : yk_sm E p (n - 1) = yk_sm E q (m - 1) := by omega
      rw [e]
      omega
theorem yk_key_inj {E : Nat → Nat → Nat} {s t : Nat} {p q : Nat → Nat} {n m : Nat} (hp : yk_V E s t p n) (hq : yk_V E s t q m) (h : yk_key E p n = yk_key E q m) : n = m ∧ ∀ i, i < n → p i = q i := by
  rcases yk_tri hp hq with z | ⟨j, j1, j2, j3, j4⟩
  · exact z
  · exfalso
    rcases Nat.lt_trichotomy (yk_sm E p (n - 1)) (yk_sm E q (m - 1)) with y | y | y
    · have t := yk_key_lt hp j1 j2 j3 (by omega) (Or.inl y)
      omega
    · rcases Nat.lt_or_ge (p j) (q j) with x | x
      · have t := yk_key_lt hp j1 j2 j3 (by omega) (Or.inr x)
        omega
      · have t := yk_key_lt hq j2 j1 (fun i hi => (j3 i hi).symm) (by omega) (Or.inr (by omega))
        omega
    · have t := yk_key_lt hq j2 j1 (fun i hi => (j3 i hi).symm) (by omega) (Or.inl y)
      omega
/-- the ways that begin as c does up to its place i, and do not go on to B there -/
def yk_S (E : Nat → Nat → Nat) (s t : Nat) (c : Nat → Nat) (i B : Nat) (q : Nat → Nat) (m : Nat) : Prop := yk_V E s t q m ∧ i + 1 < m ∧ (∀ j, j ≤ i → q j = c j) ∧ B.testBit (q (i + 1)) = false
/-- c is one of them, and none goes before it -/
def yk_M (E : Nat → Nat → Nat) (s t : Nat) (c : Nat → Nat) (n i B : Nat) : Prop := yk_S E s t c i B c n ∧ ∀ q m, yk_S E s t c i B q m → yk_key E c n ≤ yk_key E q m
/-- b is the best place to follow a -/
def yk_BN (E : Nat → Nat → Nat) (D : Nat → Nat) (N a b : Nat) : Prop := b < 6 ∧ 0 < E a b ∧ N.testBit b = false ∧ D b + E a b < 1048576 ∧ ∀ b', b' < 6 → 0 < E a b' → N.testBit b' = false → D b' + E a b' < 1048576 → D b + E a b < D b' + E a b' ∨ (D b + E a b = D b' + E a b' ∧ b ≤ b')
/-- the tail of any way that keeps off M is no shorter than the table says -/
theorem yk_tail {E : Nat → Nat → Nat} {M t : Nat} {D : Nat → Nat} {q : Nat → Nat} {m i : Nat} (hD : yk_OK (yk_F E M) t D) (hm : 1 ≤ m) (ht : q (m - 1) = t) (h6 : ∀ j, j < m → q j < 6) (hr : ∀ j, j + 1 < m → 0 < E (q j) (q (j + 1))) (ho : ∀ j, i ≤ j → j < m → M.testBit (q j) = false) (k : Nat) : ∀ j, j + k = m - 1 → i ≤ j → D (q j) + yk_sm E q j ≤ yk_sm E q (m - 1) := by
  induction k with
  | zero =>
    intro j hj _
    have e : j = m - 1 := by omega
    rw [e, ht, hD.1.1]
    omega
  | succ k ih =>
    intro j hj hi
    have t1 := ih (j + 1) (by omega) (by omega)
    have f : yk_F E M (q j) (q (j + 1)) = E (q j) (q (j + 1)) := by
      unfold yk_F
      rw [if_pos ⟨ho j hi (by omega), ho (j + 1) (by omega) (by omega)⟩]
    have t2 := hr j (by omega)
    have t3 := hD.2 (q j) (q (j + 1)) (h6 j (by omega)) (h6 (j + 1) (by omega)) (by omega)
    have t4 : yk_sm E q (j + 1) = yk_sm E q j + E (q j) (q (j + 1)) := rfl
    omega
/-- the way that takes the best place at every step goes before all others of its kind -/
theorem yk_min {E : Nat → Nat → Nat} {s t M i B n : Nat} {D c : Nat → Nat} (hE : ∀ a b, a < 6 → b < 6 → E a b ≤ 20) (hD : yk_OK (yk_F E M) t D) (hc : yk_V E s t c n) (hi : i + 1 < n) (hM : ∀ x, x < 6 → M.testBit x = true → ∃ j, j ≤ i ∧ c j = x) (hM' : ∀ j, j ≤ i → M.testBit (c j) = true)
    (hB0 : yk_BN E D (M ||| B) (c i) (c (i + 1))) (hB : ∀ j, i + 1 ≤ j → j + 1 < n → yk_BN E D M (c j) (c (j + 1))) (hq : ∀ j, i + 1 ≤ j → j < n → D (c j) + yk_sm E c j = yk_sm E c (n - 1)) : yk_M E s t c n i B := by
  have hb0 := hB0.2.2.1
  rw [Nat.testBit_or, Bool.or_eq_false_iff] at hb0
  refine ⟨⟨hc, hi, fun _ _ => rfl, hb0.2⟩, fun q m hS => ?_⟩
  obtain ⟨hV, hm, hpre, hbar⟩ := hS
  rcases yk_tri hc hV with ⟨e1, e2⟩ | ⟨j, j1, j2, j3, j4⟩
  · rw [← e1]
    exact Nat.le_of_eq (yk_key_congr E (by omega) e2)
  · have hij : i + 1 ≤ j := by
      rcases Nat.lt_or_ge i j with z | z
      · exact z
      · exact absurd (hpre j z).symm j4
    obtain ⟨q1, q2, q3, q4, q5, q6, q7⟩ := hV
    have off : ∀ x, i + 1 ≤ x → x < m → M.testBit (q x) = false := by
      intro x x1 x2
      cases hh : M.testBit (q x) with
      | false => rfl
      | true =>
        obtain ⟨y, y1, y2⟩ := hM (q x) (q5 x x2) hh
        have t1 := q6 y x (by omega) x2 (by rw [hpre y y1, y2])
        omega
    have tail := yk_tail hD (by omega) q4 q5 q7 off (m - 1 - j) j (by omega) hij
    obtain ⟨l, rfl⟩ : ∃ l, j = l + 1 := ⟨j - 1, by omega⟩
    have ea : c l = q l := j3 l (by omega)
    have es : yk_sm E c l = yk_sm E q l := yk_sm_congr E l (fun x hx => j3 x (by omega))
    have s1 : yk_sm E c (l + 1) = yk_sm E c l + E (c l) (c (l + 1)) := rfl
    have s2 : yk_sm E q (l + 1) = yk_sm E q l + E (q l) (q (l + 1)) := rfl
    have s3 := hq (l + 1) hij j1
    have s4 := yk_sm_le hE q (m - 1) (fun x hx => q5 x (by omega))
    have r := q7 l (by omega)
    have best : D (c (l + 1)) + E (c l) (c (l + 1)) < D (q (l + 1)) + E (c l) (q (l + 1)) ∨ (D (c (l + 1)) + E (c l) (c (l + 1)) = D (q (l + 1)) + E (c l) (q (l + 1)) ∧ c (l + 1) ≤ q (l + 1)) := by
      by_cases e : l = i
      · rw [e] at ea r s2 tail j2 ⊢
        refine hB0.2.2.2.2 (q (i + 1)) (q5 (i + 1) (by omega)) (by rw [ea]; exact r) ?_ (by rw [ea]; omega)
        rw [Nat.testBit_or, off (i + 1) (by omega) (by omega), hbar]
        rfl
      · exact (hB l (by omega) (by omega)).2.2.2.2 (q (l + 1)) (q5 (l + 1) (by omega)) (by rw [ea]; exact r) (off (l + 1) (by omega) (by omega)) (by rw [ea]; omega)
    rw [← ea] at s2
    refine Nat.le_of_lt (yk_key_lt hc j1 j2 j3 (by omega) ?_)
    rcases best with z | ⟨z1, z2⟩
    · exact Or.inl (by omega)
    · exact Or.inr (by omega)
end
section
/-! sets of places as ints; small stores -/
theorem yk_nf {x : Bool} (h : ¬ x = false) : x = true := by
  cases x
  · exact absurd rfl h
  · rfl
theorem yk_bit : ∀ M, M < 64 → ∀ a, a < 6 → (((nI M >>> (nI a &&& 31)) &&& 1) = 0 ↔ M.testBit a = false) := by decide +kernel
theorem yk_bit1 : ∀ M, M < 64 → ∀ a, a < 6 → (((nI M >>> (nI a &&& 31)) &&& 1) = 1 ↔ M.testBit a = true) := by decide +kernel
theorem yk_one : ∀ a, a < 6 → (1 : Int32) <<< (nI a &&& 31) = nI (2 ^ a) := by decide +kernel
theorem yk_orI (a b : Nat) : nI a ||| nI b = nI (a ||| b) := by
  apply Int32.toBitVec_inj.1
  show BitVec.ofNat 32 a ||| BitVec.ofNat 32 b = BitVec.ofNat 32 (a ||| b)
  apply BitVec.eq_of_getLsbD_eq
  intro i hi
  simp [hi]
theorem yk_andI (a b : Nat) : nI a &&& nI b = nI (a &&& b) := by
  apply Int32.toBitVec_inj.1
  show BitVec.ofNat 32 a &&& BitVec.ofNat 32 b = BitVec.ofNat 32 (a &&& b)
  apply BitVec.eq_of_getLsbD_eq
  intro i hi
  simp [hi]
theorem yk_orB (M : Nat) {a : Nat} (ha : a < 6) : nI M ||| ((1 : Int32) <<< (nI a &&& 31)) = nI (M ||| 2 ^ a) := by
  rw [yk_one a ha, yk_orI]
theorem yk_or64 {M B : Nat} (h : M < 64) (hB : B < 64) : M ||| B < 64 := Nat.or_lt_two_pow (n := 6) h hB
theorem yk_pw64 : ∀ a, a < 6 → 2 ^ a < 64 := by decide
theorem yk_tbo (M a x : Nat) : (M ||| 2 ^ a).testBit x = (M.testBit x || decide (a = x)) := by
  rw [Nat.testBit_or, Nat.testBit_two_pow]
theorem yk_b8 : ∀ n, n < 128 → (nI n).toInt8.toInt32 = nI n := by decide +kernel
theorem yk_s16 : ∀ n, n < 128 → (nI n).toInt16.toInt32 = nI n := by decide +kernel
theorem yk_nb {n : Nat} (h : n < 128) : vp_nar .byte (nI n) = nI n := by
  rw [vp_nar_byte, yk_b8 n h]
theorem yk_ix (a b : Nat) : nI a * 6 + nI b = nI (a * 6 + b) := by
  have h : nI a * nI 6 + nI b = nI (a * 6 + b) := by rw [pk_mul, nI_add]
  exact h
theorem yk_ixc {a b : Nat} (h : a * 6 + b < 2 ^ 31) : (nI a * 6 + nI b).toNatClampNeg = a * 6 + b := by
  rw [yk_ix, nI_clamp h]
/-- the roads of the state -/
def yk_G (E : Nat → Nat → Nat) (a1 : Nat → Int32) : Prop := (∀ a b, a < 6 → b < 6 → a1 (a * 6 + b) = nI (E a b) ∧ E a b ≤ 20) ∧ ∀ a, a < 6 → E a a = 0
theorem yk_Ge {E : Nat → Nat → Nat} {a1 : Nat → Int32} (h : yk_G E a1) {a b : Nat} (ha : a < 6) (hb : b < 6) : a1 (nI a * 6 + nI b).toNatClampNeg = nI (E a b) := by
  rw [yk_ixc (by omega)]
  exact (h.1 a b ha hb).1
theorem yk_G20 {E : Nat → Nat → Nat} {a1 : Nat → Int32} (h : yk_G E a1) : ∀ a b, a < 6 → b < 6 → E a b ≤ 20 := fun a b ha hb => (h.1 a b ha hb).2
/-- a row of six numbers -/
def yk_r6 (d : Nat → Nat) (a : Nat → Int32) : Prop := ∀ v, v < 6 → a v = nI (d v)
theorem yk_r6c {d : Nat → Nat} {a : Nat → Int32} (h : yk_r6 d a) {v : Nat} (hv : v < 6) : a (nI v).toNatClampNeg = nI (d v) := by
  rw [nI_clamp (by omega)]
  exact h v hv
theorem yk_F_pos {E : Nat → Nat → Nat} {M a b : Nat} (h : 0 < yk_F E M a b) : M.testBit a = false ∧ M.testBit b = false ∧ yk_F E M a b = E a b := by
  unfold yk_F at h ⊢
  split at h
  · rename_i c
    rw [if_pos c]
    exact ⟨c.1, c.2, rfl⟩
  · omega
theorem yk_F_eq {E : Nat → Nat → Nat} {M a b : Nat} (h1 : M.testBit a = false) (h2 : M.testBit b = false) : yk_F E M a b = E a b := by
  unfold yk_F
  rw [if_pos ⟨h1, h2⟩]
theorem yk_F_n1 {E : Nat → Nat → Nat} {M a b : Nat} (h1 : M.testBit a = true) : yk_F E M a b = 0 := by
  unfold yk_F
  rw [if_neg]
  rintro ⟨h, _⟩
  rw [h] at h1
  exact absurd h1 (by decide)
theorem yk_F_n2 {E : Nat → Nat → Nat} {M a b : Nat} (h1 : M.testBit b = true) : yk_F E M a b = 0 := by
  unfold yk_F
  rw [if_neg]
  rintro ⟨_, h⟩
  rw [h] at h1
  exact absurd h1 (by decide)
theorem yk_in {post : Int32 → Prop} {u : St2} {M a : Nat} (hM : M < 64) (ha : a < 6) (h0 : M.testBit a = false → post 0) (h1 : M.testBit a = true → post 1) : wpX_in post u (nI M) (nI a) :=
  ⟨fun z => h0 ((yk_bit M hM a ha).mp z), fun z => h1 (yk_nf (fun y => z ((yk_bit M hM a ha).mpr y)))⟩
theorem yk_isPlace {post : Int32 → Prop} {u : St2} {a : Nat} (ha : a < 6) (h : post 1) : wpX_isPlace post u (nI a) :=
  br_f (nI_pos (by omega)) (br_f (nI_ge (b := 6) ha (by decide)) h)
theorem yk_isPair {post : Int32 → Prop} {u : St2} {a b : Nat} (ha : a < 6) (hb : b < 6) (h0 : a = b → post 0) (h1 : a ≠ b → post 1) : wpX_isPair post u (nI a) (nI b) :=
  yk_isPlace ha (br_f (by decide) (yk_isPlace hb (br_f (by decide) (pk_eq a b h0 h1))))
theorem yk_road {post : Int32 → Prop} {E : Nat → Nat → Nat} {f1 f2 f3 f4 f5 : Int32} {a1 a2 a3 a4 a5 a6 a7 a8 a9 : Nat → Int32} {a b : Nat} (hG : yk_G E a1) (ha : a < 6) (hb : b < 6) (h0 : E a b = 0 → post (-1)) (h1 : a ≠ b → 0 < E a b → post (nI (E a b))) : wpX_road post (f1, f2, f3, f4, f5, a1, a2, a3, a4, a5, a6, a7, a8, a9) (nI a) (nI b) := by
  have h20 := yk_G20 hG a b ha hb
  unfold wpX_road
  refine yk_isPair ha hb (fun z => br_t rfl (h0 (by rw [z]; exact hG.2 b hb))) (fun z => br_f (by decide) ⟨pk_in (a * 6 + b) 36 (by omega) (yk_ix a b), pk_le (E a b) 0 (fun y => h0 (by omega)) (fun y => ⟨pk_in (a * 6 + b) 36 (by omega) (yk_ix a b), ?_⟩) (yk_Ge hG ha hb)⟩)
  rw [yk_Ge hG ha hb]
  exact h1 z y
end
section
/-! measure and bestNext, walked -/
section
variable {E : Nat → Nat → Nat} {f1 f2 f3 f4 f5 : Int32} {a1 a2 a3 a4 a5 a6 a7 a8 a9 : Nat → Int32} {M : Nat}
theorem yk_m52 {post : St1 → Prop} {J33 J42 : Int32 → (Nat → Int32) → (Nat → Int32) → (Nat → Int32) → (Nat → Int32) → (Nat → Int32) → (Nat → Int32) → (Nat → Int32) → (Nat → Int32) → (Nat → Int32) → Prop} {x3 : Int32} {a : Nat} {d : Nat → Nat} (hG : yk_G E a1) (hM : M < 64) (ha : a < 6) (hd : ∀ v, d v ≤ 1048576) (h9 : yk_r6 (yk_sw (yk_F E M) d (6 * a)) a9)
    (H : ∀ s, yk_r6 (yk_sw (yk_F E M) d (6 * (a + 1))) s → J42 (nI (a + 1)) a1 a2 a3 a4 a5 a6 a7 a8 s) : ∃ n, wX_measure_52 post J33 J42 (nI M) x3 (nI a) f1 f2 f3 f4 f5 n 0 a1 a2 a3 a4 a5 a6 a7 a8 a9 := by
  refine pk_loop (fun n i s => wX_measure_52 post J33 J42 (nI M) x3 (nI a) f1 f2 f3 f4 f5 n (nI i) a1 a2 a3 a4 a5 a6 a7 a8 s) (fun i s => yk_r6 (yk_sw (yk_F E M) d (6 * a + i)) s) 6 0 a9 (by omega) h9
    (fun n s h => pk_le 6 6 (fun _ => nm_r (nI_1 a) (H s h)) (fun z => absurd z (by omega))) ?_
  intro n i s hi h hw
  have hE : a1 (nI a * 6 + nI i).toNatClampNeg = nI (E a i) := yk_Ge hG ha hi
  have h20 := yk_G20 hG a i ha hi
  have e1 : (6 * a + i) / 6 = a := by omega
  have e2 : (6 * a + i) % 6 = i := by omega
  have b1 : yk_sw (yk_F E M) d (6 * a + i) a ≤ 1048576 := Nat.le_trans (by have t := yk_sw_anti (yk_F E M) d a 0 (6 * a + i); rw [Nat.zero_add] at t; exact t) (hd a)
  have b2 : yk_sw (yk_F E M) d (6 * a + i) i ≤ 1048576 := Nat.le_trans (by have t := yk_sw_anti (yk_F E M) d i 0 (6 * a + i); rw [Nat.zero_add] at t; exact t) (hd i)
  have hw' : ∀ s', yk_r6 (yk_rx (yk_F E M) (yk_sw (yk_F E M) d (6 * a + i)) a i) s' → wX_measure_52 post J33 J42 (nI M) x3 (nI a) f1 f2 f3 f4 f5 n (nI (i + 1)) a1 a2 a3 a4 a5 a6 a7 a8 s' := by
    intro s' hs'
    refine hw s' ?_
    show yk_r6 (yk_rx (yk_F E M) (yk_sw (yk_F E M) d (6 * a + i)) ((6 * a + i) / 6) ((6 * a + i) % 6)) s'
    rw [e1, e2]
    exact hs'
  generalize yk_sw (yk_F E M) d (6 * a + i) = d' at h b1 b2 hw'
  have keep : (yk_F E M a i = 0 ∨ d' a ≤ d' i + yk_F E M a i) → wX_measure_52 post J33 J42 (nI M) x3 (nI a) f1 f2 f3 f4 f5 n (nI (i + 1)) a1 a2 a3 a4 a5 a6 a7 a8 s := fun z => hw' s (fun v hv => by rw [yk_rx_0 _ _ _ _ z v]; exact h v hv)
  have hA : s (nI a).toNatClampNeg = nI (d' a) := yk_r6c h ha
  have hS : s (nI i).toNatClampNeg + a1 (nI a * 6 + nI i).toNatClampNeg = nI (d' i + E a i) := by rw [yk_r6c h hi, hE, nI_add]
  refine pk_le 6 i (fun z => absurd z (by omega)) (fun _ => ⟨pk_in (a * 6 + i) 36 (by omega) (yk_ix a i), pk_le (E a i) 0 (fun z => ?_) (fun z => ?_) hE⟩)
  · refine br_t rfl (nm_r (nI_1 i) (keep (Or.inl ?_)))
    unfold yk_F
    split <;> omega
  · refine yk_in hM ha (fun t1 => br_t rfl (yk_in hM hi (fun t2 => br_t rfl ?_) (fun t2 => br_f (by decide) ?_))) (fun t1 => br_f (by decide) ?_)
    · have eF : yk_F E M a i = E a i := yk_F_eq t1 t2
      refine br_f (by decide) ⟨pk_in i 6 hi, pk_in (a * 6 + i) 36 (by omega) (yk_ix a i), pk_in a 6 ha, pk_le (d' a) (d' i + E a i) (fun y => ?_) (fun y => ⟨pk_in i 6 hi, pk_in (a * 6 + i) 36 (by omega) (yk_ix a i), pk_in a 6 ha, ?_⟩) hA hS⟩
      · exact nm_r (nI_1 i) (keep (Or.inr (by rw [eF]; exact y)))
      · rw [hS, nI_clamp (show a < 2 ^ 31 by omega)]
        refine nm_e (nm_r (nI_1 i) (hw' _ (fun v hv => ?_)))
        by_cases e : v = a
        · rw [e, pk_us, yk_rx_1 _ _ _ _ (by rw [eF]; exact z) (by rw [eF]; exact y), eF]
        · rw [pk_un e, yk_rx_n _ _ _ _ _ e]
          exact h v hv
    · exact br_t rfl (nm_r (nI_1 i) (keep (Or.inl (yk_F_n2 t2))))
    · exact br_t rfl (nm_r (nI_1 i) (keep (Or.inl (yk_F_n1 t1))))
theorem yk_m42 {post : St1 → Prop} {J33 : Int32 → (Nat → Int32) → (Nat → Int32) → (Nat → Int32) → (Nat → Int32) → (Nat → Int32) → (Nat → Int32) → (Nat → Int32) → (Nat → Int32) → (Nat → Int32) → Prop} {k : Nat} {d : Nat → Nat} (hG : yk_G E a1) (hM : M < 64) (hd : ∀ v, d v ≤ 1048576) (h9 : yk_r6 d a9)
    (H : ∀ s, yk_r6 (yk_sw (yk_F E M) d 36) s → J33 (nI (k + 1)) a1 a2 a3 a4 a5 a6 a7 a8 s) : ∃ n, wX_measure_42 post J33 (nI M) (nI k) f1 f2 f3 f4 f5 n 0 a1 a2 a3 a4 a5 a6 a7 a8 a9 :=
  pk_loop (fun n i s => wX_measure_42 post J33 (nI M) (nI k) f1 f2 f3 f4 f5 n (nI i) a1 a2 a3 a4 a5 a6 a7 a8 s) (fun i s => yk_r6 (yk_sw (yk_F E M) d (6 * i)) s) 6 0 a9 (by omega) h9
    (fun n s h => pk_le 6 6 (fun _ => nm_r (nI_1 k) (H s h)) (fun z => absurd z (by omega)))
    (fun n i s hi h hw => pk_le 6 i (fun z => absurd z (by omega)) (fun _ => yk_m52 hG hM hi hd h hw))
theorem yk_m33 {post : St1 → Prop} {g : Nat} (hG : yk_G E a1) (hM : M < 64) (h9 : yk_r6 (yk_d0 g) a9)
    (H : ∀ s, yk_r6 (yk_it (yk_F E M) (yk_d0 g) 6) s → post (f1, f2, f3, f4, f5, a1, a2, a3, a4, a5, a6, a7, a8, s)) : ∃ n, wX_measure_33 post (nI M) f1 f2 f3 f4 f5 n 0 a1 a2 a3 a4 a5 a6 a7 a8 a9 :=
  pk_loop (fun n i s => wX_measure_33 post (nI M) f1 f2 f3 f4 f5 n (nI i) a1 a2 a3 a4 a5 a6 a7 a8 s) (fun i s => yk_r6 (yk_it (yk_F E M) (yk_d0 g) i) s) 6 0 a9 (by omega) h9
    (fun n s h => pk_le 6 6 (fun _ => H s h) (fun z => absurd z (by omega)))
    (fun n i s hi h hw => pk_le 6 i (fun z => absurd z (by omega)) (fun _ => yk_m42 hG hM (yk_K_it (yk_K_0 (yk_F E M) g) i).2.1 h hw))
theorem yk_measure {post : St1 → Prop} {g : Nat} (hG : yk_G E a1) (hM : M < 64) (hg : g < 6)
    (H : ∀ D s, yk_OK (yk_F E M) g D → yk_r6 D s → post (f1, f2, f3, f4, f5, a1, a2, a3, a4, a5, a6, a7, a8, s)) : wpX_measure post (f1, f2, f3, f4, f5, a1, a2, a3, a4, a5, a6, a7, a8, a9) (nI g) (nI M) := by
  refine pk_loop (fun n i s => wX_measure_2 post (nI g) (nI M) f1 f2 f3 f4 f5 n (nI i) a1 a2 a3 a4 a5 a6 a7 a8 s) (fun i s => ∀ v, v < i → s v = nI (yk_d0 g v)) 6 0 a9 (by omega) (fun v hv => absurd hv (by omega))
    (fun n s h => pk_le 6 6 (fun _ => yk_m33 hG hM h (fun s' h' => H _ s' (yk_bf _ g) h')) (fun z => absurd z (by omega))) ?_
  intro n i s hi h hw
  have ins : ∀ x : Int32, x = nI (yk_d0 g i) → ∀ v, v < i + 1 → upd s (nI i).toNatClampNeg x v = nI (yk_d0 g v) := by
    intro x hx v hv
    rw [nI_clamp (show i < 2 ^ 31 by omega)]
    by_cases e : v = i
    · rw [e, pk_us, hx]
    · rw [pk_un e]
      exact h v (by omega)
  refine pk_le 6 i (fun z => absurd z (by omega)) (fun _ => pk_eq i g (fun z => ⟨pk_in i 6 hi, nm_e (nm_r (nI_1 i) (hw _ (ins _ ?_)))⟩) (fun z => ⟨pk_in i 6 hi, nm_e (nm_r (nI_1 i) (hw _ (ins _ ?_)))⟩))
  · unfold yk_d0
    rw [if_pos z]
    rfl
  · unfold yk_d0
    rw [if_neg z]
    rfl
/-- the best of the places below i, if there is one -/
def yk_bn (E : Nat → Nat → Nat) (D : Nat → Nat) (N a i : Nat) (x y : Int32) : Prop :=
  (x = -1 ∧ y = nI 1048576 ∧ ∀ b, b < i → 0 < E a b → N.testBit b = false → 1048576 ≤ D b + E a b) ∨
  ∃ b, b < i ∧ x = nI b ∧ y = nI (D b + E a b) ∧ 0 < E a b ∧ N.testBit b = false ∧ D b + E a b < 1048576 ∧ ∀ b', b' < i → 0 < E a b' → N.testBit b' = false → D b' + E a b' < 1048576 → D b + E a b < D b' + E a b' ∨ (D b + E a b = D b' + E a b' ∧ b ≤ b')
theorem yk_bn_keep {D : Nat → Nat} {N a i : Nat} {x y : Int32} (h : yk_bn E D N a i x y) (hk : 0 < E a i → N.testBit i = false → 1048576 ≤ D i + E a i ∨ ∃ z, z < 1048576 ∧ y = nI z ∧ z ≤ D i + E a i) : yk_bn E D N a (i + 1) x y := by
  rcases h with ⟨h1, h2, h3⟩ | ⟨b, b1, b2, b3, b4, b5, b6, b7⟩
  · refine Or.inl ⟨h1, h2, fun b hb t1 t2 => ?_⟩
    by_cases e : b = i
    · rw [e] at t1 t2 ⊢
      rcases hk t1 t2 with z | ⟨z, z1, z2, z3⟩
      · exact z
      · rw [h2] at z2
        have t := (nI_eq (by decide) (by omega)).mp z2
        omega
    · exact h3 b (by omega) t1 t2
  · refine Or.inr ⟨b, by omega, b2, b3, b4, b5, b6, fun b' hb' t1 t2 t3 => ?_⟩
    by_cases e : b' = i
    · rw [e] at t1 t2 t3 ⊢
      rcases hk t1 t2 with z | ⟨z, z1, z2, z3⟩
      · omega
      · rw [b3] at z2
        have t := (nI_eq (by omega) (by omega)).mp z2
        omega
    · exact b7 b' (by omega) t1 t2 t3
theorem yk_bestNext {post : Int32 → Prop} {D : Nat → Nat} {N a : Nat} (hG : yk_G E a1) (hN : N < 64) (ha : a < 6) (hD : ∀ v, D v ≤ 1048576) (h9 : yk_r6 D a9)
    (h0 : (∀ b, b < 6 → 0 < E a b → N.testBit b = false → 1048576 ≤ D b + E a b) → post (-1)) (h1 : ∀ b, yk_BN E D N a b → post (nI b)) : wpX_bestNext post (f1, f2, f3, f4, f5, a1, a2, a3, a4, a5, a6, a7, a8, a9) (nI a) (nI N) := by
  refine pk_loop (σ := Int32 × Int32) (fun n i s => wX_bestNext_9 post (nI a) (nI N) f1 f2 f3 f4 f5 a1 a2 a3 a4 a5 a6 a7 a8 a9 n s.1 s.2 (nI i)) (fun i s => yk_bn E D N a i s.1 s.2) 6 0 (-1, 1048576) (by omega) (Or.inl ⟨rfl, rfl, fun b hb => absurd hb (by omega)⟩) ?_ ?_
  · rintro n ⟨x, y⟩ h
    refine pk_le 6 6 (fun _ => ?_) (fun z => absurd z (by omega))
    rcases h with ⟨e1, e2, e3⟩ | ⟨b, b1, b2, b3, b4, b5, b6, b7⟩
    · dsimp only at e1 ⊢
      rw [e1]
      exact h0 e3
    · dsimp only at b2 ⊢
      rw [b2]
      exact h1 b ⟨b1, b4, b5, b6, b7⟩
  · rintro n i ⟨x, y⟩ hi h hw
    dsimp only at h
    have hE : a1 (nI a * 6 + nI i).toNatClampNeg = nI (E a i) := yk_Ge hG ha hi
    have h20 := yk_G20 hG a i ha hi
    have hDi := hD i
    have h9i : a9 (nI i).toNatClampNeg = nI (D i) := yk_r6c h9 hi
    have hS : a9 (nI i).toNatClampNeg + a1 (nI a * 6 + nI i).toNatClampNeg = nI (D i + E a i) := by rw [h9i, hE, nI_add]
    have hy : ∃ z, z ≤ 1048576 ∧ y = nI z ∧ ((x = -1 ∧ z = 1048576) ∨ z < 1048576) := by
      rcases h with ⟨e1, e2, e3⟩ | ⟨b, b1, b2, b3, b4, b5, b6, b7⟩
      · exact ⟨1048576, by omega, e2, Or.inl ⟨e1, rfl⟩⟩
      · exact ⟨D b + E a b, by omega, b3, Or.inr b6⟩
    obtain ⟨z, z1, z2, z3⟩ := hy
    refine pk_le 6 i (fun t => absurd t (by omega)) (fun _ => ⟨pk_in (a * 6 + i) 36 (by omega) (yk_ix a i), pk_le (E a i) 0 (fun t => ?_) (fun t => ?_) hE⟩)
    · exact br_t rfl (nm_r (nI_1 i) (hw (x, y) (yk_bn_keep h (fun t1 _ => absurd t1 (by omega)))))
    · refine yk_in hN hi (fun t1 => br_t rfl ⟨pk_in i 6 hi, pk_le 1048576 (D i) (fun t2 => ?_) (fun t2 => ?_) rfl h9i⟩) (fun t1 => br_f (by decide) ?_)
      · exact br_t rfl (nm_r (nI_1 i) (hw (x, y) (yk_bn_keep h (fun _ _ => Or.inl (by omega)))))
      · refine br_f (by decide) ⟨pk_in i 6 hi, pk_in (a * 6 + i) 36 (by omega) (yk_ix a i), pk_le z (D i + E a i) (fun t3 => ?_) (fun t3 => ⟨pk_in i 6 hi, pk_in (a * 6 + i) 36 (by omega) (yk_ix a i), ?_⟩) z2 hS⟩
        · refine nm_r (nI_1 i) (hw (x, y) (yk_bn_keep h (fun _ _ => ?_)))
          rcases z3 with ⟨_, z4⟩ | z4
          · exact Or.inl (by omega)
          · exact Or.inr ⟨z, z4, z2, t3⟩
        · refine nm_r hS (nm_r (nI_1 i) (hw (nI i, nI (D i + E a i)) (Or.inr ⟨i, by omega, rfl, rfl, t, t1, by omega, fun b' hb' u1 u2 u3 => ?_⟩)))
          by_cases e : b' = i
          · rw [e]
            exact Or.inr ⟨rfl, Nat.le_refl _⟩
          · rcases h with ⟨e1, e2, e3⟩ | ⟨b, b1, b2, b3, b4, b5, b6, b7⟩
            · have v := e3 b' (by omega) u1 u2
              omega
            · rw [b3] at z2
              have v1 := (nI_eq (by omega) (by omega)).mp z2
              have v2 := b7 b' (by omega) u1 u2 u3
              left
              omega
      · refine br_t rfl (nm_r (nI_1 i) (hw (x, y) (yk_bn_keep h (fun _ t2 => ?_))))
        rw [t1] at t2
        exact absurd t2 (by decide)
end
end
section
/-! addCandidate: the way in the making, in plain numbers; then the walk -/
/-- the beginning of a way: its places up to number i -/
def yk_Pre (E : Nat → Nat → Nat) (s t : Nat) (p : Nat → Nat) (i : Nat) : Prop := p 0 = s ∧ (∀ j, j ≤ i → p j < 6 ∧ p j ≠ t) ∧ (∀ j j', j ≤ i → j' ≤ i → p j = p j' → j = j') ∧ ∀ j, j < i → 0 < E (p j) (p (j + 1))
/-- c: n places, as p up to number i, then always the best place -/
def yk_Ch (E : Nat → Nat → Nat) (D : Nat → Nat) (t M B i : Nat) (p c : Nat → Nat) (n : Nat) : Prop :=
  i + 1 ≤ n ∧ (∀ j, j ≤ i → c j = p j) ∧ (∀ j, j < n → c j < 6) ∧ (∀ j j', j < n → j' < n → c j = c j' → j = j') ∧ (∀ j, j + 1 < n → 0 < E (c j) (c (j + 1))) ∧
  (∀ j, i + 1 ≤ j → j < n → M.testBit (c j) = false ∧ D (c j) < 1048576) ∧ (i + 1 < n → yk_BN E D (M ||| B) (c i) (c (i + 1))) ∧
  ∀ j, i + 1 ≤ j → j + 1 < n → yk_BN E D M (c j) (c (j + 1)) ∧ D (c j) = D (c (j + 1)) + E (c j) (c (j + 1))
theorem yk_Ch_6 {E : Nat → Nat → Nat} {D p c : Nat → Nat} {t M B i n : Nat} (h : yk_Ch E D t M B i p c n) : n ≤ 6 := yk_pig 6 n c h.2.2.1 h.2.2.2.1
theorem yk_Ch_0 {E : Nat → Nat → Nat} {D p : Nat → Nat} {s t M B i : Nat} (h : yk_Pre E s t p i) : yk_Ch E D t M B i p p (i + 1) :=
  ⟨Nat.le_refl _, fun _ _ => rfl, fun j hj => (h.2.1 j (by omega)).1, fun j j' h1 h2 e => h.2.2.1 j j' (by omega) (by omega) e, fun j hj => h.2.2.2 j (by omega), fun j h1 h2 => absurd h2 (by omega), fun h1 => absurd h1 (by omega), fun j h1 h2 => absurd h2 (by omega)⟩
/-- distances fall along it -/
theorem yk_Ch_fall {E : Nat → Nat → Nat} {D p c : Nat → Nat} {t M B i n : Nat} (h : yk_Ch E D t M B i p c n) (k : Nat) : ∀ j, i + 1 ≤ j → j + k < n → D (c (j + k)) ≤ D (c j) := by
  induction k with
  | zero => exact fun j _ _ => Nat.le_refl _
  | succ k ih =>
    intro j h1 h2
    have t1 := ih j h1 (by omega)
    have t2 := (h.2.2.2.2.2.2.2 (j + k) (by omega) (by omega)).2
    have e : j + (k + 1) = j + k + 1 := rfl
    rw [e]
    omega
theorem yk_Ch_s {E : Nat → Nat → Nat} {D p c : Nat → Nat} {t M B i n b : Nat} (hD : yk_OK (yk_F E M) t D) (hM : ∀ j, j ≤ i → M.testBit (p j) = true) (h : yk_Ch E D t M B i p c n)
    (hb : (n = i + 1 ∧ yk_BN E D (M ||| B) (c i) b) ∨ (i + 1 < n ∧ c (n - 1) ≠ t ∧ yk_BN E D M (c (n - 1)) b)) : yk_Ch E D t M B i p (fun j => if j = n then b else c j) (n + 1) := by
  have hbM : M.testBit b = false := by
    rcases hb with ⟨_, h1⟩ | ⟨_, _, h1⟩
    · have t1 := h1.2.2.1
      rw [Nat.testBit_or, Bool.or_eq_false_iff] at t1
      exact t1.1
    · exact h1.2.2.1
  have hb6 : b < 6 := by
    rcases hb with ⟨_, h1⟩ | ⟨_, _, h1⟩
    · exact h1.1
    · exact h1.1
  have hE : 0 < E (c (n - 1)) b := by
    rcases hb with ⟨e, h1⟩ | ⟨_, _, h1⟩
    · rw [e]
      exact h1.2.1
    · exact h1.2.1
  have hl : D b < 1048576 := by
    rcases hb with ⟨_, h1⟩ | ⟨_, _, h1⟩
    · have t1 := h1.2.2.2.1
      omega
    · have t1 := h1.2.2.2.1
      omega
  have fall := fun k => yk_Ch_fall h k
  obtain ⟨c1, c2, c3, c4, c5, c6, c7, c8⟩ := h
  have heq : i + 1 < n → D (c (n - 1)) = D b + E (c (n - 1)) b := by
    intro hn
    rcases hb with ⟨e, _⟩ | ⟨_, h0, h1⟩
    · omega
    · have o := c6 (n - 1) (by omega) (by omega)
      obtain ⟨y, y1, y2, y3⟩ := hD.1.2.2 (c (n - 1)) (c3 (n - 1) (by omega)) h0 o.2
      obtain ⟨_, f2, f3⟩ := yk_F_pos y2
      rw [f3] at y2 y3
      have u1 := h1.2.2.2.2 y y1 y2 f2 (by omega)
      have u2 := hD.2 (c (n - 1)) b (c3 (n - 1) (by omega)) hb6 (by rw [yk_F_eq o.1 hbM]; exact hE)
      rw [yk_F_eq o.1 hbM] at u2
      omega
  have hnew : ∀ j, j < n → c j ≠ b := by
    intro j hj e
    rcases Nat.lt_or_ge i j with z | z
    · have t1 := fall (n - 1 - j) j z (by omega)
      rw [show j + (n - 1 - j) = n - 1 by omega, e] at t1
      have t2 := heq (by omega)
      omega
    · have t1 := hM j z
      rw [← c2 j z, e, hbM] at t1
      exact absurd t1 (by decide)
  have ne : ∀ j, j < n → (if j = n then b else c j) = c j := fun j hj => if_neg (by omega)
  have ee : (if n = n then b else c n) = b := if_pos rfl
  refine ⟨by omega, fun j hj => ?_, fun j hj => ?_, fun j j' h1 h2 e => ?_, fun j hj => ?_, fun j h1 h2 => ?_, fun h1 => ?_, fun j h1 h2 => ?_⟩
  · show (if j = n then b else c j) = p j
    rw [ne j (by omega)]
    exact c2 j hj
  · show (if j = n then b else c j) < 6
    by_cases z : j = n
    · rw [if_pos z]
      exact hb6
    · rw [if_neg z]
      exact c3 j (by omega)
  · have e' : (if j = n then b else c j) = (if j' = n then b else c j') := e
    by_cases z : j = n
    · by_cases z' : j' = n
      · omega
      · rw [if_pos z, if_neg z'] at e'
        exact absurd e'.symm (hnew j' (by omega))
    · by_cases z' : j' = n
      · rw [if_neg z, if_pos z'] at e'
        exact absurd e' (hnew j (by omega))
      · rw [if_neg z, if_neg z'] at e'
        exact c4 j j' (by omega) (by omega) e'
  · show 0 < E (if j = n then b else c j) (if j + 1 = n then b else c (j + 1))
    rw [ne j (by omega)]
    by_cases z : j + 1 = n
    · rw [if_pos z, show j = n - 1 by omega]
      exact hE
    · rw [if_neg z]
      exact c5 j (by omega)
  · show M.testBit (if j = n then b else c j) = false ∧ D (if j = n then b else c j) < 1048576
    by_cases z : j = n
    · rw [if_pos z]
      exact ⟨hbM, hl⟩
    · rw [if_neg z]
      exact c6 j h1 (by omega)
  · show yk_BN E D (M ||| B) (if i = n then b else c i) (if i + 1 = n then b else c (i + 1))
    rw [ne i (by omega)]
    by_cases z : i + 1 = n
    · rw [if_pos z]
      rcases hb with ⟨_, y⟩ | ⟨y, _⟩
      · exact y
      · omega
    · rw [if_neg z]
      exact c7 (by omega)
  · show yk_BN E D M (if j = n then b else c j) (if j + 1 = n then b else c (j + 1)) ∧ D (if j = n then b else c j) = D (if j + 1 = n then b else c (j + 1)) + E (if j = n then b else c j) (if j + 1 = n then b else c (j + 1))
    rw [ne j (by omega)]
    by_cases z : j + 1 = n
    · rw [if_pos z, show j = n - 1 by omega]
      rcases hb with ⟨y, _⟩ | ⟨y, _, y2⟩
      · omega
      · exact ⟨y2, heq y⟩
    · rw [if_neg z]
      exact c8 j h1 (by omega)
theorem yk_Ch_eq {E : Nat → Nat → Nat} {D p c : Nat → Nat} {t M B i n : Nat} (h : yk_Ch E D t M B i p c n) (ht : D (c (n - 1)) = 0) (k : Nat) : ∀ j, i + 1 ≤ j → j + k = n - 1 → D (c j) + yk_sm E c j = yk_sm E c (n - 1) := by
  induction k with
  | zero =>
    intro j _ hj
    rw [show j = n - 1 by omega, ht]
    omega
  | succ k ih =>
    intro j h1 h2
    have t1 := ih (j + 1) (by omega) (by omega)
    have t2 := (h.2.2.2.2.2.2.2 j h1 (by omega)).2
    have t3 : yk_sm E c (j + 1) = yk_sm E c j + E (c j) (c (j + 1)) := rfl
    omega
theorem yk_Ch_M {E : Nat → Nat → Nat} {D p c : Nat → Nat} {s t M B i n : Nat} (hE : ∀ a b, a < 6 → b < 6 → E a b ≤ 20) (hP : yk_Pre E s t p i) (hD : yk_OK (yk_F E M) t D) (hM : ∀ x, M.testBit x = true ↔ ∃ j, j < i + 1 ∧ p j = x) (h : yk_Ch E D t M B i p c n) (hn : i + 1 < n) (ht : c (n - 1) = t) : yk_M E s t c n i B := by
  have h6 := yk_Ch_6 h
  have q := yk_Ch_eq h (by rw [ht]; exact hD.1.1)
  obtain ⟨c1, c2, c3, c4, c5, c6, c7, c8⟩ := h
  refine yk_min hE hD ⟨by omega, h6, by rw [c2 0 (by omega)]; exact hP.1, ht, c3, c4, c5⟩ hn (fun x _ hx => ?_) (fun j hj => ?_) (c7 hn) (fun j h1 h2 => (c8 j h1 h2).1) (fun j h1 h2 => q (n - 1 - j) j h1 (by omega))
  · obtain ⟨j, j1, j2⟩ := (hM x).mp hx
    exact ⟨j, by omega, by rw [c2 j (by omega)]; exact j2⟩
  · exact (hM (c j)).mpr ⟨j, by omega, (c2 j hj).symm⟩
section
variable {E : Nat → Nat → Nat} {f1 f2 f3 f5 : Int32} {a1 a2 a3 a4 a5 a6 a7 a8 a9 : Nat → Int32} {M B W i w s t : Nat} {D p : Nat → Nat}
theorem yk_a275 {post : St1 → Prop} {b2 : Nat → Int32} {n l : Nat} (hW : W < 66) (hi : i < 128) (hB : B < 128) (hn : n < 128) (hl : l < 128) (H : post (f1, f2, f3, nI (W + 1), f5, a1, b2, upd a3 W (nI n), upd a4 W (nI l), upd a5 W (nI i), upd a6 W (nI B), upd a7 W (-1), a8, a9)) :
    wX_addCandidate_275 post (nI i) (nI B) (nI W) (nI l) (nI n) f1 f2 f3 (nI W) f5 a1 b2 a3 a4 a5 a6 a7 a8 a9 := by
  have e : (nI W).toNatClampNeg = W := nI_clamp (by omega)
  refine ⟨pk_in W 66 hW, nm_r (by rw [e, yk_b8 n hn]) ⟨pk_in W 66 hW, nm_r (by rw [e, yk_s16 l hl]) ⟨pk_in W 66 hW, nm_r (by rw [e, yk_b8 i hi]) ⟨pk_in W 66 hW, nm_r (by rw [e, yk_b8 B hB]) ⟨pk_in W 66 hW, nm_r (by rw [e]) (nm_r (nI_1 W) H)⟩⟩⟩⟩⟩
theorem yk_a193 {post : St1 → Prop} (hG : yk_G E a1) (ht : t < 6) (hP : yk_Pre E s t p i) (hi : i ≤ 4) (hM : M < 64) (hB : B < 64) (hW : W < 66) (hD : yk_OK (yk_F E M) t D) (hMp : ∀ x, M.testBit x = true ↔ ∃ j, j < i + 1 ∧ p j = x) (h9 : yk_r6 D a9)
    (H : ∀ c n b2, yk_M E s t c n i B → (∀ j, j ≤ i → c j = p j) → (∀ j, j < n → b2 (W * 6 + j) = nI (c j)) → (∀ x, x < W * 6 ∨ W * 6 + 6 ≤ x → b2 x = a2 x) → post (f1, f2, nI t, nI (W + 1), f5, a1, b2, upd a3 W (nI n), upd a4 W (nI (yk_sm E c (n - 1))), upd a5 W (nI i), upd a6 W (nI B), upd a7 W (-1), a8, a9)) :
    ∀ (f st : Nat) (c : Nat → Nat) (nx : Int32) (b2 : Nat → Int32), yk_Ch E D t M B i p c (i + 1 + st) → (∀ j, j < i + 1 + st → b2 (W * 6 + j) = nI (c j)) → (∀ x, x < W * 6 ∨ W * 6 + 6 ≤ x → b2 x = a2 x) →
      ((nx = -1 ∧ 0 < st ∧ c (i + st) = t) ∨ ∃ b, nx = nI b ∧ ((st = 0 ∧ yk_BN E D (M ||| B) (c i) b) ∨ (0 < st ∧ c (i + st) ≠ t ∧ yk_BN E D M (c (i + st)) b))) → 7 ≤ f + st →
      wX_addCandidate_193 post (nI i) (nI B) (nI M) (nI W) f1 f2 (nI t) (nI W) f5 f (nI (c (i + st))) nx (nI (yk_sm E c (i + st))) (nI (i + 1 + st)) (nI st) a1 b2 a3 a4 a5 a6 a7 a8 a9 := by
  intro f
  induction f with
  | zero =>
    intro st c nx b2 hc _ _ _ hf
    have t1 := yk_Ch_6 hc
    omega
  | succ f ih =>
    intro st c nx b2 hc r1 r2 hx hf
    have t6 := yk_Ch_6 hc
    have e0 : i + 1 + st - 1 = i + st := by omega
    refine pk_le 6 st (fun z => absurd z (by omega)) (fun _ => ?_)
    rcases hx with ⟨hx, h0, hl⟩ | ⟨b, hx, hb⟩
    · rw [hx]
      refine br_t (by decide) ?_
      have hm : yk_M E s t c (i + 1 + st) i B := yk_Ch_M (yk_G20 hG) hP hD hMp hc (by omega) (by rw [e0]; exact hl)
      have hs := yk_sm_le (yk_G20 hG) c (i + st) (fun j hj => hc.2.2.1 j (by omega))
      refine yk_a275 hW (by omega) (by omega) (by omega) (by omega) ?_
      have hh := H c (i + 1 + st) b2 hm hc.2.1 r1 r2
      rw [e0] at hh
      exact hh
    · rw [hx]
      have hb' : (i + 1 + st = i + 1 ∧ yk_BN E D (M ||| B) (c i) b) ∨ (i + 1 < i + 1 + st ∧ c (i + 1 + st - 1) ≠ t ∧ yk_BN E D M (c (i + 1 + st - 1)) b) := by
        rcases hb with ⟨y1, y2⟩ | ⟨y1, y2, y3⟩
        · exact Or.inl ⟨by omega, y2⟩
        · rw [e0]
          exact Or.inr ⟨by omega, y2, y3⟩
      have hc' := yk_Ch_s hD (fun j hj => (hMp (p j)).mpr ⟨j, by omega, rfl⟩) hc hb'
      have hn := yk_Ch_6 hc'
      have hb6 : b < 6 := by
        rcases hb with ⟨y1, y2⟩ | ⟨y1, y2, y3⟩
        · exact y2.1
        · exact y3.1
      have hc6 : c (i + st) < 6 := hc.2.2.1 (i + st) (by omega)
      have hE20 := yk_G20 hG (c (i + st)) b hc6 hb6
      have hs := yk_sm_le (yk_G20 hG) c (i + st) (fun j hj => hc.2.2.1 j (by omega))
      -- the new way
      generalize hcc : (fun j => if j = i + 1 + st then b else c j) = c' at hc'
      have v1 : c' (i + (st + 1)) = b := by
        rw [← hcc]
        show (if i + (st + 1) = i + 1 + st then b else c (i + (st + 1))) = b
        rw [if_pos (by omega)]
      have v2 : ∀ j, j < i + 1 + st → c' j = c j := by
        intro j hj
        rw [← hcc]
        show (if j = i + 1 + st then b else c j) = c j
        rw [if_neg (by omega)]
      have v3 : yk_sm E c' (i + (st + 1)) = yk_sm E c (i + st) + E (c (i + st)) b := by
        show yk_sm E c' (i + st) + E (c' (i + st)) (c' (i + (st + 1))) = _
        rw [v1, v2 (i + st) (by omega), yk_sm_congr E (i + st) (fun j hj => v2 j (by omega))]
      have v4 : i + 1 + (st + 1) = i + 1 + st + 1 := rfl
      have q1 : ∀ j, j < i + 1 + (st + 1) → upd b2 (W * 6 + (i + 1 + st)) (nI b) (W * 6 + j) = nI (c' j) := by
        intro j hj
        by_cases z : j = i + 1 + st
        · rw [z, pk_us, show i + 1 + st = i + (st + 1) by omega, v1]
        · rw [pk_un (by omega), v2 j (by omega)]
          exact r1 j (by omega)
      have q2 : ∀ x, x < W * 6 ∨ W * 6 + 6 ≤ x → upd b2 (W * 6 + (i + 1 + st)) (nI b) x = a2 x := by
        intro x hx
        rw [pk_un (by omega)]
        exact r2 x hx
      have key : ∀ nx', ((nx' = -1 ∧ 0 < st + 1 ∧ c' (i + (st + 1)) = t) ∨ ∃ b', nx' = nI b' ∧ ((st + 1 = 0 ∧ yk_BN E D (M ||| B) (c' i) b') ∨ (0 < st + 1 ∧ c' (i + (st + 1)) ≠ t ∧ yk_BN E D M (c' (i + (st + 1))) b'))) →
          wX_addCandidate_193 post (nI i) (nI B) (nI M) (nI W) f1 f2 (nI t) (nI W) f5 f (nI b) nx' (nI (yk_sm E c (i + st) + E (c (i + st)) b)) (nI (i + 1 + st + 1)) (nI (st + 1)) a1 (upd b2 (W * 6 + (i + 1 + st)) (nI b)) a3 a4 a5 a6 a7 a8 a9 := by
        intro nx' hx'
        have g := ih (st + 1) c' nx' (upd b2 (W * 6 + (i + 1 + st)) (nI b)) hc' q1 q2 hx' (by omega)
        rw [v1, v3, v4] at g
        exact g
      refine br_f (nI_pos (by omega)) ⟨pk_in (c (i + st) * 6 + b) 36 (by omega) (yk_ix _ _), nm_r (show nI (yk_sm E c (i + st)) + a1 (nI (c (i + st)) * 6 + nI b).toNatClampNeg = nI (yk_sm E c (i + st) + E (c (i + st)) b) by rw [yk_Ge hG hc6 hb6, nI_add]) ⟨pk_in (W * 6 + (i + 1 + st)) 396 (by omega) (yk_ix _ _), nm_r (show upd b2 (nI W * 6 + nI (i + 1 + st)).toNatClampNeg (nI b).toInt8.toInt32 = upd b2 (W * 6 + (i + 1 + st)) (nI b) by rw [yk_ixc (by omega), yk_b8 b (by omega)]) (nm_r (nI_1 _) (pk_eq b t (fun z => ?_) (fun z => ?_)))⟩⟩
      · exact nm_r (nI_1 st) (key (-1) (Or.inl ⟨rfl, by omega, by rw [v1]; exact z⟩))
      · refine yk_bestNext hG hM hb6 hD.1.2.1 h9 (fun y => ?_) (fun b' hb' => nm_r (nI_1 st) (key (nI b') (Or.inr ⟨b', rfl, Or.inr ⟨by omega, by rw [v1]; exact z, by rw [v1]; exact hb'⟩⟩)))
        have o := hc'.2.2.2.2.2.1 (i + (st + 1)) (by omega) (by omega)
        rw [v1] at o
        obtain ⟨x, x1, x2, x3⟩ := hD.1.2.2 b hb6 z o.2
        obtain ⟨_, g2, g3⟩ := yk_F_pos x2
        rw [g3] at x2 x3
        have u := y x x1 x2 g2
        omega
theorem yk_a99 {post : St1 → Prop} {nx : Int32} (hG : yk_G E a1) (ht : t < 6) (hP : yk_Pre E s t p i) (hi : i ≤ 4) (hw : w < 66) (hM : M < 64) (hB : B < 64) (hW : W < 66) (hD : yk_OK (yk_F E M) t D) (hMp : ∀ x, M.testBit x = true ↔ ∃ j, j < i + 1 ∧ p j = x) (h9 : yk_r6 D a9) (hp : ∀ j, j ≤ i → a2 (w * 6 + j) = nI (p j))
    (hx : ∃ b, nx = nI b ∧ yk_BN E D (M ||| B) (p i) b)
    (H : ∀ c n b2, yk_M E s t c n i B → (∀ j, j ≤ i → c j = p j) → (∀ j, j < n → b2 (W * 6 + j) = nI (c j)) → (∀ x, x < W * 6 ∨ W * 6 + 6 ≤ x → b2 x = a2 x) → post (f1, f2, nI t, nI (W + 1), f5, a1, b2, upd a3 W (nI n), upd a4 W (nI (yk_sm E c (n - 1))), upd a5 W (nI i), upd a6 W (nI B), upd a7 W (-1), a8, a9)) :
    ∃ n, wX_addCandidate_99 post (nI w) (nI i) (nI B) (nI M) (nI (p i)) nx (nI W) f1 f2 (nI t) (nI W) f5 n 0 0 a1 a2 a3 a4 a5 a6 a7 a8 a9 := by
  refine pk_loop (σ := Int32 × (Nat → Int32)) (fun n k s => wX_addCandidate_99 post (nI w) (nI i) (nI B) (nI M) (nI (p i)) nx (nI W) f1 f2 (nI t) (nI W) f5 n s.1 (nI k) a1 s.2 a3 a4 a5 a6 a7 a8 a9)
    (fun k s => s.1 = nI (yk_sm E p (k - 1)) ∧ (∀ j, j < k → s.2 (W * 6 + j) = nI (p j)) ∧ (∀ j, j ≤ i → s.2 (w * 6 + j) = nI (p j)) ∧ (∀ x, x < W * 6 ∨ W * 6 + 6 ≤ x → s.2 x = a2 x)) (i + 1) 0 (0, a2) (by omega) ⟨rfl, fun j hj => absurd hj (by omega), hp, fun _ _ => rfl⟩ ?_ ?_
  · rintro n ⟨x8, b2⟩ ⟨h1, h2, h3, h4⟩
    dsimp only at h1 h2 h3 h4
    refine pk_lt i (i + 1) (fun _ => nm_r (nI_1 i) ⟨7, ?_⟩) (fun z => absurd z (by omega))
    rw [h1]
    obtain ⟨b, hb1, hb2⟩ := hx
    exact yk_a193 hG ht hP hi hM hB hW hD hMp h9 H 7 0 p nx b2 (yk_Ch_0 hP) h2 h4 (Or.inr ⟨b, hb1, Or.inl ⟨rfl, hb2⟩⟩) (by omega)
  · rintro n k ⟨x8, b2⟩ hk ⟨h1, h2, h3, h4⟩ hw'
    dsimp only at h1 h2 h3 h4
    have hpk := (hP.2.1 k (by omega)).1
    have e1 : (nI w * 6 + nI k).toNatClampNeg = w * 6 + k := yk_ixc (by omega)
    have e2 : (nI W * 6 + nI k).toNatClampNeg = W * 6 + k := yk_ixc (by omega)
    have e3 : upd b2 (nI W * 6 + nI k).toNatClampNeg (vp_nar .byte (b2 (nI w * 6 + nI k).toNatClampNeg)) = upd b2 (W * 6 + k) (nI (p k)) := by
      rw [e1, e2, h3 k (by omega), yk_nb (by omega)]
    have q1 : ∀ j, j < k + 1 → upd b2 (W * 6 + k) (nI (p k)) (W * 6 + j) = nI (p j) := by
      intro j hj
      by_cases z : j = k
      · rw [z, pk_us]
      · rw [pk_un (by omega)]
        exact h2 j (by omega)
    have q2 : ∀ j, j ≤ i → upd b2 (W * 6 + k) (nI (p k)) (w * 6 + j) = nI (p j) := by
      intro j hj
      by_cases z : w * 6 + j = W * 6 + k
      · rw [z, pk_us, show j = k by omega]
      · rw [pk_un z]
        exact h3 j hj
    have q3 : ∀ x, x < W * 6 ∨ W * 6 + 6 ≤ x → upd b2 (W * 6 + k) (nI (p k)) x = a2 x := by
      intro x hx
      rw [pk_un (by omega)]
      exact h4 x hx
    refine pk_lt i k (fun z => absurd z (by omega)) (fun _ => ⟨pk_in (w * 6 + k) 396 (by omega) (yk_ix _ _), pk_in (W * 6 + k) 396 (by omega) (yk_ix _ _), nm_r e3 (pk_le k 0 (fun z => ?_) (fun z => ?_))⟩)
    · refine nm_e (nm_r (nI_1 k) (hw' (x8 + 0, upd b2 (W * 6 + k) (nI (p k))) ⟨?_, q1, q2, q3⟩))
      show x8 + 0 = nI (yk_sm E p (k + 1 - 1))
      rw [h1, show k - 1 = k by omega, show k + 1 - 1 = k by omega]
      exact nI_add _ 0
    · obtain ⟨l, rfl⟩ : ∃ l, k = l + 1 := ⟨k - 1, by omega⟩
      have hpl := (hP.2.1 l (by omega)).1
      have g1 : nI w * 6 + nI (l + 1) - 1 = nI (w * 6 + l) := by
        rw [yk_ix]
        exact nI_pred _
      have g2 : (nI w * 6 + nI (l + 1) - 1).toNatClampNeg = w * 6 + l := by rw [g1, nI_clamp (by omega)]
      have g3 : upd b2 (W * 6 + (l + 1)) (nI (p (l + 1))) (nI w * 6 + nI (l + 1) - 1).toNatClampNeg = nI (p l) := by
        rw [g2]
        exact q2 l (by omega)
      have g4 : upd b2 (W * 6 + (l + 1)) (nI (p (l + 1))) (nI w * 6 + nI (l + 1)).toNatClampNeg = nI (p (l + 1)) := by
        rw [e1]
        exact q2 (l + 1) (by omega)
      rw [g3, g4]
      refine ⟨pk_in (w * 6 + l) 396 (by omega) g1, pk_in (w * 6 + (l + 1)) 396 (by omega) (yk_ix _ _), pk_in (p l * 6 + p (l + 1)) 36 (by omega) (yk_ix _ _), ?_⟩
      refine nm_e (nm_r (nI_1 _) (hw' (x8 + a1 (nI (p l) * 6 + nI (p (l + 1))).toNatClampNeg, upd b2 (W * 6 + (l + 1)) (nI (p (l + 1)))) ⟨?_, q1, q2, q3⟩))
      show x8 + a1 (nI (p l) * 6 + nI (p (l + 1))).toNatClampNeg = nI (yk_sm E p (l + 1 + 1 - 1))
      rw [h1, yk_Ge hG hpl hpk, nI_add]
      rfl
theorem yk_addC {post : St1 → Prop} (hG : yk_G E a1) (ht : t < 6) (hP : yk_Pre E s t p i) (hi : i ≤ 4) (hw : w < 66) (hB : B < 64) (hW : W ≤ 66) (hp : ∀ j, j ≤ i → a2 (w * 6 + j) = nI (p j))
    (H0 : ∀ s9, post (f1, f2, nI t, nI W, f5, a1, a2, a3, a4, a5, a6, a7, a8, s9))
    (H1 : ∀ c n b2 s9, W < 66 → yk_M E s t c n i B → (∀ j, j ≤ i → c j = p j) → (∀ j, j < n → b2 (W * 6 + j) = nI (c j)) → (∀ x, x < W * 6 ∨ W * 6 + 6 ≤ x → b2 x = a2 x) → post (f1, f2, nI t, nI (W + 1), f5, a1, b2, upd a3 W (nI n), upd a4 W (nI (yk_sm E c (n - 1))), upd a5 W (nI i), upd a6 W (nI B), upd a7 W (-1), a8, s9)) :
    wpX_addCandidate post (f1, f2, nI t, nI W, f5, a1, a2, a3, a4, a5, a6, a7, a8, a9) (nI w) (nI i) (nI B) := by
  refine pk_loop (fun n k s => wX_addCandidate_6 post (nI w) (nI i) (nI B) f1 f2 (nI t) (nI W) f5 a1 a2 a3 a4 a5 a6 a7 a8 a9 n s (nI k)) (fun k s => ∃ M, M < 64 ∧ s = nI M ∧ ∀ x, M.testBit x = true ↔ ∃ j, j < k ∧ p j = x) (i + 1) 0 0 (by omega) ⟨0, by omega, rfl, fun x => ?_⟩ ?_ ?_
  · rw [Nat.zero_testBit]
    exact ⟨fun z => absurd z (by decide), fun ⟨j, j1, _⟩ => absurd j1 (by omega)⟩
  · rintro n s ⟨M, hM, rfl, hMp⟩
    have e1 : (nI w * 6 + nI i).toNatClampNeg = w * 6 + i := yk_ixc (by omega)
    have hpi := (hP.2.1 i (by omega)).1
    refine pk_lt i (i + 1) (fun _ => ⟨pk_in (w * 6 + i) 396 (by omega) (yk_ix _ _), nm_r (by rw [e1, hp i (by omega)]) ?_⟩) (fun z => absurd z (by omega))
    refine yk_measure hG hM ht (fun D s9 hD h9 => ?_)
    rw [yk_orI]
    refine yk_bestNext hG (yk_or64 hM hB) hpi hD.1.2.1 h9 (fun _ => br_t (by decide) (H0 s9)) (fun b hb => br_f (nI_pos (by have t1 := hb.1; omega)) (pk_lt W 66 (fun z => ?_) (fun z => H0 s9)))
    exact yk_a99 hG ht hP hi hw hM hB z hD hMp h9 hp ⟨b, rfl, hb⟩ (fun c n b2 g1 g2 g3 g4 => H1 c n b2 s9 z g1 g2 g3 g4)
  · rintro n k s hk ⟨M, hM, rfl, hMp⟩ hw'
    have hpk := (hP.2.1 k (by omega)).1
    have e1 : (nI w * 6 + nI k).toNatClampNeg = w * 6 + k := yk_ixc (by omega)
    refine pk_lt i k (fun z => absurd z (by omega)) (fun _ => ⟨pk_in (w * 6 + k) 396 (by omega) (yk_ix _ _), nm_r (show nI M ||| ((1 : Int32) <<< (a2 (nI w * 6 + nI k).toNatClampNeg &&& 31)) = nI (M ||| 2 ^ p k) by rw [e1, hp k (by omega), yk_orB M hpk]) (nm_r (nI_1 k) (hw' _ ⟨M ||| 2 ^ p k, yk_or64 hM (yk_pw64 _ hpk), rfl, fun x => ?_⟩))⟩)
    rw [yk_tbo, Bool.or_eq_true, decide_eq_true_iff, hMp x]
    constructor
    · rintro (⟨j, j1, j2⟩ | z)
      · exact ⟨j, by omega, j2⟩
      · exact ⟨k, by omega, z⟩
    · rintro ⟨j, j1, j2⟩
      by_cases z : j = k
      · exact Or.inr (by rw [← z]; exact j2)
      · exact Or.inl ⟨j, by omega, j2⟩
end
end
section
/-! the pool of ways; goesBefore and bestCandidate, walked -/
/-- the arrays hold the ways below W: way w has the places P w, N w of them, parts at I w, keeps off B w there -/
def yk_Rep (E : Nat → Nat → Nat) (P : Nat → Nat → Nat) (N I B : Nat → Nat) (W : Nat) (a2 a3 a4 a5 a6 : Nat → Int32) : Prop :=
  ∀ w, w < W → (∀ j, j < N w → a2 (w * 6 + j) = nI (P w j)) ∧ a3 w = nI (N w) ∧ a4 w = nI (yk_sm E (P w) (N w - 1)) ∧ a5 w = nI (I w) ∧ a6 w = nI (B w)
/-- each is the least of its kind, no two candidates' kinds meet -/
def yk_Pool (E : Nat → Nat → Nat) (s t : Nat) (P : Nat → Nat → Nat) (N I B : Nat → Nat) (W : Nat) (a7 : Nat → Int32) : Prop :=
  (∀ w, w < W → yk_M E s t (P w) (N w) (I w) (B w) ∧ B w < 64 ∧ (a7 w = -1 ∨ ∃ r, r < 128 ∧ a7 w = nI r)) ∧
  ∀ w w', w < W → w' < W → w ≠ w' → a7 w = -1 → a7 w' = -1 → ∀ q m, yk_S E s t (P w) (I w) (B w) q m → ¬ yk_S E s t (P w') (I w') (B w') q m
theorem yk_S_self {E : Nat → Nat → Nat} {s t : Nat} {p q : Nat → Nat} {n m i i' B B' : Nat} (hp : yk_S E s t p i B p n) (hq : yk_S E s t q i' B' q m) (h : n = m ∧ ∀ j, j < n → p j = q j) : yk_S E s t q i' B' p n := by
  obtain ⟨e, h⟩ := h
  obtain ⟨p1, p2, p3, p4⟩ := hp
  obtain ⟨q1, q2, q3, q4⟩ := hq
  refine ⟨p1, by omega, fun j hj => h j (by omega), ?_⟩
  rw [h (i' + 1) (by omega)]
  exact q4
theorem yk_Pool_ne {E : Nat → Nat → Nat} {s t : Nat} {P : Nat → Nat → Nat} {N I B : Nat → Nat} {W : Nat} {a7 : Nat → Int32} (h : yk_Pool E s t P N I B W a7) {v w : Nat} (hv : v < W) (hw : w < W) (hn : v ≠ w) (cv : a7 v = -1) (cw : a7 w = -1) : ¬ (N v = N w ∧ ∀ j, j < N v → P v j = P w j) := fun e =>
  h.2 v w hv hw hn cv cw (P v) (N v) (h.1 v hv).1.1 (yk_S_self (h.1 v hv).1.1 (h.1 w hw).1.1 e)
section
variable {E : Nat → Nat → Nat} {f1 f2 f3 f4 f5 : Int32} {a1 a2 a3 a4 a5 a6 a7 a8 a9 : Nat → Int32} {s t : Nat}
theorem yk_gb {post : Int32 → Prop} {v w n m : Nat} {p q : Nat → Nat} (hE : ∀ a b, a < 6 → b < 6 → E a b ≤ 20) (hp : yk_V E s t p n) (hq : yk_V E s t q m) (hv : v < 66) (hw : w < 66) (r1 : ∀ j, j < n → a2 (v * 6 + j) = nI (p j)) (r2 : ∀ j, j < m → a2 (w * 6 + j) = nI (q j)) (l1 : a4 v = nI (yk_sm E p (n - 1))) (l2 : a4 w = nI (yk_sm E q (m - 1))) (hd : ¬ (n = m ∧ ∀ i, i < n → p i = q i))
    (h1 : yk_key E p n < yk_key E q m → post 1) (h0 : yk_key E q m < yk_key E p n → post 0) : wpX_goesBefore post (f1, f2, f3, f4, f5, a1, a2, a3, a4, a5, a6, a7, a8, a9) (nI v) (nI w) := by
  rcases yk_tri hp hq with z | ⟨j, j1, j2, j3, j4⟩
  · exact absurd z hd
  have b1 := yk_sm_le hE p (n - 1) (fun x hx => hp.2.2.2.2.1 x (by have t1 := hp.1; omega))
  have b2 := yk_sm_le hE q (m - 1) (fun x hx => hq.2.2.2.2.1 x (by have t1 := hq.1; omega))
  have n6 := hp.2.1
  have m6 := hq.2.1
  have j3' : ∀ i, i < j → q i = p i := fun i hi => (j3 i hi).symm
  have ev : a4 (nI v).toNatClampNeg = nI (yk_sm E p (n - 1)) := by rw [nI_clamp (by omega), l1]
  have ew : a4 (nI w).toNatClampNeg = nI (yk_sm E q (m - 1)) := by rw [nI_clamp (by omega), l2]
  have gv : ∀ i, i < n → a2 (nI v * 6 + nI i).toNatClampNeg = nI (p i) := fun i hi => by rw [yk_ixc (by omega), r1 i hi]
  have gw : ∀ i, i < m → a2 (nI w * 6 + nI i).toNatClampNeg = nI (q i) := fun i hi => by rw [yk_ixc (by omega), r2 i hi]
  have pj := hp.2.2.2.2.1 j j1
  have qj := hq.2.2.2.2.1 j j2
  refine ⟨pk_in v 66 hv, pk_in w 66 hw, pk_eq (yk_sm E p (n - 1)) (yk_sm E q (m - 1)) (fun z => ?_) (fun z => ⟨pk_in v 66 hv, pk_in w 66 hw, pk_le (yk_sm E q (m - 1)) (yk_sm E p (n - 1)) (fun y => h0 (yk_key_lt hq j2 j1 j3' (by omega) (Or.inl (by omega)))) (fun y => h1 (yk_key_lt hp j1 j2 j3 (by omega) (Or.inl (by omega)))) ew ev⟩) ev ew⟩
  refine pk_loop (σ := Unit) (fun k i _ => wX_goesBefore_38 post (nI v) (nI w) f1 f2 f3 f4 f5 a1 a2 a3 a4 a5 a6 a7 a8 a9 k (nI i)) (fun _ _ => True) j 0 () (by omega) trivial ?_ ?_
  · intro k _ _
    refine pk_le 6 j (fun y => absurd y (by omega)) (fun _ => ⟨pk_in (v * 6 + j) 396 (by omega) (yk_ix _ _), pk_in (w * 6 + j) 396 (by omega) (yk_ix _ _), pk_eq (p j) (q j) (fun y => absurd y j4) (fun _ => ⟨pk_in (v * 6 + j) 396 (by omega) (yk_ix _ _), pk_in (w * 6 + j) 396 (by omega) (yk_ix _ _), pk_le (q j) (p j) (fun y => h0 (yk_key_lt hq j2 j1 j3' (by omega) (Or.inr (by omega)))) (fun y => h1 (yk_key_lt hp j1 j2 j3 (by omega) (Or.inr (by omega)))) (gw j j2) (gv j j1)⟩) (gv j j1) (gw j j2)⟩)
  · intro k i _ hi _ hw'
    have pi6 := hp.2.2.2.2.1 i (by omega)
    have qi6 := hq.2.2.2.2.1 i (by omega)
    exact pk_le 6 i (fun y => absurd y (by omega)) (fun _ => ⟨pk_in (v * 6 + i) 396 (by omega) (yk_ix _ _), pk_in (w * 6 + i) 396 (by omega) (yk_ix _ _), pk_eq (p i) (q i) (fun _ => nm_r (nI_1 i) (hw' () trivial)) (fun y => absurd (j3 i hi) y) (gv i (by omega)) (gw i (by omega))⟩)
theorem yk_bestC {post : Int32 → Prop} {P : Nat → Nat → Nat} {N I B : Nat → Nat} {W : Nat} (hE : ∀ a b, a < 6 → b < 6 → E a b ≤ 20) (hW : W ≤ 66) (hR : yk_Rep E P N I B W a2 a3 a4 a5 a6) (hL : yk_Pool E s t P N I B W a7)
    (h0 : (∀ w, w < W → a7 w ≠ -1) → post (-1)) (h1 : ∀ b, b < W → a7 b = -1 → (∀ w, w < W → a7 w = -1 → w ≠ b → yk_key E (P b) (N b) < yk_key E (P w) (N w)) → post (nI b)) : wpX_bestCandidate post (f1, f2, f3, nI W, f5, a1, a2, a3, a4, a5, a6, a7, a8, a9) := by
  refine pk_loop (fun n k x => wX_bestCandidate_4 post f1 f2 f3 (nI W) f5 a1 a2 a3 a4 a5 a6 a7 a8 a9 n x (nI k)) (fun k x => (x = -1 ∧ ∀ w, w < k → a7 w ≠ -1) ∨ ∃ b, b < k ∧ x = nI b ∧ a7 b = -1 ∧ ∀ w, w < k → a7 w = -1 → w ≠ b → yk_key E (P b) (N b) < yk_key E (P w) (N w)) W 0 (-1) (by omega) (Or.inl ⟨rfl, fun w hw => absurd hw (by omega)⟩) ?_ ?_
  · rintro n x (⟨rfl, e⟩ | ⟨b, b1, rfl, b3, b4⟩)
    · exact pk_le W W (fun _ => h0 e) (fun z => absurd z (by omega))
    · exact pk_le W W (fun _ => h1 b b1 b3 b4) (fun z => absurd z (by omega))
  · intro n k x hk h hw
    have ek : a7 (nI k).toNatClampNeg = a7 k := by rw [nI_clamp (by omega)]
    refine pk_le W k (fun z => absurd z (by omega)) (fun _ => ⟨pk_in k 66 (by omega), ?_⟩)
    rw [ek]
    rcases (hL.1 k hk).2.2 with c | ⟨r, r1, r2⟩
    · rw [c]
      refine br_f (by decide) ?_
      rcases h with ⟨rfl, e⟩ | ⟨b, b1, rfl, b3, b4⟩
      · refine br_t (by decide) (nm_r (nI_1 k) (hw (nI k) (Or.inr ⟨k, by omega, rfl, c, fun w w1 w2 w3 => absurd w2 (e w (by omega))⟩)))
      · have rk := hR k hk
        have rb := hR b (by omega)
        refine br_f (nI_pos (by omega)) (yk_gb hE (hL.1 k hk).1.1.1 (hL.1 b (by omega)).1.1.1 (by omega) (by omega) rk.1 rb.1 rk.2.2.1 rb.2.2.1 (yk_Pool_ne hL hk (by omega) (by omega) c b3) (fun z => br_f (by decide) (nm_r (nI_1 k) (hw (nI k) (Or.inr ⟨k, by omega, rfl, c, fun w w1 w2 w3 => ?_⟩)))) (fun z => br_t rfl (nm_r (nI_1 k) (hw (nI b) (Or.inr ⟨b, by omega, rfl, b3, fun w w1 w2 w3 => ?_⟩)))))
        · by_cases y : w = b
          · rw [y]
            exact z
          · exact Nat.lt_trans z (b4 w (by omega) w2 y)
        · by_cases y : w = k
          · rw [y]
            exact z
          · exact b4 w (by omega) w2 w3
    · rw [r2]
      refine br_t (nI_pos' (by omega)) (nm_r (nI_1 k) (hw x ?_))
      have hnk : a7 k ≠ -1 := by
        rw [r2]
        intro z
        have t1 := nI_pos (n := r) (by omega)
        rw [z] at t1
        exact t1 (by decide)
      rcases h with ⟨rfl, e⟩ | ⟨b, b1, rfl, b3, b4⟩
      · refine Or.inl ⟨rfl, fun w w1 => ?_⟩
        by_cases y : w = k
        · rw [y]
          exact hnk
        · exact e w (by omega)
      · refine Or.inr ⟨b, by omega, rfl, b3, fun w w1 w2 w3 => ?_⟩
        by_cases y : w = k
        · rw [y] at w2
          exact absurd w2 hnk
        · exact b4 w (by omega) w2 w3
end
end
section
/-! rank: the pool grows, the list of ranked ways rises -/
/-- a new candidate enters the pool -/
theorem yk_add {E : Nat → Nat → Nat} {s t : Nat} {P : Nat → Nat → Nat} {N I B : Nat → Nat} {W : Nat} {a2 a3 a4 a5 a6 a7 b2 : Nat → Int32} {c : Nat → Nat} {n i b : Nat} (hR : yk_Rep E P N I B W a2 a3 a4 a5 a6) (hL : yk_Pool E s t P N I B W a7) (hM : yk_M E s t c n i b) (hb : b < 64)
    (r1 : ∀ j, j < n → b2 (W * 6 + j) = nI (c j)) (r2 : ∀ x, x < W * 6 ∨ W * 6 + 6 ≤ x → b2 x = a2 x) (hd : ∀ w, w < W → a7 w = -1 → ∀ q m, yk_S E s t (P w) (I w) (B w) q m → ¬ yk_S E s t c i b q m) :
    ∃ P' N' I' B', (∀ w, w < W → P' w = P w ∧ N' w = N w ∧ I' w = I w ∧ B' w = B w) ∧ (P' W = c ∧ N' W = n ∧ I' W = i ∧ B' W = b) ∧ yk_Rep E P' N' I' B' (W + 1) b2 (upd a3 W (nI n)) (upd a4 W (nI (yk_sm E c (n - 1)))) (upd a5 W (nI i)) (upd a6 W (nI b)) ∧ yk_Pool E s t P' N' I' B' (W + 1) (upd a7 W (-1)) := by
  have hP : ∃ P' : Nat → Nat → Nat, ∃ N' I' B' : Nat → Nat, (∀ w, w < W → P' w = P w ∧ N' w = N w ∧ I' w = I w ∧ B' w = B w) ∧ (P' W = c ∧ N' W = n ∧ I' W = i ∧ B' W = b) :=
    ⟨fun w => if w = W then c else P w, fun w => if w = W then n else N w, fun w => if w = W then i else I w, fun w => if w = W then b else B w, fun w hw => ⟨if_neg (by omega), if_neg (by omega), if_neg (by omega), if_neg (by omega)⟩, if_pos rfl, if_pos rfl, if_pos rfl, if_pos rfl⟩
  obtain ⟨P', N', I', B', o, e1, e2, e3, e4⟩ := hP
  refine ⟨P', N', I', B', o, ⟨e1, e2, e3, e4⟩, fun w hw => ?_, fun w hw => ?_, fun w w' hw hw' hn cw cw' q m => ?_⟩
  · by_cases z : w = W
    · rw [z, e1, e2, e3, e4, pk_us, pk_us, pk_us, pk_us]
      exact ⟨r1, rfl, rfl, rfl, rfl⟩
    · have hw' : w < W := by omega
      obtain ⟨o1, o2, o3, o4⟩ := o w hw'
      have n6 := (hL.1 w hw').1.1.1.2.1
      obtain ⟨g1, g2, g3, g4, g5⟩ := hR w hw'
      rw [o1, o2, o3, o4, pk_un z, pk_un z, pk_un z, pk_un z]
      exact ⟨fun j hj => by rw [r2 _ (Or.inl (by omega))]; exact g1 j hj, g2, g3, g4, g5⟩
  · by_cases z : w = W
    · rw [z, e1, e2, e3, e4, pk_us]
      exact ⟨hM, hb, Or.inl rfl⟩
    · obtain ⟨o1, o2, o3, o4⟩ := o w (by omega)
      rw [o1, o2, o3, o4, pk_un z]
      exact hL.1 w (by omega)
  · by_cases z : w = W
    · by_cases z' : w' = W
      · omega
      · obtain ⟨o1, o2, o3, o4⟩ := o w' (by omega)
        rw [z, e1, e3, e4, o1, o3, o4]
        rw [pk_un z'] at cw'
        exact fun x y => hd w' (by omega) cw' q m y x
    · obtain ⟨o1, o2, o3, o4⟩ := o w (by omega)
      rw [pk_un z] at cw
      by_cases z' : w' = W
      · rw [z', e1, e3, e4, o1, o3, o4]
        exact hd w (by omega) cw q m
      · obtain ⟨u1, u2, u3, u4⟩ := o w' (by omega)
        rw [pk_un z'] at cw'
        rw [o1, o3, o4, u1, u3, u4]
        exact hL.2 w w' (by omega) (by omega) hn cw cw' q m
/-- the list of ranked ways: their keys rise -/
def yk_Ls (E : Nat → Nat → Nat) (P : Nat → Nat → Nat) (N Q : Nat → Nat) (W R : Nat) (a8 : Nat → Int32) : Prop :=
  (∀ k, k < R → Q k < W ∧ a8 k = nI (Q k)) ∧ ∀ k, k + 1 < R → yk_key E (P (Q k)) (N (Q k)) < yk_key E (P (Q (k + 1))) (N (Q (k + 1)))
/-- what is left of the kind of way w when the parting at its places below i is done -/
def yk_Rem (E : Nat → Nat → Nat) (s t : Nat) (p : Nat → Nat) (iw bw i : Nat) (q : Nat → Nat) (m : Nat) : Prop := yk_V E s t q m ∧ i + 1 < m ∧ (∀ j, j ≤ i → q j = p j) ∧ (i = iw → bw.testBit (q (i + 1)) = false)
/-- inside the loop over the places of way w -/
def yk_In (E : Nat → Nat → Nat) (s t : Nat) (P : Nat → Nat → Nat) (N I B : Nat → Nat) (W : Nat) (a7 : Nat → Int32) (w i : Nat) : Prop :=
  w < W ∧ a7 w ≠ -1 ∧ I w ≤ i ∧ ∀ c, c < W → a7 c = -1 → yk_key E (P w) (N w) < yk_key E (P c) (N c) ∧ ∀ q m, yk_S E s t (P c) (I c) (B c) q m → ¬ yk_Rem E s t (P w) (I w) (B w) i q m
theorem yk_Rem_s {E : Nat → Nat → Nat} {s t : Nat} {p : Nat → Nat} {n iw bw i m : Nat} {q : Nat → Nat} (hp : yk_S E s t p iw bw p n) (hi : iw ≤ i) (h : yk_Rem E s t p iw bw (i + 1) q m) : yk_Rem E s t p iw bw i q m := by
  obtain ⟨h1, h2, h3, h4⟩ := h
  refine ⟨h1, by omega, fun j hj => h3 j (by omega), fun e => ?_⟩
  rw [h3 (i + 1) (by omega), e]
  exact hp.2.2.2
theorem yk_In_s {E : Nat → Nat → Nat} {s t : Nat} {P : Nat → Nat → Nat} {N I B : Nat → Nat} {W : Nat} {a7 : Nat → Int32} {w i : Nat} (hL : yk_Pool E s t P N I B W a7) (h : yk_In E s t P N I B W a7 w i) : yk_In E s t P N I B W a7 w (i + 1) := by
  obtain ⟨h1, h2, h3, h4⟩ := h
  exact ⟨h1, h2, by omega, fun c c1 c2 => ⟨(h4 c c1 c2).1, fun q m x y => (h4 c c1 c2).2 q m x (yk_Rem_s (hL.1 w h1).1.1 h3 y)⟩⟩
/-- the bars at place i of way w -/
def yk_bar (p : Nat → Nat) (iw bw i : Nat) : Nat := (if i = iw then bw else 0) ||| 2 ^ p (i + 1)
/-- the new kind lies in what is left -/
theorem yk_S_Rem {E : Nat → Nat → Nat} {s t : Nat} {p c : Nat → Nat} {iw bw i m : Nat} {q : Nat → Nat} (hc : ∀ j, j ≤ i → c j = p j) (h : yk_S E s t c i (yk_bar p iw bw i) q m) : yk_Rem E s t p iw bw i q m ∧ q (i + 1) ≠ p (i + 1) := by
  obtain ⟨h1, h2, h3, h4⟩ := h
  unfold yk_bar at h4
  rw [yk_tbo, Bool.or_eq_false_iff] at h4
  refine ⟨⟨h1, h2, fun j hj => by rw [h3 j hj, hc j hj], fun e => ?_⟩, fun e => ?_⟩
  · rw [if_pos e] at h4
    exact h4.1
  · exact absurd e.symm (of_decide_eq_false h4.2)
theorem yk_Rem_S {E : Nat → Nat → Nat} {s t : Nat} {p : Nat → Nat} {n iw bw i m : Nat} {q : Nat → Nat} (hp : yk_S E s t p iw bw p n) (hi : iw ≤ i) (h : yk_Rem E s t p iw bw i q m) : yk_S E s t p iw bw q m := by
  obtain ⟨h1, h2, h3, h4⟩ := h
  refine ⟨h1, by omega, fun j hj => h3 j (by omega), ?_⟩
  by_cases e : i = iw
  · have t1 := h4 e
    rw [e] at t1
    exact t1
  · rw [h3 (iw + 1) (by omega)]
    exact hp.2.2.2
/-- the step of the inner loop: the new candidate is behind w, and off what is left -/
theorem yk_In_add {E : Nat → Nat → Nat} {s t : Nat} {P : Nat → Nat → Nat} {N I B Q : Nat → Nat} {W R w i n : Nat} {a2 a3 a4 a5 a6 a7 a8 b2 : Nat → Int32} {c : Nat → Nat} (hR : yk_Rep E P N I B W a2 a3 a4 a5 a6) (hL : yk_Pool E s t P N I B W a7) (hI : yk_In E s t P N I B W a7 w i) (hS : yk_Ls E P N Q W R a8) (hi : i + 1 < N w)
    (hM : yk_M E s t c n i (yk_bar (P w) (I w) (B w) i)) (hc : ∀ j, j ≤ i → c j = P w j) (r1 : ∀ j, j < n → b2 (W * 6 + j) = nI (c j)) (r2 : ∀ x, x < W * 6 ∨ W * 6 + 6 ≤ x → b2 x = a2 x) :
    ∃ P' N' I' B', (P' w = P w ∧ N' w = N w ∧ I' w = I w ∧ B' w = B w) ∧ yk_Rep E P' N' I' B' (W + 1) b2 (upd a3 W (nI n)) (upd a4 W (nI (yk_sm E c (n - 1)))) (upd a5 W (nI i)) (upd a6 W (nI (yk_bar (P w) (I w) (B w) i))) ∧ yk_Pool E s t P' N' I' B' (W + 1) (upd a7 W (-1)) ∧ yk_In E s t P' N' I' B' (W + 1) (upd a7 W (-1)) w (i + 1) ∧ yk_Ls E P' N' Q (W + 1) R a8 := by
  have hw := hI.1
  have Lw := hL.1 w hw
  have hp6 : P w (i + 1) < 6 := Lw.1.1.1.2.2.2.2.1 (i + 1) hi
  have hb : yk_bar (P w) (I w) (B w) i < 64 := by
    unfold yk_bar
    refine yk_or64 ?_ (yk_pw64 _ hp6)
    split
    · exact Lw.2.1
    · omega
  obtain ⟨P', N', I', B', o, ⟨e1, e2, e3, e4⟩, g1, g2⟩ := yk_add hR hL hM hb r1 r2 (fun x x1 x2 q m y1 y2 => (hI.2.2.2 x x1 x2).2 q m y1 (yk_S_Rem hc y2).1)
  have ow := o w hw
  have cS := yk_S_Rem hc hM.1
  have cle := Lw.1.2 c n (yk_Rem_S Lw.1.1 hI.2.2.1 cS.1)
  have clt : yk_key E (P w) (N w) < yk_key E c n := by
    rcases Nat.lt_or_ge (yk_key E (P w) (N w)) (yk_key E c n) with z | z
    · exact z
    · have t1 := yk_key_inj Lw.1.1.1 hM.1.1 (by omega)
      exact absurd (t1.2 (i + 1) hi).symm cS.2
  refine ⟨P', N', I', B', ow, g1, g2, ⟨by omega, ?_, by rw [ow.2.2.1]; have t1 := hI.2.2.1; omega, fun x x1 x2 => ?_⟩, fun k hk => ⟨by have t1 := (hS.1 k hk).1; omega, (hS.1 k hk).2⟩, fun k hk => ?_⟩
  · rw [pk_un (by omega)]
    exact hI.2.1
  · by_cases z : x = W
    · rw [z, e1, e2, e3, e4, ow.1, ow.2.1, ow.2.2.1, ow.2.2.2]
      refine ⟨clt, fun q m y1 y2 => ?_⟩
      exact (yk_S_Rem hc y1).2 (y2.2.2.1 (i + 1) (by omega))
    · rw [pk_un z] at x2
      obtain ⟨o1, o2, o3, o4⟩ := o x (by omega)
      rw [o1, o2, o3, o4, ow.1, ow.2.1, ow.2.2.1, ow.2.2.2]
      exact ⟨(hI.2.2.2 x (by omega) x2).1, fun q m y1 y2 => (hI.2.2.2 x (by omega) x2).2 q m y1 (yk_Rem_s Lw.1.1 hI.2.2.1 y2)⟩
  · have k1 := o (Q k) (hS.1 k (by omega)).1
    have k2 := o (Q (k + 1)) (hS.1 (k + 1) hk).1
    rw [k1.1, k1.2.1, k2.1, k2.2.1]
    exact hS.2 k hk
/-- at the head of the loop over the rounds -/
def yk_J (E : Nat → Nat → Nat) (s t : Nat) (P : Nat → Nat → Nat) (N I B Q : Nat → Nat) (W R : Nat) (a2 a3 a4 a5 a6 a7 a8 : Nat → Int32) : Prop :=
  W ≤ 66 ∧ yk_Rep E P N I B W a2 a3 a4 a5 a6 ∧ yk_Pool E s t P N I B W a7 ∧ yk_Ls E P N Q W R a8 ∧ ∀ k, k + 1 = R → ∀ c, c < W → a7 c = -1 → yk_key E (P (Q k)) (N (Q k)) < yk_key E (P c) (N c)
/-- the answer of rank: R ways, the k-th at Q k, its places P k, N k of them -/
def yk_Rk (E : Nat → Nat → Nat) (s t R : Nat) (Q : Nat → Nat) (P : Nat → Nat → Nat) (N : Nat → Nat) (a2 a3 a4 a8 : Nat → Int32) : Prop :=
  R ≤ 66 ∧ (∀ k, k < R → Q k < 66 ∧ a8 k = nI (Q k) ∧ yk_V E s t (P k) (N k) ∧ (∀ j, j < N k → a2 (Q k * 6 + j) = nI (P k j)) ∧ a3 (Q k) = nI (N k) ∧ a4 (Q k) = nI (yk_sm E (P k) (N k - 1))) ∧ ∀ k, k + 1 < R → yk_key E (P k) (N k) < yk_key E (P (k + 1)) (N (k + 1))
theorem yk_J_Rk {E : Nat → Nat → Nat} {s t : Nat} {P : Nat → Nat → Nat} {N I B Q : Nat → Nat} {W R : Nat} {a2 a3 a4 a5 a6 a7 a8 : Nat → Int32} (hR : R ≤ 66) (h : yk_J E s t P N I B Q W R a2 a3 a4 a5 a6 a7 a8) : yk_Rk E s t R Q (fun k => P (Q k)) (fun k => N (Q k)) a2 a3 a4 a8 := by
  obtain ⟨h1, h2, h3, h4, h5⟩ := h
  refine ⟨hR, fun k hk => ?_, h4.2⟩
  have q := h4.1 k hk
  have r := h2 (Q k) q.1
  exact ⟨by omega, q.2, (h3.1 (Q k) q.1).1.1.1, r.1, r.2.1, r.2.2.1⟩
/-- the best candidate w is ranked -/
theorem yk_J_In {E : Nat → Nat → Nat} {s t : Nat} {P : Nat → Nat → Nat} {N I B Q : Nat → Nat} {W R w : Nat} {a2 a3 a4 a5 a6 a7 a8 : Nat → Int32} (hR : R < 66) (h : yk_J E s t P N I B Q W R a2 a3 a4 a5 a6 a7 a8) (hw : w < W) (hc : a7 w = -1) (hb : ∀ x, x < W → a7 x = -1 → x ≠ w → yk_key E (P w) (N w) < yk_key E (P x) (N x)) :
    ∃ Q' : Nat → Nat, Q' R = w ∧ yk_Pool E s t P N I B W (upd a7 w (nI R)) ∧ yk_Ls E P N Q' W (R + 1) (upd a8 R (nI w)) ∧ yk_In E s t P N I B W (upd a7 w (nI R)) w (I w) := by
  obtain ⟨h1, h2, h3, h4, h5⟩ := h
  have hne : nI R ≠ -1 := by
    intro z
    have t1 := nI_pos (n := R) (by omega)
    rw [z] at t1
    exact t1 (by decide)
  have cand : ∀ x, upd a7 w (nI R) x = -1 → x ≠ w ∧ a7 x = -1 := by
    intro x hx
    by_cases z : x = w
    · rw [z, pk_us] at hx
      exact absurd hx hne
    · rw [pk_un z] at hx
      exact ⟨z, hx⟩
  have q1 : ∀ k, k < R → (if k = R then w else Q k) = Q k := fun k hk => if_neg (by omega)
  have q2 : (if R = R then w else Q R) = w := if_pos rfl
  refine ⟨fun k => if k = R then w else Q k, q2, ⟨fun x hx => ?_, fun x y hx hy hn cx cy => h3.2 x y hx hy hn (cand x cx).2 (cand y cy).2⟩, ⟨fun k hk => ?_, fun k hk => ?_⟩, hw, by rw [pk_us]; exact hne, Nat.le_refl _, fun c c1 c2 => ⟨hb c c1 (cand c c2).2 (cand c c2).1, fun q m x y => ?_⟩⟩
  · refine ⟨(h3.1 x hx).1, (h3.1 x hx).2.1, ?_⟩
    by_cases z : x = w
    · rw [z, pk_us]
      exact Or.inr ⟨R, by omega, rfl⟩
    · rw [pk_un z]
      exact (h3.1 x hx).2.2
  · show (if k = R then w else Q k) < W ∧ upd a8 R (nI w) k = nI (if k = R then w else Q k)
    by_cases z : k = R
    · rw [if_pos z, z, pk_us]
      exact ⟨hw, rfl⟩
    · rw [if_neg z, pk_un z]
      exact h4.1 k (by omega)
  · show yk_key E (P (if k = R then w else Q k)) (N (if k = R then w else Q k)) < yk_key E (P (if k + 1 = R then w else Q (k + 1))) (N (if k + 1 = R then w else Q (k + 1)))
    rw [q1 k (by omega)]
    by_cases z : k + 1 = R
    · rw [if_pos z]
      exact h5 k z w hw hc
    · rw [if_neg z]
      exact h4.2 k (by omega)
  · refine h3.2 c w c1 hw (cand c c2).1 (cand c c2).2 hc q m x ⟨y.1, y.2.1, y.2.2.1, y.2.2.2 rfl⟩
section
variable {E : Nat → Nat → Nat} {f1 f2 : Int32} {a1 : Nat → Int32} {s t : Nat}
theorem yk_r139 {post : Int32 → St1 → Prop} {J77 : Int32 → Int32 → Int32 → Int32 → Int32 → Int32 → (Nat → Int32) → (Nat → Int32) → (Nat → Int32) → (Nat → Int32) → (Nat → Int32) → (Nat → Int32) → (Nat → Int32) → (Nat → Int32) → (Nat → Int32) → Prop} {x w : Nat} {Q : Nat → Nat} (hG : yk_G E a1) (ht : t < 6) (hQ : Q x = w) {a8 : Nat → Int32}
    (H : ∀ (P : Nat → Nat → Nat) (N I B : Nat → Nat) (W : Nat) (a2 a3 a4 a5 a6 a7 a9 : Nat → Int32), yk_J E s t P N I B Q W (x + 1) a2 a3 a4 a5 a6 a7 a8 → J77 (nI (x + 1)) f1 f2 (nI t) (nI W) (nI (x + 1)) a1 a2 a3 a4 a5 a6 a7 a8 a9) :
    ∀ (f i : Nat) (P : Nat → Nat → Nat) (N I B : Nat → Nat) (W : Nat) (a2 a3 a4 a5 a6 a7 a9 : Nat → Int32), W ≤ 66 → yk_Rep E P N I B W a2 a3 a4 a5 a6 → yk_Pool E s t P N I B W a7 → yk_Ls E P N Q W (x + 1) a8 → yk_In E s t P N I B W a7 w i → N w ≤ f + i → i < N w →
      wX_rank_139 post J77 (nI x) (nI w) f (nI i) f1 f2 (nI t) (nI W) (nI (x + 1)) a1 a2 a3 a4 a5 a6 a7 a8 a9 := by
  intro f
  induction f with
  | zero =>
    intro i P N I B W a2 a3 a4 a5 a6 a7 a9 hW hR hL hS hI hf hiN
    omega
  | succ f ih =>
    intro i P N I B W a2 a3 a4 a5 a6 a7 a9 hW hR hL hS hI hf hiN
    have hw := hI.1
    have Lw := hL.1 w hw
    obtain ⟨w1, w2, w3, w4, w5⟩ := hR w hw
    obtain ⟨V1, V2, V3, V4, V5, V6, V7⟩ := Lw.1.1.1
    have Iw := Lw.1.1.2.1
    have ew : (nI w).toNatClampNeg = w := nI_clamp (by omega)
    have e3 : a3 (nI w).toNatClampNeg - 1 = nI (N w - 1) := by
      rw [ew, w2, show N w = N w - 1 + 1 by omega]
      exact nI_pred _
    have e5 : a5 (nI w).toNatClampNeg = nI (I w) := by rw [ew, w4]
    refine ⟨pk_in w 66 (by omega), pk_le (N w - 1) i (fun z => nm_r (nI_1 x) (H P N I B W a2 a3 a4 a5 a6 a7 a9 ⟨hW, hR, hL, hS, fun k hk c c1 c2 => ?_⟩)) (fun z => ?_) e3⟩
    · have ek : k = x := by omega
      rw [ek, hQ]
      exact (hI.2.2.2 c c1 c2).1
    · have hp6 : P w (i + 1) < 6 := V5 (i + 1) (by omega)
      have hPre : yk_Pre E s t (P w) i := by
        refine ⟨V3, fun j hj => ⟨V5 j (by omega), fun e => ?_⟩, fun j j' h1 h2 e => V6 j j' (by omega) (by omega) e, fun j hj => V7 j (by omega)⟩
        have t1 := V6 j (N w - 1) (by omega) (by omega) (by rw [e, V4])
        omega
      have main : ∀ Z : Nat, Z = (if i = I w then B w else 0) → wX_rank_176 post J77 (wX_rank_139 post J77 (nI x) (nI w) f) (nI x) (nI w) (nI i) (nI Z) f1 f2 (nI t) (nI W) (nI (x + 1)) a1 a2 a3 a4 a5 a6 a7 a8 a9 := by
        intro Z hZ
        have hZ64 : Z < 64 := by
          rw [hZ]
          split
          · exact Lw.2.1
          · omega
        have ei : nI w * 6 + nI i + 1 = nI (w * 6 + (i + 1)) := by
          rw [yk_ix, nI_1]
          rfl
        have e2 : a2 (nI w * 6 + nI i + 1).toNatClampNeg = nI (P w (i + 1)) := by
          rw [ei, nI_clamp (by omega), w1 (i + 1) (by omega)]
        have eb : nI Z ||| ((1 : Int32) <<< (nI (P w (i + 1)) &&& 31)) = nI (yk_bar (P w) (I w) (B w) i) := by
          rw [yk_orB Z hp6, hZ]
          rfl
        refine ⟨pk_in (w * 6 + (i + 1)) 396 (by omega) ei, nm_r e2 ?_⟩
        rw [eb]
        refine yk_addC hG ht hPre (by omega) (by omega) ?_ hW (fun j hj => w1 j (by omega)) (fun s9 => nm_r (nI_1 i) (ih (i + 1) P N I B W a2 a3 a4 a5 a6 a7 s9 hW hR hL hS (yk_In_s hL hI) (by omega) (by omega))) (fun c n b2 s9 q1 q2 q3 q4 q5 => nm_r (nI_1 i) ?_)
        · unfold yk_bar
          rw [← hZ]
          exact yk_or64 hZ64 (yk_pw64 _ hp6)
        · obtain ⟨P', N', I', B', o, g1, g2, g3, g4⟩ := yk_In_add hR hL hI hS (by omega) q2 q3 q4 q5
          exact ih (i + 1) P' N' I' B' (W + 1) b2 _ _ _ _ _ s9 (by omega) g1 g2 g4 g3 (by rw [o.2.1]; omega) (by rw [o.2.1]; omega)
      refine ⟨pk_in w 66 (by omega), pk_eq i (I w) (fun y => ⟨pk_in w 66 (by omega), ?_⟩) (fun y => ?_) rfl e5⟩
      · rw [ew, w5]
        exact main (B w) (by rw [if_pos y])
      · exact main 0 (by rw [if_neg y])
theorem yk_r77 {post : Int32 → St1 → Prop} (hG : yk_G E a1) (ht : t < 6)
    (H : ∀ (R : Nat) (Q : Nat → Nat) (P : Nat → Nat → Nat) (N : Nat → Nat) (f4 : Int32) (a2 a3 a4 a5 a6 a7 a8 a9 : Nat → Int32), yk_Rk E s t R Q P N a2 a3 a4 a8 → post 1 (f1, f2, nI t, f4, nI R, a1, a2, a3, a4, a5, a6, a7, a8, a9)) :
    ∀ (f x : Nat) (P : Nat → Nat → Nat) (N I B Q : Nat → Nat) (W : Nat) (a2 a3 a4 a5 a6 a7 a8 a9 : Nat → Int32), x ≤ 66 → yk_J E s t P N I B Q W x a2 a3 a4 a5 a6 a7 a8 → 67 ≤ f + x → wX_rank_77 post f (nI x) f1 f2 (nI t) (nI W) (nI x) a1 a2 a3 a4 a5 a6 a7 a8 a9 := by
  intro f
  induction f with
  | zero =>
    intro x P N I B Q W a2 a3 a4 a5 a6 a7 a8 a9 hx hJ hf
    omega
  | succ f ih =>
    intro x P N I B Q W a2 a3 a4 a5 a6 a7 a8 a9 hx hJ hf
    refine pk_le 66 x (fun z => H x Q _ _ _ _ _ _ _ _ _ _ _ (yk_J_Rk hx hJ)) (fun z => ?_)
    refine yk_bestC (yk_G20 hG) hJ.1 hJ.2.1 hJ.2.2.1 (fun y => br_f (by decide) (H x Q _ _ _ _ _ _ _ _ _ _ _ (yk_J_Rk hx hJ))) (fun w w1 w2 w3 => ?_)
    obtain ⟨Q', g1, g2, g3, g4⟩ := yk_J_In z hJ w1 w2 w3
    have hW := hJ.1
    have hR := hJ.2.1
    have ew : (nI w).toNatClampNeg = w := nI_clamp (by omega)
    have ex : (nI x).toNatClampNeg = x := nI_clamp (by omega)
    have Mw := (hJ.2.2.1.1 w w1).1.1
    have n6 := Mw.1.2.1
    have iw := Mw.2.1
    refine br_t (nI_pos' (by omega)) ⟨pk_in w 66 (by omega), nm_r (show upd a7 (nI w).toNatClampNeg (nI x).toInt8.toInt32 = upd a7 w (nI x) by rw [ew, yk_b8 x (by omega)]) ⟨pk_in x 66 z, nm_r (show upd a8 (nI x).toNatClampNeg (nI w).toInt8.toInt32 = upd a8 x (nI w) by rw [ex, yk_b8 w (by omega)]) (nm_r (nI_1 x) ⟨pk_in w 66 (by omega), nm_r (show a5 (nI w).toNatClampNeg = nI (I w) by rw [ew]; exact (hR w w1).2.2.2.1) ⟨6, ?_⟩⟩)⟩⟩
    exact yk_r139 hG ht g1 (fun P' N' I' B' W' b2 b3 b4 b5 b6 b7 b9 hJ' => ih (x + 1) P' N' I' B' Q' W' b2 b3 b4 b5 b6 b7 _ b9 (by omega) hJ' (by omega)) 6 (I w) P N I B W a2 a3 a4 a5 a6 _ a9 hW hR g2 g3 g4 (by omega) (by omega)
end
section
variable {E : Nat → Nat → Nat} {f1 f2 f3 f4 f5 : Int32} {a1 a2 a3 a4 a5 a6 a7 a8 a9 : Nat → Int32} {s t : Nat}
theorem yk_r35 {post : Int32 → St1 → Prop} (hG : yk_G E a1) (hs : s < 6) (ht : t < 6) (hn : s ≠ t)
    (H : ∀ (R : Nat) (Q : Nat → Nat) (P : Nat → Nat → Nat) (N : Nat → Nat) (f4 : Int32) (a2 a3 a4 a5 a6 a7 a8 a9 : Nat → Int32), yk_Rk E s t R Q P N a2 a3 a4 a8 → post 1 (1, nI s, nI t, f4, nI R, a1, a2, a3, a4, a5, a6, a7, a8, a9)) :
    wX_rank_35 post (nI s) (nI t) f1 f2 f3 f4 f5 a1 a2 a3 a4 a5 a6 a7 a8 a9 := by
  refine nm_r (show upd a2 0 (nI s).toInt8.toInt32 = upd a2 0 (nI s) by rw [yk_b8 s (by omega)]) ?_
  have hPre : yk_Pre E s t (fun _ => s) 0 := ⟨rfl, fun j _ => ⟨hs, hn⟩, fun j j' h1 h2 _ => by omega, fun j hj => absurd hj (by omega)⟩
  have R0 : ∀ (P : Nat → Nat → Nat) (N I B : Nat → Nat) (b2 b3 b4 b5 b6 : Nat → Int32), yk_Rep E P N I B 0 b2 b3 b4 b5 b6 := fun P N I B b2 b3 b4 b5 b6 w hw => absurd hw (by omega)
  have L0 : ∀ (P : Nat → Nat → Nat) (N I B : Nat → Nat) (b7 : Nat → Int32), yk_Pool E s t P N I B 0 b7 := fun P N I B b7 => ⟨fun w hw => absurd hw (by omega), fun w w' hw => absurd hw (by omega)⟩
  refine yk_addC (i := 0) (w := 0) (B := 0) (W := 0) (p := fun _ => s) hG ht hPre (by omega) (by omega) (by omega) (by omega) (fun j hj => ?_) (fun s9 => ⟨67, ?_⟩) (fun c n b2 s9 q1 q2 q3 q4 q5 => ⟨67, ?_⟩)
  · have e : j = 0 := by omega
    rw [e]
    exact pk_us
  · exact yk_r77 hG ht H 67 0 (fun _ _ => 0) (fun _ => 0) (fun _ => 0) (fun _ => 0) (fun _ => 0) 0 _ _ _ _ _ _ _ s9 (by omega) ⟨by omega, R0 _ _ _ _ _ _ _ _ _, L0 _ _ _ _ _, ⟨fun k hk => absurd hk (by omega), fun k hk => absurd hk (by omega)⟩, fun k hk => absurd hk (by omega)⟩ (by omega)
  · obtain ⟨P', N', I', B', o, g0, g1, g2⟩ := yk_add (a7 := a7) (R0 (fun _ _ => 0) (fun _ => 0) (fun _ => 0) (fun _ => 0) (upd a2 0 (nI s)) a3 a4 a5 a6) (L0 _ _ _ _ _) q2 (by omega) q4 q5 (fun w hw => absurd hw (by omega))
    exact yk_r77 hG ht H 67 0 P' N' I' B' (fun _ => 0) 1 _ _ _ _ _ _ _ s9 (by omega) ⟨by omega, g1, g2, ⟨fun k hk => absurd hk (by omega), fun k hk => absurd hk (by omega)⟩, fun k hk => absurd hk (by omega)⟩ (by omega)
end
end
section
/-! the questions, asked of a state that is ranked for s and t -/
theorem yk_nm1 {n : Nat} (h : n < 2 ^ 31) : ¬ nI n = -1 := by
  intro z
  have t1 := nI_pos (n := n) h
  rw [z] at t1
  exact t1 (by decide)
section
variable {E : Nat → Nat → Nat} {f1 f2 f3 f4 f5 : Int32} {a1 a2 a3 a4 a5 a6 a7 a8 a9 : Nat → Int32} {s t R : Nat} {Q N : Nat → Nat} {P : Nat → Nat → Nat}
/-- what is known of the cached answer -/
def yk_Kn (E : Nat → Nat → Nat) (f1 f2 f3 f5 : Int32) (a2 a3 a4 a8 : Nat → Int32) : Prop :=
  f1 = 0 ∨ (f1 = 1 ∧ ∃ (s t R : Nat) (Q : Nat → Nat) (P : Nat → Nat → Nat) (N : Nat → Nat), s < 6 ∧ t < 6 ∧ f2 = nI s ∧ f3 = nI t ∧ f5 = nI R ∧ yk_Rk E s t R Q P N a2 a3 a4 a8)
theorem yk_rank {post : Int32 → St1 → Prop} (hG : yk_G E a1) (hs : s < 6) (ht : t < 6) (hn : s ≠ t) (hK : yk_Kn E f1 f2 f3 f5 a2 a3 a4 a8)
    (H : ∀ (R : Nat) (Q : Nat → Nat) (P : Nat → Nat → Nat) (N : Nat → Nat) (f4 : Int32) (a2 a3 a4 a5 a6 a7 a8 a9 : Nat → Int32), yk_Rk E s t R Q P N a2 a3 a4 a8 → post 1 (1, nI s, nI t, f4, nI R, a1, a2, a3, a4, a5, a6, a7, a8, a9)) :
    wpX_rank post (f1, f2, f3, f4, f5, a1, a2, a3, a4, a5, a6, a7, a8, a9) (nI s) (nI t) := by
  unfold wpX_rank
  refine yk_isPair hs ht (fun z => absurd z hn) (fun _ => br_f (by decide) ?_)
  rcases hK with k | ⟨k, s', t', R, Q, P, N, hs', ht', k2, k3, k5, hR⟩
  · exact br_t k (yk_r35 hG hs ht hn H)
  · refine br_f (by rw [k]; decide) (pk_eq s' s (fun e => pk_eq t' t (fun e' => ?_) (fun _ => yk_r35 hG hs ht hn H) k3) (fun _ => yk_r35 hG hs ht hn H) k2)
    rw [e, e'] at hR
    rw [k, k2, k3, k5, e, e']
    exact H R Q P N f4 a2 a3 a4 a5 a6 a7 a8 a9 hR
theorem yk_rankC {post : Int32 → St1 → Prop} (hs : s < 6) (ht : t < 6) (hn : s ≠ t) (H : post 1 (1, nI s, nI t, f4, f5, a1, a2, a3, a4, a5, a6, a7, a8, a9)) :
    wpX_rank post (1, nI s, nI t, f4, f5, a1, a2, a3, a4, a5, a6, a7, a8, a9) (nI s) (nI t) := by
  unfold wpX_rank
  exact yk_isPair hs ht (fun z => absurd z hn) (fun _ => br_f (by decide) (br_f (by decide) (br_t rfl (br_t rfl H))))
theorem yk_ways {post : Int32 → St1 → Prop} (hG : yk_G E a1) (hs : s < 6) (ht : t < 6) (hn : s ≠ t) (hK : yk_Kn E f1 f2 f3 f5 a2 a3 a4 a8)
    (H : ∀ (R : Nat) (Q : Nat → Nat) (P : Nat → Nat → Nat) (N : Nat → Nat) (f4 : Int32) (a2 a3 a4 a5 a6 a7 a8 a9 : Nat → Int32), yk_Rk E s t R Q P N a2 a3 a4 a8 → post (nI R) (1, nI s, nI t, f4, nI R, a1, a2, a3, a4, a5, a6, a7, a8, a9)) :
    wpX_ways post (f1, f2, f3, f4, f5, a1, a2, a3, a4, a5, a6, a7, a8, a9) (nI s) (nI t) := by
  unfold wpX_ways
  exact yk_rank hG hs ht hn hK (fun R Q P N f4 a2 a3 a4 a5 a6 a7 a8 a9 h => br_f (by decide) (H R Q P N f4 a2 a3 a4 a5 a6 a7 a8 a9 h))
theorem yk_waysC {post : Int32 → St1 → Prop} (hs : s < 6) (ht : t < 6) (hn : s ≠ t) (H : post (nI R) (1, nI s, nI t, f4, nI R, a1, a2, a3, a4, a5, a6, a7, a8, a9)) :
    wpX_ways post (1, nI s, nI t, f4, nI R, a1, a2, a3, a4, a5, a6, a7, a8, a9) (nI s) (nI t) := by
  unfold wpX_ways
  exact yk_rankC hs ht hn (br_f (by decide) H)
theorem yk_wayAt {post : Int32 → St1 → Prop} {k : Nat} (hs : s < 6) (ht : t < 6) (hn : s ≠ t) (hR : yk_Rk E s t R Q P N a2 a3 a4 a8) (hk : k < 2 ^ 31)
    (h0 : R ≤ k → post (-1) (1, nI s, nI t, f4, nI R, a1, a2, a3, a4, a5, a6, a7, a8, a9)) (h1 : k < R → post (nI (Q k)) (1, nI s, nI t, f4, nI R, a1, a2, a3, a4, a5, a6, a7, a8, a9)) :
    wpX_wayAt post (1, nI s, nI t, f4, nI R, a1, a2, a3, a4, a5, a6, a7, a8, a9) (nI s) (nI t) (nI k) := by
  unfold wpX_wayAt
  have r66 := hR.1
  refine yk_rankC hs ht hn (br_f (by decide) (br_f (nI_pos hk) (pk_le R k h0 (fun z => ⟨pk_in k 66 (by omega), ?_⟩))))
  rw [nI_clamp hk, (hR.2.1 k z).2.1]
  exact h1 z
theorem yk_wayM {post : Int32 → St1 → Prop} (hs : s < 6) (ht : t < 6) (hn : s ≠ t)
    (h0 : post (-1) (1, nI s, nI t, f4, nI R, a1, a2, a3, a4, a5, a6, a7, a8, a9)) :
    wpX_wayAt post (1, nI s, nI t, f4, nI R, a1, a2, a3, a4, a5, a6, a7, a8, a9) (nI s) (nI t) (-1) := by
  unfold wpX_wayAt
  exact yk_rankC hs ht hn (br_f (by decide) (br_t (by decide) h0))
theorem yk_length {post : Int32 → St1 → Prop} {k : Nat} (hs : s < 6) (ht : t < 6) (hn : s ≠ t) (hR : yk_Rk E s t R Q P N a2 a3 a4 a8) (hk : k < 2 ^ 31)
    (h0 : R ≤ k → post (-1) (1, nI s, nI t, f4, nI R, a1, a2, a3, a4, a5, a6, a7, a8, a9)) (h1 : k < R → post (nI (yk_sm E (P k) (N k - 1))) (1, nI s, nI t, f4, nI R, a1, a2, a3, a4, a5, a6, a7, a8, a9)) :
    wpX_length post (1, nI s, nI t, f4, nI R, a1, a2, a3, a4, a5, a6, a7, a8, a9) (nI s) (nI t) (nI k) := by
  unfold wpX_length
  refine yk_wayAt hs ht hn hR hk (fun z => br_f (by decide) (h0 z)) (fun z => ?_)
  obtain ⟨q1, q2, q3, q4, q5, q6⟩ := hR.2.1 k z
  refine br_t (nI_pos' (by omega)) ⟨pk_in (Q k) 66 q1, ?_⟩
  rw [nI_clamp (by omega), q6]
  exact h1 z
theorem yk_lengthM {post : Int32 → St1 → Prop} (hs : s < 6) (ht : t < 6) (hn : s ≠ t)
    (h0 : post (-1) (1, nI s, nI t, f4, nI R, a1, a2, a3, a4, a5, a6, a7, a8, a9)) :
    wpX_length post (1, nI s, nI t, f4, nI R, a1, a2, a3, a4, a5, a6, a7, a8, a9) (nI s) (nI t) (-1) := by
  unfold wpX_length
  exact yk_wayM hs ht hn (br_f (by decide) h0)
theorem yk_size {post : Int32 → St1 → Prop} {k : Nat} (hs : s < 6) (ht : t < 6) (hn : s ≠ t) (hR : yk_Rk E s t R Q P N a2 a3 a4 a8) (hk : k < 2 ^ 31)
    (h0 : R ≤ k → post (-1) (1, nI s, nI t, f4, nI R, a1, a2, a3, a4, a5, a6, a7, a8, a9)) (h1 : k < R → post (nI (N k)) (1, nI s, nI t, f4, nI R, a1, a2, a3, a4, a5, a6, a7, a8, a9)) :
    wpX_size post (1, nI s, nI t, f4, nI R, a1, a2, a3, a4, a5, a6, a7, a8, a9) (nI s) (nI t) (nI k) := by
  unfold wpX_size
  refine yk_wayAt hs ht hn hR hk (fun z => br_f (by decide) (h0 z)) (fun z => ?_)
  obtain ⟨q1, q2, q3, q4, q5, q6⟩ := hR.2.1 k z
  refine br_t (nI_pos' (by omega)) ⟨pk_in (Q k) 66 q1, ?_⟩
  rw [nI_clamp (by omega), q5]
  exact h1 z
theorem yk_place {post : Int32 → St1 → Prop} {k i : Nat} (hs : s < 6) (ht : t < 6) (hn : s ≠ t) (hR : yk_Rk E s t R Q P N a2 a3 a4 a8) (hk : k < R) (hi : i ≤ N k)
    (h0 : i = N k → post (-1) (1, nI s, nI t, f4, nI R, a1, a2, a3, a4, a5, a6, a7, a8, a9)) (h1 : i < N k → post (nI (P k i)) (1, nI s, nI t, f4, nI R, a1, a2, a3, a4, a5, a6, a7, a8, a9)) :
    wpX_place post (1, nI s, nI t, f4, nI R, a1, a2, a3, a4, a5, a6, a7, a8, a9) (nI s) (nI t) (nI k) (nI i) := by
  unfold wpX_place
  have r66 := hR.1
  refine yk_wayAt hs ht hn hR (by omega) (fun z => absurd z (by omega)) (fun z => ?_)
  obtain ⟨q1, q2, q3, q4, q5, q6⟩ := hR.2.1 k z
  have n6 := q3.2.1
  have e : (nI (Q k)).toNatClampNeg = Q k := nI_clamp (by omega)
  refine br_f (nI_pos (by omega)) (br_f (nI_pos (by omega)) ⟨pk_in (Q k) 66 q1, pk_lt i (N k) (fun y => ⟨pk_in (Q k * 6 + i) 396 (by omega) (yk_ix _ _), ?_⟩) (fun y => h0 (by omega)) rfl (by rw [e, q5])⟩)
  rw [yk_ixc (by omega), q4 i y]
  exact h1 y
theorem yk_placesOf {post : Int32 → Prop} {k : Nat} (hR : yk_Rk E s t R Q P N a2 a3 a4 a8) (hk : k < R) (H : ∀ M, M < 64 → (∀ x, M.testBit x = true ↔ ∃ j, j < N k ∧ P k j = x) → post (nI M)) :
    wpX_placesOf post (f1, f2, f3, f4, f5, a1, a2, a3, a4, a5, a6, a7, a8, a9) (nI (Q k)) := by
  obtain ⟨q1, q2, q3, q4, q5, q6⟩ := hR.2.1 k hk
  have n6 := q3.2.1
  have e : a3 (nI (Q k)).toNatClampNeg = nI (N k) := by rw [nI_clamp (by omega), q5]
  refine pk_loop (fun n i x => wX_placesOf_4 post (nI (Q k)) f1 f2 f3 f4 f5 a1 a2 a3 a4 a5 a6 a7 a8 a9 n x (nI i)) (fun i x => ∃ M, M < 64 ∧ x = nI M ∧ ∀ x, M.testBit x = true ↔ ∃ j, j < i ∧ P k j = x) (N k) 0 0 (by omega) ⟨0, by omega, rfl, fun x => ?_⟩ ?_ ?_
  · rw [Nat.zero_testBit]
    exact ⟨fun z => absurd z (by decide), fun ⟨j, j1, _⟩ => absurd j1 (by omega)⟩
  · rintro n x ⟨M, hM, rfl, hMp⟩
    exact ⟨pk_in (Q k) 66 q1, pk_le (N k) (N k) (fun _ => H M hM hMp) (fun z => absurd z (by omega)) e⟩
  · rintro n i x hi ⟨M, hM, rfl, hMp⟩ hw
    have p6 := q3.2.2.2.2.1 i hi
    refine ⟨pk_in (Q k) 66 q1, pk_le (N k) i (fun z => absurd z (by omega)) (fun _ => ⟨pk_in (Q k * 6 + i) 396 (by omega) (yk_ix _ _), nm_r (show nI M ||| ((1 : Int32) <<< (a2 (nI (Q k) * 6 + nI i).toNatClampNeg &&& 31)) = nI (M ||| 2 ^ P k i) by rw [yk_ixc (by omega), q4 i hi, yk_orB M p6]) (nm_r (nI_1 i) (hw _ ⟨M ||| 2 ^ P k i, yk_or64 hM (yk_pw64 _ p6), rfl, fun x => ?_⟩))⟩) e⟩
    rw [yk_tbo, Bool.or_eq_true, decide_eq_true_iff, hMp x]
    constructor
    · rintro (⟨j, j1, j2⟩ | z)
      · exact ⟨j, by omega, j2⟩
      · exact ⟨i, by omega, z⟩
    · rintro ⟨j, j1, j2⟩
      by_cases z : j = i
      · exact Or.inr (by rw [← z]; exact j2)
      · exact Or.inl ⟨j, by omega, j2⟩
/-- way k goes through v -/
def yk_On (P : Nat → Nat → Nat) (N : Nat → Nat) (k v : Nat) : Prop := ∃ j, j < N k ∧ P k j = v
theorem yk_s0 : ∀ s, s < 6 → ∀ t, t < 6 → (63 : Int32) &&& (((1 : Int32) <<< (nI s &&& 31) ||| (1 : Int32) <<< (nI t &&& 31)) ^^^ (-1)) = nI (63 ^^^ (2 ^ s ||| 2 ^ t)) := by decide +kernel
theorem yk_s1 : ∀ s, s < 6 → ∀ t, t < 6 → 63 ^^^ (2 ^ s ||| 2 ^ t) < 64 := by decide +kernel
theorem yk_s2 : ∀ s, s < 6 → ∀ t, t < 6 → ∀ v, v < 6 → ((63 ^^^ (2 ^ s ||| 2 ^ t)).testBit v = true ↔ (v ≠ s ∧ v ≠ t)) := by decide +kernel
theorem yk_s3 : ∀ S, S < 64 → nI S &&& (-64) = 0 := by decide +kernel
theorem yk_musts {post : Int32 → St1 → Prop} (hs : s < 6) (ht : t < 6) (hn : s ≠ t) (hR : yk_Rk E s t R Q P N a2 a3 a4 a8)
    (H : ∀ S, S < 64 → (R = 0 → S = 0) → (0 < R → ∀ v, v < 6 → (S.testBit v = true ↔ v ≠ s ∧ v ≠ t ∧ ∀ k, k < R → yk_On P N k v)) → post (nI S) (1, nI s, nI t, f4, nI R, a1, a2, a3, a4, a5, a6, a7, a8, a9)) :
    wpX_musts post (1, nI s, nI t, f4, nI R, a1, a2, a3, a4, a5, a6, a7, a8, a9) (nI s) (nI t) := by
  unfold wpX_musts
  have r66 := hR.1
  refine yk_rankC hs ht hn (br_f (by decide) (pk_eq R 0 (fun z => H 0 (by omega) (fun _ => rfl) (fun y => absurd y (by omega))) (fun z => nm_r (yk_s0 s hs t ht) ?_)))
  refine pk_loop (fun n k x => wX_musts_34 post 1 (nI s) (nI t) f4 (nI R) a1 a2 a3 a4 a5 a6 a7 a8 a9 n x (nI k)) (fun k x => ∃ S, S < 64 ∧ x = nI S ∧ ∀ v, v < 6 → (S.testBit v = true ↔ v ≠ s ∧ v ≠ t ∧ ∀ j, j < k → yk_On P N j v)) R 0 _ (by omega) ⟨_, yk_s1 s hs t ht, rfl, fun v hv => ?_⟩ ?_ ?_
  · rw [yk_s2 s hs t ht v hv]
    exact ⟨fun y => ⟨y.1, y.2, fun j hj => absurd hj (by omega)⟩, fun y => ⟨y.1, y.2.1⟩⟩
  · rintro n x ⟨S, hS, rfl, hp⟩
    exact pk_le R R (fun _ => H S hS (fun y => absurd y z) (fun _ => hp)) (fun z => absurd z (by omega))
  · rintro n k x hk ⟨S, hS, rfl, hp⟩ hw
    refine pk_le R k (fun z => absurd z (by omega)) (fun _ => ⟨pk_in k 66 (by omega), ?_⟩)
    rw [nI_clamp (show k < 2 ^ 31 by omega), (hR.2.1 k hk).2.1]
    refine yk_placesOf hR hk (fun M hM hMp => nm_r (yk_andI S M) (nm_r (nI_1 k) (hw _ ⟨S &&& M, Nat.and_lt_two_pow (n := 6) S hM, rfl, fun v hv => ?_⟩)))
    rw [Nat.testBit_and, Bool.and_eq_true, hp v hv, hMp v]
    constructor
    · rintro ⟨⟨y1, y2, y3⟩, y4⟩
      refine ⟨y1, y2, fun j hj => ?_⟩
      by_cases e : j = k
      · rw [e]
        exact y4
      · exact y3 j (by omega)
    · rintro ⟨y1, y2, y3⟩
      exact ⟨⟨y1, y2, fun j hj => y3 j (by omega)⟩, y3 k (by omega)⟩
theorem yk_first {post : Int32 → St1 → Prop} {v : Nat} (hs : s < 6) (ht : t < 6) (hn : s ≠ t) (hv : v < 6) (hR : yk_Rk E s t R Q P N a2 a3 a4 a8)
    (h0 : (v = s ∨ v = t ∨ ∀ k, k < R → yk_On P N k v) → post (-1) (1, nI s, nI t, f4, nI R, a1, a2, a3, a4, a5, a6, a7, a8, a9))
    (h1 : ∀ k, v ≠ s → v ≠ t → k < R → ¬ yk_On P N k v → post (nI k) (1, nI s, nI t, f4, nI R, a1, a2, a3, a4, a5, a6, a7, a8, a9)) :
    wpX_firstAvoiding post (1, nI s, nI t, f4, nI R, a1, a2, a3, a4, a5, a6, a7, a8, a9) (nI s) (nI t) (nI v) := by
  unfold wpX_firstAvoiding
  have r66 := hR.1
  refine yk_isPlace hv (br_f (by decide) (pk_eq v s (fun z => h0 (Or.inl z)) (fun zs => pk_eq v t (fun z => h0 (Or.inr (Or.inl z))) (fun zt => yk_rankC hs ht hn (br_f (by decide) ?_)))))
  refine loop_m (fun n (x : Nat) => wX_firstAvoiding_31 post (nI v) 1 (nI s) (nI t) f4 (nI R) a1 a2 a3 a4 a5 a6 a7 a8 a9 n (nI x)) (fun x => x ≤ R ∧ ∀ j, j < x → yk_On P N j v) (fun x => R - x) ?_ 0 ⟨by omega, fun j hj => absurd hj (by omega)⟩
  rintro n x ⟨hx, hp⟩ hw
  refine pk_le R x (fun z => h0 (Or.inr (Or.inr (fun k hk => hp k (by omega))))) (fun z => ⟨pk_in x 66 (by omega), ?_⟩)
  rw [nI_clamp (show x < 2 ^ 31 by omega), (hR.2.1 x z).2.1]
  refine yk_placesOf hR z (fun M hM hMp => yk_in hM hv (fun y => br_t rfl (h1 x zs zt z (fun o => ?_))) (fun y => br_f (by decide) (nm_r (nI_1 x) (hw (x + 1) ⟨by omega, fun j hj => ?_⟩ (by omega)))))
  · rw [(hMp v).mpr o] at y
    exact absurd y (by decide)
  · by_cases e : j = x
    · rw [e]
      exact (hMp v).mp y
    · exact hp j (by omega)
theorem yk_within {post : Int32 → St1 → Prop} {l C : Nat} (hE : ∀ a b, a < 6 → b < 6 → E a b ≤ 20) (hs : s < 6) (ht : t < 6) (hn : s ≠ t) (hR : yk_Rk E s t R Q P N a2 a3 a4 a8) (hl : l < 2 ^ 31) (hC : C ≤ R) (c1 : ∀ j, j < C → yk_sm E (P j) (N j - 1) ≤ l) (c2 : C < R → l < yk_sm E (P C) (N C - 1))
    (H : post (nI C) (1, nI s, nI t, f4, nI R, a1, a2, a3, a4, a5, a6, a7, a8, a9)) :
    wpX_within post (1, nI s, nI t, f4, nI R, a1, a2, a3, a4, a5, a6, a7, a8, a9) (nI s) (nI t) (nI l) := by
  unfold wpX_within
  have r66 := hR.1
  have rd : ∀ k, k < R → vp_in (a8 (nI k).toNatClampNeg) 66 ∧ a4 (a8 (nI k).toNatClampNeg).toNatClampNeg = nI (yk_sm E (P k) (N k - 1)) ∧ yk_sm E (P k) (N k - 1) ≤ 100 := by
    intro k hk
    obtain ⟨q1, q2, q3, q4, q5, q6⟩ := hR.2.1 k hk
    have b := yk_sm_le hE (P k) (N k - 1) (fun x hx => q3.2.2.2.2.1 x (by have t1 := q3.1; omega))
    have n6 := q3.2.1
    rw [nI_clamp (show k < 2 ^ 31 by omega), q2, nI_clamp (by omega), q6]
    exact ⟨pk_in (Q k) 66 q1, rfl, by omega⟩
  refine yk_rankC hs ht hn (br_f (by decide) ?_)
  refine pk_loop (σ := Unit) (fun n k _ => wX_within_14 post (nI l) 1 (nI s) (nI t) f4 (nI R) a1 a2 a3 a4 a5 a6 a7 a8 a9 n (nI k)) (fun _ _ => True) C 0 () (by omega) trivial ?_ ?_
  · intro n _ _
    refine pk_le R C (fun _ => H) (fun z => ?_)
    obtain ⟨g1, g2, g3⟩ := rd C z
    exact ⟨pk_in C 66 (by omega), g1, pk_lt l (yk_sm E (P C) (N C - 1)) (fun _ => H) (fun y => absurd (c2 z) (by omega)) rfl g2⟩
  · intro n k _ hk _ hw
    refine pk_le R k (fun z => absurd z (by omega)) (fun z => ?_)
    obtain ⟨g1, g2, g3⟩ := rd k (by omega)
    exact ⟨pk_in k 66 (by omega), g1, pk_lt l (yk_sm E (P k) (N k - 1)) (fun y => absurd (c1 k hk) (by omega)) (fun _ => nm_r (nI_1 k) (hw () trivial)) rfl g2⟩
end
end
section
/-! the law's key and ranked -/
section
variable {E : Nat → Nat → Nat} {f1 f2 f3 f4 f5 : Int32} {a1 a2 a3 a4 a5 a6 a7 a8 a9 : Nat → Int32} {s t R : Nat} {Q N : Nat → Nat} {P : Nat → Nat → Nat}
theorem yk_key_le (hE : ∀ a b, a < 6 → b < 6 → E a b ≤ 20) {p : Nat → Nat} {n : Nat} (h : yk_V E s t p n) : yk_key E p n < 1000000000 := by
  have b := yk_sm_le hE p (n - 1) (fun x hx => h.2.2.2.2.1 x (by have t1 := h.1; omega))
  have c := yk_cd_6 h.2.2.2.2.1
  have n6 := h.2.1
  unfold yk_key
  omega
theorem yk_keyW {post : Int64 → St1 → Prop} {k : Nat} (hG : yk_G E a1) (hs : s < 6) (ht : t < 6) (hn : s ≠ t) (hR : yk_Rk E s t R Q P N a2 a3 a4 a8) (hk : k < R)
    (H : post (lN (yk_key E (P k) (N k))) (1, nI s, nI t, f4, nI R, a1, a2, a3, a4, a5, a6, a7, a8, a9)) :
    wpL_key post (1, nI s, nI t, f4, nI R, a1, a2, a3, a4, a5, a6, a7, a8, a9) (nI s) (nI t) (nI k) := by
  unfold wpL_key
  have r66 := hR.1
  obtain ⟨V1, V2, V3, V4, V5, V6, V7⟩ := (hR.2.1 k hk).2.2.1
  have hsm : ∀ i, i < N k → yk_sm E (P k) i ≤ 20 * i := fun i hi => yk_sm_le (yk_G20 hG) (P k) i (fun x hx => V5 x (by omega))
  refine yk_size hs ht hn hR (by omega) (fun z => absurd z (by omega)) (fun _ => ?_)
  refine yk_place (i := 0) hs ht hn hR hk (by omega) (fun z => absurd z (by omega)) (fun _ => ?_)
  rw [V3]
  refine nm_r (yk_one s hs) (nm_r (show (nI s + 1).toInt64 = lN (s + 1) by rw [nI_1, nI_l (by omega)]) (pk_lt (N k) 2 (fun z => absurd z (by omega)) (fun _ => pk_lt 6 (N k) (fun z => absurd z (by omega)) (fun _ => br_t rfl ?_))))
  refine yk_place (i := N k) hs ht hn hR hk (by omega) (fun _ => br_t rfl ?_) (fun z => absurd z (by omega))
  refine pk_loop (σ := Int32 × Int32 × Int32 × Int64) (fun n i x => wL_key_72 post (nI s) (nI t) (nI k) (nI (N k)) n x.1 x.2.1 x.2.2.1 x.2.2.2 (nI i) 1 (nI s) (nI t) f4 (nI R) a1 a2 a3 a4 a5 a6 a7 a8 a9)
    (fun i x => 1 ≤ i ∧ x.1 = nI (P k (min i (N k) - 1)) ∧ (∃ M, M < 64 ∧ x.2.1 = nI M ∧ ∀ v, M.testBit v = true ↔ ∃ j, j < min i (N k) ∧ P k j = v) ∧ x.2.2.1 = nI (yk_sm E (P k) (min i (N k) - 1)) ∧ x.2.2.2 = lN (yk_cd (P k) (N k) i)) 6 1 (nI s, nI (2 ^ s), 0, lN (s + 1)) (by omega) ⟨by omega, ?_, ⟨2 ^ s, yk_pw64 s hs, rfl, fun v => ?_⟩, ?_, ?_⟩ ?_ ?_
  · rw [show min 1 (N k) - 1 = 0 by omega, V3]
  · rw [show min 1 (N k) = 1 by omega, Nat.testBit_two_pow, decide_eq_true_iff]
    constructor
    · intro z
      exact ⟨0, by omega, by rw [V3, z]⟩
    · rintro ⟨j, j1, j2⟩
      rw [show j = 0 by omega, V3] at j2
      exact j2
  · rw [show min 1 (N k) - 1 = 0 by omega]
    rfl
  · show lN (s + 1) = lN (0 * 7 + if 0 < N k then P k 0 + 1 else 0)
    rw [if_pos (by omega), V3, Nat.zero_mul, Nat.zero_add]
  · rintro n ⟨x5, x6, x7, x8⟩ ⟨_, h1, _, h3, h4⟩
    dsimp only at h1 h3 h4
    rw [show min 6 (N k) - 1 = N k - 1 by omega] at h1 h3
    rw [V4] at h1
    rw [h1, h3, h4]
    refine pk_le 6 6 (fun _ => br_t rfl ?_) (fun z => absurd z (by omega))
    have b := hsm (N k - 1) (by omega)
    refine yk_length hs ht hn hR (by omega) (fun z => absurd z (by omega)) (fun _ => br_t rfl ?_)
    have e : (nI (yk_sm E (P k) (N k - 1))).toInt64 * 1000000 + lN (yk_cd (P k) (N k) 6) = lN (yk_key E (P k) (N k)) := by
      have e1 : (nI (yk_sm E (P k) (N k - 1))).toInt64 * lN 1000000 + lN (yk_cd (P k) (N k) 6) = lN (yk_key E (P k) (N k)) := by
        rw [nI_l (by omega), lN_mul, lN_add]
        rfl
      exact e1
    rw [e]
    exact H
  · rintro n i ⟨x5, x6, x7, x8⟩ hi ⟨hi1, h1, ⟨M, hM, h2, hMp⟩, h3, h4⟩ hw
    dsimp only at h1 h2 h3 h4
    refine pk_le 6 i (fun z => absurd z (by omega)) (fun _ => pk_le (N k) i (fun z => ?_) (fun z => ?_))
    · refine pk_le (N k) i (fun _ => nm_e (nm_r (nI_1 i) (hw (x5, x6, x7, x8 * 7 + (0 : Int32).toInt64) ⟨by omega, ?_, ⟨M, hM, h2, fun v => ?_⟩, ?_, ?_⟩))) (fun y => absurd z (by omega))
      · rw [show min (i + 1) (N k) = min i (N k) by omega]
        exact h1
      · rw [show min (i + 1) (N k) = min i (N k) by omega]
        exact hMp v
      · rw [show min (i + 1) (N k) = min i (N k) by omega]
        exact h3
      · show x8 * 7 + (0 : Int32).toInt64 = lN (yk_cd (P k) (N k) i * 7 + if i < N k then P k i + 1 else 0)
        rw [if_neg (by omega), h4]
        have e1 : lN (yk_cd (P k) (N k) i) * lN 7 + lN 0 = lN (yk_cd (P k) (N k) i * 7 + 0) := by rw [lN_mul, lN_add]
        exact e1
    · obtain ⟨l, rfl⟩ : ∃ l, i = l + 1 := ⟨i - 1, by omega⟩
      rw [show min (l + 1) (N k) = l + 1 by omega] at h1 h3 hMp
      have h1' : x5 = nI (P k l) := h1
      have h3' : x7 = nI (yk_sm E (P k) l) := h3
      have p1 := V5 l (by omega)
      have p2 := V5 (l + 1) z
      have r0 := V7 l (by omega)
      have r20 := yk_G20 hG (P k l) (P k (l + 1)) p1 p2
      have b := hsm l (by omega)
      have nb : M.testBit (P k (l + 1)) = false := by
        cases hh : M.testBit (P k (l + 1)) with
        | false => rfl
        | true =>
          obtain ⟨j, j1, j2⟩ := (hMp _).mp hh
          have t1 := V6 j (l + 1) (by omega) z j2
          omega
      rw [h1', h2, h3']
      refine yk_place (i := l + 1) hs ht hn hR hk (by omega) (fun y => absurd y (by omega)) (fun _ => br_f (nI_pos (by omega)) (pk_lt 5 (P k (l + 1)) (fun y => absurd y (by omega)) (fun _ => br_f (fun y => ?_) ?_)))
      · rw [(yk_bit1 M hM _ p2).mp y] at nb
        exact absurd nb (by decide)
      · refine yk_road hG p1 p2 (fun y => absurd y (by omega)) (fun _ _ => br_f (yk_nm1 (by omega)) (nm_r (yk_orB M p2) (yk_road hG p1 p2 (fun y => absurd y (by omega)) (fun _ _ => nm_r (nI_add _ _) ?_))))
        refine pk_le (N k) (l + 1) (fun y => absurd y (by omega)) (fun _ => nm_e (nm_r (nI_1 _) (hw (nI (P k (l + 1)), nI (M ||| 2 ^ P k (l + 1)), nI (yk_sm E (P k) l + E (P k l) (P k (l + 1))), x8 * 7 + (nI (P k (l + 1)) + 1).toInt64) ⟨by omega, ?_, ⟨M ||| 2 ^ P k (l + 1), yk_or64 hM (yk_pw64 _ p2), rfl, fun v => ?_⟩, ?_, ?_⟩)))
        · rw [show min (l + 1 + 1) (N k) = l + 1 + 1 by omega]
          rfl
        · rw [show min (l + 1 + 1) (N k) = l + 1 + 1 by omega, yk_tbo, Bool.or_eq_true, decide_eq_true_iff, hMp v]
          constructor
          · rintro (⟨j, j1, j2⟩ | y)
            · exact ⟨j, by omega, j2⟩
            · exact ⟨l + 1, by omega, y⟩
          · rintro ⟨j, j1, j2⟩
            by_cases y : j = l + 1
            · exact Or.inr (by rw [← y]; exact j2)
            · exact Or.inl ⟨j, by omega, j2⟩
        · rw [show min (l + 1 + 1) (N k) = l + 1 + 1 by omega]
          rfl
        · show x8 * 7 + (nI (P k (l + 1)) + 1).toInt64 = lN (yk_cd (P k) (N k) (l + 1) * 7 + if l + 1 < N k then P k (l + 1) + 1 else 0)
          rw [if_pos z, h4, nI_1, nI_l (by omega)]
          have e1 : lN (yk_cd (P k) (N k) (l + 1)) * lN 7 + lN (P k (l + 1) + 1) = lN (yk_cd (P k) (N k) (l + 1) * 7 + (P k (l + 1) + 1)) := by rw [lN_mul, lN_add]
          exact e1
theorem yk_r58 {post : Int32 → St1 → Prop} {k : Nat} (hG : yk_G E a1) (hs : s < 6) (ht : t < 6) (hn : s ≠ t) (hR : yk_Rk E s t R Q P N a2 a3 a4 a8) (hk : k < 2 ^ 30)
    (H : post 1 (1, nI s, nI t, f4, nI R, a1, a2, a3, a4, a5, a6, a7, a8, a9)) (z : Int32) (hz : (z = 0 ∧ R ≤ k) ∨ (z = 1 ∧ k < R)) :
    wL_ranked_58 post (nI s) (nI t) (nI k) (nI R) z z 1 (nI s) (nI t) f4 (nI R) a1 a2 a3 a4 a5 a6 a7 a8 a9 := by
  have r66 := hR.1
  refine br_t rfl (yk_length hs ht hn hR (by omega) (fun _ => br_t rfl (yk_lengthM hs ht hn (br_t rfl ?_))) (fun y => absurd y (by omega)))
  rcases hz with ⟨rfl, hz⟩ | ⟨rfl, hz⟩
  · exact br_t rfl H
  · refine br_f (by decide) (yk_keyW hG hs ht hn hR hz ?_)
    have b := yk_key_le (yk_G20 hG) (hR.2.1 k hz).2.2.1
    have pos : ¬ lN (yk_key E (P k) (N k)) < 0 := by
      intro y
      have y' : lN (yk_key E (P k) (N k)) < lN 0 := y
      have t1 := (pk_lLT (by omega) (by omega)).mp y'
      omega
    refine pk_le R (k + 1) (fun y => br_f pos (br_f (fun x => ?_) H)) (fun y => ?_) rfl (nI_1 k)
    · have x' : lN 1000000000000 ≤ lN (yk_key E (P k) (N k)) := x
      have t1 := (pk_lLE (by omega) (by omega)).mp x'
      omega
    · rw [nI_1 k]
      refine yk_keyW hG hs ht hn hR y (br_f pos (br_f (fun x => ?_) H))
      have b2 := yk_key_le (yk_G20 hG) (hR.2.1 (k + 1) y).2.2.1
      have t1 := (pk_lLE (by omega) (by omega)).mp x
      have t2 := hR.2.2 k y
      omega
theorem yk_ranked {post : Int32 → St1 → Prop} {k : Nat} (hG : yk_G E a1) (hs : s < 6) (ht : t < 6) (hn : s ≠ t) (hK : yk_Kn E f1 f2 f3 f5 a2 a3 a4 a8) (hk : k < 2 ^ 30)
    (H : ∀ (R : Nat) (Q : Nat → Nat) (P : Nat → Nat → Nat) (N : Nat → Nat) (f4 : Int32) (a2 a3 a4 a5 a6 a7 a8 a9 : Nat → Int32), yk_Rk E s t R Q P N a2 a3 a4 a8 → post 1 (1, nI s, nI t, f4, nI R, a1, a2, a3, a4, a5, a6, a7, a8, a9)) :
    wpL_ranked post (f1, f2, f3, f4, f5, a1, a2, a3, a4, a5, a6, a7, a8, a9) (nI s) (nI t) (nI k) := by
  unfold wpL_ranked
  refine yk_ways hG hs ht hn hK (fun R Q P N f4 a2 a3 a4 a5 a6 a7 a8 a9 hR => ?_)
  have H' := H R Q P N f4 a2 a3 a4 a5 a6 a7 a8 a9 hR
  have r66 := hR.1
  refine yk_length hs ht hn hR (by omega) (fun z => br_t rfl ?_) (fun z => br_f (yk_nm1 ?_) ?_)
  · refine pk_le R k (fun _ => br_t rfl (yk_size hs ht hn hR (by omega) (fun _ => br_t rfl ?_) (fun y => absurd y (by omega)))) (fun y => absurd y (by omega))
    exact yk_r58 hG hs ht hn hR hk H' 0 (Or.inl ⟨rfl, z⟩)
  · have V := (hR.2.1 k z).2.2.1
    have b := yk_sm_le (yk_G20 hG) (P k) (N k - 1) (fun x hx => V.2.2.2.2.1 x (by have t1 := V.1; omega))
    have n6 := V.2.1
    omega
  · have V := (hR.2.1 k z).2.2.1
    have n6 := V.2.1
    refine pk_le R k (fun y => absurd y (by omega)) (fun _ => br_t rfl (yk_size hs ht hn hR (by omega) (fun y => absurd y (by omega)) (fun _ => br_f (yk_nm1 (by omega)) ?_)))
    exact yk_r58 hG hs ht hn hR hk H' 1 (Or.inr ⟨rfl, z⟩)
end
end
section
/-! the law's through; shortest -/
section
variable {E : Nat → Nat → Nat} {f1 f2 f3 f4 f5 : Int32} {a1 a2 a3 a4 a5 a6 a7 a8 a9 : Nat → Int32} {s t R : Nat} {Q N : Nat → Nat} {P : Nat → Nat → Nat}
/-- how many of the first ways are no longer than l -/
theorem yk_cnt (f : Nat → Nat) (l R : Nat) : ∃ C, C ≤ R ∧ (∀ j, j < C → f j ≤ l) ∧ (C < R → l < f C) := by
  induction R with
  | zero => exact ⟨0, Nat.le_refl 0, fun j h => absurd h (by omega), fun h => absurd h (by omega)⟩
  | succ m ih =>
    obtain ⟨d, h1, h2, h3⟩ := ih
    by_cases hd : d < m
    · exact ⟨d, by omega, h2, fun _ => h3 hd⟩
    · by_cases he : f d ≤ l
      · refine ⟨d + 1, by omega, fun j hj => ?_, fun h => absurd h (by omega)⟩
        by_cases e : j = d
        · rw [e]
          exact he
        · exact h2 j (by omega)
      · exact ⟨d, by omega, h2, fun _ => by omega⟩
theorem yk_t125 {post : Int32 → St1 → Prop} {J73 : Int32 → Int32 → Int32 → Int32 → Int32 → Int32 → (Nat → Int32) → (Nat → Int32) → (Nat → Int32) → (Nat → Int32) → (Nat → Int32) → (Nat → Int32) → (Nat → Int32) → (Nat → Int32) → (Nat → Int32) → Prop} {x1 x2 x3 : Int32} {S v : Nat} {z : Int32} (hS : S < 64) (hv : v < 6) (hz : (z = 1 ∧ S.testBit v = true) ∨ (z = 0 ∧ S.testBit v = false)) (H : J73 (nI (v + 1)) f1 f2 f3 f4 f5 a1 a2 a3 a4 a5 a6 a7 a8 a9) :
    wL_through_125 post J73 x1 x2 x3 (nI S) (nI v) z f1 f2 f3 f4 f5 a1 a2 a3 a4 a5 a6 a7 a8 a9 := by
  rcases hz with ⟨rfl, h⟩ | ⟨rfl, h⟩
  · exact br_t ((yk_bit1 S hS v hv).mpr h) (br_t rfl (nm_r (nI_1 v) H))
  · refine br_f (fun y => ?_) (br_t rfl (nm_r (nI_1 v) H))
    rw [(yk_bit1 S hS v hv).mp y] at h
    exact absurd h (by decide)
theorem yk_t73 {post : Int32 → St1 → Prop} {S : Nat} (hs : s < 6) (ht : t < 6) (hn : s ≠ t) (hR : yk_Rk E s t R Q P N a2 a3 a4 a8) (hS : S < 64) (hS0 : R = 0 → S = 0) (hS1 : 0 < R → ∀ v, v < 6 → (S.testBit v = true ↔ v ≠ s ∧ v ≠ t ∧ ∀ k, k < R → yk_On P N k v))
    (H : post 1 (1, nI s, nI t, f4, nI R, a1, a2, a3, a4, a5, a6, a7, a8, a9)) :
    ∃ n, wL_through_73 post (nI s) (nI t) (nI R) (nI S) n 0 1 (nI s) (nI t) f4 (nI R) a1 a2 a3 a4 a5 a6 a7 a8 a9 := by
  have r66 := hR.1
  refine pk_loop (σ := Unit) (fun n v _ => wL_through_73 post (nI s) (nI t) (nI R) (nI S) n (nI v) 1 (nI s) (nI t) f4 (nI R) a1 a2 a3 a4 a5 a6 a7 a8 a9) (fun _ _ => True) 6 0 () (by omega) trivial ?_ ?_
  · intro n _ _
    exact pk_le 6 6 (fun _ => br_t (yk_s3 S hS) H) (fun z => absurd z (by omega))
  · intro n v _ hv _ hw
    refine pk_le 6 v (fun z => absurd z (by omega)) (fun _ => yk_first hs ht hn hv hR (fun y => br_t rfl ?_) (fun k y1 y2 y3 y4 => br_f (yk_nm1 (by omega)) ?_))
    · refine pk_le R 0 (fun z => ?_) (fun z => pk_eq v s (fun x => ?_) (fun x1 => pk_eq v t (fun x => ?_) (fun x2 => br_f (by decide) ?_)))
      · refine yk_t125 hS hv (Or.inr ⟨rfl, ?_⟩) (hw () trivial)
        rw [hS0 (by omega), Nat.zero_testBit]
      · refine yk_t125 hS hv (Or.inr ⟨rfl, ?_⟩) (hw () trivial)
        cases hh : S.testBit v with
        | false => rfl
        | true => exact absurd x ((hS1 z v hv).mp hh).1
      · refine yk_t125 hS hv (Or.inr ⟨rfl, ?_⟩) (hw () trivial)
        cases hh : S.testBit v with
        | false => rfl
        | true => exact absurd x ((hS1 z v hv).mp hh).2.1
      · refine yk_t125 hS hv (Or.inl ⟨rfl, ?_⟩) (hw () trivial)
        rcases y with y | y | y
        · exact absurd y x1
        · exact absurd y x2
        · exact (hS1 z v hv).mpr ⟨x1, x2, y⟩
    · have hf : S.testBit v = false := by
        cases hh : S.testBit v with
        | false => rfl
        | true => exact absurd (((hS1 (by omega) v hv).mp hh).2.2 k y3) y4
      exact pk_le R 0 (fun z => absurd z (by omega)) (fun z => br_f (by intro x; exact y1 ((nI_eq (by omega) (by omega)).mp x)) (br_f (by intro x; exact y2 ((nI_eq (by omega) (by omega)).mp x)) (br_t rfl (yk_t125 hS hv (Or.inr ⟨rfl, hf⟩) (hw () trivial)))))
theorem yk_through {post : Int32 → St1 → Prop} (hG : yk_G E a1) (hs : s < 6) (ht : t < 6) (hn : s ≠ t) (hR : yk_Rk E s t R Q P N a2 a3 a4 a8)
    (H : post 1 (1, nI s, nI t, f4, nI R, a1, a2, a3, a4, a5, a6, a7, a8, a9)) :
    wpL_through post (1, nI s, nI t, f4, nI R, a1, a2, a3, a4, a5, a6, a7, a8, a9) (nI s) (nI t) := by
  unfold wpL_through
  have r66 := hR.1
  refine yk_waysC hs ht hn (yk_musts hs ht hn hR (fun S hS hS0 hS1 => ?_))
  refine yk_length (k := 0) hs ht hn hR (by omega) (fun z => ?_) (fun z => ?_)
  · unfold wpX_shortest
    refine yk_length (k := 0) hs ht hn hR (by omega) (fun _ => br_f (by decide) (pk_eq R 0 (fun _ => br_t rfl (br_t (by rw [hS0 (by omega)]; rfl) (yk_t73 hs ht hn hR hS hS0 hS1 H))) (fun y => absurd z (by omega)))) (fun y => absurd y (by omega))
  · have V := (hR.2.1 0 z).2.2.1
    have b := yk_sm_le (yk_G20 hG) (P 0) (N 0 - 1) (fun x hx => V.2.2.2.2.1 x (by have t1 := V.1; omega))
    have n6 := V.2.1
    obtain ⟨C, c0, c1, c2⟩ := yk_cnt (fun k => yk_sm E (P k) (N k - 1)) (yk_sm E (P 0) (N 0 - 1)) R
    have cpos : 1 ≤ C := by
      rcases Nat.eq_zero_or_pos C with y | y
      · rw [y] at c2
        have t1 := c2 z
        omega
      · exact y
    unfold wpX_shortest
    refine yk_length (k := 0) hs ht hn hR (by omega) (fun y => absurd y (by omega)) (fun _ => br_t (nI_pos' (by omega)) (yk_within (yk_G20 hG) hs ht hn hR (by omega) c0 c1 c2 ?_))
    refine pk_eq R 0 (fun y => absurd y (by omega)) (fun _ => pk_lt C 1 (fun y => absurd y (by omega)) (fun _ => yk_within (yk_G20 hG) hs ht hn hR (by omega) c0 c1 c2 (br_t rfl (yk_t73 hs ht hn hR hS hS0 hS1 H))))
end
end
section
/-! build, close, detour; pick -/
/-- a road is set -/
def yk_set (E : Nat → Nat → Nat) (a b l : Nat) : Nat → Nat → Nat := fun x y => if x = a ∧ y = b then l else E x y
theorem yk_G_set {E : Nat → Nat → Nat} {a1 : Nat → Int32} {a b l : Nat} (hG : yk_G E a1) (ha : a < 6) (hb : b < 6) (hn : a ≠ b) (hl : l ≤ 20) : yk_G (yk_set E a b l) (upd a1 (a * 6 + b) (nI l)) := by
  refine ⟨fun x y hx hy => ?_, fun x hx => ?_⟩
  · unfold yk_set
    by_cases c : x = a ∧ y = b
    · rw [if_pos c, c.1, c.2, pk_us]
      exact ⟨rfl, hl⟩
    · rw [if_neg c, pk_un (by omega)]
      exact hG.1 x y hx hy
  · unfold yk_set
    rw [if_neg (by omega)]
    exact hG.2 x hx
section
variable {E : Nat → Nat → Nat} {f1 f2 f3 f4 f5 : Int32} {a1 a2 a3 a4 a5 a6 a7 a8 a9 : Nat → Int32} {s t a b : Nat}
theorem yk_build {post : Int32 → St1 → Prop} {l : Nat} (hG : yk_G E a1) (ha : a < 6) (hb : b < 6) (h1 : 1 ≤ l) (h20 : l ≤ 20)
    (H0 : post 0 (f1, f2, f3, f4, f5, a1, a2, a3, a4, a5, a6, a7, a8, a9)) (H1 : ∀ E' b1, yk_G E' b1 → post 1 (0, f2, f3, f4, f5, b1, a2, a3, a4, a5, a6, a7, a8, a9)) :
    wpX_build post (f1, f2, f3, f4, f5, a1, a2, a3, a4, a5, a6, a7, a8, a9) (nI a) (nI b) (nI l) := by
  unfold wpX_build
  exact yk_isPair ha hb (fun _ => br_t rfl H0) (fun z => br_f (by decide) (pk_lt l 1 (fun y => absurd y (by omega)) (fun _ => pk_le l 20 (fun _ => ⟨pk_in (a * 6 + b) 36 (by omega) (yk_ix _ _), nm_r (show upd a1 (nI a * 6 + nI b).toNatClampNeg (nI l).toInt8.toInt32 = upd a1 (a * 6 + b) (nI l) by rw [yk_ixc (by omega), yk_b8 l (by omega)]) (H1 _ _ (yk_G_set hG ha hb z h20))⟩) (fun y => absurd y (by omega)))))
theorem yk_close {post : Int32 → St1 → Prop} (hG : yk_G E a1) (ha : a < 6) (hb : b < 6)
    (H0 : post 0 (f1, f2, f3, f4, f5, a1, a2, a3, a4, a5, a6, a7, a8, a9)) (H1 : ∀ E' b1, yk_G E' b1 → post 1 (0, f2, f3, f4, f5, b1, a2, a3, a4, a5, a6, a7, a8, a9)) :
    wpX_close post (f1, f2, f3, f4, f5, a1, a2, a3, a4, a5, a6, a7, a8, a9) (nI a) (nI b) := by
  unfold wpX_close
  have h20 := yk_G20 hG a b ha hb
  exact yk_road hG ha hb (fun _ => br_f (by decide) H0) (fun z _ => br_t (nI_pos' (by omega)) ⟨pk_in (a * 6 + b) 36 (by omega) (yk_ix _ _), nm_r (show upd a1 (nI a * 6 + nI b).toNatClampNeg 0 = upd a1 (a * 6 + b) (nI 0) by rw [yk_ixc (by omega), nI_0]) (H1 _ _ (yk_G_set hG ha hb z (by omega)))⟩)
theorem yk_detour {post : Int32 → St1 → Prop} (hG : yk_G E a1) (hs : s < 6) (ht : t < 6) (hn : s ≠ t) (ha : a < 6) (hb : b < 6)
    (H : ∀ r s9, (r = -1 ∨ 0 ≤ r) → post r (f1, f2, f3, f4, f5, a1, a2, a3, a4, a5, a6, a7, a8, s9)) :
    wpX_detour post (f1, f2, f3, f4, f5, a1, a2, a3, a4, a5, a6, a7, a8, a9) (nI s) (nI t) (nI a) (nI b) := by
  unfold wpX_detour
  have h20 := yk_G20 hG a b ha hb
  refine yk_isPair hs ht (fun z => absurd z hn) (fun _ => br_f (by decide) (yk_road hG ha hb (fun _ => br_f (by decide) (H 0 a9 (Or.inr (by decide)))) (fun hab hE => br_t (nI_pos' (by omega)) ?_)))
  refine yk_measure (M := 0) hG (by omega) ht (fun D s9 hD h9 => ?_)
  have ei := yk_ixc (a := a) (b := b) (by omega)
  have eE : a1 (nI a * 6 + nI b).toNatClampNeg = nI (E a b) := yk_Ge hG ha hb
  refine ⟨pk_in s 6 hs, nm_r (yk_r6c h9 hs) ⟨pk_in (a * 6 + b) 36 (by omega) (yk_ix _ _), nm_r eE ⟨pk_in (a * 6 + b) 36 (by omega) (yk_ix _ _), nm_r (show upd a1 (nI a * 6 + nI b).toNatClampNeg 0 = upd a1 (a * 6 + b) (nI 0) by rw [ei, nI_0]) ?_⟩⟩⟩
  refine yk_measure (M := 0) (yk_G_set hG ha hb hab (by omega)) (by omega) ht (fun D' s9' hD' h9' => ?_)
  have back : upd (upd a1 (a * 6 + b) (nI 0)) (nI a * 6 + nI b).toNatClampNeg (vp_nar .byte (nI (E a b))) = a1 := by
    rw [ei, yk_nb (by omega)]
    funext x
    by_cases c : x = a * 6 + b
    · rw [c, pk_us]
      exact (hG.1 a b ha hb).1.symm
    · rw [pk_un c, pk_un c]
  have mono := yk_OK_mono hD hD' (fun x y hx hy h => ?_) s hs
  · have b1 := hD.1.2.1 s
    have b2 := hD'.1.2.1 s
    refine ⟨pk_in (a * 6 + b) 36 (by omega) (yk_ix _ _), nm_r back (pk_lt (D s) 1048576 (fun z => ⟨pk_in s 6 hs, pk_le 1048576 (D' s) (fun _ => H (-1) s9' (Or.inl rfl)) (fun _ => ⟨pk_in s 6 hs, ?_⟩) rfl (yk_r6c h9' hs)⟩) (fun z => H 0 s9' (Or.inr (by decide))))⟩
    rw [yk_r6c h9' hs, pk_sub mono]
    exact H _ s9' (Or.inr (nI_pos' (by omega)))
  · have e := (yk_F_pos h).2.2
    rw [e] at h ⊢
    unfold yk_set at h ⊢
    by_cases c : x = a ∧ y = b
    · rw [if_pos c] at h
      omega
    · rw [if_neg c]
      exact yk_F_eq (Nat.zero_testBit x) (Nat.zero_testBit y)
end
theorem yk_pick {post : Int32 → Prop} {L : Nat} {xs : Nat → Int32} {u : St2} {j n : Nat} (hL : L ≤ 260) (hj : j < 2 ^ 31) (hn : 0 < n) (hn' : n < 2 ^ 31) (H : ∀ r, r < n → post (nI r)) : wpL_pick post L xs u (nI j) (nI n) := by
  have main : ∀ x : Int32, post ((x &&& 2147483647) - (x &&& 2147483647) / nI n * nI n) := by
    intro x
    obtain ⟨y, y1, y2⟩ := pk_andE x (m := 2147483647) 31 (by decide)
    rw [y2, pk_rem y1 hn hn']
    exact H _ (Nat.mod_lt y hn)
  exact pk_le L j (fun _ => ⟨nI_ne0 hn hn', main 0⟩) (fun z => ⟨pk_in j L z, nm_e ⟨nI_ne0 hn hn', main _⟩⟩)
end
section
/-! the law -/
theorem yk_pickE {post : Int32 → Prop} {L : Nat} {xs : Nat → Int32} {u : St2} {p1 p2 : Int32} (j n : Nat) (h1 : p1 = nI j) (h2 : p2 = nI n) (hL : L ≤ 260) (hj : j < 2 ^ 31) (hn : 0 < n) (hn' : n < 2 ^ 31) (H : ∀ r, r < n → post (nI r)) : wpL_pick post L xs u p1 p2 := by
  rw [h1, h2]
  exact yk_pick hL hj hn hn' H
theorem yk_KnR {E : Nat → Nat → Nat} {s t R : Nat} {Q N : Nat → Nat} {P : Nat → Nat → Nat} {a2 a3 a4 a8 : Nat → Int32} (hs : s < 6) (ht : t < 6) (h : yk_Rk E s t R Q P N a2 a3 a4 a8) : yk_Kn E 1 (nI s) (nI t) (nI R) a2 a3 a4 a8 :=
  Or.inr ⟨rfl, s, t, R, Q, P, N, hs, ht, rfl, rfl, rfl, h⟩
section
variable {L : Nat} {xs : Nat → Int32} {kc ks : Nat} {E : Nat → Nat → Nat} {f1 f2 f3 f4 f5 : Int32} {a1 a2 a3 a4 a5 a6 a7 a8 a9 : Nat → Int32} {s t : Nat}
theorem yk_l205 (hG : yk_G E a1) (hs : s < 6) (ht : t < 6) (hn : s ≠ t) : ∀ (f k : Nat) (f1 f2 f3 f4 f5 : Int32) (a2 a3 a4 a5 a6 a7 a8 a9 : Nat → Int32), yk_Kn E f1 f2 f3 f5 a2 a3 a4 a8 → k ≤ 65 → 66 ≤ f + k →
    wL_law_205 (fun r => r = 1) L xs (nI s) (nI t) kc ks f (nI k) f1 f2 f3 f4 f5 a1 a2 a3 a4 a5 a6 a7 a8 a9 := by
  intro f
  induction f with
  | zero =>
    intro k f1 f2 f3 f4 f5 a2 a3 a4 a5 a6 a7 a8 a9 hK hk hf
    omega
  | succ f ih =>
    intro k f1 f2 f3 f4 f5 a2 a3 a4 a5 a6 a7 a8 a9 hK hk hf
    refine pk_le 65 k (fun _ => rfl) (fun z => yk_ranked hG hs ht hn hK (by omega) (fun R Q P N f4 a2 a3 a4 a5 a6 a7 a8 a9 hR => br_f (by decide) (nm_r (nI_1 k) ?_)))
    exact ih (k + 1) 1 (nI s) (nI t) f4 (nI R) a2 a3 a4 a5 a6 a7 a8 a9 (yk_KnR hs ht hR) (by omega) (by omega)
theorem yk_l147 {J15 : Int32 → Int32 → Int32 → Int32 → Int32 → Int32 → Int32 → Int32 → (Nat → Int32) → (Nat → Int32) → (Nat → Int32) → (Nat → Int32) → (Nat → Int32) → (Nat → Int32) → (Nat → Int32) → (Nat → Int32) → (Nat → Int32) → Prop} {i a b k : Nat} (hG : yk_G E a1) (hs : s < 6) (ht : t < 6) (hn : s ≠ t) (ha : a < 6) (hb : b < 6) (hk : k < 2 ^ 30) (hK : yk_Kn E f1 f2 f3 f5 a2 a3 a4 a8)
    (H : ∀ (R : Nat) (Q : Nat → Nat) (P : Nat → Nat → Nat) (N : Nat → Nat) (f4 : Int32) (a2 a3 a4 a5 a6 a7 a8 a9 : Nat → Int32), yk_Rk E s t R Q P N a2 a3 a4 a8 → J15 (nI s) (nI t) (nI (i + 4)) 1 (nI s) (nI t) f4 (nI R) a1 a2 a3 a4 a5 a6 a7 a8 a9) :
    wL_law_147 (fun r => r = 1) L xs J15 (nI s) (nI t) (nI i) (nI a) (nI b) (nI k) kc ks f1 f2 f3 f4 f5 a1 a2 a3 a4 a5 a6 a7 a8 a9 := by
  unfold wL_law_147
  refine yk_ranked hG hs ht hn hK hk (fun R Q P N f4 a2 a3 a4 a5 a6 a7 a8 a9 hR => br_f (by decide) ?_)
  refine yk_through hG hs ht hn hR (br_f (by decide) ?_)
  refine yk_detour hG hs ht hn ha hb (fun r s9 hr => ?_)
  have go := H R Q P N f4 a2 a3 a4 a5 a6 a7 a8 s9 hR
  have e : nI i + 4 = nI (i + 4) := nI_add i 4
  refine br_c (fun _ => nm_r e go) (fun z => br_t ?_ (nm_r e go))
  rcases hr with y | y
  · exact absurd y z
  · exact y
theorem yk_l104 {J15 : Int32 → Int32 → Int32 → Int32 → Int32 → Int32 → Int32 → Int32 → (Nat → Int32) → (Nat → Int32) → (Nat → Int32) → (Nat → Int32) → (Nat → Int32) → (Nat → Int32) → (Nat → Int32) → (Nat → Int32) → (Nat → Int32) → Prop} {i o a b c : Nat} (hG : yk_G E a1) (ho : o < 8) (ha : a < 6) (hb : b < 6) (hc : c < 400) (hK : yk_Kn E f1 f2 f3 f5 a2 a3 a4 a8)
    (H : ∀ (s t R : Nat) (Q : Nat → Nat) (P : Nat → Nat → Nat) (N : Nat → Nat) (f4 : Int32) (a2 a3 a4 a5 a6 a7 a8 a9 : Nat → Int32), s < 6 → t < 6 → s ≠ t → yk_Rk E s t R Q P N a2 a3 a4 a8 → J15 (nI s) (nI t) (nI (i + 4)) 1 (nI s) (nI t) f4 (nI R) a1 a2 a3 a4 a5 a6 a7 a8 a9) :
    wL_law_104 (fun r => r = 1) L xs J15 (nI i) (nI o) (nI a) (nI b) (nI c) kc ks f1 f2 f3 f4 f5 a1 a2 a3 a4 a5 a6 a7 a8 a9 := by
  have e1 : (nI a + nI o) - (nI a + nI o) / 6 * 6 = nI ((a + o) % 6) := by
    rw [nI_add]
    exact pk_rem (a := a + o) (d := 6) (by omega) (by omega) (by omega)
  have e2 : ∀ s, s < 6 → ((nI s + 1) + (nI c - nI c / 5 * 5)) - ((nI s + 1) + (nI c - nI c / 5 * 5)) / 6 * 6 = nI ((s + 1 + c % 5) % 6) := by
    intro s hs
    have e3 : nI c - nI c / 5 * 5 = nI (c % 5) := pk_rem (a := c) (d := 5) (by omega) (by omega) (by omega)
    rw [e3, nI_1, nI_add]
    exact pk_rem (a := s + 1 + c % 5) (d := 6) (by omega) (by omega) (by omega)
  have hs : (a + o) % 6 < 6 := Nat.mod_lt _ (by omega)
  refine ⟨by decide, nm_r e1 ⟨by decide, by decide, nm_r (e2 _ hs) ?_⟩⟩
  generalize (a + o) % 6 = s at hs
  have ht : (s + 1 + c % 5) % 6 < 6 := Nat.mod_lt _ (by omega)
  have hn : s ≠ (s + 1 + c % 5) % 6 := by omega
  generalize (s + 1 + c % 5) % 6 = t at ht hn
  refine yk_ways hG hs ht hn hK (fun R Q P N f4 a2 a3 a4 a5 a6 a7 a8 a9 hR => ?_)
  have r66 := hR.1
  refine pk_eq R 0 (fun z => ?_) (fun z => ⟨nI_ne0 (by omega) (by omega), ?_⟩)
  · exact yk_l147 (k := 0) hG hs ht hn ha hb (by omega) (yk_KnR hs ht hR) (fun R Q P N f4 a2 a3 a4 a5 a6 a7 a8 a9 hR => H s t R Q P N f4 a2 a3 a4 a5 a6 a7 a8 a9 hs ht hn hR)
  · rw [pk_rem (a := c) (d := R) (by omega) (by omega) (by omega)]
    have hm : c % R < R := Nat.mod_lt _ (by omega)
    exact yk_l147 (k := c % R) hG hs ht hn ha hb (by omega) (yk_KnR hs ht hR) (fun R Q P N f4 a2 a3 a4 a5 a6 a7 a8 a9 hR => H s t R Q P N f4 a2 a3 a4 a5 a6 a7 a8 a9 hs ht hn hR)
theorem yk_l15 (hL : L ≤ 260) : ∀ (f i s t : Nat) (E : Nat → Nat → Nat) (f1 f2 f3 f4 f5 : Int32) (a1 a2 a3 a4 a5 a6 a7 a8 a9 : Nat → Int32), yk_G E a1 → yk_Kn E f1 f2 f3 f5 a2 a3 a4 a8 → s < 6 → t < 6 → s ≠ t → i ≤ 264 → 265 ≤ 4 * f + i →
    wL_law_15 (fun r => r = 1) L xs kc ks f (nI s) (nI t) (nI i) f1 f2 f3 f4 f5 a1 a2 a3 a4 a5 a6 a7 a8 a9 := by
  intro f
  induction f with
  | zero =>
    intro i s t E f1 f2 f3 f4 f5 a1 a2 a3 a4 a5 a6 a7 a8 a9 hG hK hs ht hn hi hf
    omega
  | succ f ih =>
    intro i s t E f1 f2 f3 f4 f5 a1 a2 a3 a4 a5 a6 a7 a8 a9 hG hK hs ht hn hi hf
    refine pk_le L i (fun _ => ⟨66, yk_l205 hG hs ht hn 66 0 f1 f2 f3 f4 f5 a2 a3 a4 a5 a6 a7 a8 a9 hK (by omega) (by omega)⟩) (fun z => ?_)
    refine yk_pickE i 8 rfl rfl hL (by omega) (by omega) (by omega) (fun o ho => yk_pickE (i + 1) 6 (nI_1 i) rfl hL (by omega) (by omega) (by omega) (fun a ha => yk_pickE (i + 2) 6 (nI_add i 2) rfl hL (by omega) (by omega) (by omega) (fun b hb => yk_pickE (i + 3) 400 (nI_add i 3) rfl hL (by omega) (by omega) (by omega) (fun c hc => ?_))))
    have go : ∀ (E : Nat → Nat → Nat) (f1 f2 f3 f4 f5 : Int32) (a1 a2 a3 a4 a5 a6 a7 a8 a9 : Nat → Int32), yk_G E a1 → yk_Kn E f1 f2 f3 f5 a2 a3 a4 a8 → wL_law_104 (fun r => r = 1) L xs (wL_law_15 (fun r => r = 1) L xs kc ks f) (nI i) (nI o) (nI a) (nI b) (nI c) kc ks f1 f2 f3 f4 f5 a1 a2 a3 a4 a5 a6 a7 a8 a9 :=
      fun E f1 f2 f3 f4 f5 a1 a2 a3 a4 a5 a6 a7 a8 a9 hG hK => yk_l104 hG ho ha hb hc hK (fun s t R Q P N f4 a2 a3 a4 a5 a6 a7 a8 a9 hs ht hn hR => ih (i + 4) s t E 1 (nI s) (nI t) f4 (nI R) a1 a2 a3 a4 a5 a6 a7 a8 a9 hG (yk_KnR hs ht hR) hs ht hn (by omega) (by omega))
    have e : 1 + (nI c - nI c / 20 * 20) = nI (1 + c % 20) := by
      have e1 : nI 1 + (nI c - nI c / nI 20 * nI 20) = nI (1 + c % 20) := by
        rw [pk_rem (a := c) (d := 20) (by omega) (by omega) (by omega), nI_add]
      exact e1
    refine pk_lt 6 o (fun _ => ?_) (fun _ => ⟨by decide, ?_⟩)
    · exact yk_close hG ha hb (go E f1 f2 f3 f4 f5 a1 a2 a3 a4 a5 a6 a7 a8 a9 hG hK) (fun E' b1 hG' => go E' 0 f2 f3 f4 f5 b1 a2 a3 a4 a5 a6 a7 a8 a9 hG' (Or.inl rfl))
    · rw [e]
      exact yk_build hG ha hb (by omega) (by omega) (go E f1 f2 f3 f4 f5 a1 a2 a3 a4 a5 a6 a7 a8 a9 hG hK) (fun E' b1 hG' => go E' 0 f2 f3 f4 f5 b1 a2 a3 a4 a5 a6 a7 a8 a9 hG' (Or.inl rfl))
end
theorem i_vc (xs : Nat → Int32) (L : Nat) (hL : L ≤ 260) : wpL_law (fun r => r = 1) L xs := by
  refine ⟨9, 834, by omega, by omega, by omega, by omega, by omega, by omega, by omega, by omega, by omega, by omega, by omega, by omega, by omega, by omega, by omega, by omega, by omega, by omega, by omega, by omega, ⟨67, ?_⟩⟩
  exact yk_l15 hL 67 0 0 1 (fun _ _ => 0) 0 0 0 0 0 (fun _ => 0) _ _ _ _ _ _ _ _ ⟨fun a b _ _ => ⟨rfl, Nat.zero_le _⟩, fun a _ => rfl⟩ (Or.inl rfl) (by omega) (by omega) (by omega) (by omega) (by omega)
end
