section
/-- sums over the first n naturals -/
def rk_s : Nat → (Nat → Int) → Int
  | 0, _ => 0
  | n + 1, f => rk_s n f + f n
theorem rk_s_congr {f g : Nat → Int} : ∀ {n : Nat}, (∀ c, c < n → f c = g c) → rk_s n f = rk_s n g
  | 0, _ => rfl
  | n + 1, h => by
    show rk_s n f + f n = rk_s n g + g n
    rw [rk_s_congr (fun c hc => h c (by omega)), h n (by omega)]
theorem rk_s_add (f g : Nat → Int) : ∀ n, rk_s n (fun c => f c + g c) = rk_s n f + rk_s n g
  | 0 => rfl
  | n + 1 => by
    show rk_s n (fun c => f c + g c) + (f n + g n) = rk_s n f + f n + (rk_s n g + g n)
    rw [rk_s_add f g n]; omega
theorem rk_s_mul (a : Int) (f : Nat → Int) : ∀ n, rk_s n (fun c => a * f c) = a * rk_s n f
  | 0 => by show (0 : Int) = a * 0; omega
  | n + 1 => by
    show rk_s n (fun c => a * f c) + a * f n = a * (rk_s n f + f n)
    rw [rk_s_mul a f n, Int.mul_add]
theorem rk_s_zero : ∀ n, rk_s n (fun _ => 0) = 0
  | 0 => rfl
  | n + 1 => by
    show rk_s n (fun _ => 0) + 0 = 0
    rw [rk_s_zero n]; rfl
theorem rk_s_z {f : Nat → Int} {n : Nat} (h : ∀ c, c < n → f c = 0) : rk_s n f = 0 := by
  rw [rk_s_congr h, rk_s_zero]
theorem rk_s_swap (F : Nat → Nat → Int) (m : Nat) : ∀ n, rk_s n (fun c => rk_s m (fun d => F c d)) = rk_s m (fun d => rk_s n (fun c => F c d))
  | 0 => by
    show (0 : Int) = rk_s m (fun d => 0)
    rw [rk_s_zero]
  | n + 1 => by
    show rk_s n (fun c => rk_s m (fun d => F c d)) + rk_s m (fun d => F n d) = rk_s m (fun d => rk_s n (fun c => F c d) + F n d)
    rw [rk_s_swap F m n, rk_s_add]
theorem rk_s_one {f g : Nat → Int} {r0 : Nat} (hg : g r0 = 0) : ∀ {n : Nat}, r0 < n → (∀ r, r < n → r ≠ r0 → f r = g r) → rk_s n f = f r0 + rk_s n g
  | 0, h0, _ => absurd h0 (by omega)
  | n + 1, h0, h => by
    show rk_s n f + f n = f r0 + (rk_s n g + g n)
    by_cases e : r0 = n
    · rw [rk_s_congr (f := f) (g := g) (fun c hc => h c (by omega) (by omega)), ← e, hg]; omega
    · rw [rk_s_one hg (by omega) (fun r hr hn => h r (by omega) hn), h n (by omega) (fun z => e z.symm)]; omega
theorem rk_s_le {f g : Nat → Int} : ∀ {n : Nat}, (∀ c, c < n → f c ≤ g c) → rk_s n f ≤ rk_s n g
  | 0, _ => Int.le_refl 0
  | n + 1, h => by
    show rk_s n f + f n ≤ rk_s n g + g n
    have h1 := rk_s_le (n := n) (f := f) (g := g) (fun c hc => h c (by omega))
    have h2 := h n (by omega)
    omega
theorem rk_s_nn {f : Nat → Int} {n : Nat} (h : ∀ c, c < n → 0 ≤ f c) : 0 ≤ rk_s n f := by
  have := rk_s_le (f := fun _ => 0) (g := f) h
  rw [rk_s_zero] at this
  exact this
theorem rk_s_const (a : Int) : ∀ n : Nat, rk_s n (fun _ => a) = n * a
  | 0 => by show (0 : Int) = ((0 : Nat) : Int) * a; simp
  | n + 1 => by
    show rk_s n (fun _ => a) + a = ((n + 1 : Nat) : Int) * a
    rw [rk_s_const a n]; grind
/-- sets of columns or rows -/
def rk_u (S : Nat → Bool) (c : Nat) : Nat → Bool := fun j => decide (j = c) || S j
theorem rk_u_comm (S : Nat → Bool) (c d : Nat) : rk_u (rk_u S c) d = rk_u (rk_u S d) c := by
  funext j
  simp only [rk_u]
  cases decide (j = c) <;> cases decide (j = d) <;> rfl
theorem rk_u_ne {S : Nat → Bool} {c j : Nat} (h : j ≠ c) : rk_u S c j = S j := by
  simp [rk_u, h]
theorem rk_u_eq {S : Nat → Bool} {c : Nat} : rk_u S c c = true := by
  simp [rk_u]
/-- sums over the free places -/
def rk_c (n : Nat) (S : Nat → Bool) (f : Nat → Int) : Int := rk_s n (fun c => if S c then 0 else f c)
theorem rk_c_congr {n : Nat} {S : Nat → Bool} {f g : Nat → Int} (h : ∀ c, c < n → S c = false → f c = g c) : rk_c n S f = rk_c n S g := by
  refine rk_s_congr (fun c hc => ?_)
  cases e : S c
  · simp [h c hc e]
  · simp
theorem rk_c_add (n : Nat) (S : Nat → Bool) (f g : Nat → Int) : rk_c n S (fun c => f c + g c) = rk_c n S f + rk_c n S g := by
  rw [rk_c, rk_c, rk_c, ← rk_s_add]
  refine rk_s_congr (fun c _ => ?_)
  cases S c <;> simp
theorem rk_c_mul (n : Nat) (S : Nat → Bool) (a : Int) (f : Nat → Int) : rk_c n S (fun c => a * f c) = a * rk_c n S f := by
  rw [rk_c, rk_c, ← rk_s_mul]
  refine rk_s_congr (fun c _ => ?_)
  cases S c <;> simp
theorem rk_c_z {n : Nat} {S : Nat → Bool} {f : Nat → Int} (h : ∀ c, c < n → S c = false → f c = 0) : rk_c n S f = 0 := by
  refine rk_s_z (fun c hc => ?_)
  cases e : S c
  · simp [h c hc e]
  · simp
theorem rk_c_c (n : Nat) (S : Nat → Bool) (F : Nat → Nat → Int) : rk_c n S (fun c => rk_c n (rk_u S c) (fun d => F c d)) = rk_s n (fun c => rk_s n (fun d => if S c || S d || decide (d = c) then 0 else F c d)) := by
  refine rk_s_congr (fun c hc => ?_)
  cases e : S c
  · simp only [Bool.false_eq_true, if_false, rk_c]
    refine rk_s_congr (fun d hd => ?_)
    by_cases z : d = c
    · subst z
      simp [rk_u_eq]
    · rw [rk_u_ne z]
      simp [z]
  · simp only [if_true, Bool.true_or]
    rw [rk_s_zero]
theorem rk_c_swap (n : Nat) (S : Nat → Bool) (F : Nat → Nat → Int) : rk_c n S (fun c => rk_c n (rk_u S c) (fun d => F c d)) = rk_c n S (fun d => rk_c n (rk_u S d) (fun c => F c d)) := by
  rw [rk_c_c, rk_c_c n S (fun d c => F c d), rk_s_swap]
  refine rk_s_congr (fun d _ => rk_s_congr (fun c _ => ?_))
  have : decide (d = c) = decide (c = d) := by
    by_cases h : d = c
    · simp [h]
    · simp [h, show ¬ c = d from fun z => h z.symm]
  rw [this, Bool.or_comm (S c) (S d)]
theorem rk_c_s (n m : Nat) (S : Nat → Bool) (F : Nat → Nat → Int) : rk_c n S (fun c => rk_s m (fun d => F c d)) = rk_s m (fun d => rk_c n S (fun c => F c d)) := by
  unfold rk_c
  rw [← rk_s_swap]
  refine rk_s_congr (fun c _ => ?_)
  cases S c
  · rfl
  · simp only [if_true]; rw [rk_s_zero]
/-- products, the sign of a place -/
def rk_p : Nat → (Nat → Int) → Int
  | 0, _ => 1
  | n + 1, f => rk_p n f * f n
def rk_e (s : Int) (S : Nat → Bool) (c : Nat) : Int := rk_p 6 (fun t => if S t && decide (c < t) then s else 1)
theorem rk_p_u (s : Int) (S : Nat → Bool) (c d : Nat) (hd : S d = false) : ∀ N, rk_p N (fun t => if rk_u S d t && decide (c < t) then s else 1) = rk_p N (fun t => if S t && decide (c < t) then s else 1) * (if d < N ∧ c < d then s else 1)
  | 0 => by simp [rk_p]
  | N + 1 => by
    show rk_p N _ * _ = rk_p N _ * _ * _
    rw [rk_p_u s S c d hd N]
    dsimp only
    by_cases e : N = d
    · subst e
      rw [rk_u_eq, hd]
      by_cases z : c < N <;> simp [z]
    · rw [rk_u_ne e]
      by_cases z : d < N ∧ c < d
      · rw [if_pos z, if_pos (show d < N + 1 ∧ c < d from ⟨by omega, z.2⟩)]; grind
      · rw [if_neg z, if_neg (show ¬ (d < N + 1 ∧ c < d) from fun y => z ⟨by omega, y.2⟩)]; grind
theorem rk_e_u {s : Int} {S : Nat → Bool} {c d : Nat} (hd : S d = false) (h6 : d < 6) : rk_e s (rk_u S d) c = rk_e s S c * (if c < d then s else 1) := by
  unfold rk_e
  rw [rk_p_u s S c d hd 6]
  by_cases z : c < d
  · rw [if_pos ⟨h6, z⟩, if_pos z]
  · rw [if_neg (fun y => z y.2), if_neg z]
theorem rk_e_anti {s : Int} (hs : s * s = 1) {S : Nat → Bool} {c d : Nat} (hc : S c = false) (hd : S d = false) (c6 : c < 6) (d6 : d < 6) (h : c ≠ d) : rk_e s S c * rk_e s (rk_u S c) d = s * (rk_e s S d * rk_e s (rk_u S d) c) := by
  rw [rk_e_u hc c6, rk_e_u hd d6]
  by_cases z : c < d
  · rw [if_pos z, if_neg (by omega)]; grind
  · rw [if_neg z, if_pos (by omega)]; grind
theorem rk_p_one {f : Nat → Int} : ∀ {n : Nat}, (∀ t, t < n → f t = 1) → rk_p n f = 1
  | 0, _ => rfl
  | n + 1, h => by
    show rk_p n f * f n = 1
    rw [rk_p_one (fun t ht => h t (by omega)), h n (by omega)]; rfl
theorem rk_p_congr {f g : Nat → Int} : ∀ {n : Nat}, (∀ t, t < n → f t = g t) → rk_p n f = rk_p n g
  | 0, _ => rfl
  | n + 1, h => by
    show rk_p n f * f n = rk_p n g * g n
    rw [rk_p_congr (fun t ht => h t (by omega)), h n (by omega)]
theorem rk_e_one (S : Nat → Bool) (c : Nat) : rk_e 1 S c = 1 := rk_p_one (fun t _ => by simp)
theorem rk_e_emp (s : Int) (c : Nat) : rk_e s (fun _ => false) c = 1 := rk_p_one (fun t _ => by simp)
theorem rk_e_congr {s : Int} {S S' : Nat → Bool} {c : Nat} (h : ∀ t, c < t → t < 6 → S t = S' t) : rk_e s S c = rk_e s S' c := by
  refine rk_p_congr (fun t ht => ?_)
  by_cases z : c < t
  · rw [h t z ht]
  · simp [z]
end
section
/-- all placements in the rows n - m .. n - 1 that are not in T, in columns that are not in S: s the sign of a turn, dl 1 where a row may stay empty, g the worth of the columns at the end -/
def rk_V (s dl : Int) (n : Nat) (w : Nat → Nat → Int) (g : (Nat → Bool) → Int) : Nat → (Nat → Bool) → (Nat → Bool) → Int
  | 0, _, S => g S
  | m + 1, T, S => if T (n - 1 - m) then rk_V s dl n w g m T S else dl * rk_V s dl n w g m T S + rk_c n S (fun c => rk_e s T (n - 1 - m) * rk_e s S c * w (n - 1 - m) c * rk_V s dl n w g m T (rk_u S c))
theorem rk_V_t {s dl : Int} {n : Nat} {w : Nat → Nat → Int} {g : (Nat → Bool) → Int} {m : Nat} {T S : Nat → Bool} (h : T (n - 1 - m) = true) : rk_V s dl n w g (m + 1) T S = rk_V s dl n w g m T S := by
  rw [rk_V, if_pos h]
theorem rk_V_f {s dl : Int} {n : Nat} {w : Nat → Nat → Int} {g : (Nat → Bool) → Int} {m : Nat} {T S : Nat → Bool} (h : T (n - 1 - m) = false) : rk_V s dl n w g (m + 1) T S = dl * rk_V s dl n w g m T S + rk_c n S (fun c => rk_e s T (n - 1 - m) * rk_e s S c * w (n - 1 - m) c * rk_V s dl n w g m T (rk_u S c)) := by
  rw [rk_V, if_neg (by rw [h]; simp)]
theorem rk_V_T {s dl : Int} {n : Nat} {w : Nat → Nat → Int} {g : (Nat → Bool) → Int} : ∀ {m : Nat} {T T' : Nat → Bool} (S : Nat → Bool), m ≤ n → (∀ t, n ≤ t + m → T t = T' t) → rk_V s dl n w g m T S = rk_V s dl n w g m T' S
  | 0, _, _, _, _, _ => rfl
  | m + 1, T, T', S, hm, h => by
    have ih : ∀ S, rk_V s dl n w g m T S = rk_V s dl n w g m T' S := fun S => rk_V_T S (by omega) (fun t ht => h t (by omega))
    have e0 : T (n - 1 - m) = T' (n - 1 - m) := h _ (by omega)
    have e1 : rk_e s T (n - 1 - m) = rk_e s T' (n - 1 - m) := rk_e_congr (fun t ht _ => h t (by omega))
    cases hT : T (n - 1 - m)
    · rw [rk_V_f hT, rk_V_f (by rw [← e0, hT]), ih S, e1]
      congr 1
      exact rk_c_congr (fun c _ _ => by rw [ih])
    · rw [rk_V_t hT, rk_V_t (by rw [← e0, hT]), ih S]
theorem rk_V_w {s dl : Int} {n : Nat} {w w' : Nat → Nat → Int} {g : (Nat → Bool) → Int} {T : Nat → Bool} (h : ∀ r, r < n → T r = false → ∀ c, c < n → w r c = w' r c) : ∀ {m : Nat} (S : Nat → Bool), m ≤ n → rk_V s dl n w g m T S = rk_V s dl n w' g m T S
  | 0, _, _ => rfl
  | m + 1, S, hm => by
    have ih : ∀ S, rk_V s dl n w g m T S = rk_V s dl n w' g m T S := fun S => rk_V_w h S (by omega)
    cases hT : T (n - 1 - m)
    · rw [rk_V_f hT, rk_V_f hT, ih S]
      congr 1
      exact rk_c_congr (fun c hc _ => by rw [ih, h _ (by omega) hT c hc])
    · rw [rk_V_t hT, rk_V_t hT, ih S]
theorem rk_V_g {s dl : Int} {n : Nat} {w : Nat → Nat → Int} {g g' : (Nat → Bool) → Int} {T : Nat → Bool} (h : ∀ S : Nat → Bool, (∀ c, S c = true → c < n) → g S = g' S) : ∀ {m : Nat} (S : Nat → Bool), m ≤ n → (∀ c, S c = true → c < n) → rk_V s dl n w g m T S = rk_V s dl n w g' m T S
  | 0, S, _, hS => h S hS
  | m + 1, S, hm, hS => by
    have ih : ∀ S : Nat → Bool, (∀ c, S c = true → c < n) → rk_V s dl n w g m T S = rk_V s dl n w g' m T S := fun S => rk_V_g h S (by omega)
    cases hT : T (n - 1 - m)
    · rw [rk_V_f hT, rk_V_f hT, ih S hS]
      congr 1
      refine rk_c_congr (fun c hc _ => ?_)
      rw [ih (rk_u S c)]
      intro j hj
      by_cases e : j = c
      · omega
      · rw [rk_u_ne e] at hj
        exact hS j hj
    · rw [rk_V_t hT, rk_V_t hT, ih S hS]
theorem rk_uf {S : Nat → Bool} {c d : Nat} (h : rk_u S c d = false) : S d = false ∧ d ≠ c := by
  by_cases e : d = c
  · rw [e, rk_u_eq] at h
    exact absurd h (by simp)
  · rw [rk_u_ne e] at h
    exact ⟨h, e⟩
/-- two rows at once, in either order -/
theorem rk_dd {s : Int} (hs : s * s = 1) {n : Nat} (hn : n ≤ 6) (S : Nat → Bool) (a b : Int) (f h : Nat → Int) (X : (Nat → Bool) → Int) :
    rk_c n S (fun c => rk_c n (rk_u S c) (fun d => (a * rk_e s S c * f c) * (b * rk_e s (rk_u S c) d * h d * X (rk_u (rk_u S c) d))))
    = s * rk_c n S (fun d => rk_c n (rk_u S d) (fun c => (b * rk_e s S d * h d) * (a * rk_e s (rk_u S d) c * f c * X (rk_u (rk_u S d) c)))) := by
  rw [rk_c_swap, ← rk_c_mul]
  refine rk_c_congr (fun d hd hSd => ?_)
  rw [← rk_c_mul]
  refine rk_c_congr (fun c hc hSc => ?_)
  obtain ⟨hc1, hc2⟩ := rk_uf hSc
  have h1 := rk_e_anti hs hc1 hSd (by omega) (by omega) hc2
  rw [rk_u_comm S c d]
  have h2 : (a * rk_e s S c * f c) * (b * rk_e s (rk_u S c) d * h d * X (rk_u (rk_u S d) c)) = (rk_e s S c * rk_e s (rk_u S c) d) * (a * f c * b * h d * X (rk_u (rk_u S d) c)) := by grind
  rw [h2, h1]
  grind
theorem rk_V_exp {s dl : Int} (hs : s * s = 1) (hd : s = 1 ∨ dl = 0) {n : Nat} (hn : n ≤ 6) (w : Nat → Nat → Int) (g : (Nat → Bool) → Int) {r : Nat} (hr : r < n) : ∀ (m : Nat) (T S : Nat → Bool), m ≤ n → T r = false → n ≤ r + m →
    rk_V s dl n w g m T S = dl * rk_V s dl n w g m (rk_u T r) S + rk_c n S (fun c => rk_e s T r * rk_e s S c * w r c * rk_V s dl n w g m (rk_u T r) (rk_u S c))
  | 0, _, _, _, _, h => absurd h (by omega)
  | m + 1, T, S, hm, hT, h => by
    by_cases e : r = n - 1 - m
    · have e2 : ∀ S, rk_V s dl n w g (m + 1) (rk_u T r) S = rk_V s dl n w g m T S := by
        intro S
        rw [rk_V_t (by rw [← e]; exact rk_u_eq)]
        exact rk_V_T S (by omega) (fun t ht => rk_u_ne (by omega))
      rw [rk_V_f (by rw [← e]; exact hT), e2, ← e]
      congr 1
      exact rk_c_congr (fun c _ _ => by rw [e2])
    · have ih : ∀ S, rk_V s dl n w g m T S = dl * rk_V s dl n w g m (rk_u T r) S + rk_c n S (fun c => rk_e s T r * rk_e s S c * w r c * rk_V s dl n w g m (rk_u T r) (rk_u S c)) := fun S => rk_V_exp hs hd hn w g hr m T S (by omega) hT (by omega)
      have e0 : rk_u T r (n - 1 - m) = T (n - 1 - m) := rk_u_ne (fun z => e z.symm)
      cases hT0 : T (n - 1 - m)
      · have e1 : rk_e s (rk_u T r) (n - 1 - m) = rk_e s T (n - 1 - m) * s := by
          rw [rk_e_u hT (by omega), if_pos (by omega)]
        rw [rk_V_f hT0]
        rw [rk_V_f (show rk_u T r (n - 1 - m) = false by rw [e0, hT0])]
        rw [rk_c_congr (f := fun c => rk_e s T r * rk_e s S c * w r c * rk_V s dl n w g (m + 1) (rk_u T r) (rk_u S c))
          (g := fun c => dl * (rk_e s T r * rk_e s S c * w r c * rk_V s dl n w g m (rk_u T r) (rk_u S c)) + s * rk_c n (rk_u S c) (fun d => (rk_e s T r * rk_e s S c * w r c) * (rk_e s T (n - 1 - m) * rk_e s (rk_u S c) d * w (n - 1 - m) d * rk_V s dl n w g m (rk_u T r) (rk_u (rk_u S c) d))))
          (fun c _ _ => by
            rw [rk_V_f (show rk_u T r (n - 1 - m) = false by rw [e0, hT0]), e1, ← rk_c_mul]
            rw [Int.mul_add, ← rk_c_mul]
            congr 1
            · grind
            · exact rk_c_congr (fun d _ _ => by grind))]
        rw [rk_c_congr (f := fun c => rk_e s T (n - 1 - m) * rk_e s S c * w (n - 1 - m) c * rk_V s dl n w g m T (rk_u S c))
          (g := fun c => dl * (rk_e s T (n - 1 - m) * rk_e s S c * w (n - 1 - m) c * rk_V s dl n w g m (rk_u T r) (rk_u S c)) + rk_c n (rk_u S c) (fun d => (rk_e s T (n - 1 - m) * rk_e s S c * w (n - 1 - m) c) * (rk_e s T r * rk_e s (rk_u S c) d * w r d * rk_V s dl n w g m (rk_u T r) (rk_u (rk_u S c) d))))
          (fun c _ _ => by
            rw [ih (rk_u S c), Int.mul_add, ← rk_c_mul]
            congr 1
            grind)]
        rw [ih S, e1, rk_c_add, rk_c_add, rk_c_mul, rk_c_mul, rk_c_mul, rk_dd hs hn]
        rw [rk_c_congr (f := fun c => rk_e s T (n - 1 - m) * s * rk_e s S c * w (n - 1 - m) c * rk_V s dl n w g m (rk_u T r) (rk_u S c))
          (g := fun c => s * (rk_e s T (n - 1 - m) * rk_e s S c * w (n - 1 - m) c * rk_V s dl n w g m (rk_u T r) (rk_u S c))) (fun c _ _ => by grind), rk_c_mul]
        generalize rk_c n S _ = A
        generalize rk_c n S _ = B
        generalize rk_c n S _ = C
        rcases hd with h | h
        · rw [h]; grind
        · rw [h]; grind
      · rw [rk_V_t hT0, rk_V_t (by rw [e0, hT0]), ih S]
        congr 1
        exact rk_c_congr (fun c _ _ => by rw [rk_V_t (by rw [e0, hT0])])
end
section
def rk_kn : Nat → (Nat → Bool) → Nat
  | 0, _ => 0
  | n + 1, S => rk_kn n S + (if S n then 1 else 0)
/-- how many of the six -/
def rk_k (S : Nat → Bool) : Nat := rk_kn 6 S
theorem rk_kn_u {S : Nat → Bool} {c : Nat} (h : S c = false) : ∀ n, rk_kn n (rk_u S c) = rk_kn n S + (if c < n then 1 else 0)
  | 0 => by simp [rk_kn]
  | n + 1 => by
    show rk_kn n (rk_u S c) + _ = rk_kn n S + _ + _
    rw [rk_kn_u h n]
    by_cases e : n = c
    · subst e
      rw [rk_u_eq, h]; simp
    · rw [rk_u_ne e]
      by_cases z : c < n
      · rw [if_pos z, if_pos (show c < n + 1 by omega)]; omega
      · rw [if_neg z, if_neg (show ¬ c < n + 1 by omega)]; omega
theorem rk_k_u {S : Nat → Bool} {c : Nat} (h : S c = false) (h6 : c < 6) : rk_k (rk_u S c) = rk_k S + 1 := by
  unfold rk_k
  rw [rk_kn_u h, if_pos h6]
theorem rk_kn_le (S : Nat → Bool) : ∀ n, rk_kn n S ≤ n
  | 0 => by simp [rk_kn]
  | n + 1 => by
    have := rk_kn_le S n
    show rk_kn n S + _ ≤ n + 1
    split <;> omega
theorem rk_kn_full {S : Nat → Bool} : ∀ {n : Nat}, rk_kn n S = n → ∀ c, c < n → S c = true
  | 0, _, _, h => absurd h (by omega)
  | n + 1, e, c, h => by
    have h1 := rk_kn_le S n
    have h2 : rk_kn n S + (if S n then 1 else 0) = n + 1 := e
    cases hS : S n
    · rw [hS] at h2; simp at h2; omega
    · rw [hS] at h2
      by_cases z : c = n
      · rw [z, hS]
      · exact rk_kn_full (by simpa using h2) c (by omega)
theorem rk_kn_sup {S : Nat → Bool} {n : Nat} (h : ∀ c, S c = true → c < n) : ∀ j, rk_kn (n + j) S = rk_kn n S
  | 0 => rfl
  | j + 1 => by
    show rk_kn (n + j) S + (if S (n + j) then 1 else 0) = rk_kn n S
    rw [rk_kn_sup h j, if_neg (fun z => absurd (h (n + j) z) (by omega))]
    rfl
theorem rk_kn_cg {S S' : Nat → Bool} : ∀ {n : Nat}, (∀ c, c < n → S c = S' c) → rk_kn n S = rk_kn n S'
  | 0, _ => rfl
  | n + 1, h => by
    show rk_kn n S + _ = rk_kn n S' + _
    rw [rk_kn_cg (fun c hc => h c (by omega)), h n (by omega)]
theorem rk_k_full {S : Nat → Bool} {n : Nat} (hn : n ≤ 6) (h : ∀ c, S c = true → c < n) (e : rk_k S = n) : ∀ c, c < n → S c = true := by
  have := rk_kn_sup h (6 - n)
  rw [show n + (6 - n) = 6 by omega] at this
  exact rk_kn_full (this.symm.trans e)
def rk_g (k : Nat) (S : Nat → Bool) : Int := if rk_k S = k then 1 else 0
theorem rk_cc (n : Nat) (T S : Nat → Bool) (F : Nat → Nat → Int) : rk_c n T (fun r => rk_c n S (fun c => F r c)) = rk_c n S (fun c => rk_c n T (fun r => F r c)) := by
  rw [rk_c.eq_1 n S, rk_c.eq_1 n T]
  have h1 : ∀ r, (if T r then (0 : Int) else rk_c n S (fun c => F r c)) = rk_s n (fun c => if T r || S c then 0 else F r c) := by
    intro r
    cases T r
    · simp [rk_c]
    · simp [rk_s_zero]
  have h2 : ∀ c, (if S c then (0 : Int) else rk_c n T (fun r => F r c)) = rk_s n (fun r => if T r || S c then 0 else F r c) := by
    intro c
    cases S c
    · simp [rk_c]
    · simp [rk_s_zero]
  rw [rk_s_congr (fun r _ => h1 r), rk_s_congr (fun c _ => h2 c), rk_s_swap]
/-- one term of the sum over all places of one rook -/
def rk_Q (s dl : Int) (n : Nat) (w : Nat → Nat → Int) (g : (Nat → Bool) → Int) (m : Nat) (T S : Nat → Bool) (r : Nat) : Int :=
  if T r || decide (r < n - m) then 0 else rk_c n S (fun c => rk_e s T r * rk_e s S c * w r c * rk_V s dl n w g m (rk_u T r) (rk_u S c))
theorem rk_Q_step {s dl : Int} (hs : s * s = 1) {n : Nat} (hn : n ≤ 6) (w : Nat → Nat → Int) (g : (Nat → Bool) → Int) {m : Nat} {T : Nat → Bool} (S : Nat → Bool) {r : Nat} (hr : r < n) (hm : m + 1 ≤ n) (hT : T (n - 1 - m) = false) (h0 : r ≠ n - 1 - m) :
    rk_Q s dl n w g (m + 1) T S r = dl * rk_Q s dl n w g m T S r + rk_c n S (fun d => (rk_e s T (n - 1 - m) * rk_e s S d * w (n - 1 - m) d) * rk_Q s dl n w g m T (rk_u S d) r) := by
  unfold rk_Q
  by_cases z : (T r || decide (r < n - m)) = true
  · have z' : (T r || decide (r < n - (m + 1))) = true := by
      rcases Bool.or_eq_true _ _ ▸ z with z | z
      · simp [z]
      · have : r < n - m := by simpa using z
        simp; right; omega
    rw [if_pos z', if_pos z, rk_c_z (fun c _ _ => by rw [if_pos z]; omega)]
    omega
  · have z1 : T r = false := by
      cases e : T r
      · rfl
      · simp [e] at z
    have z2 : ¬ r < n - m := fun y => z (by simp [y])
    rw [if_neg (show ¬ (T r || decide (r < n - (m + 1))) = true by rw [z1]; simp; omega), if_neg z]
    rw [rk_c_congr (f := fun d => (rk_e s T (n - 1 - m) * rk_e s S d * w (n - 1 - m) d) * (if T r || decide (r < n - m) then 0 else rk_c n (rk_u S d) (fun c => rk_e s T r * rk_e s (rk_u S d) c * w r c * rk_V s dl n w g m (rk_u T r) (rk_u (rk_u S d) c))))
      (g := fun d => rk_c n (rk_u S d) (fun c => (rk_e s T (n - 1 - m) * rk_e s S d * w (n - 1 - m) d) * (rk_e s T r * rk_e s (rk_u S d) c * w r c * rk_V s dl n w g m (rk_u T r) (rk_u (rk_u S d) c))))
      (fun d _ _ => by rw [if_neg z, rk_c_mul])]
    rw [rk_dd hs hn, ← rk_c_mul, ← rk_c_mul, ← rk_c_add]
    refine rk_c_congr (fun c _ _ => ?_)
    have e0 : rk_u T r (n - 1 - m) = false := by rw [rk_u_ne (fun y => h0 y.symm), hT]
    rw [rk_V_f e0, rk_e_u z1 (by omega), if_pos (show n - 1 - m < r by omega), Int.mul_add, ← rk_c_mul, ← rk_c_mul]
    congr 1
    · grind
    · exact rk_c_congr (fun d _ _ => by grind)
theorem rk_V_thr {s dl : Int} (hs : s * s = 1) {n : Nat} (hn : n ≤ 6) (w : Nat → Nat → Int) (k : Nat) : ∀ (m : Nat) (T S : Nat → Bool), m ≤ n →
    rk_s n (fun r => rk_Q s dl n w (rk_g k) m T S r) = ((k : Int) - rk_k S) * rk_V s dl n w (rk_g k) m T S
  | 0, T, S, _ => by
    rw [rk_s_z (fun r hr => by unfold rk_Q; rw [if_pos (by simp; right; omega)]), rk_V, rk_g]
    split
    · rename_i h; rw [h]; omega
    · omega
  | m + 1, T, S, hm => by
    have ih := fun S => rk_V_thr (dl := dl) hs hn w k m T S (by omega)
    cases hT : T (n - 1 - m)
    · have e2 : ∀ S, rk_V s dl n w (rk_g k) (m + 1) (rk_u T (n - 1 - m)) S = rk_V s dl n w (rk_g k) m T S := by
        intro S
        rw [rk_V_t rk_u_eq]
        exact rk_V_T S (by omega) (fun t ht => rk_u_ne (by omega))
      rw [rk_s_one (r0 := n - 1 - m) (g := fun r => dl * rk_Q s dl n w (rk_g k) m T S r + rk_c n S (fun d => (rk_e s T (n - 1 - m) * rk_e s S d * w (n - 1 - m) d) * rk_Q s dl n w (rk_g k) m T (rk_u S d) r))
        ?_ (by omega) (fun r hr h0 => rk_Q_step hs hn w _ S hr hm hT h0)]
      · rw [rk_s_add, rk_s_mul, ← rk_c_s, ih S, rk_V_f hT]
        rw [rk_c_congr (f := fun c => rk_s n (fun d => (rk_e s T (n - 1 - m) * rk_e s S c * w (n - 1 - m) c) * rk_Q s dl n w (rk_g k) m T (rk_u S c) d))
          (g := fun c => ((k : Int) - rk_k S - 1) * (rk_e s T (n - 1 - m) * rk_e s S c * w (n - 1 - m) c * rk_V s dl n w (rk_g k) m T (rk_u S c))) (fun c hc hS => by
            rw [rk_s_mul, ih, rk_k_u hS (by omega)]
            rw [show (((rk_k S + 1 : Nat)) : Int) = rk_k S + 1 from rfl]
            grind), rk_c_mul]
        have e3 : rk_Q s dl n w (rk_g k) (m + 1) T S (n - 1 - m) = rk_c n S (fun c => rk_e s T (n - 1 - m) * rk_e s S c * w (n - 1 - m) c * rk_V s dl n w (rk_g k) m T (rk_u S c)) := by
          unfold rk_Q
          rw [if_neg (show ¬ (T (n - 1 - m) || decide (n - 1 - m < n - (m + 1))) = true by rw [hT]; simp; omega)]
          exact rk_c_congr (fun c _ _ => by rw [e2])
        rw [e3]
        grind
      · have q : ∀ S, rk_Q s dl n w (rk_g k) m T S (n - 1 - m) = 0 := by
          intro S
          unfold rk_Q
          rw [if_pos (by simp; right; omega)]
        rw [q, rk_c_z (fun c _ _ => by rw [q]; omega)]
        omega
    · rw [rk_V_t hT, ← ih S]
      refine rk_s_congr (fun r hr => ?_)
      unfold rk_Q
      by_cases e : r = n - 1 - m
      · rw [e, hT]; simp
      · rw [show decide (r < n - (m + 1)) = decide (r < n - m) by simp; omega]
        split
        · rfl
        · exact rk_c_congr (fun c _ _ => by rw [rk_V_t (by rw [rk_u_ne (fun z => e z.symm), hT])])
theorem rk_V_thr' {s dl : Int} (hs : s * s = 1) {n : Nat} (hn : n ≤ 6) (w : Nat → Nat → Int) (k : Nat) (T S : Nat → Bool) :
    rk_c n T (fun r => rk_c n S (fun c => rk_e s T r * rk_e s S c * w r c * rk_V s dl n w (rk_g k) n (rk_u T r) (rk_u S c))) = ((k : Int) - rk_k S) * rk_V s dl n w (rk_g k) n T S := by
  rw [← rk_V_thr hs hn w k n T S (Nat.le_refl n)]
  refine rk_s_congr (fun r _ => ?_)
  unfold rk_Q
  rw [show decide (r < n - n) = false by simp, Bool.or_false]
theorem rk_V_tr {s dl : Int} (hs : s * s = 1) {n : Nat} (hn : n ≤ 6) (w : Nat → Nat → Int) (k : Nat)
    (hb : ∀ T S : Nat → Bool, (∀ c, T c = true → c < n) → (∀ c, S c = true → c < n) → rk_k T = k → rk_k S = k → rk_V s dl n w (rk_g k) n T S = rk_V s dl n (fun r c => w c r) (rk_g k) n S T) :
    ∀ (j : Nat) (T S : Nat → Bool), (∀ c, T c = true → c < n) → (∀ c, S c = true → c < n) → rk_k T + j = k → rk_k S + j = k → rk_V s dl n w (rk_g k) n T S = rk_V s dl n (fun r c => w c r) (rk_g k) n S T
  | 0, T, S, sT, sS, hT, hS => hb T S sT sS (by omega) (by omega)
  | j + 1, T, S, sT, sS, hT, hS => by
    have h1 := rk_V_thr' (dl := dl) hs hn w k T S
    have h2 := rk_V_thr' (dl := dl) hs hn (fun r c => w c r) k S T
    have su : ∀ (S : Nat → Bool) (c : Nat), c < n → (∀ c, S c = true → c < n) → ∀ j, rk_u S c j = true → j < n := by
      intro S c hc hS j hj
      by_cases e : j = c
      · omega
      · rw [rk_u_ne e] at hj
        exact hS j hj
    rw [rk_cc] at h2
    rw [rk_c_congr (f := fun c => rk_c n S (fun r => rk_e s S r * rk_e s T c * w c r * rk_V s dl n (fun r c => w c r) (rk_g k) n (rk_u S r) (rk_u T c)))
      (g := fun r => rk_c n S (fun c => rk_e s T r * rk_e s S c * w r c * rk_V s dl n w (rk_g k) n (rk_u T r) (rk_u S c))) (fun r hr hTr => rk_c_congr (fun c hc hSc => by
        rw [rk_V_tr hs hn w k hb j (rk_u T r) (rk_u S c) (su T r hr sT) (su S c hc sS) (by rw [rk_k_u hTr (by omega)]; omega) (by rw [rk_k_u hSc (by omega)]; omega)]
        grind))] at h2
    rw [h1] at h2
    rw [show ((k : Int) - rk_k S) = (j + 1 : Nat) by omega, show ((k : Int) - rk_k T) = (j + 1 : Nat) by omega] at h2
    exact Int.eq_of_mul_eq_mul_left (by omega) h2
theorem rk_V_big {s dl : Int} {n : Nat} (hn : n ≤ 6) (w : Nat → Nat → Int) (k : Nat) : ∀ (m : Nat) (T S : Nat → Bool), k < rk_k S → rk_V s dl n w (rk_g k) m T S = 0
  | 0, T, S, h => by rw [rk_V, rk_g, if_neg (by omega)]
  | m + 1, T, S, h => by
    have ih := fun S => rk_V_big (s := s) (dl := dl) hn w k m T S
    cases hT : T (n - 1 - m)
    · rw [rk_V_f hT, ih S h, rk_c_z (fun c hc hS => by rw [ih _ (by rw [rk_k_u hS (by omega)]; omega)]; omega)]
      omega
    · rw [rk_V_t hT, ih S h]
theorem rk_V_one {s : Int} {n : Nat} (hn : n ≤ 6) (w : Nat → Nat → Int) (k : Nat) : ∀ (m : Nat) (T S : Nat → Bool), rk_k S = k → rk_V s 1 n w (rk_g k) m T S = 1
  | 0, T, S, h => by rw [rk_V, rk_g, if_pos (by omega)]
  | m + 1, T, S, h => by
    have ih := rk_V_one (s := s) hn w k m T S h
    cases hT : T (n - 1 - m)
    · rw [rk_V_f hT, ih, rk_c_z (fun c hc hS => by rw [rk_V_big hn w k _ _ _ (by rw [rk_k_u hS (by omega)]; omega)]; omega)]
      omega
    · rw [rk_V_t hT, ih]
theorem rk_V_all {s dl : Int} {n : Nat} (w : Nat → Nat → Int) (g : (Nat → Bool) → Int) (T S : Nat → Bool) (h : ∀ c, c < n → T c = true) : ∀ (m : Nat), m ≤ n → rk_V s dl n w g m T S = g S
  | 0, _ => rfl
  | m + 1, hm => by rw [rk_V_t (h _ (by omega)), rk_V_all w g T S h m (by omega)]
/-- nothing taken -/
def rk_0 : Nat → Bool := fun _ => false
theorem rk_k_0 : rk_k rk_0 = 0 := rfl
theorem rk_tr1 {n : Nat} (hn : n ≤ 6) (w : Nat → Nat → Int) (k : Nat) : rk_V 1 1 n w (rk_g k) n rk_0 rk_0 = rk_V 1 1 n (fun r c => w c r) (rk_g k) n rk_0 rk_0 :=
  rk_V_tr (by decide) hn w k (fun T S _ _ hT hS => by rw [rk_V_one hn w k n T S hS, rk_V_one hn _ k n S T hT]) k rk_0 rk_0 (fun c h => absurd h (by simp [rk_0])) (fun c h => absurd h (by simp [rk_0])) (by rw [rk_k_0]; omega) (by rw [rk_k_0]; omega)
theorem rk_tr2 {n : Nat} (hn : n ≤ 6) (w : Nat → Nat → Int) : rk_V (-1) 0 n w (rk_g n) n rk_0 rk_0 = rk_V (-1) 0 n (fun r c => w c r) (rk_g n) n rk_0 rk_0 :=
  rk_V_tr (by decide) hn w n (fun T S sT sS hT hS => by rw [rk_V_all w _ T S (rk_k_full hn sT hT) n (Nat.le_refl n), rk_V_all _ _ S T (rk_k_full hn sS hS) n (Nat.le_refl n), rk_g, rk_g, if_pos hT, if_pos hS]) n rk_0 rk_0 (fun c h => absurd h (by simp [rk_0])) (fun c h => absurd h (by simp [rk_0])) (by rw [rk_k_0]; omega) (by rw [rk_k_0]; omega)
end
section
/-- two rows change places -/
def rk_sw (i j r : Nat) : Nat := if r = i then j else if r = j then i else r
theorem rk_V_sw {s dl : Int} (hs : s * s = 1) (hd : s = 1 ∨ dl = 0) {n : Nat} (hn : n ≤ 6) (w : Nat → Nat → Int) (g : (Nat → Bool) → Int) {i j : Nat} (hi : i < n) (hj : j < n) (hij : i ≠ j) (S : Nat → Bool) :
    rk_V s dl n (fun r c => w (rk_sw i j r) c) g n rk_0 S = s * rk_V s dl n w g n rk_0 S := by
  have E : ∀ w : Nat → Nat → Int, rk_V s dl n w g n rk_0 S = dl * (dl * rk_V s dl n w g n (rk_u (rk_u rk_0 i) j) S + rk_e s (rk_u rk_0 i) j * rk_c n S (fun d => rk_e s S d * w j d * rk_V s dl n w g n (rk_u (rk_u rk_0 i) j) (rk_u S d)))
      + (dl * (rk_e s rk_0 i * rk_c n S (fun c => rk_e s S c * w i c * rk_V s dl n w g n (rk_u (rk_u rk_0 i) j) (rk_u S c)))
        + rk_c n S (fun c => rk_c n (rk_u S c) (fun d => (rk_e s rk_0 i * rk_e s S c * w i c) * (rk_e s (rk_u rk_0 i) j * rk_e s (rk_u S c) d * w j d * rk_V s dl n w g n (rk_u (rk_u rk_0 i) j) (rk_u (rk_u S c) d))))) := by
    intro w
    have e1 : ∀ S, rk_V s dl n w g n (rk_u rk_0 i) S = _ := fun S => rk_V_exp hs hd hn w g hj n (rk_u rk_0 i) S (Nat.le_refl n) (by rw [rk_u_ne (fun z => hij z.symm)]; rfl) (by omega)
    rw [rk_V_exp hs hd hn w g hi n rk_0 S (Nat.le_refl n) rfl (by omega), e1 S]
    rw [← rk_c_mul, ← rk_c_mul, ← rk_c_mul n S dl, ← rk_c_add]
    congr 1
    · congr 1
      congr 1
      exact rk_c_congr (fun c _ _ => by grind)
    · refine rk_c_congr (fun c _ _ => ?_)
      rw [e1, Int.mul_add, ← rk_c_mul]
      congr 1
      grind
  have hY : ∀ S, rk_V s dl n (fun r c => w (rk_sw i j r) c) g n (rk_u (rk_u rk_0 i) j) S = rk_V s dl n w g n (rk_u (rk_u rk_0 i) j) S := by
    intro S
    refine rk_V_w (fun r hr hT c hc => ?_) S (Nat.le_refl n)
    obtain ⟨h1, h2⟩ := rk_uf hT
    obtain ⟨_, h3⟩ := rk_uf h1
    simp only [rk_sw]
    rw [if_neg h3, if_neg h2]
  rw [E, E w]
  simp only [hY]
  have wi : rk_sw i j i = j := by simp [rk_sw]
  have wj : rk_sw i j j = i := by simp [rk_sw]
  rw [wi, wj, rk_dd hs hn]
  rw [rk_c_congr (f := fun d => rk_c n (rk_u S d) (fun c => (rk_e s (rk_u rk_0 i) j * rk_e s S d * w i d) * (rk_e s rk_0 i * rk_e s (rk_u S d) c * w j c * rk_V s dl n w g n (rk_u (rk_u rk_0 i) j) (rk_u (rk_u S d) c))))
    (g := fun c => rk_c n (rk_u S c) (fun d => (rk_e s rk_0 i * rk_e s S c * w i c) * (rk_e s (rk_u rk_0 i) j * rk_e s (rk_u S c) d * w j d * rk_V s dl n w g n (rk_u (rk_u rk_0 i) j) (rk_u (rk_u S c) d))))
    (fun c _ _ => rk_c_congr (fun d _ _ => by grind))]
  rcases hd with h | h
  · subst h
    rw [rk_e_one, rk_e_one]
    grind
  · subst h
    grind
/-- the board as a matrix of 0 and 1 -/
def rk_b (b : Nat → Nat → Bool) : Nat → Nat → Int := fun r c => if b r c then 1 else 0
theorem rk_b_01 (b : Nat → Nat → Bool) (r c : Nat) : rk_b b r c = 0 ∨ rk_b b r c = 1 := by
  unfold rk_b
  split
  · exact Or.inr rfl
  · exact Or.inl rfl
def rk_W (n : Nat) (b : Nat → Nat → Bool) (m k : Nat) (S : Nat → Bool) : Int := rk_V 1 1 n (rk_b b) (rk_g (k + rk_k S)) m rk_0 S
def rk_R (n : Nat) (b : Nat → Nat → Bool) (k : Nat) : Int := rk_V 1 1 n (rk_b b) (rk_g k) n rk_0 rk_0
theorem rk_W_R (n : Nat) (b : Nat → Nat → Bool) (k : Nat) : rk_W n b n k rk_0 = rk_R n b k := rfl
theorem rk_W_0 {n : Nat} (hn : n ≤ 6) (b : Nat → Nat → Bool) (m : Nat) (S : Nat → Bool) : rk_W n b m 0 S = 1 := rk_V_one hn _ _ m _ S (by omega)
theorem rk_W_s (n : Nat) (b : Nat → Nat → Bool) (k : Nat) (S : Nat → Bool) : rk_W n b 0 (k + 1) S = 0 := by
  unfold rk_W
  rw [rk_V, rk_g, if_neg (by omega)]
theorem rk_W_ss {n : Nat} (hn : n ≤ 6) (b : Nat → Nat → Bool) (m k : Nat) (S : Nat → Bool) : rk_W n b (m + 1) (k + 1) S = rk_W n b m (k + 1) S + rk_c n S (fun c => if b (n - 1 - m) c then rk_W n b m k (rk_u S c) else 0) := by
  unfold rk_W
  rw [rk_V_f rfl, Int.one_mul]
  congr 1
  refine rk_c_congr (fun c hc hS => ?_)
  rw [rk_e_one, rk_e_one, rk_k_u hS (by omega), show k + 1 + rk_k S = k + (rk_k S + 1) by omega]
  unfold rk_b
  split <;> grind
theorem rk_V_nn {n : Nat} (b : Nat → Nat → Bool) (k : Nat) : ∀ (m : Nat) (T S : Nat → Bool), 0 ≤ rk_V 1 1 n (rk_b b) (rk_g k) m T S
  | 0, T, S => by rw [rk_V, rk_g]; split <;> omega
  | m + 1, T, S => by
    have ih := fun S => rk_V_nn (n := n) b k m T S
    cases hT : T (n - 1 - m)
    · rw [rk_V_f hT]
      have := ih S
      have h2 : 0 ≤ rk_c n S (fun c => rk_e 1 T (n - 1 - m) * rk_e 1 S c * rk_b b (n - 1 - m) c * rk_V 1 1 n (rk_b b) (rk_g k) m T (rk_u S c)) := by
        refine rk_s_nn (fun c _ => ?_)
        dsimp only
        rw [rk_e_one, rk_e_one]
        have := ih (rk_u S c)
        rcases rk_b_01 b (n - 1 - m) c with z | z
        · rw [z]; split <;> omega
        · rw [z]; split <;> omega
      omega
    · rw [rk_V_t hT]
      exact ih S
theorem rk_V_7 {n : Nat} (hn : n ≤ 6) (b : Nat → Nat → Bool) (k : Nat) : ∀ (m : Nat) (T S : Nat → Bool), rk_V 1 1 n (rk_b b) (rk_g k) m T S ≤ 7 ^ m
  | 0, T, S => by rw [rk_V, rk_g]; split <;> omega
  | m + 1, T, S => by
    have ih := fun S => rk_V_7 (n := n) hn b k m T S
    have hp : (0 : Int) ≤ 7 ^ m := Int.pow_nonneg (by omega)
    have h7 : (7 : Int) ^ (m + 1) = 7 ^ m * 7 := Int.pow_succ 7 m
    cases hT : T (n - 1 - m)
    · rw [rk_V_f hT]
      have := ih S
      have h2 : rk_c n S (fun c => rk_e 1 T (n - 1 - m) * rk_e 1 S c * rk_b b (n - 1 - m) c * rk_V 1 1 n (rk_b b) (rk_g k) m T (rk_u S c)) ≤ rk_s n (fun _ => 7 ^ m) := by
        refine rk_s_le (fun c _ => ?_)
        dsimp only
        rw [rk_e_one, rk_e_one]
        have := ih (rk_u S c)
        rcases rk_b_01 b (n - 1 - m) c with z | z
        · rw [z]; split <;> omega
        · rw [z]; split <;> omega
      rw [rk_s_const] at h2
      have h3 : (n : Int) * 7 ^ m ≤ 6 * 7 ^ m := Int.mul_le_mul_of_nonneg_right (by omega) hp
      omega
    · rw [rk_V_t hT]
      have := ih S
      omega
theorem rk_R_nn (n : Nat) (b : Nat → Nat → Bool) (k : Nat) : 0 ≤ rk_R n b k := rk_V_nn b k n _ _
theorem rk_R_le {n : Nat} (hn : n ≤ 6) (b : Nat → Nat → Bool) (k : Nat) : rk_R n b k ≤ 117649 := by
  have h := rk_V_7 hn b k n rk_0 rk_0
  have h2 : ∀ n : Nat, n ≤ 6 → (7 : Int) ^ n ≤ 117649 := by decide
  exact Int.le_trans h (h2 n hn)
theorem rk_R_0 {n : Nat} (hn : n ≤ 6) (b : Nat → Nat → Bool) : rk_R n b 0 = 1 := rk_W_0 hn b n rk_0
theorem rk_R_cg {n : Nat} {b b' : Nat → Nat → Bool} (h : ∀ r c, r < n → c < n → b r c = b' r c) (k : Nat) : rk_R n b k = rk_R n b' k := by
  unfold rk_R
  exact rk_V_w (fun r hr _ c hc => by unfold rk_b; rw [h r c hr hc]) rk_0 (Nat.le_refl n)
theorem rk_R_tr {n : Nat} (hn : n ≤ 6) (b : Nat → Nat → Bool) (k : Nat) : rk_R n (fun r c => b c r) k = rk_R n b k := (rk_tr1 hn (rk_b b) k).symm
theorem rk_R_sw {n : Nat} (hn : n ≤ 6) (b : Nat → Nat → Bool) (k : Nat) {i j : Nat} (hi : i < n) (hj : j < n) : rk_R n (fun r c => b (rk_sw i j r) c) k = rk_R n b k := by
  by_cases h : i = j
  · subst h
    refine rk_R_cg (fun r c _ _ => ?_) k
    congr 1
    unfold rk_sw
    split
    · rename_i h; exact h.symm
    · rfl
  · have := rk_V_sw (s := 1) (dl := 1) (by decide) (Or.inl rfl) hn (rk_b b) (rk_g k) hi hj h rk_0
    rw [Int.one_mul] at this
    exact this
/-- one place taken off the board -/
def rk_del (b : Nat → Nat → Bool) (r c : Nat) : Nat → Nat → Bool := fun i j => b i j && !(decide (i = r) && decide (j = c))
theorem rk_R_del {n : Nat} (hn : n ≤ 6) (b : Nat → Nat → Bool) (k : Nat) {r c : Nat} (hr : r < n) (hc : c < n) :
    rk_R n b k - rk_R n (rk_del b r c) k = rk_b b r c * rk_V 1 1 n (rk_b b) (rk_g k) n (rk_u rk_0 r) (rk_u rk_0 c) := by
  have e1 : ∀ S, rk_V 1 1 n (rk_b (rk_del b r c)) (rk_g k) n (rk_u rk_0 r) S = rk_V 1 1 n (rk_b b) (rk_g k) n (rk_u rk_0 r) S := by
    intro S
    refine rk_V_w (fun i hi hT j hj => ?_) S (Nat.le_refl n)
    obtain ⟨_, h⟩ := rk_uf hT
    simp [rk_b, rk_del, h]
  unfold rk_R
  rw [rk_V_exp (by decide) (Or.inl rfl) hn (rk_b b) (rk_g k) hr n rk_0 rk_0 (Nat.le_refl n) rfl (by omega)]
  rw [rk_V_exp (by decide) (Or.inl rfl) hn (rk_b (rk_del b r c)) (rk_g k) hr n rk_0 rk_0 (Nat.le_refl n) rfl (by omega)]
  rw [e1]
  have h := rk_s_one (n := n) (r0 := c) (f := fun c' => if rk_0 c' then 0 else rk_e 1 rk_0 r * rk_e 1 rk_0 c' * rk_b b r c' * rk_V 1 1 n (rk_b b) (rk_g k) n (rk_u rk_0 r) (rk_u rk_0 c'))
    (g := fun c' => if rk_0 c' then 0 else rk_e 1 rk_0 r * rk_e 1 rk_0 c' * rk_b (rk_del b r c) r c' * rk_V 1 1 n (rk_b (rk_del b r c)) (rk_g k) n (rk_u rk_0 r) (rk_u rk_0 c'))
    (by simp [rk_0, rk_b, rk_del]) hc (fun c' _ h => by rw [e1]; simp [rk_b, rk_del, h])
  unfold rk_c
  rw [h, rk_e_one, rk_e_one]
  simp only [rk_0, Bool.false_eq_true, if_false]
  grind
theorem rk_thr {n : Nat} (hn : n ≤ 6) (b : Nat → Nat → Bool) (k : Nat) : rk_s n (fun r => rk_s n (fun c => rk_R n b k - rk_R n (rk_del b r c) k)) = k * rk_R n b k := by
  have h := rk_V_thr' (s := 1) (dl := 1) (by decide) hn (rk_b b) k rk_0 rk_0
  rw [rk_k_0] at h
  unfold rk_R
  rw [show ((k : Int) - ((0 : Nat) : Int)) = k by omega] at h
  rw [← h]
  refine rk_s_congr (fun r hr => rk_s_congr (fun c hc => ?_))
  have := rk_R_del hn b k hr hc
  unfold rk_R at this
  dsimp only
  rw [this, rk_e_one, rk_e_one]
  simp [rk_0]
end
section
def rk_C : Nat → Nat → Int
  | _, 0 => 1
  | 0, _ + 1 => 0
  | n + 1, k + 1 => rk_C n k + rk_C n (k + 1)
def rk_f : Nat → Int
  | 0 => 1
  | n + 1 => rk_f n * ((n + 1 : Nat) : Int)
/-- full placements in the last m rows with h places on the board -/
def rk_N (n : Nat) (b : Nat → Nat → Bool) : Nat → (Nat → Bool) → Int → Int
  | 0, _, h => if h = 0 then 1 else 0
  | m + 1, S, h => rk_c n S (fun c => rk_N n b m (rk_u S c) (h - rk_b b (n - 1 - m) c))
theorem rk_N_co (n : Nat) (b : Nat → Nat → Bool) : ∀ (m : Nat) (S : Nat → Bool) (h : Int), rk_N n (fun r c => !b r c) m S h = rk_N n b m S ((m : Int) - h)
  | 0, S, h => by
    rw [rk_N, rk_N]
    by_cases z : h = 0
    · rw [if_pos z, if_pos (by rw [z]; rfl)]
    · rw [if_neg z, if_neg (by omega)]
  | m + 1, S, h => by
    rw [rk_N, rk_N]
    refine rk_c_congr (fun c _ _ => ?_)
    rw [rk_N_co n b m]
    congr 1
    have e : rk_b (fun r c => !b r c) (n - 1 - m) c = 1 - rk_b b (n - 1 - m) c := by
      unfold rk_b
      cases e : b (n - 1 - m) c <;> simp [e]
    rw [e]
    omega
theorem rk_N_z (n : Nat) (b : Nat → Nat → Bool) : ∀ (m : Nat) (S : Nat → Bool) (h : Int), (h < 0 ∨ (m : Int) < h) → rk_N n b m S h = 0
  | 0, S, h, z => by
    rw [rk_N, if_neg (by omega)]
  | m + 1, S, h, z => by
    rw [rk_N]
    refine rk_c_z (fun c _ _ => rk_N_z n b m _ _ ?_)
    rcases rk_b_01 b (n - 1 - m) c with e | e <;> rw [e] <;> omega
theorem rk_W_z {n : Nat} (hn : n ≤ 6) (b : Nat → Nat → Bool) : ∀ (m k : Nat) (S : Nat → Bool), m < k → rk_W n b m k S = 0
  | 0, 0, S, h => absurd h (by omega)
  | 0, k + 1, S, _ => rk_W_s n b k S
  | m + 1, 0, S, h => absurd h (by omega)
  | m + 1, k + 1, S, h => by
    rw [rk_W_ss hn, rk_W_z hn b m (k + 1) S (by omega), rk_c_z (fun c _ _ => by rw [rk_W_z hn b m k _ (by omega)]; simp)]
    rfl
/-- how many places are free -/
def rk_fr (n : Nat) (S : Nat → Bool) : Int := rk_c n S (fun _ => 1)
theorem rk_fr_u {n : Nat} {S : Nat → Bool} {d : Nat} (hd : d < n) (h : S d = false) : rk_fr n (rk_u S d) = rk_fr n S - 1 := by
  have := rk_s_one (n := n) (r0 := d) (f := fun c => if S c then 0 else 1) (g := fun c => if rk_u S d c then 0 else 1) (by rw [rk_u_eq]; rfl) hd (fun c _ hc => by rw [rk_u_ne hc])
  rw [h, if_neg (by simp)] at this
  have h2 : rk_fr n S = 1 + rk_fr n (rk_u S d) := this
  omega
theorem rk_L {n : Nat} (hn : n ≤ 6) (b : Nat → Nat → Bool) : ∀ (m j : Nat) (S : Nat → Bool), rk_c n S (fun c => rk_W n b m j (rk_u S c)) = (rk_fr n S - j) * rk_W n b m j S
  | m, 0, S => by
    rw [rk_c_congr (fun c _ _ => rk_W_0 hn b m (rk_u S c)), rk_W_0 hn, rk_fr]
    simp
  | 0, j + 1, S => by
    rw [rk_c_congr (fun c _ _ => rk_W_s n b j (rk_u S c)), rk_W_s, rk_c_z (fun _ _ _ => rfl)]
    omega
  | m + 1, j + 1, S => by
    rw [rk_c_congr (fun c _ _ => rk_W_ss hn b m j (rk_u S c)), rk_c_add, rk_L hn b m (j + 1) S, rk_W_ss hn]
    rw [rk_c_swap, Int.mul_add]
    congr 1
    rw [← rk_c_mul]
    refine rk_c_congr (fun d hd hS => ?_)
    cases b (n - 1 - m) d
    · rw [rk_c_z (fun c _ _ => by simp)]; simp
    · rw [rk_c_congr (g := fun c => rk_W n b m j (rk_u (rk_u S d) c)) (fun c _ _ => by rw [rk_u_comm]; simp)]
      rw [rk_L hn b m j (rk_u S d), rk_fr_u hd hS]
      simp only [if_true]
      congr 1
      omega
theorem rk_s_sh (f : Nat → Int) : ∀ n, rk_s (n + 1) f = f 0 + rk_s n (fun h => f (h + 1))
  | 0 => by show (0 : Int) + f 0 = f 0 + 0; omega
  | n + 1 => by
    show rk_s (n + 1) f + f (n + 1) = f 0 + (rk_s n (fun h => f (h + 1)) + f (n + 1))
    rw [rk_s_sh f n]; omega
/-- the sums by binomials of the hit numbers -/
def rk_M (n : Nat) (b : Nat → Nat → Bool) (m j : Nat) (S : Nat → Bool) : Int := rk_s 7 (fun h => rk_C h j * rk_N n b m S (h : Int))
theorem rk_M1 {n : Nat} {b : Nat → Nat → Bool} {m : Nat} (hm : m < 6) (j : Nat) (X : Nat → Bool) : rk_s 7 (fun h => rk_C h j * rk_N n b m X ((h : Int) - 1)) = rk_s 7 (fun h => rk_C (h + 1) j * rk_N n b m X (h : Int)) := by
  rw [rk_s_sh]
  show _ = rk_s 6 _ + rk_C (6 + 1) j * rk_N n b m X ((6 : Nat) : Int)
  rw [rk_N_z n b m X (((0 : Nat) : Int) - 1) (by omega), rk_N_z n b m X ((6 : Nat) : Int) (by omega)]
  rw [rk_s_congr (n := 6) (f := fun h => rk_C (h + 1) j * rk_N n b m X (((h + 1 : Nat) : Int) - 1)) (g := fun h => rk_C (h + 1) j * rk_N n b m X (h : Int)) (fun h _ => by rw [show (((h + 1 : Nat) : Int) - 1) = (h : Int) by omega])]
  omega
theorem rk_C_z : ∀ h, rk_C h 0 = 1
  | 0 => rfl
  | _ + 1 => rfl
theorem rk_Mb {n : Nat} {b : Nat → Nat → Bool} {m : Nat} (hm : m < 6) (X : Nat → Bool) (r c : Nat) : ∀ (j : Nat), rk_s 7 (fun h => rk_C h j * rk_N n b m X ((h : Int) - rk_b b r c)) = rk_M n b m j X + (match j with | 0 => 0 | i + 1 => if b r c then rk_M n b m i X else 0)
  | 0 => by
    cases e : b r c
    · rw [rk_s_congr (g := fun h => rk_C h 0 * rk_N n b m X (h : Int)) (fun h _ => by rw [rk_b, e]; simp)]
      simp [rk_M]
    · rw [rk_s_congr (g := fun h => rk_C h 0 * rk_N n b m X ((h : Int) - 1)) (fun h _ => by rw [rk_b, e]; simp)]
      rw [rk_M1 hm]
      simp [rk_M, rk_C_z]
  | i + 1 => by
    cases e : b r c
    · rw [rk_s_congr (g := fun h => rk_C h (i + 1) * rk_N n b m X (h : Int)) (fun h _ => by rw [rk_b, e]; simp)]
      simp [rk_M]
    · rw [rk_s_congr (g := fun h => rk_C h (i + 1) * rk_N n b m X ((h : Int) - 1)) (fun h _ => by rw [rk_b, e]; simp)]
      rw [rk_M1 hm]
      simp only [if_true, rk_M]
      rw [← rk_s_add]
      refine rk_s_congr (fun h _ => ?_)
      rw [rk_C]
      grind
theorem rk_M_W {n : Nat} (hn : n ≤ 6) (b : Nat → Nat → Bool) : ∀ (m j : Nat) (S : Nat → Bool), m ≤ n → rk_fr n S = m → rk_M n b m j S = rk_W n b m j S * rk_f (m - j)
  | 0, j, S, _, _ => by
    unfold rk_M
    rw [rk_s_sh, rk_s_z (n := 6) (fun h _ => by rw [rk_N_z n b 0 S _ (by omega)]; omega)]
    rw [rk_N]
    cases j with
    | zero => rw [rk_W_0 hn]; rfl
    | succ j => rw [rk_W_s]; simp [rk_C]
  | m + 1, j, S, hm, hf => by
    have h0 : rk_M n b (m + 1) j S = rk_c n S (fun c => rk_s 7 (fun h => rk_C h j * rk_N n b m (rk_u S c) ((h : Int) - rk_b b (n - 1 - m) c))) := by
      rw [rk_c_s]
      refine rk_s_congr (fun h _ => ?_)
      rw [rk_N, rk_c_mul]
    rw [h0, rk_c_congr (fun c _ _ => rk_Mb (by omega) (rk_u S c) (n - 1 - m) c j), rk_c_add]
    have ih : ∀ j c, c < n → S c = false → rk_M n b m j (rk_u S c) = rk_f (m - j) * rk_W n b m j (rk_u S c) := fun j c hc hS => by
      rw [rk_M_W hn b m j (rk_u S c) (by omega) (by rw [rk_fr_u hc hS, hf]; omega), Int.mul_comm]
    rw [rk_c_congr (ih j), rk_c_mul, rk_L hn, hf]
    cases j with
    | zero =>
      dsimp only
      rw [rk_c_z (fun _ _ _ => rfl), rk_W_0 hn, rk_W_0 hn, Nat.sub_zero, Nat.sub_zero, rk_f]
      grind
    | succ i =>
      dsimp only
      rw [rk_c_congr (g := fun c => rk_f (m - i) * (if b (n - 1 - m) c then rk_W n b m i (rk_u S c) else 0)) (fun c hc hS => by
        cases b (n - 1 - m) c
        · simp
        · simp [ih i c hc hS]), rk_c_mul, rk_W_ss hn]
      rw [show m + 1 - (i + 1) = m - i by omega]
      by_cases z : i + 1 ≤ m
      · have e1 : m - i = (m - (i + 1)) + 1 := by omega
        have e2 : rk_f (m - i) = rk_f (m - (i + 1)) * ((m - (i + 1) + 1 : Nat) : Int) := by
          rw [e1, rk_f]
        have e3 : ((m + 1 : Nat) : Int) - ((i + 1 : Nat) : Int) = ((m - (i + 1) + 1 : Nat) : Int) := by omega
        rw [e2, e3]
        grind
      · rw [rk_W_z hn b m (i + 1) S (by omega)]
        grind
def rk_sg (i : Nat) : Int := if i % 2 = 0 then 1 else -1
/-- what the loop of hits adds up -/
def rk_H (n : Nat) (b : Nat → Nat → Bool) (k : Nat) : Int := rk_s (n + 1 - k) (fun i => rk_sg i * (rk_R n b (k + i) * rk_f (n - (k + i)) * rk_C (k + i) k))
theorem rk_inv : ∀ n, n < 7 → ∀ k, k < n + 1 → ∀ h, h < n + 1 → rk_s (n + 1 - k) (fun i => rk_sg i * rk_C (k + i) k * rk_C h (k + i)) = if h = k then 1 else 0 := by decide +kernel
theorem rk_fr_0 : ∀ n, rk_fr n rk_0 = n := by
  intro n
  have : rk_fr n rk_0 = rk_s n (fun _ => 1) := rk_s_congr (fun c _ => by simp [rk_0])
  rw [this, rk_s_const]; omega
theorem rk_E {n : Nat} (hn : n ≤ 6) (b : Nat → Nat → Bool) (j : Nat) : rk_R n b j * rk_f (n - j) = rk_s 7 (fun h => rk_C h j * rk_N n b n rk_0 (h : Int)) :=
  (rk_M_W hn b n j rk_0 (Nat.le_refl n) (rk_fr_0 n)).symm
theorem rk_H_N {n : Nat} (hn : n ≤ 6) (b : Nat → Nat → Bool) {k : Nat} (hk : k ≤ n) : rk_H n b k = rk_N n b n rk_0 (k : Int) := by
  unfold rk_H
  rw [rk_s_congr (g := fun i => rk_s 7 (fun h => (rk_sg i * rk_C (k + i) k * rk_C h (k + i)) * rk_N n b n rk_0 (h : Int))) (fun i _ => by
    rw [rk_E hn, Int.mul_comm _ (rk_C (k + i) k), ← Int.mul_assoc, ← rk_s_mul]
    exact rk_s_congr (fun h _ => by grind))]
  rw [rk_s_swap]
  rw [rk_s_congr (n := 7) (g := fun h => if h = k then rk_N n b n rk_0 (k : Int) else 0) (fun h hh => by
    rw [rk_s_congr (g := fun i => rk_N n b n rk_0 (h : Int) * (rk_sg i * rk_C (k + i) k * rk_C h (k + i))) (fun i _ => by grind), rk_s_mul]
    by_cases z : h ≤ n
    · rw [rk_inv n (by omega) k (by omega) h (by omega)]
      by_cases e : h = k
      · rw [if_pos e, if_pos e, e]; omega
      · rw [if_neg e, if_neg e]; omega
    · rw [rk_N_z n b n rk_0 h (by omega), if_neg (by omega)]; omega)]
  rw [rk_s_one (r0 := k) (g := fun _ => 0) rfl (by omega) (fun r _ hr => by rw [if_neg hr]), rk_s_zero, if_pos rfl]
  omega
theorem rk_H_co {n : Nat} (hn : n ≤ 6) (b : Nat → Nat → Bool) {k : Nat} (hk : k ≤ n) : rk_H n (fun r c => !b r c) (n - k) = rk_H n b k := by
  rw [rk_H_N hn _ (by omega), rk_H_N hn b hk, rk_N_co]
  congr 1
  omega
theorem rk_H_sum {n : Nat} (hn : n ≤ 6) (b : Nat → Nat → Bool) : rk_s (n + 1) (fun k => rk_H n b k) = rk_f n := by
  rw [rk_s_congr (g := fun k => rk_N n b n rk_0 (k : Int)) (fun k hk => rk_H_N hn b (by omega))]
  have h := rk_E hn b 0
  rw [rk_R_0 hn, Nat.sub_zero, Int.one_mul] at h
  rw [h]
  have e : ∀ i, n + 1 + i ≤ 7 → rk_s (n + 1) (fun k => rk_N n b n rk_0 (k : Int)) = rk_s (n + 1 + i) (fun h => rk_C h 0 * rk_N n b n rk_0 (h : Int)) := by
    intro i
    induction i with
    | zero => exact fun _ => rk_s_congr (fun k _ => by rw [rk_C_z, Int.one_mul])
    | succ i ih =>
      intro hi
      rw [ih (by omega)]
      show _ = rk_s (n + 1 + i) _ + rk_C (n + 1 + i) 0 * rk_N n b n rk_0 ((n + 1 + i : Nat) : Int)
      rw [rk_N_z n b n rk_0 ((n + 1 + i : Nat) : Int) (by omega)]
      omega
  rw [e (6 - n) (by omega), show n + 1 + (6 - n) = 7 by omega]
theorem rk_Cnn : ∀ n, n < 7 → rk_C n n = 1 := by decide +kernel
theorem rk_H_n {n : Nat} (hn : n ≤ 6) (b : Nat → Nat → Bool) : rk_H n b n = rk_R n b n := by
  unfold rk_H
  rw [show n + 1 - n = 1 by omega]
  show 0 + rk_sg 0 * (rk_R n b (n + 0) * rk_f (n - (n + 0)) * rk_C (n + 0) n) = _
  rw [Nat.add_zero, Nat.sub_self, rk_Cnn n (by omega)]
  simp [rk_sg, rk_f]
theorem rk_H_cg {n : Nat} {b b' : Nat → Nat → Bool} (h : ∀ k, rk_R n b k = rk_R n b' k) (k : Nat) : rk_H n b k = rk_H n b' k := by
  unfold rk_H
  exact rk_s_congr (fun i _ => by rw [h])
end
section
theorem rk_s_ge {f : Nat → Int} : ∀ {n : Nat}, (∀ c, c < n → 0 ≤ f c) → ∀ c, c < n → f c ≤ rk_s n f
  | 0, _, _, h => absurd h (by omega)
  | n + 1, h, c, hc => by
    show f c ≤ rk_s n f + f n
    have h1 : 0 ≤ rk_s n f := rk_s_nn (fun c hc => h c (by omega))
    have h2 := h n (by omega)
    by_cases e : c = n
    · rw [e]; omega
    · have := rk_s_ge (n := n) (f := f) (fun c hc => h c (by omega)) c (by omega)
      omega
theorem rk_kn_mono {S S' : Nat → Bool} : ∀ {n : Nat}, (∀ c, c < n → S c = true → S' c = true) → rk_kn n S ≤ rk_kn n S'
  | 0, _ => Nat.le_refl 0
  | n + 1, h => by
    show rk_kn n S + _ ≤ rk_kn n S' + _
    have h1 := rk_kn_mono (n := n) (S := S) (S' := S') (fun c hc => h c (by omega))
    have h2 := h n (by omega)
    cases e : S n
    · simp; omega
    · rw [h2 e]; simp; omega
theorem rk_kn_dis {A B M : Nat → Bool} : ∀ {n : Nat}, (∀ c, c < n → A c = true → M c = true ∧ B c = false) → (∀ c, c < n → B c = true → M c = true) → rk_kn n A + rk_kn n B ≤ rk_kn n M
  | 0, _, _ => Nat.le_refl 0
  | n + 1, h, g => by
    have ih := rk_kn_dis (n := n) (A := A) (B := B) (M := M) (fun c hc => h c (by omega)) (fun c hc => g c (by omega))
    show (rk_kn n A + _) + (rk_kn n B + _) ≤ rk_kn n M + _
    have h1 := h n (by omega)
    have h2 := g n (by omega)
    cases e : A n
    · cases e2 : B n
      · simp; omega
      · rw [h2 e2]; simp; omega
    · rw [(h1 e).1, (h1 e).2]; simp; omega
theorem rk_c_ge {n : Nat} {S : Nat → Bool} {f : Nat → Int} (h : ∀ c, c < n → S c = false → 0 ≤ f c) {c : Nat} (hc : c < n) (hS : S c = false) : f c ≤ rk_c n S f := by
  have := rk_s_ge (n := n) (f := fun c => if S c then 0 else f c) (fun c hc => by
    cases e : S c
    · simp [h c hc e]
    · simp) c hc
  rw [hS] at this
  exact this
theorem rk_c_nn {n : Nat} {S : Nat → Bool} {f : Nat → Int} (h : ∀ c, c < n → S c = false → 0 ≤ f c) : 0 ≤ rk_c n S f := by
  refine rk_s_nn (fun c hc => ?_)
  cases e : S c
  · simp [h c hc e]
  · simp
/-- ro c: the row whose rook is in column c (n or more: none) -/
def rk_mt (n : Nat) (b : Nat → Nat → Bool) (ro : Nat → Nat) : Prop := (∀ c, c < 6 → ro c < n → c < n ∧ b (ro c) c = true) ∧ (∀ c d, c < 6 → d < 6 → ro c < n → ro c = ro d → c = d)
def rk_ms (n : Nat) (ro : Nat → Nat) (m : Nat) : Nat → Bool := fun c => decide (c < 6 ∧ ro c < n - m)
theorem rk_pos {n : Nat} (hn : n ≤ 6) {b : Nat → Nat → Bool} {ro : Nat → Nat} (h : rk_mt n b ro) : ∀ m, m ≤ n → 1 ≤ rk_V 1 1 n (rk_b b) (rk_g (rk_k (rk_ms n ro 0))) m rk_0 (rk_ms n ro m)
  | 0, _ => by rw [rk_V, rk_g, if_pos rfl]; omega
  | m + 1, hm => by
    have ih := rk_pos hn h m (by omega)
    have nn := fun S => rk_V_nn (n := n) b (rk_k (rk_ms n ro 0)) m rk_0 S
    rw [rk_V_f rfl, Int.one_mul]
    have tn : ∀ c, c < n → rk_ms n ro (m + 1) c = false → 0 ≤ rk_e 1 rk_0 (n - 1 - m) * rk_e 1 (rk_ms n ro (m + 1)) c * rk_b b (n - 1 - m) c * rk_V 1 1 n (rk_b b) (rk_g (rk_k (rk_ms n ro 0))) m rk_0 (rk_u (rk_ms n ro (m + 1)) c) := by
      intro c _ _
      rw [rk_e_one, rk_e_one]
      have := nn (rk_u (rk_ms n ro (m + 1)) c)
      rcases rk_b_01 b (n - 1 - m) c with z | z
      · rw [z]; omega
      · rw [z]; omega
    by_cases ex : ∃ c, c < 6 ∧ ro c = n - 1 - m
    · obtain ⟨c, hc, e⟩ := ex
      obtain ⟨cn, hb⟩ := h.1 c hc (by omega)
      have e1 : rk_ms n ro m = rk_u (rk_ms n ro (m + 1)) c := by
        funext j
        by_cases ej : j = c
        · rw [ej, rk_u_eq]
          simp only [rk_ms, decide_eq_true_eq]
          omega
        · rw [rk_u_ne ej]
          unfold rk_ms
          have : j < 6 → ro j ≠ n - 1 - m := fun h6 z => ej (h.2 c j hc h6 (by omega) (by omega)).symm
          rw [decide_eq_decide]
          omega
      have g2 := nn (rk_ms n ro (m + 1))
      have e2 : rk_ms n ro (m + 1) c = false := by
        simp only [rk_ms, decide_eq_false_iff_not]
        omega
      refine Int.le_trans ?_ (Int.le_add_of_nonneg_left g2)
      refine Int.le_trans ?_ (rk_c_ge tn cn e2)
      rw [← e1, rk_e_one, rk_e_one, show rk_b b (n - 1 - m) c = 1 by rw [← e, rk_b, hb]; rfl]
      omega
    · have e1 : rk_ms n ro m = rk_ms n ro (m + 1) := by
        funext j
        unfold rk_ms
        have : j < 6 → ro j ≠ n - 1 - m := fun h6 z => ex ⟨j, h6, z⟩
        rw [decide_eq_decide]
        omega
      rw [e1] at ih
      have := rk_c_nn tn
      omega
theorem rk_R_pos {n : Nat} (hn : n ≤ 6) {b : Nat → Nat → Bool} {ro : Nat → Nat} (h : rk_mt n b ro) : 1 ≤ rk_R n b (rk_k (rk_ms n ro 0)) := by
  have := rk_pos hn h n (Nat.le_refl n)
  rw [show rk_ms n ro n = rk_0 from funext (fun c => by simp [rk_ms, rk_0])] at this
  exact this
def rk_rw (n : Nat) (Z : Nat → Bool) : Nat → Nat
  | 0 => 0
  | m + 1 => rk_rw n Z m + (if Z (n - 1 - m) then 1 else 0)
theorem rk_cov {n : Nat} (hn : n ≤ 6) {b : Nat → Nat → Bool} {C Z : Nat → Bool} (h : ∀ r c, r < n → c < n → b r c = true → C c = true ∨ Z r = true) (k : Nat) : ∀ (m : Nat) (S : Nat → Bool), m ≤ n → rk_k (fun c => S c || C c) + rk_rw n Z m < k → rk_V 1 1 n (rk_b b) (rk_g k) m rk_0 S = 0
  | 0, S, _, hk => by
    have := rk_kn_mono (n := 6) (S := S) (S' := fun c => S c || C c) (fun c _ hc => by simp [hc])
    rw [rk_V, rk_g, if_neg]
    unfold rk_k at *
    omega
  | m + 1, S, hm, hk => by
    have hk' : rk_k (fun c => S c || C c) + (rk_rw n Z m + (if Z (n - 1 - m) then 1 else 0)) < k := hk
    rw [rk_V_f rfl, rk_cov hn h k m S (by omega) (by omega)]
    rw [rk_c_z, Int.one_mul, Int.add_zero]
    intro c hc hS
    rcases rk_b_01 b (n - 1 - m) c with z | z
    · rw [z]; omega
    · have hb : b (n - 1 - m) c = true := by
        unfold rk_b at z
        cases e : b (n - 1 - m) c
        · rw [e] at z; simp at z
        · rfl
      have : rk_V 1 1 n (rk_b b) (rk_g k) m rk_0 (rk_u S c) = 0 := by
        refine rk_cov hn h k m (rk_u S c) (by omega) ?_
        cases eC : C c
        · have hZ : Z (n - 1 - m) = true := by
            rcases h _ c (by omega) hc hb with y | y
            · rw [eC] at y; exact absurd y (by simp)
            · exact y
          have e1 : (fun j => rk_u S c j || C j) = rk_u (fun j => S j || C j) c := by
            funext j
            unfold rk_u
            rw [Bool.or_assoc]
          rw [e1, rk_k_u (by simp [hS, eC]) (by omega)]
          rw [hZ] at hk'
          simp at hk'
          omega
        · have e1 : (fun j => rk_u S c j || C j) = (fun j => S j || C j) := by
            funext j
            by_cases e : j = c
            · rw [e, rk_u_eq, eC]; simp
            · rw [rk_u_ne e]
          rw [e1]
          omega
      rw [this]; omega
/-- C: columns all taken, whose rows see columns of C alone; each row below q has a rook or sees C alone -/
def rk_cl (n : Nat) (b : Nat → Nat → Bool) (ro : Nat → Nat) (C : Nat → Bool) (q : Nat) : Prop := (∀ c, c < 6 → C c = true → ro c < n ∧ ∀ d, d < n → b (ro c) d = true → C d = true) ∧ (∀ r, r < q → (∃ c, c < 6 ∧ ro c = r) ∨ (∀ d, d < n → b r d = true → C d = true))
theorem rk_max {n : Nat} (hn : n ≤ 6) {b : Nat → Nat → Bool} {ro : Nat → Nat} {C : Nat → Bool} (hC : rk_cl n b ro C n) {k : Nat} (hk : rk_k (rk_ms n ro 0) < k) : rk_R n b k = 0 := by
  have hZ : ∃ Z : Nat → Bool, ∀ r, Z r = true ↔ ∃ c, c < 6 ∧ C c = false ∧ ro c = r := by
    refine ⟨fun r => (List.range 6).any (fun c => !C c && decide (ro c = r)), fun r => ?_⟩
    simp [List.any_eq_true]
  obtain ⟨Z, hZ⟩ := hZ
  refine rk_cov hn (C := C) (Z := Z) (fun r c hr hc hb => ?_) k n rk_0 (Nat.le_refl n) ?_
  · rcases hC.2 r hr with ⟨c0, h6, e⟩ | h
    · cases eC : C c0
      · exact Or.inr ((hZ r).mpr ⟨c0, h6, eC, e⟩)
      · exact Or.inl ((hC.1 c0 h6 eC).2 c hc (by rw [e]; exact hb))
    · exact Or.inl (h c hc hb)
  · have e0 : (fun c => rk_0 c || C c) = C := funext (fun c => by simp [rk_0])
    rw [e0]
    have h1 : ∀ m, m ≤ n → rk_rw n Z m ≤ rk_kn 6 (fun c => !C c && decide (n - m ≤ ro c) && decide (ro c < n)) := by
      intro m
      induction m with
      | zero => intro _; exact Nat.zero_le _
      | succ m ih =>
        intro hm
        have ih := ih (by omega)
        show rk_rw n Z m + (if Z (n - 1 - m) then 1 else 0) ≤ _
        by_cases z : Z (n - 1 - m) = true
        · rw [if_pos z]
          obtain ⟨c, h6, hc, e⟩ := (hZ _).mp z
          have h2 := rk_kn_u (S := fun c => !C c && decide (n - m ≤ ro c) && decide (ro c < n)) (c := c) (by simp [hc]; omega) 6
          rw [if_pos h6] at h2
          have h3 := rk_kn_mono (n := 6) (S := rk_u (fun c => !C c && decide (n - m ≤ ro c) && decide (ro c < n)) c) (S' := fun c => !C c && decide (n - (m + 1) ≤ ro c) && decide (ro c < n)) (fun d _ hd => by
            by_cases ed : d = c
            · subst ed; simp [hc]; omega
            · rw [rk_u_ne ed] at hd
              simp at hd ⊢
              exact ⟨⟨hd.1.1, by omega⟩, hd.2⟩)
          omega
        · rw [if_neg z]
          have h3 := rk_kn_mono (n := 6) (S := fun c => !C c && decide (n - m ≤ ro c) && decide (ro c < n)) (S' := fun c => !C c && decide (n - (m + 1) ≤ ro c) && decide (ro c < n)) (fun d _ hd => by
              simp at hd ⊢
              exact ⟨⟨hd.1.1, by omega⟩, hd.2⟩)
          omega
    have h2 := h1 n (Nat.le_refl n)
    have h3 := rk_kn_dis (n := 6) (A := C) (B := fun c => !C c && decide (n - n ≤ ro c) && decide (ro c < n)) (M := rk_ms n ro 0) (fun c h6 hc => by
      have := (hC.1 c h6 hc).1
      simp [rk_ms, hc]; omega) (fun c h6 hc => by
      simp at hc
      simp [rk_ms]; omega)
    unfold rk_k at *
    omega
end
section
/-- the rooks on a path change places -/
def rk_mv (ro pc pr : Nat → Nat) : Nat → Nat → Nat
  | 0 => ro
  | i + 1 => fun c => if c = pc i then pr i else rk_mv ro pc pr i c
theorem rk_mv_off {ro pc pr : Nat → Nat} {c : Nat} : ∀ {t : Nat}, (∀ i, i < t → c ≠ pc i) → rk_mv ro pc pr t c = ro c
  | 0, _ => rfl
  | t + 1, h => by
    show (if c = pc t then pr t else rk_mv ro pc pr t c) = ro c
    rw [if_neg (h t (by omega)), rk_mv_off (fun i hi => h i (by omega))]
theorem rk_mv_on {ro pc pr : Nat → Nat} : ∀ {t : Nat}, (∀ i j, i < j → j < t → pc i ≠ pc j) → ∀ i, i < t → rk_mv ro pc pr t (pc i) = pr i
  | 0, _, _, h => absurd h (by omega)
  | t + 1, h, i, hi => by
    show (if pc i = pc t then pr t else rk_mv ro pc pr t (pc i)) = pr i
    by_cases e : i = t
    · rw [e, if_pos rfl]
    · rw [if_neg (h i t (by omega) (by omega)), rk_mv_on (fun i j hij hj => h i j hij (by omega)) i (by omega)]
/-- a path of t rows from the row q -/
def rk_pa (n : Nat) (b : Nat → Nat → Bool) (ro : Nat → Nat) (q t : Nat) (pr pc : Nat → Nat) : Prop :=
  (0 < t → pr 0 = q) ∧ (∀ i, i < t → pr i < n) ∧ (∀ i, i + 1 < t → pc i < n ∧ b (pr i) (pc i) = true ∧ ro (pc i) = pr (i + 1)) ∧ (∀ i j, i < j → j + 1 < t → pc i ≠ pc j)
/-- what stands between two rows -/
def rk_fm (n : Nat) (b : Nat → Nat → Bool) (ro : Nat → Nat) (C : Nat → Bool) (q f : Nat) : Prop :=
  rk_mt n b ro ∧ rk_cl n b ro C q ∧ (∀ c, c < 6 → ro c < n → ro c < q) ∧ rk_k (rk_ms n ro 0) = f
theorem rk_aug {n : Nat} (hn : n ≤ 6) {b : Nat → Nat → Bool} {ro : Nat → Nat} {C : Nat → Bool} {q f t : Nat} {pr pc : Nat → Nat} (hq : q < n) (hF : rk_fm n b ro C q f) (hp : rk_pa n b ro q (t + 1) pr pc)
    (c1 : pc t < n) (c2 : b (pr t) (pc t) = true) (c3 : n ≤ ro (pc t)) (c4 : ∀ i, i < t → pc i ≠ pc t) : rk_fm n b (rk_mv ro pc pr (t + 1)) C (q + 1) (f + 1) := by
  obtain ⟨⟨m1, m2⟩, ⟨k1, k2⟩, fr, hf⟩ := hF
  obtain ⟨p0, p1, p2, p3⟩ := hp
  have D : ∀ i j, i < j → j < t + 1 → pc i ≠ pc j := by
    intro i j hij hj
    by_cases e : j = t
    · rw [e]; exact c4 i (by omega)
    · exact p3 i j hij (by omega)
  have PN : ∀ i, i < t + 1 → pc i < n := by
    intro i hi
    by_cases e : i = t
    · rw [e]; exact c1
    · exact (p2 i (by omega)).1
  have PB : ∀ i, i < t + 1 → b (pr i) (pc i) = true := by
    intro i hi
    by_cases e : i = t
    · rw [e]; exact c2
    · exact (p2 i (by omega)).2.1
  have on := fun i (hi : i < t + 1) => rk_mv_on (ro := ro) (pr := pr) D i hi
  have off := fun c (h : ∀ i, i < t + 1 → c ≠ pc i) => rk_mv_off (ro := ro) (pr := pr) h
  have cs : ∀ c, (∃ i, i < t + 1 ∧ c = pc i) ∨ (∀ i, i < t + 1 → c ≠ pc i) := by
    intro c
    by_cases h : ∃ i, i < t + 1 ∧ c = pc i
    · exact Or.inl h
    · exact Or.inr (fun i hi e => h ⟨i, hi, e⟩)
  have PQ : ∀ i, i < t + 1 → pr i = q ∨ (0 < i ∧ pr i = ro (pc (i - 1)) ∧ pr i < q) := by
    intro i hi
    cases i with
    | zero => exact Or.inl (p0 (by omega))
    | succ i =>
      obtain ⟨a1, a2, a3⟩ := p2 i (by omega)
      refine Or.inr ⟨by omega, a3.symm, ?_⟩
      have := p1 (i + 1) hi
      have := fr (pc i) (by omega) (by omega)
      omega
  have NC : ∀ i, i < t + 1 → C (pc (t - i)) = false := by
    intro i
    induction i with
    | zero =>
      intro _
      cases e : C (pc (t - 0))
      · rfl
      · have := (k1 (pc t) (by omega) e).1
        omega
    | succ i ih =>
      intro hi
      cases e : C (pc (t - (i + 1)))
      · rfl
      · obtain ⟨a1, a2, a3⟩ := p2 (t - (i + 1)) (by omega)
        have h2 := (k1 _ (by omega) e).2
        rw [a3] at h2
        have e2 : t - (i + 1) + 1 = t - i := by omega
        rw [e2] at h2
        have h3 := h2 (pc (t - i)) (PN _ (by omega)) (PB _ (by omega))
        rw [ih (by omega)] at h3
        exact h3.symm
  have NC' : ∀ i, i < t + 1 → C (pc i) = false := fun i hi => by
    have := NC (t - i) (by omega)
    rw [show t - (t - i) = i by omega] at this
    exact this
  refine ⟨⟨?_, ?_⟩, ⟨?_, ?_⟩, ?_, ?_⟩
  · intro c hc h
    rcases cs c with ⟨i, hi, e⟩ | ho
    · rw [e, on i hi]
      exact ⟨PN i hi, PB i hi⟩
    · rw [off c ho] at h ⊢
      exact m1 c hc h
  · have key : ∀ c d, c < 6 → d < 6 → (∃ i, i < t + 1 ∧ c = pc i) → (∀ i, i < t + 1 → d ≠ pc i) → rk_mv ro pc pr (t + 1) c < n → rk_mv ro pc pr (t + 1) c = rk_mv ro pc pr (t + 1) d → False := by
      intro c d hc hd ⟨i, hi, e⟩ ho h e2
      rw [e, on i hi] at h e2
      rw [off d ho] at e2
      rcases PQ i hi with z | ⟨z1, z2, z3⟩
      · have := fr d hd (by omega)
        omega
      · rw [z2] at e2 h
        exact ho (i - 1) (by omega) (m2 _ d (by have := PN (i - 1) (by omega); omega) hd h e2).symm
    intro c d hc hd h e
    rcases cs c with hcp | hco
    · rcases cs d with hdp | hdo
      · obtain ⟨i, hi, ei⟩ := hcp
        obtain ⟨j, hj, ej⟩ := hdp
        rw [ei, ej, on i hi, on j hj] at e
        have inj : ∀ i j, i < j → j < t + 1 → pr i ≠ pr j := by
          intro i j hij hj e
          rcases PQ j hj with z | ⟨z1, z2, z3⟩
          · rcases PQ i (by omega) with y | ⟨y1, y2, y3⟩
            · cases j with
              | zero => omega
              | succ j =>
                obtain ⟨a1, a2, a3⟩ := p2 j (by omega)
                have := fr (pc j) (by omega) (by rw [a3]; exact p1 _ hj)
                omega
            · omega
          · rcases PQ i (by omega) with y | ⟨y1, y2, y3⟩
            · omega
            · have := p1 i (by omega)
              exact D (i - 1) (j - 1) (by omega) (by omega) (m2 _ _ (by have := PN (i - 1) (by omega); omega) (by have := PN (j - 1) (by omega); omega) (by omega) (by omega))
        rcases Nat.lt_trichotomy i j with z | z | z
        · exact absurd e (inj i j z hj)
        · rw [ei, ej, z]
        · exact absurd e.symm (inj j i z hi)
      · exact absurd (key c d hc hd hcp hdo h e) (fun z => z)
    · rcases cs d with hdp | hdo
      · exact absurd (key d c hd hc hdp hco (by omega) e.symm) (fun z => z)
      · rw [off c hco] at h e
        rw [off d hdo] at e
        exact m2 c d hc hd h e
  · intro c hc hC
    rw [off c (fun i hi e => by
      have := NC' i hi
      rw [← e, hC] at this
      exact absurd this (by simp))]
    exact k1 c hc hC
  · intro r hr
    by_cases e : r = q
    · refine Or.inl ⟨pc 0, ?_, ?_⟩
      · have := PN 0 (by omega)
        omega
      · rw [on 0 (by omega), p0 (by omega), e]
    · rcases k2 r (by omega) with ⟨c, hc, ec⟩ | h
      · left
        rcases cs c with ⟨i, hi, ei⟩ | ho
        · by_cases et : i = t
          · rw [ei, et] at ec
            omega
          · obtain ⟨a1, a2, a3⟩ := p2 i (by omega)
            refine ⟨pc (i + 1), ?_, ?_⟩
            · have := PN (i + 1) (by omega)
              omega
            · rw [on (i + 1) (by omega), ← a3, ← ei, ec]
        · exact ⟨c, hc, by rw [off c ho, ec]⟩
      · exact Or.inr h
  · intro c hc h
    rcases cs c with ⟨i, hi, e⟩ | ho
    · rw [e, on i hi]
      rcases PQ i hi with z | ⟨_, _, z⟩ <;> omega
    · rw [off c ho] at h ⊢
      have := fr c hc h
      omega
  · have e1 : rk_ms n (rk_mv ro pc pr (t + 1)) 0 = rk_u (rk_ms n ro 0) (pc t) := by
      funext c
      by_cases e : c = pc t
      · rw [e, rk_u_eq]
        simp only [rk_ms, decide_eq_true_eq]
        rw [on t (by omega)]
        have := p1 t (by omega)
        omega
      · rw [rk_u_ne e]
        unfold rk_ms
        rw [decide_eq_decide]
        rcases cs c with ⟨i, hi, ei⟩ | ho
        · obtain ⟨a1, a2, a3⟩ := p2 i (by
            have : i ≠ t := fun z => e (by rw [ei, z])
            omega)
          have h1 := p1 i hi
          have h2 := p1 (i + 1) (by
            have : i ≠ t := fun z => e (by rw [ei, z])
            omega)
          rw [ei, on i hi, a3]
          omega
        · rw [off c ho]
    rw [e1, rk_k_u (by simp only [rk_ms, decide_eq_false_iff_not]; omega) (by omega), hf]
/-- what stands at each step of the search -/
def rk_fi (n : Nat) (b : Nat → Nat → Bool) (ro : Nat → Nat) (q t st : Nat) (tr : Nat → Bool) (pr pc : Nat → Nat) : Prop :=
  rk_pa n b ro q t pr pc ∧ st + t = 2 * rk_k tr + 1 ∧ t ≤ rk_k tr + 1
  ∧ (∀ c, tr c = true → c < n ∧ ro c < n ∧ ((∃ i, i < t ∧ pr i = ro c) ∨ ∀ d, d < n → b (ro c) d = true → tr d = true))
  ∧ (0 < t ∨ ∀ d, d < n → b q d = true → tr d = true) ∧ (∀ i, i + 1 < t → tr (pc i) = true)
theorem rk_fi_0 {n : Nat} {b : Nat → Nat → Bool} {ro : Nat → Nat} {q : Nat} (hq : q < n) {pr pc : Nat → Nat} (h0 : pr 0 = q) : rk_fi n b ro q 1 0 rk_0 pr pc :=
  ⟨⟨fun _ => h0, fun i hi => by rw [show i = 0 by omega, h0]; exact hq, fun i hi => absurd hi (by omega), fun i j hij hj => absurd hj (by omega)⟩, rfl, by omega, fun c h => absurd h (by simp [rk_0]), Or.inl (by omega), fun i hi => absurd hi (by omega)⟩
theorem rk_fi_pop {n : Nat} {b : Nat → Nat → Bool} {ro : Nat → Nat} {q t st : Nat} {tr : Nat → Bool} {pr pc : Nat → Nat} (h : rk_fi n b ro q (t + 1) st tr pr pc) (hc : ∀ d, d < n → b (pr t) d = true → tr d = true) : rk_fi n b ro q t (st + 1) tr pr pc := by
  obtain ⟨⟨p0, p1, p2, p3⟩, e, le, ht, h0, hp⟩ := h
  refine ⟨⟨fun _ => p0 (by omega), fun i hi => p1 i (by omega), fun i hi => p2 i (by omega), fun i j hij hj => p3 i j hij (by omega)⟩, by omega, by omega, ?_, ?_, fun i hi => hp i (by omega)⟩
  · intro c hcx
    obtain ⟨a1, a2, a3⟩ := ht c hcx
    refine ⟨a1, a2, ?_⟩
    rcases a3 with ⟨i, hi, ei⟩ | a3
    · by_cases z : i = t
      · right
        rw [← ei, z]
        exact hc
      · exact Or.inl ⟨i, by omega, ei⟩
    · exact Or.inr a3
  · by_cases z : 0 < t
    · exact Or.inl z
    · right
      have e0 : t = 0 := by omega
      have := p0 (by omega)
      rw [e0, this] at hc
      exact hc
def rk_up (f : Nat → Nat) (k x : Nat) : Nat → Nat := fun i => if i = k then x else f i
theorem rk_up_eq (f : Nat → Nat) (k x : Nat) : rk_up f k x k = x := by simp [rk_up]
theorem rk_up_ne (f : Nat → Nat) {k i : Nat} (x : Nat) (h : i ≠ k) : rk_up f k x i = f i := by simp [rk_up, h]
theorem rk_pa_col {n : Nat} {b : Nat → Nat → Bool} {ro : Nat → Nat} {q t : Nat} {pr pc : Nat → Nat} (h : rk_pa n b ro q (t + 1) pr pc) (c : Nat) : rk_pa n b ro q (t + 1) pr (rk_up pc t c) := by
  obtain ⟨p0, p1, p2, p3⟩ := h
  refine ⟨p0, p1, fun i hi => ?_, fun i j hij hj => ?_⟩
  · rw [rk_up_ne pc c (by omega)]
    exact p2 i hi
  · rw [rk_up_ne pc c (by omega), rk_up_ne pc c (by omega)]
    exact p3 i j hij hj
theorem rk_fi_push {n : Nat} (hn : n ≤ 6) {b : Nat → Nat → Bool} {ro : Nat → Nat} {q t st : Nat} {tr : Nat → Bool} {pr pc : Nat → Nat} (h : rk_fi n b ro q (t + 1) st tr pr pc) {c : Nat} (hc : c < n) (hb : b (pr t) c = true) (hx : tr c = false) (hr : ro c < n) :
    rk_fi n b ro q (t + 2) (st + 1) (rk_u tr c) (rk_up pr (t + 1) (ro c)) (rk_up pc t c) := by
  obtain ⟨⟨p0, p1, p2, p3⟩, e, le, ht, h0, hp⟩ := h
  have hk := rk_k_u hx (by omega)
  refine ⟨⟨fun _ => ?_, fun i hi => ?_, fun i hi => ?_, fun i j hij hj => ?_⟩, by omega, by omega, ?_, Or.inl (by omega), fun i hi => ?_⟩
  · rw [rk_up_ne pr _ (by omega)]
    exact p0 (by omega)
  · by_cases z : i = t + 1
    · rw [z, rk_up_eq]; exact hr
    · rw [rk_up_ne pr _ z]; exact p1 i (by omega)
  · by_cases z : i = t
    · rw [z, rk_up_eq, rk_up_eq, rk_up_ne pr _ (by omega)]
      exact ⟨hc, hb, rfl⟩
    · rw [rk_up_ne pc _ z, rk_up_ne pr _ (by omega), rk_up_ne pr _ (by omega)]
      exact p2 i (by omega)
  · by_cases z : j = t
    · rw [z, rk_up_eq, rk_up_ne pc _ (by omega)]
      intro y
      have := hp i (by omega)
      rw [y, hx] at this
      exact absurd this (by simp)
    · rw [rk_up_ne pc _ z, rk_up_ne pc _ (by omega)]
      exact p3 i j hij (by omega)
  · intro d hd
    by_cases z : d = c
    · rw [z]
      exact ⟨hc, hr, Or.inl ⟨t + 1, by omega, rk_up_eq _ _ _⟩⟩
    · rw [rk_u_ne z] at hd
      obtain ⟨a1, a2, a3⟩ := ht d hd
      refine ⟨a1, a2, ?_⟩
      rcases a3 with ⟨i, hi, ei⟩ | a3
      · exact Or.inl ⟨i, by omega, by rw [rk_up_ne pr _ (by omega)]; exact ei⟩
      · refine Or.inr (fun x hx hy => ?_)
        unfold rk_u
        rw [a3 x hx hy]
        simp
  · by_cases z : i = t
    · rw [z, rk_up_eq, rk_u_eq]
    · rw [rk_up_ne pc _ z]
      unfold rk_u
      rw [hp i (by omega)]
      simp
theorem rk_fi_fail {n : Nat} {b : Nat → Nat → Bool} {ro : Nat → Nat} {C : Nat → Bool} {q f st : Nat} {tr : Nat → Bool} {pr pc : Nat → Nat} (hF : rk_fm n b ro C q f) (h : rk_fi n b ro q 0 st tr pr pc) : rk_fm n b ro (fun c => C c || tr c) (q + 1) f := by
  obtain ⟨hm, ⟨k1, k2⟩, fr, hf⟩ := hF
  obtain ⟨_, _, _, ht, h0, _⟩ := h
  refine ⟨hm, ⟨?_, ?_⟩, fun c hc h => by have := fr c hc h; omega, hf⟩
  · intro c hc hx
    by_cases z : C c = true
    · obtain ⟨a1, a2⟩ := k1 c hc z
      exact ⟨a1, fun d hd hb => by simp [a2 d hd hb]⟩
    · have ht' : tr c = true := by
        rcases Bool.or_eq_true _ _ ▸ hx with y | y
        · exact absurd y z
        · exact y
      obtain ⟨a1, a2, a3⟩ := ht c ht'
      refine ⟨a2, fun d hd hb => ?_⟩
      rcases a3 with ⟨i, hi, _⟩ | a3
      · omega
      · simp [a3 d hd hb]
  · intro r hr
    by_cases e : r = q
    · right
      intro d hd hb
      rcases h0 with y | y
      · omega
      · rw [e] at hb
        simp [y d hd hb]
    · rcases k2 r (by omega) with y | y
      · exact Or.inl y
      · exact Or.inr (fun d hd hb => by simp [y d hd hb])
end
section
/-- whole numbers as ints -/
def rk_i (x : Int) : Int32 := Int32.ofInt x
theorem rk_i_add (x y : Int) : rk_i (x + y) = rk_i x + rk_i y := Int32.ofInt_add x y
theorem rk_i_mul (x y : Int) : rk_i (x * y) = rk_i x * rk_i y := Int32.ofInt_mul x y
theorem rk_i_neg (x : Int) : rk_i (-x) = -rk_i x := Int32.ofInt_neg x
theorem rk_i_sub (x y : Int) : rk_i (x - y) = rk_i x - rk_i y := Int32.ofInt_sub x y
theorem rk_i_toInt (x : Int32) : rk_i x.toInt = x := Int32.ofInt_toInt x
theorem rk_i_nI (n : Nat) : rk_i (n : Int) = nI n := Int32.ofInt_eq_ofNat
theorem rk_i_0 : rk_i 0 = 0 := rfl
theorem rk_i_1 : rk_i 1 = 1 := rfl
theorem rk_i_of {x : Int} (h : 0 ≤ x) : rk_i x = nI x.toNat := by
  rw [← rk_i_nI, Int.toNat_of_nonneg h]
/-- masks -/
def rk_mk : Nat → (Nat → Bool) → Nat
  | 0, _ => 0
  | n + 1, f => rk_mk n f + (if f n then 2 ^ n else 0)
theorem rk_mk_lt (f : Nat → Bool) : ∀ n, rk_mk n f < 2 ^ n
  | 0 => by simp [rk_mk]
  | n + 1 => by
    have := rk_mk_lt f n
    rw [rk_mk, Nat.pow_succ]
    split <;> omega
theorem rk_mk_tb (f : Nat → Bool) (c : Nat) : ∀ n, (rk_mk n f).testBit c = (decide (c < n) && f c)
  | 0 => by simp [rk_mk]
  | n + 1 => by
    have h1 := rk_mk_lt f n
    have h2 := rk_mk_tb f c n
    rw [rk_mk]
    rcases Nat.lt_trichotomy c n with h | h | h
    · split
      · rw [Nat.add_comm, Nat.testBit_two_pow_add_gt h, h2]
        simp [h, show c < n + 1 by omega]
      · rw [Nat.add_zero, h2]
        simp [h, show c < n + 1 by omega]
    · subst h
      have h3 : (rk_mk c f).testBit c = false := Nat.testBit_lt_two_pow h1
      split
      · rename_i e
        rw [Nat.add_comm, Nat.testBit_two_pow_add_eq, h3, e]; simp
      · rename_i e
        rw [Nat.add_zero, h3]
        simp at e
        rw [e]; simp
    · have h3 : rk_mk n f + (if f n then 2 ^ n else 0) < 2 ^ c := by
        have : 2 ^ (n + 1) ≤ 2 ^ c := Nat.pow_le_pow_right (by omega) (by omega)
        rw [Nat.pow_succ] at this
        split <;> omega
      rw [Nat.testBit_lt_two_pow h3]
      simp; omega
theorem rk_p6 : ∀ n, n < 7 → 2 ^ n ≤ 64 := by decide
theorem rk_mk_64 {n : Nat} (hn : n ≤ 6) (f : Nat → Bool) : rk_mk n f < 64 := Nat.lt_of_lt_of_le (rk_mk_lt f n) (rk_p6 n (by omega))
theorem rk_tb6 {m c : Nat} (hm : m < 64) (hc : 6 ≤ c) : m.testBit c = false :=
  Nat.testBit_lt_two_pow (Nat.lt_of_lt_of_le hm (show 2 ^ 6 ≤ 2 ^ c from Nat.pow_le_pow_right (by omega) hc))
theorem rk_ext {m k : Nat} (hm : m < 64) (hk : k < 64) (h : ∀ c, c < 6 → m.testBit c = k.testBit c) : m = k := by
  refine Nat.eq_of_testBit_eq (fun c => ?_)
  by_cases z : c < 6
  · exact h c z
  · rw [rk_tb6 hm (by omega), rk_tb6 hk (by omega)]
theorem rk_or_tb (s c d : Nat) : (s ||| 2 ^ c).testBit d = rk_u s.testBit c d := by
  rw [Nat.testBit_or, Nat.testBit_two_pow, Bool.or_comm, rk_u]
  congr 1
  by_cases h : c = d
  · simp [h]
  · simp [h, show ¬ d = c from fun z => h z.symm]
theorem rk_or_u (s c : Nat) : (s ||| 2 ^ c).testBit = rk_u s.testBit c := funext (fun d => rk_or_tb s c d)
theorem rk_0_tb : (0 : Nat).testBit = rk_0 := funext (fun d => by simp [rk_0])
theorem rk_or_lt {n s c : Nat} (hs : s < 2 ^ n) (hc : c < n) : s ||| 2 ^ c < 2 ^ n := Nat.or_lt_two_pow hs (Nat.pow_lt_pow_right (by omega) hc)
theorem rk_or_64 {s c : Nat} (hs : s < 64) (hc : c < 6) : s ||| 2 ^ c < 64 := rk_or_lt (n := 6) hs hc
/-- tables -/
theorem rk_t1 : ∀ m, m < 64 → ∀ c, c < 6 → (nI m >>> (nI c &&& 31)) &&& 1 = if m.testBit c then 1 else 0 := by decide +kernel
theorem rk_t2 : ∀ m, m < 64 → ∀ s, s < 64 → nI m &&& (nI s ^^^ (-1)) = nI (m &&& (63 ^^^ s)) := by decide +kernel
theorem rk_t3 : ∀ c, c < 7 → (1 : Int32) <<< (nI c &&& 31) = nI (2 ^ c) := by decide +kernel
theorem rk_t4 : ∀ s, s < 64 → ∀ c, c < 6 → nI s ||| nI (2 ^ c) = nI (s ||| 2 ^ c) := by decide +kernel
theorem rk_t5 : ∀ f, f < 64 → f ≠ 0 → ∃ c, c < 6 ∧ f.testBit c = true ∧ nI f &&& -nI f = nI (2 ^ c) ∧ nI f ^^^ nI (2 ^ c) = nI (f ^^^ 2 ^ c) ∧ f ^^^ 2 ^ c < f := by decide +kernel
theorem rk_t6 : ∀ m, m < 128 → (nI m).toInt8.toInt32 = nI m := by decide +kernel
theorem rk_t7 : ∀ c, c < 6 → nI (2 ^ c) - 1 = nI (2 ^ c - 1) ∧ 2 ^ c - 1 < 64 ∧ rk_k (2 ^ c - 1).testBit = c := by decide +kernel
theorem rk_t10 : ∀ m, m < 64 → ∀ c, c < 6 → (nI m &&& nI (2 ^ c) = 0 ↔ m.testBit c = false) := by decide +kernel
theorem rk_t11 : ∀ s, s < 64 → ∀ c, c < 6 → nI s >>> (nI c &&& 31) = nI (s / 2 ^ c) ∧ s / 2 ^ c < 64 ∧ (s.testBit c = false → (nI (rk_k (s / 2 ^ c).testBit) &&& 1 = 1 ↔ rk_e (-1) s.testBit c = -1) ∧ (¬ nI (rk_k (s / 2 ^ c).testBit) &&& 1 = 1 ↔ rk_e (-1) s.testBit c = 1)) := by decide +kernel
theorem rk_t12 : ∀ n, n < 7 → ∀ s, s < 64 → ((∀ c, c < 6 → s.testBit c = decide (c < n)) ↔ s = 2 ^ n - 1) := by decide +kernel
theorem rk_nar {m : Nat} (h : m < 128) : vp_nar .byte (nI m) = nI m := by
  rw [vp_nar_byte, rk_t6 m h]
theorem rk_nar1 : vp_nar .byte (-1) = -1 := rfl
theorem rk_an_tb {m : Nat} (hm : m < 64) (s c : Nat) : (m &&& (63 ^^^ s)).testBit c = (m.testBit c && !s.testBit c) := by
  rw [Nat.testBit_and, Nat.testBit_xor]
  by_cases z : c < 6
  · have : ∀ c, c < 6 → (63 : Nat).testBit c = true := by decide
    rw [this c z]
    simp
  · rw [rk_tb6 hm (by omega)]
    simp
theorem rk_an_64 {m : Nat} (hm : m < 64) (s : Nat) : m &&& (63 ^^^ s) < 64 := Nat.lt_of_le_of_lt Nat.and_le_left hm
theorem rk_xo_tb (f c d : Nat) : (f ^^^ 2 ^ c).testBit d = (f.testBit d ^^ decide (d = c)) := by
  rw [Nat.testBit_xor, Nat.testBit_two_pow]
  congr 1
  by_cases h : c = d
  · simp [h]
  · simp [h, show ¬ d = c from fun z => h z.symm]
end
section
theorem rk_s_ext {f : Nat → Int} {n : Nat} : ∀ {N : Nat}, (∀ c, n ≤ c → c < N → f c = 0) → n ≤ N → rk_s N f = rk_s n f
  | 0, _, hn => by rw [show n = 0 by omega]
  | N + 1, h, hn => by
    by_cases e : n = N + 1
    · rw [e]
    · show rk_s N f + f N = _
      rw [rk_s_ext (fun c h1 h2 => h c h1 (by omega)) (by omega), h N (by omega) (by omega), Int.add_zero]
theorem rk_sizeOf {post : Int32 → Prop} {u : St2} {m : Nat} (hm : m < 64) (H : post (nI (rk_k m.testBit))) : wpX_sizeOf post u (nI m) := by
  obtain ⟨f0_n, f0_tried, a1, a2, a3, a4, a5, a6, a7, a8, a9, a10, a11⟩ := u
  show ∃ fu4 : Nat, wX_sizeOf_4 post (nI m) f0_n f0_tried a1 a2 a3 a4 a5 a6 a7 a8 a9 a10 a11 fu4 0 0
  exact pk_loop (fun n i s => wX_sizeOf_4 post (nI m) f0_n f0_tried a1 a2 a3 a4 a5 a6 a7 a8 a9 a10 a11 n s (nI i)) (fun i s => s = nI (rk_kn i m.testBit)) 6 0 0 (by omega) rfl
    (fun n s h => pk_le 6 6 (fun _ => by rw [h]; exact H) (fun z => absurd z (by omega)))
    (fun n i s hi h hw => pk_le 6 i (fun z => absurd z (by omega)) (fun _ => nm_e (nm_r (nI_1 i) (hw _ (by
      rw [h, rk_t1 m hm i hi, rk_kn]
      split
      · exact nI_1 _
      · rw [Nat.add_zero, Int32.add_zero])))))
theorem rk_div6 {a : Nat} (ha : a < 2 ^ 31) : nI a / 6 = nI (a / 6) := pk_div (d := 6) ha (by decide) (by decide)
theorem rk_rem6 {a : Nat} (ha : a < 2 ^ 31) : nI a - nI a / 6 * 6 = nI (a % 6) := pk_rem (d := 6) ha (by decide) (by decide)
theorem rk_badNumber {post : Int32 → Prop} {n k : Nat} {tr : Int32} {a1 a2 a3 a4 a5 a6 a7 a8 a9 a10 a11 : Nat → Int32} (hn : n ≤ 6) (hk : k ≤ n) (H : post 0) : wpX_badNumber post (nI n, tr, a1, a2, a3, a4, a5, a6, a7, a8, a9, a10, a11) (nI k) :=
  br_f (nI_pos (by omega)) (pk_le k n (fun _ => H) (fun z => absurd z (by omega)))
theorem rk_badCell0 {post : Int32 → Prop} {n k : Nat} {tr : Int32} {a1 a2 a3 a4 a5 a6 a7 a8 a9 a10 a11 : Nat → Int32} (hn : n ≤ 6) (hk : k < 36) (h1 : k / 6 < n) (h2 : k % 6 < n) (H : post 0) : wpX_badCell post (nI n, tr, a1, a2, a3, a4, a5, a6, a7, a8, a9, a10, a11) (nI k) :=
  br_f (nI_pos (by omega)) ⟨by decide, pk_le n (k / 6) (fun z => absurd z (by omega)) (fun _ => ⟨by decide, pk_lt (k % 6) n (fun _ => H) (fun z => absurd z (by omega)) (rk_rem6 (by omega)) rfl⟩) rfl (rk_div6 (by omega))⟩
theorem rk_badCell1 {post : Int32 → Prop} {n k : Nat} {tr : Int32} {a1 a2 a3 a4 a5 a6 a7 a8 a9 a10 a11 : Nat → Int32} (hn : n ≤ 6) (hk : k < 36) (h : ¬ (k / 6 < n ∧ k % 6 < n)) (H : post 1) : wpX_badCell post (nI n, tr, a1, a2, a3, a4, a5, a6, a7, a8, a9, a10, a11) (nI k) :=
  br_f (nI_pos (by omega)) ⟨by decide, pk_le n (k / 6) (fun _ => H) (fun y => ⟨by decide, pk_lt (k % 6) n (fun z => absurd ⟨y, z⟩ h) (fun _ => H) (rk_rem6 (by omega)) rfl⟩) rfl (rk_div6 (by omega))⟩
theorem rk_takeNext {post : St2 → Prop} {n : Nat} {tr : Int32} {a1 a2 a3 a4 a5 a6 a7 a8 a9 a10 a11 : Nat → Int32} (hn : n ≤ 6) (H : ∀ f : Nat → Int32, (∀ i, i < 64 * (n + 1) → f i = a4 i) → post (nI n, tr, a1, a2, f, a4, a5, a6, a7, a8, a9, a10, a11)) : wpX_takeNext post (nI n, tr, a1, a2, a3, a4, a5, a6, a7, a8, a9, a10, a11) := by
  have e0 : 64 * (nI n + 1) = nI (64 * (n + 1)) := by rw [nI_1, show (64 : Int32) = nI 64 from rfl, pk_mul]
  exact pk_loop (fun fu i s => wX_takeNext_2 post (nI n) tr fu (nI i) a1 a2 s a4 a5 a6 a7 a8 a9 a10 a11) (fun i s => ∀ j, j < i → s j = a4 j) (64 * (n + 1)) 0 a3 (by omega) (fun j hj => absurd hj (by omega))
    (fun fu s h => pk_le (64 * (n + 1)) (64 * (n + 1)) (fun _ => H s h) (fun z => absurd z (by omega)) e0 rfl)
    (fun fu i s hi h hw => pk_le (64 * (n + 1)) i (fun z => absurd z (by omega)) (fun _ => ⟨pk_in i 448 (by omega), pk_in i 448 (by omega), nm_e (nm_r (nI_1 i) (hw _ (by
      rw [nI_clamp (by omega)]
      intro j hj
      by_cases e : j = i
      · rw [e, pk_us]
      · rw [pk_un e]; exact h j (by omega))))⟩) e0 rfl)
theorem rk_ix (r s : Nat) : (64 * nI r) + nI s = nI (64 * r + s) := by
  rw [show (64 : Int32) = nI 64 from rfl, pk_mul, nI_add]
theorem rk_ix1 (r s : Nat) : (64 * (nI r + 1)) + nI s = nI (64 * (r + 1) + s) := by
  rw [nI_1, rk_ix]
theorem rk_tbn {m n c : Nat} (hm : m < 2 ^ n) (h : m.testBit c = true) : c < n := by
  rcases Nat.lt_or_ge c n with z | z
  · exact z
  · rw [Nat.testBit_lt_two_pow (Nat.lt_of_lt_of_le hm (Nat.pow_le_pow_right (by omega) z))] at h
    exact absurd h (by simp)
theorem rk_cr38 {post : St2 → Prop} {J : Int32 → (Nat → Int32) → (Nat → Int32) → (Nat → Int32) → (Nat → Int32) → (Nat → Int32) → (Nat → Int32) → (Nat → Int32) → (Nat → Int32) → (Nat → Int32) → (Nat → Int32) → (Nat → Int32) → Prop} {n r s : Nat} {tr : Int32} {a1 a2 a3 a4 a5 a6 a7 a8 a9 a10 a11 : Nat → Int32} (hn : n ≤ 6) (hr : r < 6) (hs : s < 2 ^ n) (g : Nat → Int)
    (hg : ∀ c, c < n → a3 (64 * (r + 1) + (s ||| 2 ^ c)) = rk_i (g c)) : ∀ (f : Nat) (X : Int), f < 2 ^ n → J (nI (s + 1)) a1 a2 a3 (upd a4 (64 * r + s) (rk_i (X + rk_s 6 (fun c => if f.testBit c then g c else 0)))) a5 a6 a7 a8 a9 a10 a11 → ∃ fu : Nat, wX_countRow_38 post J (nI r) (nI s) (nI n) tr a1 a2 a3 a4 a5 a6 a7 a8 a9 a10 a11 fu (rk_i X) (nI f) := by
  have h64 := rk_p6 n (by omega)
  intro f
  induction f using Nat.strongRecOn with
  | ind f ih =>
    intro X hf H
    by_cases z : f = 0
    · refine ⟨1, br_t (by rw [z]; rfl) ⟨pk_in (64 * r + s) 448 (by omega) (rk_ix r s), nm_r (by rw [rk_ix, nI_clamp (by omega)]) (nm_r (nI_1 s) ?_)⟩⟩
      rw [z, rk_s_z (fun c _ => by simp), Int.add_zero] at H
      exact H
    · obtain ⟨c, c6, tb, h5, h6, hlt⟩ := rk_t5 f (by omega) z
      have cn := rk_tbn hf tb
      have hor := rk_or_lt hs cn
      have e1 : X + rk_s 6 (fun c => if f.testBit c then g c else 0) = (X + g c) + rk_s 6 (fun d => if (f ^^^ 2 ^ c).testBit d then g d else 0) := by
        rw [rk_s_one (n := 6) (r0 := c) (f := fun c => if f.testBit c then g c else 0) (g := fun d => if (f ^^^ 2 ^ c).testBit d then g d else 0) (by rw [rk_xo_tb, tb]; simp) c6 (fun d _ hd => by rw [rk_xo_tb]; simp [hd]), tb]
        simp only [if_true]
        omega
      rw [e1] at H
      obtain ⟨fu, hfu⟩ := ih (f ^^^ 2 ^ c) hlt (X + g c) (by omega) H
      have e2 : nI s ||| nI (2 ^ c) = nI (s ||| 2 ^ c) := rk_t4 s (by omega) c c6
      refine ⟨fu + 1, br_f (nI_ne0 (by omega) (by omega)) (nm_r h5 (nm_r h6 ⟨pk_in (64 * (r + 1) + (s ||| 2 ^ c)) 448 (by omega) (by rw [e2, rk_ix1]), nm_r (e' := rk_i (X + g c)) ?_ hfu⟩))⟩
      rw [e2, rk_ix1, nI_clamp (by omega), hg c cn, rk_i_add]
theorem rk_countRow {post : St2 → Prop} {n m k : Nat} {b : Nat → Nat → Bool} {tr : Int32} {a1 a2 a3 a4 a5 a6 a7 a8 a9 a10 a11 : Nat → Int32} (hn : n ≤ 6) (hm : m < n)
    (h1 : a1 (n - 1 - m) = nI (rk_mk n (b (n - 1 - m))))
    (h3 : ∀ s, s < 2 ^ n → a3 (64 * (n - m) + s) = rk_i (rk_W n b m k s.testBit))
    (h4 : ∀ s, s < 2 ^ n → a4 (64 * (n - m) + s) = rk_i (rk_W n b m (k + 1) s.testBit))
    (H : ∀ f : Nat → Int32, (∀ s, s < 2 ^ n → f (64 * (n - 1 - m) + s) = rk_i (rk_W n b (m + 1) (k + 1) s.testBit)) → (∀ j, (j < 64 * (n - 1 - m) ∨ 64 * (n - 1 - m) + 64 ≤ j) → f j = a4 j) → post (nI n, tr, a1, a2, a3, f, a5, a6, a7, a8, a9, a10, a11)) :
    wpX_countRow post (nI n, tr, a1, a2, a3, a4, a5, a6, a7, a8, a9, a10, a11) (nI (n - 1 - m)) := by
  have h64 := rk_p6 n (by omega)
  have hr : n - 1 - m + 1 = n - m := by omega
  refine pk_loop (fun fu i s => wX_countRow_2 post (nI (n - 1 - m)) (nI n) tr fu (nI i) a1 a2 a3 s a5 a6 a7 a8 a9 a10 a11) (fun i f => (∀ s, s < i → f (64 * (n - 1 - m) + s) = rk_i (rk_W n b (m + 1) (k + 1) s.testBit)) ∧ (∀ j, (j < 64 * (n - 1 - m) ∨ 64 * (n - 1 - m) + 64 ≤ j) → f j = a4 j)) (2 ^ n) 0 a4 (Nat.zero_le _) ⟨fun j hj => absurd hj (by omega), fun _ _ => rfl⟩
    (fun fu s h => pk_le (2 ^ n) (2 ^ n) (fun _ => H s h.1 h.2) (fun z => absurd z (by omega)) (rk_t3 n (by omega)) rfl (by omega) (by omega))
    (fun fu i s hi h hw => pk_le (2 ^ n) i (fun z => absurd z (by omega)) (fun _ => ⟨pk_in (64 * (n - m) + i) 448 (by omega) (by rw [rk_ix1, hr]), nm_r (e' := rk_i (rk_W n b m (k + 1) i.testBit)) ?_ ⟨pk_in (n - 1 - m) 6 (by omega), nm_r (e' := nI (rk_mk n (b (n - 1 - m)) &&& (63 ^^^ i))) ?_ ?_⟩⟩) (rk_t3 n (by omega)) rfl (by omega) (by omega))
  · rw [rk_ix1, hr, nI_clamp (by omega), h.2 _ (by omega), h4 i hi]
  · rw [nI_clamp (by omega), h1, rk_t2 _ (rk_mk_64 hn _) i (by omega)]
  · refine rk_cr38 hn (by omega) hi (fun c => rk_W n b m k (rk_u i.testBit c)) (fun c hc => ?_) _ _ ?_ (hw _ ⟨fun s hs => ?_, fun j hj => ?_⟩)
    · rw [hr, h3 _ (rk_or_lt hi hc), rk_or_u]
    · exact Nat.lt_of_le_of_lt Nat.and_le_left (rk_mk_lt _ n)
    · by_cases e : s = i
      · rw [e, pk_us, rk_W_ss hn]
        congr 2
        have e2 : rk_c n i.testBit (fun c => if b (n - 1 - m) c then rk_W n b m k (rk_u i.testBit c) else 0) = rk_s n (fun c => if (rk_mk n (b (n - 1 - m)) &&& (63 ^^^ i)).testBit c then rk_W n b m k (rk_u i.testBit c) else 0) := by
          refine rk_s_congr (fun c hc => ?_)
          rw [rk_an_tb (rk_mk_64 hn _), rk_mk_tb]
          cases i.testBit c <;> simp [hc]
        rw [e2]
        refine rk_s_ext (fun c hc _ => ?_) hn
        rw [if_neg]
        rw [rk_an_tb (rk_mk_64 hn _), rk_mk_tb, show decide (c < n) = false by simp; omega]
        simp
      · rw [pk_un (by omega)]
        exact h.1 s (by omega)
    · rw [pk_un (by omega)]
      exact h.2 j hj
end
section
theorem rk_fw71 {post : St2 → Prop} {J : Int32 → Int32 → Int32 → (Nat → Int32) → (Nat → Int32) → (Nat → Int32) → (Nat → Int32) → (Nat → Int32) → (Nat → Int32) → (Nat → Int32) → (Nat → Int32) → (Nat → Int32) → (Nat → Int32) → (Nat → Int32) → Prop} {x1 x2 : Int32} {n k : Nat} {b : Nat → Nat → Bool} {tr : Int32} {a1 a2 a3 a4 a5 a6 a7 a8 a9 a10 a11 : Nat → Int32} (hn : n ≤ 6)
    (h1 : ∀ r, r < n → a1 r = nI (rk_mk n (b r)))
    (h3 : ∀ m, m ≤ n → ∀ s, s < 2 ^ n → a3 (64 * (n - m) + s) = rk_i (rk_W n b m k s.testBit))
    (h4 : ∀ s, s < 2 ^ n → a4 (64 * n + s) = rk_i (rk_W n b 0 (k + 1) s.testBit))
    (H : ∀ f g : Nat → Int32, (∀ m, m ≤ n → ∀ s, s < 2 ^ n → f (64 * (n - m) + s) = rk_i (rk_W n b m (k + 1) s.testBit)) → J (x2 + 1) (nI n) tr a1 a2 f g a5 a6 a7 a8 a9 a10 a11) :
    ∃ fu : Nat, wX_findWays_71 post J x1 x2 fu (nI n - 1) (nI n) tr a1 a2 a3 a4 a5 a6 a7 a8 a9 a10 a11 := by
  have h64 := rk_p6 n (by omega)
  refine ⟨n + 1, pk_loopD (fun fu j g => wX_findWays_71 post J x1 x2 fu (nI j - 1) (nI n) tr a1 a2 a3 g a5 a6 a7 a8 a9 a10 a11) (fun j g => j ≤ n ∧ ∀ m, m + j ≤ n → ∀ s, s < 2 ^ n → g (64 * (n - m) + s) = rk_i (rk_W n b m (k + 1) s.testBit)) ?_ ?_ n a4 ⟨Nat.le_refl n, ?_⟩⟩
  · intro fu g h
    refine br_t (by decide) (rk_takeNext hn (fun f hf => nm_e (H f g (fun m hm s hs => ?_))))
    rw [hf _ (by omega), h.2 m (by omega) s hs]
  · intro fu j g h hw
    obtain ⟨m, hm, e⟩ : ∃ m, m < n ∧ j = n - 1 - m := ⟨n - 1 - j, by omega, by omega⟩
    subst e
    show wX_findWays_71 post J x1 x2 (fu + 1) (nI (n - 1 - m + 1) - 1) (nI n) tr a1 a2 a3 g a5 a6 a7 a8 a9 a10 a11
    rw [nI_pred]
    refine br_f (nI_pos (by omega)) (rk_countRow (m := m) (k := k) hn hm (h1 _ (by omega)) (h3 m (by omega)) (h.2 m (by omega)) (fun f f1 f2 => nm_r (e' := nI (n - 1 - m) - 1) (Int32.sub_eq_add_neg _ _).symm (hw f ⟨by omega, fun m' hm' s hs => ?_⟩)))
    by_cases e : m' = m + 1
    · rw [e, show n - (m + 1) = n - 1 - m by omega]
      exact f1 s hs
    · rw [f2 _ (by omega)]
      exact h.2 m' (by omega) s hs
  · intro m hm s hs
    rw [show m = 0 by omega]
    exact h4 s hs
theorem rk_fw37 {post : St2 → Prop} {J : Int32 → Int32 → Int32 → (Nat → Int32) → (Nat → Int32) → (Nat → Int32) → (Nat → Int32) → (Nat → Int32) → (Nat → Int32) → (Nat → Int32) → (Nat → Int32) → (Nat → Int32) → (Nat → Int32) → (Nat → Int32) → Prop} {x1 x2 : Int32} {n k : Nat} {b : Nat → Nat → Bool} {tr : Int32} {a1 a2 a3 a4 a5 a6 a7 a8 a9 a10 a11 : Nat → Int32} (hn : n ≤ 6)
    (h1 : ∀ r, r < n → a1 r = nI (rk_mk n (b r)))
    (h3 : ∀ m, m ≤ n → ∀ s, s < 2 ^ n → a3 (64 * (n - m) + s) = rk_i (rk_W n b m k s.testBit))
    (H : ∀ f g : Nat → Int32, (∀ m, m ≤ n → ∀ s, s < 2 ^ n → f (64 * (n - m) + s) = rk_i (rk_W n b m (k + 1) s.testBit)) → J (x2 + 1) (nI n) tr a1 a2 f g a5 a6 a7 a8 a9 a10 a11) :
    ∃ fu : Nat, wX_findWays_37 post J x1 x2 (nI n) tr fu 0 a1 a2 a3 a4 a5 a6 a7 a8 a9 a10 a11 := by
  have h64 := rk_p6 n (by omega)
  refine pk_loop (fun fu i g => wX_findWays_37 post J x1 x2 (nI n) tr fu (nI i) a1 a2 a3 g a5 a6 a7 a8 a9 a10 a11) (fun i g => ∀ s, s < i → g (64 * n + s) = 0) 64 0 a4 (by omega) (fun j hj => absurd hj (by omega))
    (fun fu g h => pk_le 64 64 (fun _ => nm_e (rk_fw71 hn h1 h3 (fun s hs => ?_) H)) (fun z => absurd z (by omega)))
    (fun fu i g hi h hw => pk_le 64 i (fun z => absurd z (by omega)) (fun _ => ⟨pk_in (64 * n + i) 448 (by omega) (rk_ix n i), nm_r (by rw [rk_ix, nI_clamp (by omega)]) (nm_r (nI_1 i) (hw _ ?_))⟩))
  · rw [h s (by omega), rk_W_s, rk_i_0]
  · intro s hs
    by_cases e : s = i
    · rw [e, pk_us]
    · rw [pk_un (by omega)]
      exact h s (by omega)
theorem rk_fw30 {post : St2 → Prop} {n k : Nat} {b : Nat → Nat → Bool} {tr : Int32} {a1 a2 a3 a4 a5 a6 a7 a8 a9 a10 a11 : Nat → Int32} (hn : n ≤ 6) (hk : k ≤ 6)
    (h1 : ∀ r, r < n → a1 r = nI (rk_mk n (b r)))
    (h3 : ∀ m, m ≤ n → ∀ s, s < 2 ^ n → a3 (64 * (n - m) + s) = 1)
    (H : ∀ f g : Nat → Int32, (∀ m, m ≤ n → ∀ s, s < 2 ^ n → f (64 * (n - m) + s) = rk_i (rk_W n b m k s.testBit)) → post (nI n, tr, a1, a2, f, g, a5, a6, a7, a8, a9, a10, a11)) :
    ∃ fu : Nat, wX_findWays_30 post (nI k) fu 1 (nI n) tr a1 a2 a3 a4 a5 a6 a7 a8 a9 a10 a11 := by
  refine pk_loop (fun fu i (s : (Nat → Int32) × (Nat → Int32)) => wX_findWays_30 post (nI k) fu (nI (i + 1)) (nI n) tr a1 a2 s.1 s.2 a5 a6 a7 a8 a9 a10 a11) (fun i s => ∀ m, m ≤ n → ∀ t, t < 2 ^ n → s.1 (64 * (n - m) + t) = rk_i (rk_W n b m i t.testBit)) k 0 (a3, a4) (by omega) ?_
    (fun fu s h => pk_lt k (k + 1) (fun _ => H s.1 s.2 h) (fun z => absurd z (by omega)))
    (fun fu i s hi h hw => pk_lt k (i + 1) (fun z => absurd z (by omega)) (fun _ => rk_fw37 hn h1 h (fun f g hf => ?_)))
  · intro m hm t ht
    rw [rk_W_0 hn]
    exact h3 m hm t ht
  · rw [nI_1]
    exact hw (f, g) hf
theorem rk_fw2 {post : St2 → Prop} {x : Int32} {n : Nat} {tr : Int32} {a1 a2 a3 a4 a5 a6 a7 a8 a9 a10 a11 : Nat → Int32} (hn : n ≤ 6)
    (H : ∀ f : Nat → Int32, (∀ m, m ≤ n → ∀ s, s < 2 ^ n → f (64 * (n - m) + s) = 1) → ∃ fu : Nat, wX_findWays_30 post x fu 1 (nI n) tr a1 a2 f a4 a5 a6 a7 a8 a9 a10 a11) :
    wpX_findWays post (nI n, tr, a1, a2, a3, a4, a5, a6, a7, a8, a9, a10, a11) x := by
  have h64 := rk_p6 n (by omega)
  have e0 : 64 * (nI n + 1) = nI (64 * (n + 1)) := by rw [nI_1, show (64 : Int32) = nI 64 from rfl, pk_mul]
  refine pk_loop (fun fu i s => wX_findWays_2 post x (nI n) tr fu (nI i) a1 a2 s a4 a5 a6 a7 a8 a9 a10 a11) (fun i s => ∀ j, j < i → s j = 1) (64 * (n + 1)) 0 a3 (by omega) (fun j hj => absurd hj (by omega))
    (fun fu s h => pk_le (64 * (n + 1)) (64 * (n + 1)) (fun _ => H s (fun m hm t ht => h _ (by omega))) (fun z => absurd z (by omega)) e0 rfl)
    (fun fu i s hi h hw => pk_le (64 * (n + 1)) i (fun z => absurd z (by omega)) (fun _ => ⟨pk_in i 448 (by omega), nm_e (nm_r (nI_1 i) (hw _ ?_))⟩) e0 rfl)
  rw [nI_clamp (by omega)]
  intro j hj
  by_cases e : j = i
  · rw [e, pk_us]
  · rw [pk_un e]; exact h j (by omega)
theorem rk_findWays {post : St2 → Prop} {n k : Nat} {b : Nat → Nat → Bool} {tr : Int32} {a1 a2 a3 a4 a5 a6 a7 a8 a9 a10 a11 : Nat → Int32} (hn : n ≤ 6) (hk : k ≤ 6)
    (h1 : ∀ r, r < n → a1 r = nI (rk_mk n (b r)))
    (H : ∀ f g : Nat → Int32, (∀ m, m ≤ n → ∀ s, s < 2 ^ n → f (64 * (n - m) + s) = rk_i (rk_W n b m k s.testBit)) → post (nI n, tr, a1, a2, f, g, a5, a6, a7, a8, a9, a10, a11)) :
    wpX_findWays post (nI n, tr, a1, a2, a3, a4, a5, a6, a7, a8, a9, a10, a11) (nI k) :=
  rk_fw2 hn (fun f hf => rk_fw30 hn hk h1 hf H)
theorem rk_findWaysN {post : St2 → Prop} {n : Nat} {x : Int32} {tr : Int32} {a1 a2 a3 a4 a5 a6 a7 a8 a9 a10 a11 : Nat → Int32} (hn : n ≤ 6) (hx : x < 1)
    (H : ∀ f g : Nat → Int32, post (nI n, tr, a1, a2, f, g, a5, a6, a7, a8, a9, a10, a11)) : wpX_findWays post (nI n, tr, a1, a2, a3, a4, a5, a6, a7, a8, a9, a10, a11) x :=
  rk_fw2 hn (fun f _ => ⟨1, br_t hx (H f a4)⟩)
theorem rk_countOf {post : Int32 → St2 → Prop} {n k : Nat} {b : Nat → Nat → Bool} {tr : Int32} {a1 a2 a3 a4 a5 a6 a7 a8 a9 a10 a11 : Nat → Int32} (hn : n ≤ 6) (hk : k ≤ 6)
    (h1 : ∀ r, r < n → a1 r = nI (rk_mk n (b r)))
    (H : ∀ f g : Nat → Int32, post (rk_i (rk_R n b k)) (nI n, tr, a1, a2, f, g, a5, a6, a7, a8, a9, a10, a11)) :
    wpX_countOf post (nI n, tr, a1, a2, a3, a4, a5, a6, a7, a8, a9, a10, a11) (nI k) :=
  rk_findWays hn hk h1 (fun f g h => by
    have h0 := h n (Nat.le_refl n) 0 (Nat.two_pow_pos n)
    rw [Nat.sub_self, rk_0_tb, rk_W_R] at h0
    show post (f 0) (nI n, tr, a1, a2, f, g, a5, a6, a7, a8, a9, a10, a11)
    rw [show f 0 = rk_i (rk_R n b k) from h0]
    exact H f g)
/-- the picture: n, the board b, the weights w -/
def rk_P (n : Nat) (b : Nat → Nat → Bool) (w : Nat → Nat → Int32) (a1 a2 a7 a8 : Nat → Int32) : Prop :=
  1 ≤ n ∧ n ≤ 6 ∧ (∀ r, r < n → a1 r = nI (rk_mk n (b r))) ∧ (∀ r c, r < n → c < n → a2 (6 * r + c) = w r c) ∧ (∀ i, i < 7 → a7 i = rk_i (rk_f i)) ∧ (∀ j k, j < 7 → k < 7 → a8 (7 * j + k) = rk_i (rk_C j k))
/-- any scratch fields -/
def rk_sc (n : Nat) (a1 a2 a7 a8 : Nat → Int32) (post : Int32 → St2 → Prop) (v : Int32) : Prop :=
  ∀ (tr : Int32) (a3 a4 a5 a6 a9 a10 a11 : Nat → Int32), post v (nI n, tr, a1, a2, a3, a4, a5, a6, a7, a8, a9, a10, a11)
theorem rk_rooks {post : Int32 → St2 → Prop} {n k : Nat} {b : Nat → Nat → Bool} {w : Nat → Nat → Int32} {tr : Int32} {a1 a2 a3 a4 a5 a6 a7 a8 a9 a10 a11 : Nat → Int32} (hP : rk_P n b w a1 a2 a7 a8) (hk : k ≤ n)
    (H : rk_sc n a1 a2 a7 a8 post (rk_i (rk_R n b k))) : wpX_rooks post (nI n, tr, a1, a2, a3, a4, a5, a6, a7, a8, a9, a10, a11) (nI k) := by
  unfold wpX_rooks
  exact rk_badNumber hP.2.1 hk (br_t rfl (rk_countOf hP.2.1 (Nat.le_trans hk hP.2.1) hP.2.2.1 (fun f g => H tr f g a5 a6 a9 a10 a11)))
theorem rk_hits {post : Int32 → St2 → Prop} {n k : Nat} {b : Nat → Nat → Bool} {w : Nat → Nat → Int32} {tr : Int32} {a1 a2 a3 a4 a5 a6 a7 a8 a9 a10 a11 : Nat → Int32} (hP : rk_P n b w a1 a2 a7 a8) (hk : k ≤ n)
    (H : rk_sc n a1 a2 a7 a8 post (rk_i (rk_H n b k))) : wpX_hits post (nI n, tr, a1, a2, a3, a4, a5, a6, a7, a8, a9, a10, a11) (nI k) := by
  obtain ⟨hn1, hn, h1, h2, h7, h8⟩ := hP
  unfold wpX_hits
  refine rk_badNumber hn hk (br_t rfl ?_)
  refine pk_loop (fun fu i (s : Int32 × (Nat → Int32) × (Nat → Int32)) => wX_hits_14 post (nI k) fu s.1 (nI (k + i)) (nI n) tr a1 a2 s.2.1 s.2.2 a5 a6 a7 a8 a9 a10 a11) (fun i s => s.1 = rk_i (rk_s i (fun i => rk_sg i * (rk_R n b (k + i) * rk_f (n - (k + i)) * rk_C (k + i) k)))) (n + 1 - k) 0 (0, a3, a4) (by omega) rfl
    (fun fu s h => ?_) (fun fu i s hi h hw => ?_)
  · refine pk_lt n (k + (n + 1 - k)) (fun _ => ?_) (fun z => absurd z (by omega))
    rw [h]
    exact H tr s.2.1 s.2.2 a5 a6 a9 a10 a11
  · refine pk_lt n (k + i) (fun z => absurd z (by omega)) (fun z => rk_countOf hn (by omega) h1 (fun f g => ?_))
    have e1 : nI n - nI (k + i) = nI (n - (k + i)) := pk_sub (by omega)
    have e2 : 7 * nI (k + i) + nI k = nI (7 * (k + i) + k) := by rw [show (7 : Int32) = nI 7 from rfl, pk_mul, nI_add]
    refine ⟨pk_in (n - (k + i)) 7 (by omega) e1, pk_in (7 * (k + i) + k) 49 (by omega) e2, nm_r (e' := rk_i (rk_R n b (k + i) * rk_f (n - (k + i)) * rk_C (k + i) k)) ?_ ?_⟩
    · rw [e1, e2, nI_clamp (by omega), nI_clamp (by omega), h7 _ (by omega), h8 _ _ (by omega) (by omega), rk_i_mul, rk_i_mul]
    · have e3 : (nI (k + i) - nI k) &&& 1 = nI (i % 2) := by
        rw [pk_sub (by omega), show k + i - k = i by omega, pk_andN (by omega) 1 rfl]
      refine pk_eq (i % 2) 0 (fun y => ?_) (fun y => ?_) e3 rfl
      · refine nm_r (e' := rk_i (rk_s (i + 1) (fun i => rk_sg i * (rk_R n b (k + i) * rk_f (n - (k + i)) * rk_C (k + i) k)))) ?_ (nm_r (nI_1 (k + i)) (hw (_, f, g) rfl))
        rw [h, rk_s, rk_i_add, rk_sg, if_pos y, Int.one_mul]
      · refine nm_r (e' := rk_i (rk_s (i + 1) (fun i => rk_sg i * (rk_R n b (k + i) * rk_f (n - (k + i)) * rk_C (k + i) k)))) ?_ (nm_r (nI_1 (k + i)) (hw (_, f, g) rfl))
        rw [h, rk_s, rk_i_add, rk_sg, if_neg y, Int.neg_mul, Int.one_mul, rk_i_neg, Int32.sub_eq_add_neg]
end
section
theorem rk_p64 : ∀ c, c < 6 → 2 ^ c < 64 := by decide
theorem rk_upd_id {a : Nat → Int32} {r : Nat} {x y : Int32} (h : y = a r) : upd (upd a r x) r y = a := by
  funext j
  by_cases e : j = r
  · rw [e, pk_us, h]
  · rw [pk_un e, pk_un e]
theorem rk_mk_del {n : Nat} (hn : n ≤ 6) (b : Nat → Nat → Bool) (r c : Nat) : rk_mk n (b r) &&& (63 ^^^ 2 ^ c) = rk_mk n (rk_del b r c r) := by
  refine rk_ext (rk_an_64 (rk_mk_64 hn _) _) (rk_mk_64 hn _) (fun d hd => ?_)
  rw [rk_an_tb (rk_mk_64 hn _), rk_mk_tb, rk_mk_tb, Nat.testBit_two_pow, rk_del]
  by_cases e : c = d
  · subst e; simp
  · simp [e, show ¬ d = c from fun z => e z.symm]
theorem rk_countThrough {post : Int32 → St2 → Prop} {n k r c : Nat} {b : Nat → Nat → Bool} {tr : Int32} {a1 a2 a3 a4 a5 a6 a7 a8 a9 a10 a11 : Nat → Int32} (hn : n ≤ 6) (hk : k ≤ 6) (hr : r < n) (hc : c < n)
    (h1 : ∀ r, r < n → a1 r = nI (rk_mk n (b r)))
    (H : ∀ f g : Nat → Int32, post (rk_i (rk_R n b k - rk_R n (rk_del b r c) k)) (nI n, tr, a1, a2, f, g, a5, a6, a7, a8, a9, a10, a11)) :
    wpX_countThrough post (nI n, tr, a1, a2, a3, a4, a5, a6, a7, a8, a9, a10, a11) (nI (6 * r + c)) (nI k) := by
  have e1 : nI (6 * r + c) / 6 = nI r := by rw [rk_div6 (by omega)]; congr 1; omega
  have e2 : (1 : Int32) <<< ((nI (6 * r + c) - nI (6 * r + c) / 6 * 6) &&& 31) = nI (2 ^ c) := by
    rw [rk_rem6 (by omega), show (6 * r + c) % 6 = c by omega, rk_t3 c (by omega)]
  have m64 := rk_mk_64 hn (b r)
  have z0 : b r c = false → rk_R n b k - rk_R n (rk_del b r c) k = 0 := fun h => by
    rw [rk_R_del hn b k hr hc, rk_b, h]; simp
  unfold wpX_countThrough
  refine ⟨by decide, nm_r e1 ⟨by decide, nm_r e2 ⟨pk_in r 6 (by omega), ?_⟩⟩⟩
  rw [nI_clamp (by omega), h1 r hr]
  refine ek_if (rk_t10 _ m64 c (by omega)) (fun h => ?_) (fun h => ?_)
  · have hb : b r c = false := by
      rw [rk_mk_tb] at h
      simpa [hc] using h
    have := H a3 a4
    rw [z0 hb, rk_i_0] at this
    exact this
  · refine pk_eq k 0 (fun y => ?_) (fun y => rk_countOf hn hk h1 (fun f g => ?_))
    · have := H a3 a4
      rw [y, rk_R_0 hn, rk_R_0 hn] at this
      exact this
    · refine ⟨pk_in r 6 (by omega), pk_in r 6 (by omega), nm_r (e' := upd a1 r (nI (rk_mk n (rk_del b r c r)))) ?_ (rk_countOf (b := rk_del b r c) hn hk (fun i hi => ?_) (fun f g => ⟨pk_in r 6 (by omega), pk_in r 6 (by omega), nm_r (e' := a1) ?_ ?_⟩))⟩
      · rw [h1 r hr, rk_t2 _ m64 _ (rk_p64 c (by omega)), rk_mk_del hn, rk_t6 _ (by have := rk_mk_64 hn (rk_del b r c r); omega)]
      · by_cases e : i = r
        · rw [e, pk_us]
        · rw [pk_un e, h1 i hi]
          congr 2
          funext j
          simp [rk_del, e]
      · rw [pk_us, rk_t4 _ (rk_mk_64 hn _) c (by omega)]
        refine rk_upd_id ?_
        have e3 : rk_mk n (rk_del b r c r) ||| 2 ^ c = rk_mk n (b r) := by
          refine rk_ext (rk_or_64 (rk_mk_64 hn _) (by omega)) m64 (fun d hd => ?_)
          rw [rk_or_tb, rk_u, rk_mk_tb, rk_mk_tb, rk_del]
          by_cases e : d = c
          · subst e
            rw [rk_mk_tb] at h
            simpa using h
          · simp [e]
        rw [e3, rk_t6 _ (by omega), h1 r hr]
      · rw [← rk_i_sub]
        exact H f g
theorem rk_through {post : Int32 → St2 → Prop} {n k r c : Nat} {b : Nat → Nat → Bool} {w : Nat → Nat → Int32} {tr : Int32} {a1 a2 a3 a4 a5 a6 a7 a8 a9 a10 a11 : Nat → Int32} (hP : rk_P n b w a1 a2 a7 a8) (hk : k ≤ n) (hr : r < n) (hc : c < n)
    (H : rk_sc n a1 a2 a7 a8 post (rk_i (rk_R n b k - rk_R n (rk_del b r c) k))) : wpX_through post (nI n, tr, a1, a2, a3, a4, a5, a6, a7, a8, a9, a10, a11) (nI (6 * r + c)) (nI k) := by
  obtain ⟨hn1, hn, h1, h2, h7, h8⟩ := hP
  unfold wpX_through
  exact rk_badCell0 hn (by omega) (by omega) (by omega) (br_t rfl (rk_badNumber hn hk (br_t rfl (rk_countThrough hn (by omega) hr hc h1 (fun f g => H tr f g a5 a6 a9 a10 a11)))))
/-- whether a place is in every placement -/
def rk_nd (n : Nat) (b : Nat → Nat → Bool) (k r c : Nat) : Int := if 0 < k ∧ rk_i (rk_R n b k - rk_R n (rk_del b r c) k) = rk_i (rk_R n b k) then 1 else 0
def rk_ne (n : Nat) (b : Nat → Nat → Bool) (k i : Nat) : Int := rk_s i (fun e => if e / 6 < n ∧ e % 6 < n then rk_nd n b k (e / 6) (e % 6) else 0)
theorem rk_need9 {post : Int32 → St2 → Prop} {n k : Nat} {b : Nat → Nat → Bool} {tr : Int32} {a1 a2 a3 a4 a5 a6 a7 a8 a9 a10 a11 : Nat → Int32} (hn : n ≤ 6) (hk : k ≤ 6) (h1 : ∀ r, r < n → a1 r = nI (rk_mk n (b r)))
    (H : ∀ f g : Nat → Int32, post (rk_i (rk_ne n b k 36)) (nI n, tr, a1, a2, f, g, a5, a6, a7, a8, a9, a10, a11)) : ∃ fu : Nat, wX_needed_9 post (nI k) fu 0 0 (nI n) tr a1 a2 a3 a4 a5 a6 a7 a8 a9 a10 a11 := by
  refine pk_loop (fun fu i (s : Int32 × (Nat → Int32) × (Nat → Int32)) => wX_needed_9 post (nI k) fu s.1 (nI i) (nI n) tr a1 a2 s.2.1 s.2.2 a5 a6 a7 a8 a9 a10 a11) (fun i s => s.1 = rk_i (rk_ne n b k i)) 36 0 (0, a3, a4) (by omega) rfl
    (fun fu s h => ?_) (fun fu i s hi h hw => ?_)
  · refine pk_le 36 36 (fun _ => ?_) (fun z => absurd z (by omega))
    rw [h]
    exact H s.2.1 s.2.2
  · refine pk_le 36 i (fun z => absurd z (by omega)) (fun _ => ?_)
    by_cases e : i / 6 < n ∧ i % 6 < n
    · refine rk_badCell0 hn hi e.1 e.2 (br_t rfl (pk_le k 0 (fun y => nm_r (nI_1 i) (hw s ?_)) (fun y => ?_)))
      · rw [h, rk_ne, rk_ne, rk_s, if_pos e, rk_nd, if_neg (by omega), Int.add_zero]
      · rw [show i = 6 * (i / 6) + i % 6 by omega]
        refine rk_countThrough hn hk e.1 e.2 h1 (fun f g => rk_countOf hn hk h1 (fun f g => br_c (fun q => ?_) (fun q => ?_)))
        · rw [show 6 * (i / 6) + i % 6 = i by omega]
          refine nm_r (e' := rk_i (rk_ne n b k (i + 1))) ?_ (nm_r (nI_1 i) (hw (_, f, g) rfl))
          rw [h, rk_ne, rk_ne, rk_s, if_pos e, rk_nd, if_pos ⟨y, q⟩, rk_i_add, rk_i_1]
        · rw [show 6 * (i / 6) + i % 6 = i by omega]
          refine nm_r (nI_1 i) (hw (s.1, f, g) ?_)
          rw [h, rk_ne, rk_ne, rk_s, if_pos e, rk_nd, if_neg (fun z => q z.2), Int.add_zero]
    · refine rk_badCell1 hn hi e (br_f (by decide) (nm_r (nI_1 i) (hw s ?_)))
      rw [h, rk_ne, rk_ne, rk_s, if_neg e, Int.add_zero]
/-- the cells -/
def rk_ce (n : Nat) (b : Nat → Nat → Bool) (i : Nat) : Int := rk_s i (fun r => rk_s n (fun c => rk_b b r c))
theorem rk_kn_s (f : Nat → Bool) : ∀ n, ((rk_kn n f : Nat) : Int) = rk_s n (fun c => if f c then 1 else 0)
  | 0 => rfl
  | n + 1 => by
    rw [rk_kn, rk_s, ← rk_kn_s f n]
    cases f n <;> simp
theorem rk_k_mk {n : Nat} (hn : n ≤ 6) (f : Nat → Bool) : rk_k (rk_mk n f).testBit = rk_kn n f := by
  have h := rk_kn_sup (S := (rk_mk n f).testBit) (n := n) (fun c hc => by rw [rk_mk_tb] at hc; simp at hc; exact hc.1) (6 - n)
  rw [show n + (6 - n) = 6 by omega] at h
  unfold rk_k
  rw [h]
  exact rk_kn_cg (fun c hc => by rw [rk_mk_tb]; simp [hc])
theorem rk_cells {post : Int32 → Prop} {n : Nat} {b : Nat → Nat → Bool} {tr : Int32} {a1 a2 a3 a4 a5 a6 a7 a8 a9 a10 a11 : Nat → Int32} (hn : n ≤ 6) (h1 : ∀ r, r < n → a1 r = nI (rk_mk n (b r)))
    (H : post (rk_i (rk_ce n b n))) : wpX_cells post (nI n, tr, a1, a2, a3, a4, a5, a6, a7, a8, a9, a10, a11) := by
  refine pk_loop (fun fu i s => wX_cells_4 post (nI n) tr a1 a2 a3 a4 a5 a6 a7 a8 a9 a10 a11 fu s (nI i)) (fun i s => s = rk_i (rk_ce n b i)) n 0 0 (by omega) rfl
    (fun fu s h => pk_le n n (fun _ => by rw [h]; exact H) (fun z => absurd z (by omega)))
    (fun fu i s hi h hw => pk_le n i (fun z => absurd z (by omega)) (fun _ => ⟨pk_in i 6 (by omega), ?_⟩))
  rw [nI_clamp (by omega), h1 i hi]
  refine rk_sizeOf (rk_mk_64 hn _) (nm_r (e' := rk_i (rk_ce n b (i + 1))) ?_ (nm_r (nI_1 i) (hw _ rfl)))
  rw [h, rk_k_mk hn, ← rk_i_nI, rk_kn_s, ← rk_i_add]
  rfl
end
section
theorem rk_neg1 : ∀ j : Nat, j < 20 → rk_i (-(j : Int)) < 1 := by decide +kernel
theorem rk_bef55 {post : Int32 → St2 → Prop} {J : Int32 → Int32 → Prop} {n r t i : Nat} {x4 x5 z tr : Int32} {a1 a2 a3 a4 a5 a6 a7 a8 a9 a10 a11 : Nat → Int32} (hn : n ≤ 6) (hr : r < n) (ht : t < 2 ^ n) (hi : i < n) (H : ∀ v, J v (nI (i + 1))) : wX_before_55 post J (nI r) (nI t) x4 x5 (nI i) z (nI n) tr a1 a2 a3 a4 a5 a6 a7 a8 a9 a10 a11 := by
  have h64 := rk_p6 n (by omega)
  have hor := rk_or_lt ht hi
  refine br_c (fun _ => nm_r (nI_1 i) (H _)) (fun _ => ⟨pk_in (64 * (r + 1) + (t ||| 2 ^ i)) 448 (by omega) ?_, nm_e (nm_r (nI_1 i) (H _))⟩)
  rw [rk_t3 i (by omega), rk_t4 t (by omega) i (by omega), rk_ix1]
theorem rk_bef19 {post : Int32 → St2 → Prop} {n r t c : Nat} {tr : Int32} {a1 a2 a3 a4 a5 a6 a7 a8 a9 a10 a11 : Nat → Int32} (hn : n ≤ 6) (hr : r < n) (ht : t < 2 ^ n) (hc : c ≤ n)
    (H : ∀ v, post v (nI n, tr, a1, a2, a3, a4, a5, a6, a7, a8, a9, a10, a11)) : ∃ fu : Nat, wX_before_19 post (nI r) (nI t) (nI c) (nI n) tr a1 a2 a3 a4 a5 a6 a7 a8 a9 a10 a11 fu 0 0 :=
  pk_loop (fun fu i s => wX_before_19 post (nI r) (nI t) (nI c) (nI n) tr a1 a2 a3 a4 a5 a6 a7 a8 a9 a10 a11 fu s (nI i)) (fun _ _ => True) c 0 0 (by omega) trivial
    (fun fu s _ => pk_le c c (fun _ => H s) (fun z => absurd z (by omega)))
    (fun fu i s hi _ hw => pk_le c i (fun z => absurd z (by omega)) (fun _ => ⟨pk_in r 6 (by omega),
      br_c (fun _ => br_c (fun _ => rk_bef55 hn hr ht (by omega) (fun v => hw v trivial)) (fun _ => rk_bef55 hn hr ht (by omega) (fun v => hw v trivial))) (fun _ => rk_bef55 hn hr ht (by omega) (fun v => hw v trivial))⟩))
theorem rk_before {post : Int32 → St2 → Prop} {n r t c : Nat} {z : Int} {b : Nat → Nat → Bool} {tr : Int32} {a1 a2 a3 a4 a5 a6 a7 a8 a9 a10 a11 : Nat → Int32} (hn : n ≤ 6) (h1 : ∀ r, r < n → a1 r = nI (rk_mk n (b r))) (hr : r < n) (ht : t < 2 ^ n) (hc : c ≤ n) (hz : -10 ≤ z ∧ z ≤ 6)
    (H : ∀ v f g, post v (nI n, tr, a1, a2, f, g, a5, a6, a7, a8, a9, a10, a11)) : wpX_before post (nI n, tr, a1, a2, a3, a4, a5, a6, a7, a8, a9, a10, a11) (nI r) (nI t) (rk_i z) (nI c) := by
  unfold wpX_before
  refine br_c (fun _ => H 0 a3 a4) (fun _ => ?_)
  have e1 : rk_i z - 1 = rk_i (z - 1) := by rw [rk_i_sub, rk_i_1]
  rw [e1]
  by_cases hp : 1 ≤ z
  · have e2 : rk_i (z - 1) = nI (z - 1).toNat := rk_i_of (by omega)
    rw [e2]
    exact rk_findWays hn (by omega) h1 (fun f g _ => rk_bef19 hn hr ht hc (fun v => H v f g))
  · have e2 : z - 1 = -((1 - z).toNat : Int) := by omega
    rw [e2]
    exact rk_findWaysN hn (rk_neg1 _ (by omega)) (fun f g => rk_bef19 hn hr ht hc (fun v => H v f g))
theorem rk_columnIn {post : Int32 → St2 → Prop} {n r t : Nat} {z : Int} {l : Int32} {b : Nat → Nat → Bool} {tr : Int32} {a1 a2 a3 a4 a5 a6 a7 a8 a9 a10 a11 : Nat → Int32} (hn : n ≤ 6) (h1 : ∀ r, r < n → a1 r = nI (rk_mk n (b r))) (hr : r < n) (ht : t < 2 ^ n) (hz : -10 ≤ z ∧ z ≤ 6)
    (H : ∀ c f g, c ≤ n → post (nI c) (nI n, tr, a1, a2, f, g, a5, a6, a7, a8, a9, a10, a11)) : wpX_columnIn post (nI n, tr, a1, a2, a3, a4, a5, a6, a7, a8, a9, a10, a11) (nI r) (nI t) (rk_i z) l :=
  pk_loop (fun fu i (s : (Nat → Int32) × (Nat → Int32)) => wX_columnIn_3 post (nI r) (nI t) (rk_i z) l fu (nI i) (nI n) tr a1 a2 s.1 s.2 a5 a6 a7 a8 a9 a10 a11) (fun _ _ => True) n 0 (a3, a4) (by omega) trivial
    (fun fu s _ => pk_le n n (fun _ => H n s.1 s.2 (by omega)) (fun z => absurd z (by omega)))
    (fun fu i s hi _ hw => pk_le n i (fun z => absurd z (by omega)) (fun _ => by
      rw [nI_1]
      exact rk_before hn h1 hr ht (by omega) hz (fun v f g => br_c (fun _ => H i f g (by omega)) (fun _ => nm_e (hw (f, g) trivial)))))
theorem rk_col60 {post : Int32 → St2 → Prop} {n k r : Nat} {x5 : Int32} {b : Nat → Nat → Bool} {tr : Int32} {a1 a2 a3 a4 a5 a6 a7 a8 a9 a10 a11 : Nat → Int32} (hn : n ≤ 6) (h1 : ∀ r, r < n → a1 r = nI (rk_mk n (b r))) (hr : r < n) (hk : k ≤ n)
    (H : ∀ c f g, c ≤ n → post (nI c) (nI n, tr, a1, a2, f, g, a5, a6, a7, a8, a9, a10, a11)) : ∃ fu : Nat, wX_column_60 post (nI r) fu x5 (nI k) 0 (nI n) 0 (nI n) tr a1 a2 a3 a4 a5 a6 a7 a8 a9 a10 a11 := by
  refine pk_loop (fun fu i (s : Int32 × Int32 × Int32 × Int32 × (Nat → Int32) × (Nat → Int32)) => wX_column_60 post (nI r) fu s.1 s.2.1 s.2.2.1 s.2.2.2.1 (nI i) (nI n) tr a1 a2 s.2.2.2.2.1 s.2.2.2.2.2 a5 a6 a7 a8 a9 a10 a11)
    (fun i s => (∃ z : Int, -(i : Int) ≤ z ∧ z ≤ 6 ∧ s.2.1 = rk_i z) ∧ (∃ t : Nat, t < 2 ^ n ∧ s.2.2.1 = nI t) ∧ (∃ c : Nat, c ≤ n ∧ s.2.2.2.1 = nI c)) (r + 1) 0 (x5, nI k, 0, nI n, a3, a4) (by omega)
    ⟨⟨k, by omega, by omega, (rk_i_nI k).symm⟩, ⟨0, Nat.two_pow_pos n, rfl⟩, ⟨n, by omega, rfl⟩⟩ (fun fu s h => ?_) (fun fu i s hi h hw => ?_)
  · obtain ⟨_, _, c, hc, e⟩ := h
    refine pk_lt r (r + 1) (fun _ => ?_) (fun z => absurd z (by omega))
    rw [e]
    exact H c _ _ hc
  · obtain ⟨⟨z, z1, z2, ez⟩, ⟨t, ht, et⟩, _⟩ := h
    refine pk_lt r i (fun z => absurd z (by omega)) (fun _ => ?_)
    rw [ez, et]
    refine rk_columnIn hn h1 (by omega) ht ⟨by omega, z2⟩ (fun c f g hc => rk_before hn h1 (by omega) ht hc ⟨by omega, z2⟩ (fun v f g => nm_e (pk_le n c (fun y => nm_r (nI_1 i) (hw (_, rk_i z, nI t, nI c, f, g) ⟨⟨z, by omega, z2, rfl⟩, ⟨t, ht, rfl⟩, ⟨c, hc, rfl⟩⟩)) (fun y => ?_))))
    have h64 := rk_p6 n (by omega)
    refine nm_r (e' := nI (t ||| 2 ^ c)) (by rw [rk_t3 c (by omega), rk_t4 t (by omega) c (by omega)]) (nm_r (e' := rk_i (z - 1)) (by rw [rk_i_sub, rk_i_1, Int32.sub_eq_add_neg]) (nm_r (nI_1 i) (hw (_, rk_i (z - 1), nI (t ||| 2 ^ c), nI c, f, g) ⟨⟨z - 1, by omega, by omega, rfl⟩, ⟨_, rk_or_lt ht y, rfl⟩, ⟨c, hc, rfl⟩⟩)))
theorem rk_column {post : Int32 → St2 → Prop} {n k r : Nat} {p : Int32} {b : Nat → Nat → Bool} {w : Nat → Nat → Int32} {tr : Int32} {a1 a2 a3 a4 a5 a6 a7 a8 a9 a10 a11 : Nat → Int32} (hP : rk_P n b w a1 a2 a7 a8) (hk : k ≤ n) (hr : r < n)
    (H1 : (p < 0 ∨ ¬ p < rk_i (rk_R n b k)) → rk_sc n a1 a2 a7 a8 post (-4))
    (H2 : ¬ p < 0 → p < rk_i (rk_R n b k) → ∀ c, c ≤ n → rk_sc n a1 a2 a7 a8 post (nI c)) : wpX_column post (nI n, tr, a1, a2, a3, a4, a5, a6, a7, a8, a9, a10, a11) (nI k) p (nI r) := by
  obtain ⟨hn1, hn, h1, h2, h7, h8⟩ := hP
  unfold wpX_column
  exact rk_badNumber hn hk (br_t rfl (br_f (nI_pos (by omega)) (br_t (nI_lt hr (by omega)) (rk_countOf hn (by omega) h1 (fun f g => br_c (fun y => H1 (Or.inl y) tr f g a5 a6 a9 a10 a11) (fun y => br_c (fun z => rk_col60 hn h1 hr hk (fun c f g hc => H2 y z c hc tr f g a5 a6 a9 a10 a11)) (fun z => H1 (Or.inr z) tr f g a5 a6 a9 a10 a11)))))))
end
section
def rk_ro (n : Nat) (ro : Nat → Nat) (a9 : Nat → Int32) : Prop := ∀ c, c < 6 → a9 c = if ro c < n then nI (ro c) else -1
theorem rk_movePath {post : St2 → Prop} {n t : Nat} {ro pr pc : Nat → Nat} {tr : Int32} {a1 a2 a3 a4 a5 a6 a7 a8 a9 a10 a11 : Nat → Int32} (hn : n ≤ 6) (ht : t < 7) (h10 : ∀ i, i < t + 1 → a10 i = nI (pr i)) (hpr : ∀ i, i < t + 1 → pr i < n) (h11 : ∀ i, i < t + 1 → a11 i = nI (pc i)) (hpc : ∀ i, i < t + 1 → pc i < n) (h9 : rk_ro n ro a9)
    (H : ∀ f, rk_ro n (rk_mv ro pc pr (t + 1)) f → post (nI n, tr, a1, a2, a3, a4, a5, a6, a7, a8, f, a10, a11)) : wpX_movePath post (nI n, tr, a1, a2, a3, a4, a5, a6, a7, a8, a9, a10, a11) (nI t) := by
  refine pk_loop (fun fu i s => wX_movePath_2 post (nI t) (nI n) tr fu (nI i) a1 a2 a3 a4 a5 a6 a7 a8 s a10 a11) (fun i s => rk_ro n (rk_mv ro pc pr i) s) (t + 1) 0 a9 (by omega) h9
    (fun fu s h => pk_lt t (t + 1) (fun _ => H s h) (fun z => absurd z (by omega)))
    (fun fu i s hi h hw => pk_lt t i (fun z => absurd z (by omega)) (fun _ => ⟨pk_in i 7 (by omega), pk_in i 7 (by omega), ?_, nm_r (e' := upd s (pc i) (nI (pr i))) ?_ (nm_r (nI_1 i) (hw _ ?_))⟩))
  · have := hpc i hi
    rw [nI_clamp (by omega), h11 i hi]
    exact pk_in (pc i) 6 (by omega)
  · have := hpc i hi
    have := hpr i hi
    rw [nI_clamp (by omega), h11 i hi, h10 i hi, nI_clamp (by omega), rk_nar (by omega)]
  · intro c hc
    show upd s (pc i) (nI (pr i)) c = if (if c = pc i then pr i else rk_mv ro pc pr i c) < n then nI (if c = pc i then pr i else rk_mv ro pc pr i c) else -1
    by_cases e : c = pc i
    · rw [if_pos e, if_pos (hpr i hi), e, pk_us]
    · rw [if_neg e, pk_un e]
      exact h c hc
theorem rk_fc12 {post : Int32 → St2 → Prop} {n q f : Nat} {b : Nat → Nat → Bool} {ro : Nat → Nat} {C : Nat → Bool} {a1 a2 a3 a4 a5 a6 a7 a8 a9 : Nat → Int32} (hn : n ≤ 6) (h1 : ∀ r, r < n → a1 r = nI (rk_mk n (b r))) (hq : q < n) (hF : rk_fm n b ro C q f) (h9 : rk_ro n ro a9)
    (H0 : ∀ (x : Int32) (D : Nat → Bool) (a10 a11 : Nat → Int32), rk_fm n b ro D (q + 1) f → post 0 (nI n, x, a1, a2, a3, a4, a5, a6, a7, a8, a9, a10, a11))
    (H1 : ∀ (x : Int32) (ro' : Nat → Nat) (a9 a10 a11 : Nat → Int32), rk_fm n b ro' C (q + 1) (f + 1) → rk_ro n ro' a9 → post 1 (nI n, x, a1, a2, a3, a4, a5, a6, a7, a8, a9, a10, a11)) :
    ∀ (d st t tm : Nat) (pr pc : Nat → Nat) (a10 a11 : Nat → Int32), st + d = 14 → rk_fi n b ro q t st tm.testBit pr pc → tm < 64 → (∀ i, i < t → a10 i = nI (pr i)) → (∀ i, i + 1 < t → a11 i = nI (pc i)) →
      ∃ fu : Nat, wX_findColumn_12 post (nI n) fu (nI t - 1) (nI st) (nI tm) a1 a2 a3 a4 a5 a6 a7 a8 a9 a10 a11 := by
  intro d
  induction d with
  | zero =>
    intro st t tm pr pc a10 a11 hst hi
    obtain ⟨_, e, le, _⟩ := hi
    have := rk_kn_le tm.testBit 6
    unfold rk_k at e le
    omega
  | succ d ih =>
    intro st t tm pr pc a10 a11 hst hi htm h10 h11
    have hk6 := rk_kn_le tm.testBit 6
    have e1 := hi.2.1
    have e2 := hi.2.2.1
    unfold rk_k at e1 e2
    cases t with
    | zero =>
      exact ⟨1, pk_le 100 st (fun z => absurd z (by omega)) (fun _ => br_t (by decide) (H0 _ _ a10 a11 (rk_fi_fail hF hi)))⟩
    | succ t =>
      rw [nI_pred]
      have hpt : pr t < n := hi.1.2.1 t (by omega)
      have m64 := rk_mk_64 hn (b (pr t))
      have f64 := rk_an_64 m64 tm
      have ex : (a1 (a10 (nI t).toNatClampNeg).toNatClampNeg) &&& (nI tm ^^^ (-1)) = nI (rk_mk n (b (pr t)) &&& (63 ^^^ tm)) := by
        rw [nI_clamp (by omega), h10 t (by omega), nI_clamp (by omega), h1 _ hpt, rk_t2 _ m64 _ htm]
      have tb : ∀ d, (rk_mk n (b (pr t)) &&& (63 ^^^ tm)).testBit d = ((decide (d < n) && b (pr t) d) && !tm.testBit d) := fun d => by
        rw [rk_an_tb m64, rk_mk_tb]
      have i6 : vp_in (a10 (nI t).toNatClampNeg) 6 := by
        rw [nI_clamp (by omega), h10 t (by omega)]
        exact pk_in (pr t) 6 (by omega)
      by_cases z : rk_mk n (b (pr t)) &&& (63 ^^^ tm) = 0
      · obtain ⟨fu, hfu⟩ := ih (st + 1) t tm pr pc a10 a11 (by omega) (rk_fi_pop hi (fun d hd hb => by
          have := tb d
          rw [z] at this
          simp [hd, hb] at this
          exact this)) htm (fun i hi => h10 i (by omega)) (fun i hi => h11 i (by omega))
        exact ⟨fu + 1, pk_le 100 st (fun z => absurd z (by omega)) (fun _ => br_f (nI_pos (by omega)) ⟨pk_in t 7 (by omega), i6, nm_r ex (br_t (by rw [z]; rfl) (nm_r (Int32.sub_eq_add_neg _ _).symm (nm_r (nI_1 st) hfu)))⟩)⟩
      · obtain ⟨c, c6, ct, c5, _, _⟩ := rk_t5 _ f64 z
        rw [tb c] at ct
        have cn : c < n := by
          rcases Nat.lt_or_ge c n with y | y
          · exact y
          · simp [show ¬ c < n by omega] at ct
        have cb : b (pr t) c = true := by
          cases e : b (pr t) c
          · simp [e] at ct
          · rfl
        have cx : tm.testBit c = false := by
          cases e : tm.testBit c
          · rfl
          · simp [e] at ct
        obtain ⟨s1, s2, s3⟩ := rk_t7 c c6
        have l1 := rk_k_u cx c6
        have l2 := rk_kn_le (rk_u tm.testBit c) 6
        unfold rk_k at l1
        have n9 : a9 (nI c).toNatClampNeg = if ro c < n then nI (ro c) else -1 := by rw [nI_clamp (by omega)]; exact h9 c c6
        by_cases rc : ro c < n
        · rw [if_pos rc] at n9
          have hor : (tm ||| 2 ^ c).testBit = rk_u tm.testBit c := rk_or_u tm c
          obtain ⟨fu, hfu⟩ := ih (st + 1) (t + 2) (tm ||| 2 ^ c) (rk_up pr (t + 1) (ro c)) (rk_up pc t c) (upd a10 (t + 1) (nI (ro c))) (upd a11 t (nI c)) (by omega) (by rw [hor]; exact rk_fi_push hn hi cn cb cx rc) (rk_or_64 htm c6) (fun i hi => by
              by_cases y : i = t + 1
              · rw [y, pk_us, rk_up_eq]
              · rw [pk_un y, rk_up_ne _ _ y]
                exact h10 i (by omega)) (fun i hi => by
              by_cases y : i = t
              · rw [y, pk_us, rk_up_eq]
              · rw [pk_un y, rk_up_ne _ _ y]
                exact h11 i (by omega))
          rw [show nI (t + 2) - 1 = nI (t + 1) from nI_pred (t + 1)] at hfu
          refine ⟨fu + 1, pk_le 100 st (fun z => absurd z (by omega)) (fun _ => br_f (nI_pos (by omega)) ⟨pk_in t 7 (by omega), i6, nm_r ex (br_f (nI_ne0 (by omega) (by omega)) (nm_r c5 ?_))⟩)⟩
          rw [s1]
          refine rk_sizeOf s2 ?_
          rw [s3]
          refine nm_r (rk_t4 tm htm c c6) ⟨pk_in t 7 (by omega), nm_r (e' := upd a11 t (nI c)) (by rw [nI_clamp (by omega), rk_t6 c (by omega)]) ⟨pk_in c 6 c6, ?_⟩⟩
          rw [n9]
          refine br_t (nI_pos' (by omega)) (nm_r (nI_1 t) ⟨pk_in c 6 c6, pk_in (t + 1) 7 (by omega), nm_r (e' := upd a10 (t + 1) (nI (ro c))) (by rw [nI_clamp (by omega), rk_nar (by omega)]) (nm_r (nI_1 st) hfu)⟩)
        · rw [if_neg rc] at n9
          refine ⟨1, pk_le 100 st (fun z => absurd z (by omega)) (fun _ => br_f (nI_pos (by omega)) ⟨pk_in t 7 (by omega), i6, nm_r ex (br_f (nI_ne0 (by omega) (by omega)) (nm_r c5 ?_))⟩)⟩
          rw [s1]
          refine rk_sizeOf s2 ?_
          rw [s3]
          refine nm_r (rk_t4 tm htm c c6) ⟨pk_in t 7 (by omega), nm_r (e' := upd a11 t (nI c)) (by rw [nI_clamp (by omega), rk_t6 c (by omega)]) ⟨pk_in c 6 c6, ?_⟩⟩
          rw [n9]
          have pa := rk_pa_col hi.1 c
          refine br_f (by decide) (rk_movePath (pr := pr) (pc := rk_up pc t c) hn (by omega) h10 pa.2.1 (fun i hi => ?_) (fun i hi => ?_) h9 (fun g hg => H1 _ _ g _ _ (rk_aug hn hq hF pa (by rw [rk_up_eq]; exact cn) (by rw [rk_up_eq]; exact cb) (by rw [rk_up_eq]; omega) (fun i hi2 => ?_)) hg))
          · by_cases y : i = t
            · rw [y, pk_us, rk_up_eq]
            · rw [pk_un y, rk_up_ne _ _ y]
              exact h11 i (by omega)
          · by_cases y : i = t
            · rw [y, rk_up_eq]; exact cn
            · exact (pa.2.2.1 i (by omega)).1
          · rw [rk_up_eq, rk_up_ne _ _ (by omega)]
            intro y
            have := hi.2.2.2.2.2 i (by omega)
            rw [y, cx] at this
            exact absurd this (by simp)
theorem rk_findColumn {post : Int32 → St2 → Prop} {n q f : Nat} {b : Nat → Nat → Bool} {ro : Nat → Nat} {C : Nat → Bool} {a1 a2 a3 a4 a5 a6 a7 a8 a9 a10 a11 : Nat → Int32} (hn : n ≤ 6) (h1 : ∀ r, r < n → a1 r = nI (rk_mk n (b r))) (hq : q < n) (hF : rk_fm n b ro C q f) (h9 : rk_ro n ro a9)
    (H0 : ∀ (x : Int32) (D : Nat → Bool) (a10 a11 : Nat → Int32), rk_fm n b ro D (q + 1) f → post 0 (nI n, x, a1, a2, a3, a4, a5, a6, a7, a8, a9, a10, a11))
    (H1 : ∀ (x : Int32) (ro' : Nat → Nat) (a9 a10 a11 : Nat → Int32), rk_fm n b ro' C (q + 1) (f + 1) → rk_ro n ro' a9 → post 1 (nI n, x, a1, a2, a3, a4, a5, a6, a7, a8, a9, a10, a11)) : wpX_findColumn post (nI n, 0, a1, a2, a3, a4, a5, a6, a7, a8, a9, a10, a11) (nI q) := by
  unfold wpX_findColumn
  refine nm_r (e' := upd a10 0 (nI q)) (by rw [rk_t6 q (by omega)]) ?_
  exact rk_fc12 hn h1 hq hF h9 H0 H1 14 0 1 0 (fun _ => q) (fun _ => 0) (upd a10 0 (nI q)) a11 (by omega) (by rw [rk_0_tb]; exact rk_fi_0 hq rfl) (by omega) (fun i hi => by rw [show i = 0 by omega, pk_us]) (fun i hi => absurd hi (by omega))
/-- the greatest number of rooks -/
def rk_mo (n : Nat) (b : Nat → Nat → Bool) (f : Nat) : Prop := 1 ≤ rk_R n b f ∧ (∀ k, f < k → rk_R n b k = 0) ∧ f ≤ n
theorem rk_mo_u {n : Nat} {b b' : Nat → Nat → Bool} {f f' : Nat} (h : rk_mo n b f) (h' : rk_mo n b' f') (e : ∀ k, rk_R n b k = rk_R n b' k) : f = f' := by
  rcases Nat.lt_trichotomy f f' with z | z | z
  · have h1 := h.2.1 f' z
    have h2 := h'.1
    rw [← e, h1] at h2
    omega
  · exact z
  · have h1 := h'.2.1 f z
    have h2 := h.1
    rw [e, h1] at h2
    omega
theorem rk_fm_0 (n : Nat) (hn : n ≤ 6) (b : Nat → Nat → Bool) : rk_fm n b (fun _ => 6) rk_0 0 0 := by
  refine ⟨⟨fun c _ (h : 6 < n) => absurd h (by omega), fun c d _ _ (h : 6 < n) => absurd h (by omega)⟩, ⟨fun c _ h => absurd h (by simp [rk_0]), fun r hr => absurd hr (by omega)⟩, fun c _ (h : 6 < n) => absurd h (by omega), ?_⟩
  rw [show rk_ms n (fun _ => 6) 0 = rk_0 from funext (fun c => by simp [rk_ms, rk_0]; omega)]
  exact rk_k_0
theorem rk_findMost {post : Int32 → St2 → Prop} {n : Nat} {b : Nat → Nat → Bool} {tr : Int32} {a1 a2 a3 a4 a5 a6 a7 a8 a9 a10 a11 : Nat → Int32} (hn : n ≤ 6) (h1 : ∀ r, r < n → a1 r = nI (rk_mk n (b r)))
    (H : ∀ f, rk_mo n b f → ∀ (tr : Int32) (a9 a10 a11 : Nat → Int32), post (nI f) (nI n, tr, a1, a2, a3, a4, a5, a6, a7, a8, a9, a10, a11)) : wpX_findMost post (nI n, tr, a1, a2, a3, a4, a5, a6, a7, a8, a9, a10, a11) := by
  refine pk_loop (fun fu i s => wX_findMost_2 post (nI n) tr fu (nI i) a1 a2 a3 a4 a5 a6 a7 a8 s a10 a11) (fun i s => ∀ c, c < i → s c = -1) 6 0 a9 (by omega) (fun c hc => absurd hc (by omega))
    (fun fu s h => pk_le 6 6 (fun _ => ?_) (fun z => absurd z (by omega)))
    (fun fu i s hi h hw => pk_le 6 i (fun z => absurd z (by omega)) (fun _ => ⟨pk_in i 6 (by omega), nm_e (nm_r (nI_1 i) (hw _ ?_))⟩))
  · refine pk_loop (fun fu i (s : Int32 × Int32 × (Nat → Int32) × (Nat → Int32) × (Nat → Int32)) => wX_findMost_25 post fu s.1 (nI i) (nI n) s.2.1 a1 a2 a3 a4 a5 a6 a7 a8 s.2.2.1 s.2.2.2.1 s.2.2.2.2)
      (fun i s => ∃ (ro : Nat → Nat) (C : Nat → Bool) (f : Nat), rk_fm n b ro C i f ∧ rk_ro n ro s.2.2.1 ∧ s.1 = nI f) n 0 (0, tr, s, a10, a11) (by omega) ⟨fun _ => 6, rk_0, 0, rk_fm_0 n hn b, fun c hc => by rw [if_neg (show ¬ 6 < n by omega)]; exact h c hc, rfl⟩
      (fun fu s h => ?_) (fun fu i s hi h hw => ?_)
    · obtain ⟨ro, C, f, hF, _, e⟩ := h
      refine pk_le n n (fun _ => ?_) (fun z => absurd z (by omega))
      rw [e]
      have p1 := rk_R_pos hn hF.1
      rw [hF.2.2.2] at p1
      refine H f ⟨p1, fun k hk => rk_max hn hF.2.1 (by rw [hF.2.2.2]; exact hk), ?_⟩ _ _ _ _
      rcases Nat.lt_or_ge n f with z | z
      · have := rk_W_z hn b n f rk_0 z
        rw [rk_W_R] at this
        omega
      · exact z
    · obtain ⟨ro, C, f, hF, h9, e⟩ := h
      refine pk_le n i (fun z => absurd z (by omega)) (fun _ => rk_findColumn hn h1 hi hF h9 (fun x D f10 f11 hF' => br_t rfl (nm_r (nI_1 i) (hw (s.1, x, s.2.2.1, f10, f11) ⟨ro, D, f, hF', h9, e⟩))) (fun x ro' f9 f10 f11 hF' h9' => br_f (by decide) (nm_r (e' := nI (f + 1)) (by rw [e, nI_1]) (nm_r (nI_1 i) (hw (nI (f + 1), x, f9, f10, f11) ⟨ro', C, f + 1, hF', h9', rfl⟩)))))
  · rw [nI_clamp (by omega)]
    intro c hc
    by_cases e : c = i
    · rw [e, pk_us]
    · rw [pk_un e]
      exact h c (by omega)
theorem rk_most {post : Int32 → St2 → Prop} {n : Nat} {b : Nat → Nat → Bool} {w : Nat → Nat → Int32} {tr : Int32} {a1 a2 a3 a4 a5 a6 a7 a8 a9 a10 a11 : Nat → Int32} (hP : rk_P n b w a1 a2 a7 a8) (H : ∀ f, rk_mo n b f → rk_sc n a1 a2 a7 a8 post (nI f)) : wpX_most post (nI n, tr, a1, a2, a3, a4, a5, a6, a7, a8, a9, a10, a11) := by
  unfold wpX_most
  exact rk_findMost hP.2.1 hP.2.2.1 (fun f hf tr f9 f10 f11 => H f hf tr a3 a4 a5 a6 f9 f10 f11)
theorem rk_lines {post : Int32 → St2 → Prop} {n : Nat} {b : Nat → Nat → Bool} {w : Nat → Nat → Int32} {tr : Int32} {a1 a2 a3 a4 a5 a6 a7 a8 a9 a10 a11 : Nat → Int32} (hP : rk_P n b w a1 a2 a7 a8) (H : ∀ f, rk_mo n b f → rk_sc n a1 a2 a7 a8 post (nI f)) : wpX_lines post (nI n, tr, a1, a2, a3, a4, a5, a6, a7, a8, a9, a10, a11) := by
  unfold wpX_lines
  exact rk_findMost hP.2.1 hP.2.2.1 (fun f hf tr f9 f10 f11 => H f hf tr a3 a4 a5 a6 f9 f10 f11)
theorem rk_needed {post : Int32 → St2 → Prop} {n : Nat} {b : Nat → Nat → Bool} {w : Nat → Nat → Int32} {tr : Int32} {a1 a2 a3 a4 a5 a6 a7 a8 a9 a10 a11 : Nat → Int32} (hP : rk_P n b w a1 a2 a7 a8) (H : ∀ f, rk_mo n b f → rk_sc n a1 a2 a7 a8 post (rk_i (rk_ne n b f 36))) : wpX_needed post (nI n, tr, a1, a2, a3, a4, a5, a6, a7, a8, a9, a10, a11) := by
  unfold wpX_needed
  exact rk_findMost hP.2.1 hP.2.2.1 (fun f hf tr f9 f10 f11 => rk_need9 hP.2.1 (Nat.le_trans hf.2.2 hP.2.1) hP.2.2.1 (fun f3 f4 => H f hf tr f3 f4 a5 a6 f9 f10 f11))
end
section
theorem rk_s_S (n : Nat) (f : Nat → Int) : rk_s (n + 1) f = rk_s n f + f n := rfl
/-- what one row adds, set by set and column by column -/
def rk_La (s dl : Int) (n : Nat) (wr : Nat → Int) (F : Nat → Int) : Nat → Nat → Int
  | 0 => fun S => dl * F S
  | j + 1 => fun S => rk_La s dl n wr F j S + (if (j / n).testBit (j % n) = false ∧ S = (j / n ||| 2 ^ (j % n)) then rk_e s (j / n).testBit (j % n) * (F (j / n) * wr (j % n)) else 0)
theorem rk_La_s {s dl : Int} {n : Nat} {wr F : Nat → Int} {j S : Nat} : rk_La s dl n wr F (j + 1) S = rk_La s dl n wr F j S + (if (j / n).testBit (j % n) = false ∧ S = (j / n ||| 2 ^ (j % n)) then rk_e s (j / n).testBit (j % n) * (F (j / n) * wr (j % n)) else 0) := rfl
theorem rk_La_G (s dl : Int) {n : Nat} (hn0 : 0 < n) (hn : n ≤ 6) (wr F G : Nat → Int) : ∀ j, j ≤ 64 * n → rk_s 64 (fun S => rk_La s dl n wr F j S * G S) = dl * rk_s 64 (fun S => F S * G S) + rk_s j (fun i => if (i / n).testBit (i % n) then 0 else rk_e s (i / n).testBit (i % n) * (F (i / n) * wr (i % n)) * G (i / n ||| 2 ^ (i % n)))
  | 0, _ => by
    show rk_s 64 (fun S => dl * F S * G S) = _ + 0
    rw [← rk_s_mul, Int.add_zero]
    exact rk_s_congr (fun S _ => by grind)
  | j + 1, hj => by
    have hd : j / n < 64 := (Nat.div_lt_iff_lt_mul hn0).mpr (by omega)
    have hm : j % n < n := Nat.mod_lt j hn0
    rw [rk_s_S j, ← Int.add_assoc, ← rk_La_G s dl hn0 hn wr F G j (by omega)]
    cases e : (j / n).testBit (j % n)
    · rw [rk_s_congr (g := fun S => rk_La s dl n wr F j S * G S + (if S = (j / n ||| 2 ^ (j % n)) then rk_e s (j / n).testBit (j % n) * (F (j / n) * wr (j % n)) * G (j / n ||| 2 ^ (j % n)) else 0)) (fun S _ => by
        rw [rk_La_s]
        by_cases z : S = (j / n ||| 2 ^ (j % n))
        · rw [if_pos ⟨e, z⟩, if_pos z, Int.add_mul, z]
        · rw [if_neg (fun y => z y.2), if_neg z, Int.add_zero, Int.add_zero])]
      rw [rk_s_add, rk_s_one (n := 64) (f := fun S => if S = (j / n ||| 2 ^ (j % n)) then rk_e s (j / n).testBit (j % n) * (F (j / n) * wr (j % n)) * G (j / n ||| 2 ^ (j % n)) else 0) (g := fun _ => 0) rfl (rk_or_64 hd (show j % n < 6 by omega)) (fun r _ hr => by rw [if_neg hr]), rk_s_zero]
      simp
    · rw [rk_s_congr (g := fun S => rk_La s dl n wr F j S * G S) (fun S _ => by
        rw [rk_La_s, if_neg (fun y => absurd (e.symm.trans y.1) (by simp)), Int.add_zero])]
      simp
theorem rk_s_app (f : Nat → Int) (a : Nat) : ∀ b, rk_s (a + b) f = rk_s a f + rk_s b (fun i => f (a + i))
  | 0 => by show rk_s a f = _ + 0; omega
  | b + 1 => by
    show rk_s (a + b) f + f (a + b) = rk_s a f + (rk_s b (fun i => f (a + i)) + f (a + b))
    rw [rk_s_app f a b]; omega
theorem rk_s_dm (h : Nat → Nat → Int) {n : Nat} (hn : 0 < n) : ∀ a, rk_s (a * n) (fun i => h (i / n) (i % n)) = rk_s a (fun S => rk_s n (fun c => h S c))
  | 0 => by rw [Nat.zero_mul]; rfl
  | a + 1 => by
    rw [Nat.succ_mul, rk_s_app, rk_s_dm h hn a, rk_s]
    congr 1
    refine rk_s_congr (fun c hc => ?_)
    rw [Nat.mul_comm, Nat.mul_add_div hn, Nat.div_eq_of_lt hc, Nat.mul_add_mod, Nat.mod_eq_of_lt hc, Nat.add_zero]
theorem rk_adj (s dl : Int) {n : Nat} (hn : n ≤ 6) (w : Nat → Nat → Int) (g : (Nat → Bool) → Int) (F : Nat → Int) {m : Nat} (hm : m < n) :
    rk_s 64 (fun S => rk_La s dl n (w (n - 1 - m)) F (64 * n) S * rk_V s dl n w g m rk_0 S.testBit) = rk_s 64 (fun S => F S * rk_V s dl n w g (m + 1) rk_0 S.testBit) := by
  rw [rk_La_G s dl (by omega) hn _ F (fun S => rk_V s dl n w g m rk_0 S.testBit) (64 * n) (Nat.le_refl _)]
  rw [rk_s_dm (fun S c => if S.testBit c then 0 else rk_e s S.testBit c * (F S * w (n - 1 - m) c) * rk_V s dl n w g m rk_0 (S ||| 2 ^ c).testBit) (by omega)]
  rw [← rk_s_mul, ← rk_s_add]
  refine rk_s_congr (fun S _ => ?_)
  rw [rk_V_f rfl, Int.mul_add, ← rk_c_mul]
  congr 1
  · grind
  · refine rk_s_congr (fun c _ => ?_)
    cases S.testBit c
    · simp only [Bool.false_eq_true, if_false]
      rw [rk_or_u, show rk_e s rk_0 (n - 1 - m) = 1 from rk_e_emp s _]
      grind
    · simp
/-- weights on the board alone -/
def rk_mw (b : Nat → Nat → Bool) (w : Nat → Nat → Int32) : Nat → Nat → Int := fun r c => if b r c then (w r c).toInt else 0
/-- signs and passing, as the code says them -/
def rk_sd (x2 x3 : Int32) (s dl : Int) : Prop := (x2 = 0 ∧ x3 = 1 ∧ s = 1 ∧ dl = 1) ∨ (x2 = 1 ∧ x3 = 0 ∧ s = -1 ∧ dl = 0)
theorem rk_sr0 {post : St2 → Prop} {J : Int32 → (Nat → Int32) → (Nat → Int32) → (Nat → Int32) → (Nat → Int32) → (Nat → Int32) → (Nat → Int32) → (Nat → Int32) → (Nat → Int32) → (Nat → Int32) → (Nat → Int32) → (Nat → Int32) → Prop} {s dl : Int} {n j r : Nat} {wr F : Nat → Int} {x2 x5 x6 fn tr : Int32} {a1 a2 a3 a4 a5 a6 a7 a8 a9 a10 a11 : Nat → Int32}
    (h6 : ∀ S, S < 64 → a6 S = rk_i (rk_La s dl n wr F j S)) (hz : (j / n).testBit (j % n) = true ∨ wr (j % n) = 0)
    (hw : ∀ f : Nat → Int32, (∀ S, S < 64 → f S = rk_i (rk_La s dl n wr F (j + 1) S)) → J (nI (j + 1)) a1 a2 a3 a4 a5 f a7 a8 a9 a10 a11) : wX_sumRow_101 post J (nI r) x2 (nI j) x5 x6 0 fn tr a1 a2 a3 a4 a5 a6 a7 a8 a9 a10 a11 := by
  refine br_t rfl (nm_r (nI_1 j) (hw a6 (fun S hS => ?_)))
  rw [h6 S hS, rk_La_s]
  congr 1
  rcases hz with z | z
  · rw [if_neg (fun y => absurd (z.symm.trans y.1) (by simp)), Int.add_zero]
  · rw [z, Int.mul_zero, Int.mul_zero]
    split <;> omega
theorem rk_sr1 {post : St2 → Prop} {J : Int32 → (Nat → Int32) → (Nat → Int32) → (Nat → Int32) → (Nat → Int32) → (Nat → Int32) → (Nat → Int32) → (Nat → Int32) → (Nat → Int32) → (Nat → Int32) → (Nat → Int32) → (Nat → Int32) → Prop} {s dl : Int} {n j r : Nat} {wr F : Nat → Int} {x2 x3 fn tr : Int32} {a1 a2 a3 a4 a5 a6 a7 a8 a9 a10 a11 : Nat → Int32}
    (hn0 : 0 < n) (hn : n ≤ 6) (hr : r < n) (hj : j < 64 * n) (hsd : rk_sd x2 x3 s dl)
    (h5 : ∀ S, S < 64 → a5 S = rk_i (F S)) (h6 : ∀ S, S < 64 → a6 S = rk_i (rk_La s dl n wr F j S)) (hz : (j / n).testBit (j % n) = false) (h2 : a2 (6 * r + j % n) = rk_i (wr (j % n)))
    (hw : ∀ f : Nat → Int32, (∀ S, S < 64 → f S = rk_i (rk_La s dl n wr F (j + 1) S)) → J (nI (j + 1)) a1 a2 a3 a4 a5 f a7 a8 a9 a10 a11) : wX_sumRow_101 post J (nI r) x2 (nI j) (nI (j / n)) (nI (j % n)) 1 fn tr a1 a2 a3 a4 a5 a6 a7 a8 a9 a10 a11 := by
  have hd : j / n < 64 := (Nat.div_lt_iff_lt_mul hn0).mpr (by omega)
  have hm : j % n < n := Nat.mod_lt j hn0
  have hor := rk_or_64 hd (show j % n < 6 by omega)
  obtain ⟨t1, t2, t3⟩ := rk_t11 (j / n) hd (j % n) (by omega)
  have t3 := t3 hz
  have e1 : nI (j / n) ||| ((1 : Int32) <<< (nI (j % n) &&& 31)) = nI (j / n ||| 2 ^ (j % n)) := by rw [rk_t3 _ (by omega), rk_t4 _ hd _ (by omega)]
  have e2 : 6 * nI r + nI (j % n) = nI (6 * r + j % n) := by rw [show (6 : Int32) = nI 6 from rfl, pk_mul, nI_add]
  have go : ∀ y : Int32, y = rk_i (rk_e s (j / n).testBit (j % n) * (F (j / n) * wr (j % n))) → J (nI (j + 1)) a1 a2 a3 a4 a5 (upd a6 (j / n ||| 2 ^ (j % n)) (a6 (j / n ||| 2 ^ (j % n)) + y)) a7 a8 a9 a10 a11 := by
    intro y hy
    refine hw _ (fun S hS => ?_)
    rw [rk_La_s]
    by_cases z : S = (j / n ||| 2 ^ (j % n))
    · rw [if_pos ⟨hz, z⟩, z, pk_us, h6 _ hor, hy, rk_i_add]
    · rw [if_neg (fun y => z y.2), pk_un z, h6 S hS, Int.add_zero]
  refine br_f (by decide) ⟨pk_in (j / n) 64 hd, br_c (fun h0 => nm_r (nI_1 j) (hw a6 (fun S hS => ?_))) (fun h0 => ?_)⟩
  · rw [nI_clamp (by omega), h5 _ hd] at h0
    rw [h6 S hS, rk_La_s, rk_i_add]
    split
    · rw [rk_i_mul, rk_i_mul, h0, Int32.zero_mul, Int32.mul_zero, Int32.add_zero]
    · rw [rk_i_0, Int32.add_zero]
  · rw [t1]
    refine rk_sizeOf t2 ⟨pk_in (j / n) 64 hd, pk_in (6 * r + j % n) 36 (by omega) e2, nm_r (e' := rk_i (F (j / n) * wr (j % n))) ?_ ⟨pk_in _ 64 hor e1, ?_⟩⟩
    · rw [nI_clamp (by omega), e2, nI_clamp (by omega), h5 _ hd, h2, rk_i_mul]
    · have e3 : (nI (j / n) ||| ((1 : Int32) <<< (nI (j % n) &&& 31))).toNatClampNeg = (j / n ||| 2 ^ (j % n)) := by rw [e1, nI_clamp (by omega)]
      rw [e3]
      rcases hsd with ⟨x0, _, s0, _⟩ | ⟨x0, _, s0, _⟩
      · refine br_t x0 ⟨pk_in _ 64 hor e1, nm_e (nm_r (nI_1 j) (go _ ?_))⟩
        rw [s0, rk_e_one, Int.one_mul]
      · refine br_f (by rw [x0]; decide) (br_c (fun q => ⟨pk_in _ 64 hor e1, nm_e (nm_r (nI_1 j) (go _ ?_))⟩) (fun q => ⟨pk_in _ 64 hor e1, nm_e (nm_r (nI_1 j) (go _ ?_))⟩))
        · rw [s0, t3.1.mp q, Int.neg_mul, Int.one_mul, rk_i_neg]
        · rw [s0, t3.2.mp q, Int.one_mul]
theorem rk_sr195 {post : St2 → Prop} {fn tr : Int32} {a1 a2 a3 a4 a5 a6 a7 a8 a9 a10 a11 : Nat → Int32} (H : ∀ f : Nat → Int32, (∀ S, S < 64 → f S = a6 S) → post (fn, tr, a1, a2, a3, a4, f, a6, a7, a8, a9, a10, a11)) : ∃ fu : Nat, wX_sumRow_195 post fn tr fu 0 a1 a2 a3 a4 a5 a6 a7 a8 a9 a10 a11 := by
  refine pk_loop (fun fu i s => wX_sumRow_195 post fn tr fu (nI i) a1 a2 a3 a4 s a6 a7 a8 a9 a10 a11) (fun i s => ∀ S, S < i → s S = a6 S) 64 0 a5 (by omega) (fun c hc => absurd hc (by omega))
    (fun fu s h => pk_le 64 64 (fun _ => H s h) (fun z => absurd z (by omega)))
    (fun fu i s hi h hw => pk_le 64 i (fun z => absurd z (by omega)) (fun _ => ⟨pk_in i 64 (by omega), pk_in i 64 (by omega), nm_e (nm_r (nI_1 i) (hw _ ?_))⟩))
  rw [nI_clamp (by omega)]
  intro c hc
  by_cases e : c = i
  · rw [e, pk_us]
  · rw [pk_un e]
    exact h c (by omega)
theorem rk_sr41 {post : St2 → Prop} {s dl : Int} {n r : Nat} {b : Nat → Nat → Bool} {w : Nat → Nat → Int32} {F : Nat → Int} {x2 x3 tr : Int32} {a1 a2 a3 a4 a5 a6 a7 a8 a9 a10 a11 : Nat → Int32} (hn0 : 0 < n) (hn : n ≤ 6) (hr : r < n) (hsd : rk_sd x2 x3 s dl)
    (h1 : ∀ r, r < n → a1 r = nI (rk_mk n (b r))) (h2 : ∀ r c, r < n → c < n → a2 (6 * r + c) = w r c) (h5 : ∀ S, S < 64 → a5 S = rk_i (F S)) (h6 : ∀ S, S < 64 → a6 S = rk_i (dl * F S))
    (H : ∀ f g : Nat → Int32, (∀ S, S < 64 → f S = rk_i (rk_La s dl n (rk_mw b w r) F (64 * n) S)) → post (nI n, tr, a1, a2, a3, a4, f, g, a7, a8, a9, a10, a11)) : ∃ fu : Nat, wX_sumRow_41 post (nI r) x2 (nI n) tr fu 0 a1 a2 a3 a4 a5 a6 a7 a8 a9 a10 a11 := by
  have e0 : 64 * nI n = nI (64 * n) := by rw [show (64 : Int32) = nI 64 from rfl, pk_mul]
  refine pk_loop (fun fu i f => wX_sumRow_41 post (nI r) x2 (nI n) tr fu (nI i) a1 a2 a3 a4 a5 f a7 a8 a9 a10 a11) (fun i f => ∀ S, S < 64 → f S = rk_i (rk_La s dl n (rk_mw b w r) F i S)) (64 * n) 0 a6 (by omega) h6
    (fun fu g h => pk_le (64 * n) (64 * n) (fun _ => rk_sr195 (fun f hf => H f g (fun S hS => by rw [hf S hS, h S hS]))) (fun z => absurd z (by omega)) e0 rfl)
    (fun fu j g hj h hw => pk_le (64 * n) j (fun z => absurd z (by omega)) (fun _ => ⟨nI_ne0 hn0 (by omega), nm_r (pk_div (by omega) hn0 (by omega)) ⟨nI_ne0 hn0 (by omega), nm_r (pk_rem (by omega) hn0 (by omega)) ⟨pk_in r 6 (by omega), ?_⟩⟩⟩) e0 rfl)
  have hd : j / n < 64 := (Nat.div_lt_iff_lt_mul hn0).mpr (by omega)
  have hm : j % n < n := Nat.mod_lt j hn0
  rw [nI_clamp (by omega), h1 r hr, rk_t1 _ (rk_mk_64 hn _) _ (by omega), rk_mk_tb, rk_t1 _ hd _ (by omega)]
  cases eb : b r (j % n)
  · rw [Bool.and_false]
    exact br_f (by decide) (rk_sr0 h (Or.inr (by simp [rk_mw, eb])) hw)
  · rw [Bool.and_true, show decide (j % n < n) = true by simp [hm]]
    refine br_t rfl ?_
    cases et : (j / n).testBit (j % n)
    · exact br_t rfl (rk_sr1 hn0 hn hr hj hsd h5 h et (by rw [h2 r _ hr hm, rk_mw, eb, if_pos rfl, rk_i_toInt]) hw)
    · exact br_f (by decide) (rk_sr0 h (Or.inl et) hw)
theorem rk_sumRow {post : St2 → Prop} {s dl : Int} {n r : Nat} {b : Nat → Nat → Bool} {w : Nat → Nat → Int32} {F : Nat → Int} {x2 x3 tr : Int32} {a1 a2 a3 a4 a5 a6 a7 a8 a9 a10 a11 : Nat → Int32} (hn0 : 0 < n) (hn : n ≤ 6) (hr : r < n) (hsd : rk_sd x2 x3 s dl)
    (h1 : ∀ r, r < n → a1 r = nI (rk_mk n (b r))) (h2 : ∀ r c, r < n → c < n → a2 (6 * r + c) = w r c) (h5 : ∀ S, S < 64 → a5 S = rk_i (F S))
    (H : ∀ f g : Nat → Int32, (∀ S, S < 64 → f S = rk_i (rk_La s dl n (rk_mw b w r) F (64 * n) S)) → post (nI n, tr, a1, a2, a3, a4, f, g, a7, a8, a9, a10, a11)) : wpX_sumRow post (nI n, tr, a1, a2, a3, a4, a5, a6, a7, a8, a9, a10, a11) (nI r) x2 x3 := by
  refine pk_loop (fun fu i f => wX_sumRow_3 post (nI r) x2 x3 (nI n) tr fu (nI i) a1 a2 a3 a4 a5 f a7 a8 a9 a10 a11) (fun i f => ∀ S, S < i → f S = rk_i (dl * F S)) 64 0 a6 (by omega) (fun c hc => absurd hc (by omega))
    (fun fu g h => pk_le 64 64 (fun _ => rk_sr41 hn0 hn hr hsd h1 h2 h5 h H) (fun z => absurd z (by omega)))
    (fun fu i g hi h hw => pk_le 64 i (fun z => absurd z (by omega)) (fun _ => ?_))
  have go : ∀ y : Int32, y = rk_i (dl * F i) → ∀ S, S < i + 1 → upd g i y S = rk_i (dl * F S) := by
    intro y hy c hc
    by_cases e : c = i
    · rw [e, pk_us, hy]
    · rw [pk_un e]
      exact h c (by omega)
  rcases hsd with ⟨_, x0, _, d0⟩ | ⟨_, x0, _, d0⟩
  · refine br_f (by rw [x0]; decide) ⟨pk_in i 64 hi, pk_in i 64 hi, nm_e (nm_r (nI_1 i) (hw _ ?_))⟩
    rw [nI_clamp (by omega)]
    exact go _ (by rw [h5 i hi, d0, Int.one_mul])
  · refine br_t x0 ⟨pk_in i 64 hi, nm_e (nm_r (nI_1 i) (hw _ ?_))⟩
    rw [nI_clamp (by omega)]
    exact go _ (by rw [d0, Int.zero_mul, rk_i_0])
theorem rk_clearSums {post : St2 → Prop} {fn tr : Int32} {a1 a2 a3 a4 a5 a6 a7 a8 a9 a10 a11 : Nat → Int32} (H : ∀ f : Nat → Int32, (∀ S, S < 64 → f S = rk_i (if S = 0 then 1 else 0)) → post (fn, tr, a1, a2, a3, a4, f, a6, a7, a8, a9, a10, a11)) : wpX_clearSums post (fn, tr, a1, a2, a3, a4, a5, a6, a7, a8, a9, a10, a11) := by
  refine pk_loop (fun fu i s => wX_clearSums_2 post fn tr fu (nI i) a1 a2 a3 a4 s a6 a7 a8 a9 a10 a11) (fun i s => ∀ S, S < i → s S = 0) 64 0 a5 (by omega) (fun c hc => absurd hc (by omega))
    (fun fu s h => pk_le 64 64 (fun _ => nm_e (H _ (fun S hS => ?_))) (fun z => absurd z (by omega)))
    (fun fu i s hi h hw => pk_le 64 i (fun z => absurd z (by omega)) (fun _ => ⟨pk_in i 64 (by omega), nm_e (nm_r (nI_1 i) (hw _ ?_))⟩))
  · by_cases e : S = 0
    · rw [e, pk_us]; rfl
    · rw [pk_un e, if_neg e]
      exact h S hS
  · rw [nI_clamp (by omega)]
    intro c hc
    by_cases e : c = i
    · rw [e, pk_us]
    · rw [pk_un e]
      exact h c (by omega)
end
section
/-- the sum over all placements of k rooks; the signed sum over the full ones -/
def rk_Su (n : Nat) (b : Nat → Nat → Bool) (w : Nat → Nat → Int32) (k : Nat) : Int := rk_V 1 1 n (rk_mw b w) (rk_g k) n rk_0 rk_0
def rk_De (n : Nat) (b : Nat → Nat → Bool) (w : Nat → Nat → Int32) : Int := rk_V (-1) 0 n (rk_mw b w) (rk_g n) n rk_0 rk_0
theorem rk_F0 (G : Nat → Int) : rk_s 64 (fun S => (if S = 0 then 1 else 0) * G S) = G 0 := by
  rw [rk_s_one (n := 64) (r0 := 0) (g := fun _ => 0) rfl (by omega) (fun r _ hr => by rw [if_neg hr, Int.zero_mul]), rk_s_zero, if_pos rfl]
  omega
theorem rk_sum {post : Int32 → St2 → Prop} {n k : Nat} {b : Nat → Nat → Bool} {w : Nat → Nat → Int32} {tr : Int32} {a1 a2 a3 a4 a5 a6 a7 a8 a9 a10 a11 : Nat → Int32} (hP : rk_P n b w a1 a2 a7 a8) (hk : k ≤ n)
    (H : rk_sc n a1 a2 a7 a8 post (rk_i (rk_Su n b w k))) : wpX_sum post (nI n, tr, a1, a2, a3, a4, a5, a6, a7, a8, a9, a10, a11) (nI k) := by
  obtain ⟨hn1, hn, h1, h2, h7, h8⟩ := hP
  unfold wpX_sum
  refine rk_badNumber hn hk (br_t rfl (rk_clearSums (fun f5 hf5 => ?_)))
  refine pk_loop (fun fu i (s : (Nat → Int32) × (Nat → Int32)) => wX_sum_16 post (nI k) fu (nI i) (nI n) tr a1 a2 a3 a4 s.1 s.2 a7 a8 a9 a10 a11) (fun i s => ∃ F : Nat → Int, (∀ S, S < 64 → s.1 S = rk_i (F S)) ∧ rk_s 64 (fun S => F S * rk_V 1 1 n (rk_mw b w) (rk_g k) (n - i) rk_0 S.testBit) = rk_Su n b w k) n 0 (f5, a6) (by omega)
    ⟨fun S => if S = 0 then 1 else 0, hf5, ?_⟩ (fun fu s h => ?_) (fun fu i s hi h hw => ?_)
  · rw [rk_F0 (fun S => rk_V 1 1 n (rk_mw b w) (rk_g k) (n - 0) rk_0 S.testBit), rk_0_tb]
    rfl
  · obtain ⟨F, hF, e⟩ := h
    rw [Nat.sub_self] at e
    refine pk_le n n (fun _ => ?_) (fun z => absurd z (by omega))
    refine pk_loop (fun fu i x => wX_sum_41 post (nI k) (nI n) tr a1 a2 a3 a4 s.1 s.2 a7 a8 a9 a10 a11 fu x (nI i)) (fun i x => x = rk_i (rk_s i (fun S => F S * rk_g k S.testBit))) 64 0 0 (by omega) rfl (fun fu x h => ?_) (fun fu i x hi h hw => ?_)
    · refine pk_le 64 64 (fun _ => ?_) (fun z => absurd z (by omega))
      rw [h, show rk_s 64 (fun S => F S * rk_g k S.testBit) = rk_Su n b w k from e]
      exact H tr a3 a4 s.1 s.2 a9 a10 a11
    · have hk6 := rk_kn_le i.testBit 6
      refine pk_le 64 i (fun z => absurd z (by omega)) (fun _ => rk_sizeOf hi (pk_eq (rk_k i.testBit) k (fun y => ⟨pk_in i 64 hi, nm_r (e' := rk_i (rk_s (i + 1) (fun S => F S * rk_g k S.testBit))) ?_ (nm_r (nI_1 i) (hw _ rfl))⟩) (fun y => nm_r (nI_1 i) (hw _ ?_)) rfl rfl (by unfold rk_k; omega) (by omega)))
      · rw [nI_clamp (by omega), hF i hi, h, rk_s_S, rk_i_add, rk_g, if_pos y, Int.mul_one]
      · rw [h, rk_s_S, rk_g, if_neg y, Int.mul_zero, Int.add_zero]
  · obtain ⟨F, hF, e⟩ := h
    refine pk_le n i (fun z => absurd z (by omega)) (fun _ => rk_sumRow (s := 1) (dl := 1) (by omega) hn hi (Or.inl ⟨rfl, rfl, rfl, rfl⟩) h1 h2 hF (fun f g hf => nm_r (nI_1 i) (hw (f, g) ⟨_, hf, ?_⟩)))
    have := rk_adj 1 1 hn (rk_mw b w) (rk_g k) F (m := n - 1 - i) (by omega)
    rw [show n - 1 - (n - 1 - i) = i by omega, show n - 1 - i + 1 = n - i by omega] at this
    rw [show n - (i + 1) = n - 1 - i by omega]
    rw [this]
    exact e
noncomputable def rk_gf (n : Nat) (f : Nat → Bool) : Int := @ite Int (∀ c, c < 6 → f c = decide (c < n)) (Classical.propDecidable _) 1 0
theorem rk_kd : ∀ n, n < 7 → rk_kn 6 (fun c => decide (c < n)) = n := by decide
theorem rk_De_gf {n : Nat} (hn : n ≤ 6) (b : Nat → Nat → Bool) (w : Nat → Nat → Int32) : rk_V (-1) 0 n (rk_mw b w) (rk_gf n) n rk_0 rk_0 = rk_De n b w := by
  refine rk_V_g (fun S hS => ?_) rk_0 (Nat.le_refl n) (fun c h => absurd h (by simp [rk_0]))
  unfold rk_gf rk_g
  by_cases z : rk_k S = n
  · rw [if_pos z, if_pos]
    intro c hc
    cases e : S c
    · rcases Nat.lt_or_ge c n with y | y
      · rw [rk_k_full hn hS z c y] at e
        exact absurd e (by simp)
      · simp; omega
    · have := hS c e
      simp [this]
  · rw [if_neg z, if_neg]
    intro y
    exact z ((rk_kn_cg y).trans (rk_kd n (by omega)))
theorem rk_signedSum {post : Int32 → St2 → Prop} {n : Nat} {b : Nat → Nat → Bool} {w : Nat → Nat → Int32} {tr : Int32} {a1 a2 a3 a4 a5 a6 a7 a8 a9 a10 a11 : Nat → Int32} (hP : rk_P n b w a1 a2 a7 a8)
    (H : rk_sc n a1 a2 a7 a8 post (rk_i (rk_De n b w))) : wpX_signedSum post (nI n, tr, a1, a2, a3, a4, a5, a6, a7, a8, a9, a10, a11) := by
  obtain ⟨hn1, hn, h1, h2, h7, h8⟩ := hP
  unfold wpX_signedSum
  refine rk_clearSums (fun f5 hf5 => ?_)
  refine pk_loop (fun fu i (s : (Nat → Int32) × (Nat → Int32)) => wX_signedSum_6 post fu (nI i) (nI n) tr a1 a2 a3 a4 s.1 s.2 a7 a8 a9 a10 a11) (fun i s => ∃ F : Nat → Int, (∀ S, S < 64 → s.1 S = rk_i (F S)) ∧ rk_s 64 (fun S => F S * rk_V (-1) 0 n (rk_mw b w) (rk_gf n) (n - i) rk_0 S.testBit) = rk_De n b w) n 0 (f5, a6) (by omega)
    ⟨fun S => if S = 0 then 1 else 0, hf5, ?_⟩ (fun fu s h => ?_) (fun fu i s hi h hw => ?_)
  · rw [rk_F0 (fun S => rk_V (-1) 0 n (rk_mw b w) (rk_gf n) (n - 0) rk_0 S.testBit), rk_0_tb]
    exact rk_De_gf hn b w
  · obtain ⟨F, hF, e⟩ := h
    rw [Nat.sub_self] at e
    have h64 := rk_p6 n (by omega)
    have hp := Nat.two_pow_pos n
    have e1 : ((1 : Int32) <<< (nI n &&& 31)) - 1 = nI (2 ^ n - 1) := by
      rw [rk_t3 n (by omega), show (1 : Int32) = nI 1 from rfl, pk_sub (by omega)]
    refine pk_le n n (fun _ => ⟨pk_in (2 ^ n - 1) 64 (by omega) e1, ?_⟩) (fun z => absurd z (by omega))
    rw [e1, nI_clamp (by omega), hF _ (by omega)]
    have e2 : F (2 ^ n - 1) = rk_De n b w := by
      rw [← e, rk_s_one (n := 64) (r0 := 2 ^ n - 1) (g := fun _ => 0) rfl (by omega) (fun S hS hr => ?_), rk_s_zero]
      · rw [rk_V, rk_gf, if_pos ((rk_t12 n (by omega) _ (by omega)).mpr rfl)]
        omega
      · rw [rk_V, rk_gf, if_neg (fun y => hr ((rk_t12 n (by omega) S hS).mp y)), Int.mul_zero]
    rw [e2]
    exact H tr a3 a4 s.1 s.2 a9 a10 a11
  · obtain ⟨F, hF, e⟩ := h
    refine pk_le n i (fun z => absurd z (by omega)) (fun _ => rk_sumRow (s := -1) (dl := 0) (by omega) hn hi (Or.inr ⟨rfl, rfl, rfl, rfl⟩) h1 h2 hF (fun f g hf => nm_r (nI_1 i) (hw (f, g) ⟨_, hf, ?_⟩)))
    have := rk_adj (-1) 0 hn (rk_mw b w) (rk_gf n) F (m := n - 1 - i) (by omega)
    rw [show n - 1 - (n - 1 - i) = i by omega, show n - 1 - i + 1 = n - i by omega] at this
    rw [show n - (i + 1) = n - 1 - i by omega]
    rw [this]
    exact e
/-- what digest adds up -/
def rk_dg (n : Nat) (b : Nat → Nat → Bool) (w : Nat → Nat → Int32) : Nat → Int32
  | 0 => rk_i (rk_ce n b n)
  | i + 1 => ((((rk_dg n b w i * 31) + rk_i (rk_R n b i)) * 31) + (rk_i (rk_H n b i) * 7)) + rk_i (rk_Su n b w i)
theorem rk_digest {post : Int32 → St2 → Prop} {n : Nat} {b : Nat → Nat → Bool} {w : Nat → Nat → Int32} {tr : Int32} {a1 a2 a3 a4 a5 a6 a7 a8 a9 a10 a11 : Nat → Int32} (hP : rk_P n b w a1 a2 a7 a8)
    (H : rk_sc n a1 a2 a7 a8 post (rk_dg n b w (n + 1))) : wpL_digest post (nI n, tr, a1, a2, a3, a4, a5, a6, a7, a8, a9, a10, a11) (nI n) := by
  have hn := hP.2.1
  unfold wpL_digest
  refine rk_cells hn hP.2.2.1 ?_
  refine pk_loop (fun fu i (s : Int32 × Int32 × (Nat → Int32) × (Nat → Int32) × (Nat → Int32) × (Nat → Int32) × (Nat → Int32) × (Nat → Int32) × (Nat → Int32)) => wL_digest_7 post (nI n) fu s.1 (nI i) (nI n) s.2.1 a1 a2 s.2.2.1 s.2.2.2.1 s.2.2.2.2.1 s.2.2.2.2.2.1 a7 a8 s.2.2.2.2.2.2.1 s.2.2.2.2.2.2.2.1 s.2.2.2.2.2.2.2.2) (fun i s => s.1 = rk_dg n b w i) (n + 1) 0 (rk_i (rk_ce n b n), tr, a3, a4, a5, a6, a9, a10, a11) (by omega) rfl
    (fun fu s h => ?_) (fun fu i s hi h hw => ?_)
  · refine pk_lt n (n + 1) (fun _ => ?_) (fun z => absurd z (by omega))
    rw [h]
    exact H _ _ _ _ _ _ _ _
  · refine pk_lt n i (fun z => absurd z (by omega)) (fun _ => rk_rooks hP (by omega) (fun tr f3 f4 f5 f6 f9 f10 f11 => rk_hits hP (by omega) (fun tr f3 f4 f5 f6 f9 f10 f11 => rk_sum hP (by omega) (fun tr f3 f4 f5 f6 f9 f10 f11 => ?_))))
    refine nm_r (e' := rk_dg n b w (i + 1)) (by rw [h, rk_dg]) (nm_r (nI_1 i) (hw (_, tr, f3, f4, f5, f6, f9, f10, f11) rfl))
end
section
theorem rk_R_nat {n : Nat} (hn : n ≤ 6) (b : Nat → Nat → Bool) (k : Nat) : ∃ p : Nat, p ≤ 117649 ∧ rk_R n b k = (p : Int) := by
  have h1 := rk_R_nn n b k
  have h2 := rk_R_le hn b k
  exact ⟨(rk_R n b k).toNat, by omega, by omega⟩
theorem rk_c200 {post : Int32 → St2 → Prop} {n k p : Nat} {b : Nat → Nat → Bool} {w : Nat → Nat → Int32} {z tr : Int32} {a1 a2 a3 a4 a5 a6 a7 a8 a9 a10 a11 : Nat → Int32} (hP : rk_P n b w a1 a2 a7 a8) (hk : k ≤ n) (hp : p ≤ 117649) (hR : rk_R n b k = (p : Int)) (hz : 0 < p → z = nI ((7 * k + n) % p))
    (H : rk_sc n a1 a2 a7 a8 post 1) : wL_counts_200 post (nI n) (nI k) (nI p) z (nI n) tr a1 a2 a3 a4 a5 a6 a7 a8 a9 a10 a11 := by
  have hn1 := hP.1
  have hn := hP.2.1
  have eR : rk_i (rk_R n b k) = nI p := by rw [hR, rk_i_nI]
  unfold wL_counts_200
  refine rk_column (r := 0) hP hk hn1 (fun _ => fun tr a3 a4 a5 a6 a9 a10 a11 => br_t rfl ?_) (fun _ h => absurd h (by rw [eR]; exact nI_nlt (Nat.le_refl p) (by omega)))
  refine rk_column (r := 0) hP hk hn1 (fun _ => fun tr a3 a4 a5 a6 a9 a10 a11 => br_t rfl ?_) (fun h => absurd (by decide : (-1 : Int32) < 0) h)
  refine pk_eq p 0 (fun _ => H _ _ _ _ _ _ _ _) (fun hp0 => ?_)
  have hm : (7 * k + n) % p < p := Nat.mod_lt _ (by omega)
  rw [hz (by omega)]
  refine rk_column (r := 0) hP hk hn1 (fun h => ?_) (fun _ _ c hc => fun tr a3 a4 a5 a6 a9 a10 a11 => br_f (nI_pos (by omega)) ?_)
  · rcases h with h | h
    · exact absurd h (nI_pos (by omega))
    · exact absurd (by rw [eR]; exact nI_lt hm (by omega)) h
  rw [show (nI p - 1) = nI (p - 1) from pk_sub (b := 1) (by omega), show (nI n - 1) = nI (n - 1) from pk_sub (b := 1) (by omega)]
  refine rk_column hP hk (by omega) (fun h => ?_) (fun _ _ c hc => fun tr a3 a4 a5 a6 a9 a10 a11 => br_f (nI_pos (by omega)) (H _ _ _ _ _ _ _ _))
  rcases h with h | h
  · exact absurd h (nI_pos (by omega))
  · exact absurd (by rw [eR]; exact nI_lt (by omega) (by omega)) h
theorem rk_c91 {post : Int32 → St2 → Prop} {J : Int32 → Int32 → Int32 → Int32 → (Nat → Int32) → (Nat → Int32) → (Nat → Int32) → (Nat → Int32) → (Nat → Int32) → (Nat → Int32) → (Nat → Int32) → (Nat → Int32) → (Nat → Int32) → (Nat → Int32) → (Nat → Int32) → Prop} {n k r : Nat} {b : Nat → Nat → Bool} {w : Nat → Nat → Int32} {x3 x4 x5 tr : Int32} {a1 a2 a3 a4 a5 a6 a7 a8 a9 a10 a11 : Nat → Int32} (hP : rk_P n b w a1 a2 a7 a8) (hk : k ≤ n) (hr : r < n) (X : Int)
    (H : ∀ (tr : Int32) (a3 a4 a5 a6 a9 a10 a11 : Nat → Int32), J (rk_i (X + rk_s n (fun c => rk_R n b k - rk_R n (rk_del b r c) k))) (nI (r + 1)) (nI n) tr a1 a2 a3 a4 a5 a6 a7 a8 a9 a10 a11) : ∃ fu : Nat, wL_counts_91 post J (nI n) (nI k) x3 x4 x5 (nI r) fu (rk_i X) 0 (nI n) tr a1 a2 a3 a4 a5 a6 a7 a8 a9 a10 a11 := by
  have hn := hP.2.1
  refine pk_loop (fun fu i (s : Int32 × Int32 × (Nat → Int32) × (Nat → Int32) × (Nat → Int32) × (Nat → Int32) × (Nat → Int32) × (Nat → Int32) × (Nat → Int32)) => wL_counts_91 post J (nI n) (nI k) x3 x4 x5 (nI r) fu s.1 (nI i) (nI n) s.2.1 a1 a2 s.2.2.1 s.2.2.2.1 s.2.2.2.2.1 s.2.2.2.2.2.1 a7 a8 s.2.2.2.2.2.2.1 s.2.2.2.2.2.2.2.1 s.2.2.2.2.2.2.2.2) (fun i s => s.1 = rk_i (X + rk_s i (fun c => rk_R n b k - rk_R n (rk_del b r c) k))) n 0 (rk_i X, tr, a3, a4, a5, a6, a9, a10, a11) (by omega) (by show rk_i X = rk_i (X + 0); rw [Int.add_zero])
    (fun fu s h => ?_) (fun fu i s hi h hw => ?_)
  · refine pk_le n n (fun _ => nm_r (nI_1 r) ?_) (fun z => absurd z (by omega))
    rw [h]
    exact H _ _ _ _ _ _ _ _
  · refine pk_le n i (fun z => absurd z (by omega)) (fun _ => ?_)
    rw [show 6 * nI r + nI i = nI (6 * r + i) by rw [show (6 : Int32) = nI 6 from rfl, pk_mul, nI_add]]
    refine rk_through hP hk hr hi (fun tr a3 a4 a5 a6 a9 a10 a11 => nm_r (e' := rk_i (X + rk_s (i + 1) (fun c => rk_R n b k - rk_R n (rk_del b r c) k))) ?_ (nm_r (nI_1 i) (hw (_, tr, a3, a4, a5, a6, a9, a10, a11) rfl)))
    rw [h, ← rk_i_add, rk_s_S, Int.add_assoc]
theorem rk_c82 {post : Int32 → St2 → Prop} {n k f : Nat} {b : Nat → Nat → Bool} {w : Nat → Nat → Int32} {tr : Int32} {a1 a2 a3 a4 a5 a6 a7 a8 a9 a10 a11 : Nat → Int32} (hP : rk_P n b w a1 a2 a7 a8) (hk : k ≤ n) (hf : rk_mo n b f)
    (H : rk_sc n a1 a2 a7 a8 post 1) : ∃ fu : Nat, wL_counts_82 post (nI n) (nI k) (nI f) (rk_i (rk_f n)) (rk_i (rk_f n)) fu 0 0 (nI n) tr a1 a2 a3 a4 a5 a6 a7 a8 a9 a10 a11 := by
  have hn1 := hP.1
  have hn := hP.2.1
  refine pk_loop (fun fu i (s : Int32 × Int32 × (Nat → Int32) × (Nat → Int32) × (Nat → Int32) × (Nat → Int32) × (Nat → Int32) × (Nat → Int32) × (Nat → Int32)) => wL_counts_82 post (nI n) (nI k) (nI f) (rk_i (rk_f n)) (rk_i (rk_f n)) fu s.1 (nI i) (nI n) s.2.1 a1 a2 s.2.2.1 s.2.2.2.1 s.2.2.2.2.1 s.2.2.2.2.2.1 a7 a8 s.2.2.2.2.2.2.1 s.2.2.2.2.2.2.2.1 s.2.2.2.2.2.2.2.2) (fun i s => s.1 = rk_i (rk_s i (fun r => rk_s n (fun c => rk_R n b k - rk_R n (rk_del b r c) k)))) n 0 (0, tr, a3, a4, a5, a6, a9, a10, a11) (by omega) rfl
    (fun fu s h => ?_) (fun fu i s hi h hw => ?_)
  · obtain ⟨p, hp, hR⟩ := rk_R_nat hn b k
    obtain ⟨p', hp', hR'⟩ := rk_R_nat hn b f
    have hpos := hf.1
    refine pk_le n n (fun _ => rk_rooks hP hk (fun tr a3 a4 a5 a6 a9 a10 a11 => rk_lines hP (fun f' hf' => fun tr a3 a4 a5 a6 a9 a10 a11 => br_t ?_ (rk_rooks hP hf.2.2 (fun tr a3 a4 a5 a6 a9 a10 a11 => br_f ?_ (br_t rfl (rk_hits hP (Nat.le_refl n) (fun tr a3 a4 a5 a6 a9 a10 a11 => rk_rooks hP (Nat.le_refl n) (fun tr a3 a4 a5 a6 a9 a10 a11 => br_t ?_ (br_t ?_ ?_)))))))))) (fun z => absurd z (by omega))
    · rw [rk_mo_u hf' hf (fun _ => rfl)]
    · rw [hR', rk_i_nI]
      exact nI_nlt (b := 1) (by omega) (by omega)
    · rw [rk_H_n hn]
    · rw [h, rk_thr hn, rk_i_mul, rk_i_nI]
    · rw [hR, rk_i_nI]
      refine br_c (fun y => rk_c200 hP hk hp hR (fun y' => ?_) H) (fun y => ⟨y, rk_c200 hP hk hp hR (fun y' => ?_) H⟩)
      · rw [show (0 : Int32) = nI 0 from rfl, nI_eq (by omega) (by omega)] at y
        omega
      · rw [show (7 : Int32) = nI 7 from rfl, pk_mul, nI_add, pk_rem (by omega) y' (by omega)]
  · refine pk_le n i (fun z => absurd z (by omega)) (fun _ => ?_)
    rw [h]
    exact rk_c91 hP hk hi _ (fun tr a3 a4 a5 a6 a9 a10 a11 => hw (_, tr, a3, a4, a5, a6, a9, a10, a11) rfl)
theorem rk_counts {post : Int32 → St2 → Prop} {n k : Nat} {b : Nat → Nat → Bool} {w : Nat → Nat → Int32} {tr : Int32} {a1 a2 a3 a4 a5 a6 a7 a8 a9 a10 a11 : Nat → Int32} (hP : rk_P n b w a1 a2 a7 a8) (hk : k ≤ n)
    (H : rk_sc n a1 a2 a7 a8 post 1) : wpL_counts post (nI n, tr, a1, a2, a3, a4, a5, a6, a7, a8, a9, a10, a11) (nI n) (nI k) := by
  have hn1 := hP.1
  have hn := hP.2.1
  unfold wpL_counts
  refine rk_most hP (fun f hf => fun tr a3 a4 a5 a6 a9 a10 a11 => ?_)
  refine pk_loop (fun fu i x => wL_counts_17 post (nI n) (nI k) (nI f) 0 0 (nI n) tr a1 a2 a3 a4 a5 a6 a7 a8 a9 a10 a11 fu x (nI (i + 2))) (fun i x => x = rk_i (rk_f (i + 1))) (n - 1) 0 1 (by omega) rfl (fun fu x h => ?_) (fun fu i x hi h hw => ?_)
  · refine pk_lt n (n - 1 + 2) (fun _ => ?_) (fun z => absurd z (by omega))
    rw [h, show n - 1 + 1 = n by omega]
    refine pk_loop (fun fu i (s : Int32 × Int32 × (Nat → Int32) × (Nat → Int32) × (Nat → Int32) × (Nat → Int32) × (Nat → Int32) × (Nat → Int32) × (Nat → Int32)) => wL_counts_39 post (nI n) (nI k) (nI f) (rk_i (rk_f n)) 0 fu s.1 (nI i) (nI n) s.2.1 a1 a2 s.2.2.1 s.2.2.2.1 s.2.2.2.2.1 s.2.2.2.2.2.1 a7 a8 s.2.2.2.2.2.2.1 s.2.2.2.2.2.2.2.1 s.2.2.2.2.2.2.2.2) (fun i s => s.1 = rk_i (rk_s i (fun k => rk_H n b k))) (n + 1) 0 (0, tr, a3, a4, a5, a6, a9, a10, a11) (by omega) rfl
      (fun fu s h => ?_) (fun fu i s hi h hw => ?_)
    · refine pk_lt n (n + 1) (fun _ => ?_) (fun z => absurd z (by omega))
      rw [h, rk_H_sum hn]
      exact rk_c82 hP hk hf H
    · have hf6 := hf.2.2
      refine pk_lt n i (fun z => absurd z (by omega)) (fun _ => rk_hits hP (by omega) (fun tr a3 a4 a5 a6 a9 a10 a11 => nm_r (e' := rk_i (rk_s (i + 1) (fun k => rk_H n b k))) (by rw [h, rk_s_S, rk_i_add]) (pk_le i f (fun y => nm_r (nI_1 i) (hw (_, tr, a3, a4, a5, a6, a9, a10, a11) rfl)) (fun y => rk_rooks hP (by omega) (fun tr a3 a4 a5 a6 a9 a10 a11 => br_t ?_ (nm_r (nI_1 i) (hw (_, tr, a3, a4, a5, a6, a9, a10, a11) rfl)))))))
      rw [hf.2.1 i y, rk_i_0]
  · refine pk_lt n (i + 2) (fun z => absurd z (by omega)) (fun _ => nm_r (e' := rk_i (rk_f (i + 2))) ?_ (nm_r (nI_1 (i + 2)) (hw _ rfl)))
    rw [h, rk_f.eq_2 (i + 1), rk_i_mul, rk_i_nI]
end
section
theorem rk_mk_cg {f g : Nat → Bool} : ∀ {n : Nat}, (∀ c, c < n → f c = g c) → rk_mk n f = rk_mk n g
  | 0, _ => rfl
  | n + 1, h => by
    rw [rk_mk, rk_mk, rk_mk_cg (fun c hc => h c (by omega)), h n (by omega)]
theorem rk_P_cg {n : Nat} {b b' : Nat → Nat → Bool} {w w' : Nat → Nat → Int32} {a1 a2 a7 a8 : Nat → Int32} (hP : rk_P n b w a1 a2 a7 a8) (hb : ∀ r c, r < n → c < n → b r c = b' r c) (hw : ∀ r c, r < n → c < n → w r c = w' r c) : rk_P n b' w' a1 a2 a7 a8 := by
  obtain ⟨hn1, hn, h1, h2, h7, h8⟩ := hP
  exact ⟨hn1, hn, fun r hr => by rw [h1 r hr, rk_mk_cg (hb r · hr)], fun r c hr hc => by rw [h2 r c hr hc, hw r c hr hc], h7, h8⟩
/-- one place of a row set -/
def rk_fu (f : Nat → Bool) (c : Nat) (v : Bool) : Nat → Bool := fun j => if j = c then v else f j
theorem rk_mset0 {n : Nat} (hn : n ≤ 6) (f : Nat → Bool) {c : Nat} (hc : c < n) : (nI (rk_mk n f) &&& (nI (2 ^ c) ^^^ (-1))).toInt8.toInt32 = nI (rk_mk n (rk_fu f c false)) := by
  have m64 := rk_mk_64 hn f
  have e : rk_mk n f &&& (63 ^^^ 2 ^ c) = rk_mk n (rk_fu f c false) := by
    refine rk_ext (rk_an_64 m64 _) (rk_mk_64 hn _) (fun d hd => ?_)
    rw [rk_an_tb m64, rk_mk_tb, rk_mk_tb, Nat.testBit_two_pow, rk_fu]
    by_cases e : c = d
    · subst e; simp
    · simp [e, show ¬ d = c from fun z => e z.symm]
  rw [rk_t2 _ m64 _ (rk_p64 c (by omega)), e, rk_t6 _ (by have := rk_mk_64 hn (rk_fu f c false); omega)]
theorem rk_mset1 {n : Nat} (hn : n ≤ 6) (f : Nat → Bool) {c : Nat} (hc : c < n) : (nI (rk_mk n f) ||| nI (2 ^ c)).toInt8.toInt32 = nI (rk_mk n (rk_fu f c true)) := by
  have m64 := rk_mk_64 hn f
  have e : rk_mk n f ||| 2 ^ c = rk_mk n (rk_fu f c true) := by
    refine rk_ext (rk_or_64 m64 (by omega)) (rk_mk_64 hn _) (fun d hd => ?_)
    rw [rk_or_tb, rk_u, rk_mk_tb, rk_mk_tb, rk_fu]
    by_cases e : d = c
    · subst e; simp [hc]
    · simp [e]
  rw [rk_t4 _ m64 c (by omega), e, rk_t6 _ (by have := rk_mk_64 hn (rk_fu f c true); omega)]
theorem rk_mco {n : Nat} (hn : n ≤ 6) (f : Nat → Bool) : ((((1 : Int32) <<< (nI n &&& 31)) - 1) &&& (nI (rk_mk n f) ^^^ (-1))).toInt8.toInt32 = nI (rk_mk n (fun c => !f c)) := by
  have h64 := rk_p6 n (by omega)
  have hp := Nat.two_pow_pos n
  have m64 := rk_mk_64 hn f
  have e1 : ((1 : Int32) <<< (nI n &&& 31)) - 1 = nI (2 ^ n - 1) := by
    rw [rk_t3 n (by omega), show (1 : Int32) = nI 1 from rfl, pk_sub (by omega)]
  have e : (2 ^ n - 1) &&& (63 ^^^ rk_mk n f) = rk_mk n (fun c => !f c) := by
    refine rk_ext (rk_an_64 (by omega) _) (rk_mk_64 hn _) (fun d hd => ?_)
    rw [rk_an_tb (by omega), rk_mk_tb, rk_mk_tb, (rk_t12 n (by omega) (2 ^ n - 1) (by omega)).mpr rfl d hd]
    cases decide (d < n) <;> simp
  rw [e1, rk_t2 _ (by omega) _ m64, e, rk_t6 _ (by have := rk_mk_64 hn (fun c => !f c); omega)]
theorem rk_ix6 (r c : Nat) : 6 * nI r + nI c = nI (6 * r + c) := by
  rw [show (6 : Int32) = nI 6 from rfl, pk_mul, nI_add]
theorem rk_sw_i (i j : Nat) : rk_sw i j i = j := by simp [rk_sw]
theorem rk_sw_j (i j : Nat) : rk_sw i j j = i := by
  unfold rk_sw
  by_cases e : j = i
  · rw [if_pos e, e]
  · rw [if_neg e, if_pos rfl]
theorem rk_sw_o {i j r : Nat} (h1 : r ≠ i) (h2 : r ≠ j) : rk_sw i j r = r := by
  unfold rk_sw
  rw [if_neg h1, if_neg h2]
theorem rk_exchange {post : Int32 → St2 → Prop} {n i j : Nat} {b : Nat → Nat → Bool} {w : Nat → Nat → Int32} {tr : Int32} {a1 a2 a3 a4 a5 a6 a7 a8 a9 a10 a11 : Nat → Int32} (hP : rk_P n b w a1 a2 a7 a8) (hi : i < n) (hj : j < n)
    (H : ∀ f1 f2 : Nat → Int32, rk_P n (fun r c => b (rk_sw i j r) c) (fun r c => w (rk_sw i j r) c) f1 f2 a7 a8 → post 0 (nI n, tr, f1, f2, a3, a4, a5, a6, a7, a8, a9, a10, a11)) : wpX_exchange post (nI n, tr, a1, a2, a3, a4, a5, a6, a7, a8, a9, a10, a11) (nI i) (nI j) := by
  obtain ⟨hn1, hn, h1, h2, h7, h8⟩ := hP
  have mi := rk_mk_64 hn (b i)
  have mj := rk_mk_64 hn (b j)
  unfold wpX_exchange
  refine br_f (nI_pos (by omega)) (br_f (nI_ge hi (by omega)) (br_f (nI_pos (by omega)) (br_t (nI_lt hj (by omega)) ⟨pk_in i 6 (by omega), nm_r (e' := nI (rk_mk n (b i))) (by rw [nI_clamp (by omega), h1 i hi]) ⟨pk_in j 6 (by omega), pk_in i 6 (by omega), nm_r (e' := upd a1 i (nI (rk_mk n (b j)))) (by rw [nI_clamp (by omega), nI_clamp (by omega), h1 j hj, rk_nar (by omega)]) ⟨pk_in j 6 (by omega), nm_r (e' := upd (upd a1 i (nI (rk_mk n (b j)))) j (nI (rk_mk n (b i)))) (by rw [nI_clamp (by omega), rk_nar (by omega)]) ?_⟩⟩⟩)))
  refine pk_loop (fun fu c f => wX_exchange_55 post (nI i) (nI j) (nI n) tr fu (nI c) (upd (upd a1 i (nI (rk_mk n (b j)))) j (nI (rk_mk n (b i)))) f a3 a4 a5 a6 a7 a8 a9 a10 a11) (fun c f => ∀ r d, r < n → d < n → f (6 * r + d) = if d < c then w (rk_sw i j r) d else w r d) n 0 a2 (by omega) (fun r d hr hd => by rw [if_neg (by omega)]; exact h2 r d hr hd)
    (fun fu f h => ?_) (fun fu c f hc h hw => ?_)
  · refine pk_le n n (fun _ => H _ f ⟨hn1, hn, fun r hr => ?_, fun r d hr hd => ?_, h7, h8⟩) (fun z => absurd z (by omega))
    · show upd (upd a1 i (nI (rk_mk n (b j)))) j (nI (rk_mk n (b i))) r = nI (rk_mk n (b (rk_sw i j r)))
      by_cases e1 : r = j
      · rw [e1, pk_us, rk_sw_j]
      · rw [pk_un e1]
        by_cases e2 : r = i
        · rw [e2, pk_us, rk_sw_i]
        · rw [pk_un e2, rk_sw_o e2 e1]
          exact h1 r hr
    · rw [h r d hr hd, if_pos hd]
  · have hri := h i c hi hc
    have hrj := h j c hj hc
    rw [if_neg (by omega)] at hri hrj
    refine pk_le n c (fun z => absurd z (by omega)) (fun _ => ⟨pk_in (6 * i + c) 36 (by omega) (rk_ix6 i c), nm_r (e' := w i c) (by rw [rk_ix6, nI_clamp (by omega), hri]) ⟨pk_in (6 * j + c) 36 (by omega) (rk_ix6 j c), pk_in (6 * i + c) 36 (by omega) (rk_ix6 i c), nm_r (e' := upd f (6 * i + c) (w j c)) (by rw [rk_ix6, rk_ix6, nI_clamp (by omega), nI_clamp (by omega), hrj]) ⟨pk_in (6 * j + c) 36 (by omega) (rk_ix6 j c), nm_r (e' := upd (upd f (6 * i + c) (w j c)) (6 * j + c) (w i c)) (by rw [rk_ix6, nI_clamp (by omega)]) (nm_r (nI_1 c) (hw _ (fun r d hr hd => ?_)))⟩⟩⟩)
    by_cases ed : d = c
    · rw [if_pos (by omega), ed]
      by_cases e1 : r = j
      · rw [e1, pk_us, rk_sw_j]
      · rw [pk_un (by omega)]
        by_cases e2 : r = i
        · rw [e2, pk_us, rk_sw_i]
        · rw [pk_un (by omega), rk_sw_o e2 e1, h r c hr hc, if_neg (by omega)]
    · rw [pk_un (by omega), pk_un (by omega), h r d hr hd]
      by_cases z : d < c
      · rw [if_pos z, if_pos (by omega)]
      · rw [if_neg z, if_neg (by omega)]
theorem rk_complement {post : Int32 → St2 → Prop} {n : Nat} {b : Nat → Nat → Bool} {w : Nat → Nat → Int32} {tr : Int32} {a1 a2 a3 a4 a5 a6 a7 a8 a9 a10 a11 : Nat → Int32} (hP : rk_P n b w a1 a2 a7 a8)
    (H : ∀ f1 : Nat → Int32, rk_P n (fun r c => !b r c) w f1 a2 a7 a8 → post (rk_i (rk_ce n (fun r c => !b r c) n)) (nI n, tr, f1, a2, a3, a4, a5, a6, a7, a8, a9, a10, a11)) : wpX_complement post (nI n, tr, a1, a2, a3, a4, a5, a6, a7, a8, a9, a10, a11) := by
  obtain ⟨hn1, hn, h1, h2, h7, h8⟩ := hP
  refine pk_loop (fun fu i f => wX_complement_2 post (nI n) tr fu (nI i) f a2 a3 a4 a5 a6 a7 a8 a9 a10 a11) (fun i f => (∀ r, r < i → f r = nI (rk_mk n (fun c => !b r c))) ∧ ∀ r, i ≤ r → r < n → f r = nI (rk_mk n (b r))) n 0 a1 (by omega) ⟨fun r hr => absurd hr (by omega), fun r _ hr => h1 r hr⟩
    (fun fu f h => ?_) (fun fu i f hi h hw => ?_)
  · refine pk_le n n (fun _ => ?_) (fun z => absurd z (by omega))
    exact rk_cells (b := fun r c => !b r c) hn h.1 (H f ⟨hn1, hn, h.1, h2, h7, h8⟩)
  · refine pk_le n i (fun z => absurd z (by omega)) (fun _ => ⟨pk_in i 6 (by omega), pk_in i 6 (by omega), nm_r (e' := upd f i (nI (rk_mk n (fun c => !b i c)))) ?_ (nm_r (nI_1 i) (hw _ ⟨fun r hr => ?_, fun r hr hr2 => ?_⟩))⟩)
    · rw [nI_clamp (by omega), h.2 i (by omega) hi, rk_mco hn]
    · by_cases e : r = i
      · rw [e, pk_us]
      · rw [pk_un e]
        exact h.1 r (by omega)
    · rw [pk_un (by omega)]
      exact h.2 r (by omega) hr2
theorem rk_weight {post : Int32 → St2 → Prop} {n r c : Nat} {b : Nat → Nat → Bool} {w : Nat → Nat → Int32} {x tr : Int32} {a1 a2 a3 a4 a5 a6 a7 a8 a9 a10 a11 : Nat → Int32} (hP : rk_P n b w a1 a2 a7 a8) (hr : r < n) (hc : c < n)
    (H : ∀ (v : Int32) (w' : Nat → Nat → Int32) (f2 : Nat → Int32), rk_P n b w' a1 f2 a7 a8 → post v (nI n, tr, a1, f2, a3, a4, a5, a6, a7, a8, a9, a10, a11)) : wpX_weight post (nI n, tr, a1, a2, a3, a4, a5, a6, a7, a8, a9, a10, a11) (nI (6 * r + c)) x := by
  obtain ⟨hn1, hn, h1, h2, h7, h8⟩ := hP
  unfold wpX_weight
  refine rk_badCell0 hn (by omega) (by omega) (by omega) (br_t rfl ⟨pk_in (6 * r + c) 36 (by omega), nm_r (by rw [nI_clamp (by omega)]) (H 0 (fun i j => if i = r ∧ j = c then x else w i j) _ ⟨hn1, hn, h1, fun i j hi hj => ?_, h7, h8⟩)⟩)
  show _ = if i = r ∧ j = c then x else w i j
  by_cases e : i = r ∧ j = c
  · rw [if_pos e, e.1, e.2, pk_us]
  · rw [if_neg e, pk_un (by omega)]
    exact h2 i j hi hj
theorem rk_set {post : Int32 → St2 → Prop} {n r c : Nat} {b : Nat → Nat → Bool} {w : Nat → Nat → Int32} {x tr : Int32} {a1 a2 a3 a4 a5 a6 a7 a8 a9 a10 a11 : Nat → Int32} (hP : rk_P n b w a1 a2 a7 a8) (hr : r < n) (hc : c < n)
    (H : ∀ (v : Int32) (b' : Nat → Nat → Bool) (f1 : Nat → Int32), rk_P n b' w f1 a2 a7 a8 → post v (nI n, tr, f1, a2, a3, a4, a5, a6, a7, a8, a9, a10, a11)) : wpX_set post (nI n, tr, a1, a2, a3, a4, a5, a6, a7, a8, a9, a10, a11) (nI (6 * r + c)) x := by
  obtain ⟨hn1, hn, h1, h2, h7, h8⟩ := hP
  have e1 : nI (6 * r + c) / 6 = nI r := by rw [rk_div6 (by omega)]; congr 1; omega
  have e2 : (1 : Int32) <<< ((nI (6 * r + c) - nI (6 * r + c) / 6 * 6) &&& 31) = nI (2 ^ c) := by
    rw [rk_rem6 (by omega), show (6 * r + c) % 6 = c by omega, rk_t3 c (by omega)]
  have go : ∀ v, rk_P n (fun i => if i = r then rk_fu (b r) c v else b i) w (upd a1 r (nI (rk_mk n (rk_fu (b r) c v)))) a2 a7 a8 := by
    intro v
    refine ⟨hn1, hn, fun i hi => ?_, h2, h7, h8⟩
    show _ = nI (rk_mk n (if i = r then rk_fu (b r) c v else b i))
    by_cases e : i = r
    · rw [e, pk_us, if_pos rfl]
    · rw [pk_un e, if_neg e]
      exact h1 i hi
  have go2 : ∀ v, wX_set_40 post x (nI r) (nI (2 ^ c)) v (nI n) tr a1 a2 a3 a4 a5 a6 a7 a8 a9 a10 a11 := by
    intro v
    refine br_c (fun _ => ⟨pk_in r 6 (by omega), pk_in r 6 (by omega), nm_r ?_ (H v _ _ (go false))⟩) (fun _ => ⟨pk_in r 6 (by omega), pk_in r 6 (by omega), nm_r ?_ (H v _ _ (go true))⟩)
    · rw [nI_clamp (by omega), h1 r hr, rk_mset0 hn _ hc]
    · rw [nI_clamp (by omega), h1 r hr, rk_mset1 hn _ hc]
  unfold wpX_set
  exact rk_badCell0 hn (by omega) (by omega) (by omega) (br_t rfl ⟨by decide, nm_r e1 ⟨by decide, nm_r e2 ⟨pk_in r 6 (by omega), br_c (fun _ => go2 0) (fun _ => go2 1)⟩⟩⟩)
end
section
/-- the places below k have changed sides -/
def rk_tk {α : Type} (k : Nat) (b : Nat → Nat → α) : Nat → Nat → α := fun i j => if 6 * min i j + max i j < k then b j i else b i j
theorem rk_tk_s {α : Type} (b : Nat → Nat → α) {n r c i j : Nat} (hn : n ≤ 6) (hrc : r < c) (hc : c < n) (hi : i < n) (hj : j < n) : rk_tk (6 * r + c + 1) b i j = if (i = r ∧ j = c) ∨ (i = c ∧ j = r) then rk_tk (6 * r + c) b j i else rk_tk (6 * r + c) b i j := by
  unfold rk_tk
  by_cases e : (i = r ∧ j = c) ∨ (i = c ∧ j = r)
  · rw [if_pos e, if_pos (by omega), if_neg (by omega)]
  · rw [if_neg e]
    by_cases z : 6 * min i j + max i j < 6 * r + c
    · rw [if_pos z, if_pos (by omega)]
    · rw [if_neg z, if_neg (by omega)]
theorem rk_tk_n {α : Type} (b : Nat → Nat → α) {n k i j : Nat} (hn : n ≤ 6) (h : ¬ (k / 6 < k % 6 ∧ k % 6 < n)) (hi : i < n) (hj : j < n) : rk_tk k b i j = rk_tk (k + 1) b i j := by
  unfold rk_tk
  by_cases z : 6 * min i j + max i j < k
  · rw [if_pos z, if_pos (by omega)]
  · rw [if_neg z]
    by_cases y : 6 * min i j + max i j < k + 1
    · rw [if_pos y, show i = j by omega]
    · rw [if_neg y]
theorem rk_t146 {post : Int32 → St2 → Prop} {J : Int32 → (Nat → Int32) → (Nat → Int32) → (Nat → Int32) → (Nat → Int32) → (Nat → Int32) → (Nat → Int32) → (Nat → Int32) → (Nat → Int32) → (Nat → Int32) → (Nat → Int32) → (Nat → Int32) → Prop} {n r c : Nat} {b : Nat → Nat → Bool} {x1 z tr : Int32} {a1 a2 a3 a4 a5 a6 a7 a8 a9 a10 a11 : Nat → Int32} (hn : n ≤ 6) (hrc : r < c) (hc : c < n) (h1 : ∀ r, r < n → a1 r = nI (rk_mk n (b r))) (hz : z.toInt8.toInt32 = nI (rk_mk n (rk_fu (b r) c (b c r))))
    (H : ∀ f : Nat → Int32, (∀ i, i < n → f i = nI (rk_mk n (fun j => if (i = r ∧ j = c) ∨ (i = c ∧ j = r) then b j i else b i j))) → J (x1 + 1) f a2 a3 a4 a5 a6 a7 a8 a9 a10 a11) : wX_turn_146 post J x1 (nI r) (nI c) (if b r c then 1 else 0) z (nI r) (nI n) tr a1 a2 a3 a4 a5 a6 a7 a8 a9 a10 a11 := by
  have go : ∀ i, i < n → upd (upd a1 r (nI (rk_mk n (rk_fu (b r) c (b c r))))) c (nI (rk_mk n (rk_fu (b c) r (b r c)))) i = nI (rk_mk n (fun j => if (i = r ∧ j = c) ∨ (i = c ∧ j = r) then b j i else b i j)) := by
    intro i hi
    by_cases e1 : i = c
    · rw [e1, pk_us]
      congr 1
      refine rk_mk_cg (fun j hj => ?_)
      unfold rk_fu
      by_cases e2 : j = r
      · rw [if_pos e2, if_pos (Or.inr ⟨rfl, e2⟩), e2]
      · rw [if_neg e2, if_neg (by omega)]
    · rw [pk_un e1]
      by_cases e3 : i = r
      · rw [e3, pk_us]
        congr 1
        refine rk_mk_cg (fun j hj => ?_)
        unfold rk_fu
        by_cases e2 : j = c
        · rw [if_pos e2, if_pos (Or.inl ⟨rfl, e2⟩), e2]
        · rw [if_neg e2, if_neg (by omega)]
      · rw [pk_un e3, h1 i hi]
        congr 1
        refine rk_mk_cg (fun j hj => ?_)
        rw [if_neg (by omega)]
  have ec : upd a1 r (nI (rk_mk n (rk_fu (b r) c (b c r)))) c = nI (rk_mk n (b c)) := by rw [pk_un (by omega), h1 c hc]
  unfold wX_turn_146
  refine ⟨pk_in r 6 (by omega), nm_r (e' := upd a1 r (nI (rk_mk n (rk_fu (b r) c (b c r))))) (by rw [nI_clamp (by omega), hz]) ?_⟩
  rw [nI_clamp (show c < 2 ^ 31 by omega), ec, rk_t3 r (by omega), rk_mset0 hn _ (by omega), rk_mset1 hn _ (by omega)]
  cases e : b r c
  · rw [e] at go
    exact br_t rfl ⟨pk_in c 6 (by omega), pk_in c 6 (by omega), nm_e (nm_e (H _ go))⟩
  · rw [e] at go
    exact br_f (by decide) ⟨pk_in c 6 (by omega), pk_in c 6 (by omega), nm_e (nm_e (H _ go))⟩
theorem rk_t88 {post : Int32 → St2 → Prop} {J : Int32 → (Nat → Int32) → (Nat → Int32) → (Nat → Int32) → (Nat → Int32) → (Nat → Int32) → (Nat → Int32) → (Nat → Int32) → (Nat → Int32) → (Nat → Int32) → (Nat → Int32) → (Nat → Int32) → Prop} {n r c : Nat} {b : Nat → Nat → Bool} {x1 tr : Int32} {a1 a2 a3 a4 a5 a6 a7 a8 a9 a10 a11 : Nat → Int32} (hn : n ≤ 6) (hrc : r < c) (hc : c < n) (h1 : ∀ r, r < n → a1 r = nI (rk_mk n (b r)))
    (H : ∀ f : Nat → Int32, (∀ i, i < n → f i = nI (rk_mk n (fun j => if (i = r ∧ j = c) ∨ (i = c ∧ j = r) then b j i else b i j))) → J (x1 + 1) f a2 a3 a4 a5 a6 a7 a8 a9 a10 a11) : wX_turn_88 post J x1 (nI r) (nI c) (if b r c then 1 else 0) (nI n) tr a1 a2 a3 a4 a5 a6 a7 a8 a9 a10 a11 := by
  unfold wX_turn_88
  refine ⟨pk_in c 6 (by omega), ?_⟩
  rw [nI_clamp (show c < 2 ^ 31 by omega), h1 c hc, rk_t1 _ (rk_mk_64 hn _) r (by omega), rk_mk_tb, show decide (r < n) = true by simp; omega, Bool.true_and]
  cases e : b c r
  · refine br_f (by decide) (br_t rfl ⟨pk_in r 6 (by omega), rk_t146 hn hrc hc h1 ?_ H⟩)
    rw [nI_clamp (by omega), h1 r (by omega), rk_t3 c (by omega), rk_mset0 hn _ hc, e]
  · refine br_t rfl (br_f (by decide) ⟨pk_in r 6 (by omega), rk_t146 hn hrc hc h1 ?_ H⟩)
    rw [nI_clamp (by omega), h1 r (by omega), rk_t3 c (by omega), rk_mset1 hn _ hc, e]
theorem rk_turn {post : Int32 → St2 → Prop} {n : Nat} {b : Nat → Nat → Bool} {w : Nat → Nat → Int32} {tr : Int32} {a1 a2 a3 a4 a5 a6 a7 a8 a9 a10 a11 : Nat → Int32} (hP : rk_P n b w a1 a2 a7 a8)
    (H : ∀ f1 f2 : Nat → Int32, rk_P n (fun r c => b c r) (fun r c => w c r) f1 f2 a7 a8 → post 0 (nI n, tr, f1, f2, a3, a4, a5, a6, a7, a8, a9, a10, a11)) : wpX_turn post (nI n, tr, a1, a2, a3, a4, a5, a6, a7, a8, a9, a10, a11) := by
  have hn := hP.2.1
  refine pk_loop (fun fu k (s : (Nat → Int32) × (Nat → Int32)) => wX_turn_2 post (nI n) tr fu (nI k) s.1 s.2 a3 a4 a5 a6 a7 a8 a9 a10 a11) (fun k s => rk_P n (rk_tk k b) (rk_tk k w) s.1 s.2 a7 a8) 36 0 (a1, a2) (by omega) (rk_P_cg hP (fun r c _ _ => by unfold rk_tk; rw [if_neg (by omega)]) (fun r c _ _ => by unfold rk_tk; rw [if_neg (by omega)]))
    (fun fu s h => pk_le 36 36 (fun _ => H s.1 s.2 (rk_P_cg h (fun r c hr hc => by unfold rk_tk; rw [if_pos (by omega)]) (fun r c hr hc => by unfold rk_tk; rw [if_pos (by omega)]))) (fun z => absurd z (by omega)))
    (fun fu k s hk h hw => pk_le 36 k (fun z => absurd z (by omega)) (fun _ => ⟨by decide, nm_r (rk_div6 (by omega)) ⟨by decide, nm_r (rk_rem6 (by omega)) (pk_le (k % 6) (k / 6) (fun y => nm_r (nI_1 k) (hw s (rk_P_cg h (fun r c hr hc => rk_tk_n b hn (by omega) hr hc) (fun r c hr hc => rk_tk_n w hn (by omega) hr hc)))) (fun y => pk_le n (k % 6) (fun x => nm_r (nI_1 k) (hw s (rk_P_cg h (fun r c hr hc => rk_tk_n b hn (by omega) hr hc) (fun r c hr hc => rk_tk_n w hn (by omega) hr hc)))) (fun x => ?_)))⟩⟩))
  obtain ⟨hn1, _, h1, h2, h7, h8⟩ := h
  have ek : 6 * (k / 6) + k % 6 = k := by omega
  have e1 : s.2 k = rk_tk k w (k / 6) (k % 6) := by
    have := h2 (k / 6) (k % 6) (by omega) x
    rw [ek] at this
    exact this
  have e2 := h2 (k % 6) (k / 6) x (by omega)
  refine ⟨pk_in k 36 hk, nm_r (e' := rk_tk k w (k / 6) (k % 6)) (by rw [nI_clamp (by omega), e1]) ⟨pk_in (6 * (k % 6) + k / 6) 36 (by omega) (rk_ix6 _ _), pk_in k 36 hk, nm_r (e' := upd s.2 k (rk_tk k w (k % 6) (k / 6))) (by rw [rk_ix6, nI_clamp (by omega), nI_clamp (by omega), e2]) ⟨pk_in (6 * (k % 6) + k / 6) 36 (by omega) (rk_ix6 _ _), nm_r (e' := upd (upd s.2 k (rk_tk k w (k % 6) (k / 6))) (6 * (k % 6) + k / 6) (rk_tk k w (k / 6) (k % 6))) (by rw [rk_ix6, nI_clamp (by omega)]) ⟨pk_in (k / 6) 6 (by omega), ?_⟩⟩⟩⟩
  have go : ∀ f : Nat → Int32, (∀ i, i < n → f i = nI (rk_mk n (fun j => if (i = k / 6 ∧ j = k % 6) ∨ (i = k % 6 ∧ j = k / 6) then rk_tk k b j i else rk_tk k b i j))) → wX_turn_2 post (nI n) tr fu (nI k + 1) f (upd (upd s.2 k (rk_tk k w (k % 6) (k / 6))) (6 * (k % 6) + k / 6) (rk_tk k w (k / 6) (k % 6))) a3 a4 a5 a6 a7 a8 a9 a10 a11 := by
    intro f hf
    rw [nI_1]
    refine hw (f, upd (upd s.2 k (rk_tk k w (k % 6) (k / 6))) (6 * (k % 6) + k / 6) (rk_tk k w (k / 6) (k % 6))) ⟨hn1, hn, fun i hi => ?_, fun i j hi hj => ?_, h7, h8⟩
    · show f i = _
      rw [hf i hi]
      congr 1
      refine rk_mk_cg (fun j hj => ?_)
      have := rk_tk_s b hn y x hi hj
      rw [ek] at this
      exact this.symm
    · have := rk_tk_s w hn y x hi hj
      rw [ek] at this
      show (upd (upd s.2 k (rk_tk k w (k % 6) (k / 6))) (6 * (k % 6) + k / 6) (rk_tk k w (k / 6) (k % 6))) (6 * i + j) = _
      rw [this]
      by_cases q1 : i = k % 6 ∧ j = k / 6
      · rw [if_pos (Or.inr q1), q1.1, q1.2, pk_us]
      · by_cases q2 : i = k / 6 ∧ j = k % 6
        · rw [if_pos (Or.inl q2), q2.1, q2.2, pk_un (by omega), ek, pk_us]
        · rw [if_neg (by omega), pk_un (by omega), pk_un (by omega)]
          exact h2 i j hi hj
  have t := rk_t88 (post := post) (J := wX_turn_2 post (nI n) tr fu) (x1 := nI k) (tr := tr) (a2 := upd (upd s.2 k (rk_tk k w (k % 6) (k / 6))) (6 * (k % 6) + k / 6) (rk_tk k w (k / 6) (k % 6))) hn y x h1 go
  rw [nI_clamp (by omega), h1 (k / 6) (by omega), rk_t1 _ (rk_mk_64 hn _) (k % 6) (by omega), rk_mk_tb, show decide (k % 6 < n) = true by simp; omega, Bool.true_and]
  cases e : rk_tk k b (k / 6) (k % 6)
  · rw [e] at t
    exact br_f (by decide) t
  · rw [e] at t
    exact br_t rfl t
end
section
theorem rk_s_sw (f : Nat → Int) {n i j : Nat} (hi : i < n) (hj : j < n) : rk_s n (fun r => f (rk_sw i j r)) = rk_s n f := by
  by_cases e : i = j
  · subst e
    refine rk_s_congr (fun r _ => ?_)
    by_cases z : r = i
    · rw [z, rk_sw_i]
    · rw [rk_sw_o z z]
  · rw [rk_s_one (r0 := i) (f := f) (g := fun r => if r = i then 0 else f r) (by simp) hi (fun r _ hr => by rw [if_neg hr])]
    rw [rk_s_one (r0 := j) (f := fun r => if r = i then 0 else f r) (g := fun r => if r = i ∨ r = j then 0 else f r) (by simp) hj (fun r _ hr => by simp [hr])]
    rw [rk_s_one (r0 := i) (f := fun r => f (rk_sw i j r)) (g := fun r => if r = i then 0 else f (rk_sw i j r)) (by simp) hi (fun r _ hr => by rw [if_neg hr])]
    rw [rk_s_one (r0 := j) (f := fun r => if r = i then 0 else f (rk_sw i j r)) (g := fun r => if r = i ∨ r = j then 0 else f r) (by simp) hj (fun r _ hr => by
      by_cases z : r = i
      · simp [z]
      · simp [z, hr, rk_sw_o z hr])]
    rw [rk_sw_i, rk_sw_j, if_neg (fun z => e z.symm), if_neg (fun z => e z.symm)]
    omega
theorem rk_ce_tr (n : Nat) (b : Nat → Nat → Bool) : rk_ce n (fun r c => b c r) n = rk_ce n b n := rk_s_swap (fun r c => rk_b b c r) n n
theorem rk_ce_sw (b : Nat → Nat → Bool) {n i j : Nat} (hi : i < n) (hj : j < n) : rk_ce n (fun r c => b (rk_sw i j r) c) n = rk_ce n b n :=
  rk_s_sw (fun r => rk_s n (fun c => rk_b b r c)) hi hj
theorem rk_ce_co (n : Nat) (b : Nat → Nat → Bool) : rk_ce n (fun r c => !b r c) n = (n : Int) * n - rk_ce n b n := by
  have h : rk_ce n (fun r c => !b r c) n + rk_ce n b n = (n : Int) * n := by
    unfold rk_ce
    rw [← rk_s_add, rk_s_congr (g := fun _ => (n : Int)) (fun r _ => ?_), rk_s_const]
    rw [← rk_s_add, rk_s_congr (g := fun _ => (1 : Int)) (fun c _ => ?_), rk_s_const, Int.mul_one]
    unfold rk_b
    cases e : b r c <;> simp [e]
  omega
theorem rk_Su_tr {n : Nat} (hn : n ≤ 6) (b : Nat → Nat → Bool) (w : Nat → Nat → Int32) (k : Nat) : rk_Su n (fun r c => b c r) (fun r c => w c r) k = rk_Su n b w k := (rk_tr1 hn (rk_mw b w) k).symm
theorem rk_De_tr {n : Nat} (hn : n ≤ 6) (b : Nat → Nat → Bool) (w : Nat → Nat → Int32) : rk_De n (fun r c => b c r) (fun r c => w c r) = rk_De n b w := (rk_tr2 hn (rk_mw b w)).symm
theorem rk_mw_ii (b : Nat → Nat → Bool) (w : Nat → Nat → Int32) (i r c : Nat) : rk_mw (fun r c => b (rk_sw i i r) c) (fun r c => w (rk_sw i i r) c) r c = rk_mw b w r c := by
  have e : rk_sw i i r = r := by
    by_cases z : r = i
    · rw [z, rk_sw_i]
    · rw [rk_sw_o z z]
  show rk_mw b w (rk_sw i i r) c = _
  rw [e]
theorem rk_Su_sw {n : Nat} (hn : n ≤ 6) (b : Nat → Nat → Bool) (w : Nat → Nat → Int32) (k : Nat) {i j : Nat} (hi : i < n) (hj : j < n) : rk_Su n (fun r c => b (rk_sw i j r) c) (fun r c => w (rk_sw i j r) c) k = rk_Su n b w k := by
  by_cases h : i = j
  · subst h
    exact rk_V_w (fun r _ _ c _ => rk_mw_ii b w i r c) rk_0 (Nat.le_refl n)
  · have := rk_V_sw (s := 1) (dl := 1) (by decide) (Or.inl rfl) hn (rk_mw b w) (rk_g k) hi hj h rk_0
    rw [Int.one_mul] at this
    exact this
theorem rk_De_ii {n : Nat} (b : Nat → Nat → Bool) (w : Nat → Nat → Int32) (i : Nat) : rk_De n (fun r c => b (rk_sw i i r) c) (fun r c => w (rk_sw i i r) c) = rk_De n b w :=
  rk_V_w (fun r _ _ c _ => rk_mw_ii b w i r c) rk_0 (Nat.le_refl n)
theorem rk_De_sw {n : Nat} (hn : n ≤ 6) (b : Nat → Nat → Bool) (w : Nat → Nat → Int32) {i j : Nat} (hi : i < n) (hj : j < n) (h : i ≠ j) : rk_De n (fun r c => b (rk_sw i j r) c) (fun r c => w (rk_sw i j r) c) = -rk_De n b w := by
  have := rk_V_sw (s := -1) (dl := 0) (by decide) (Or.inr rfl) hn (rk_mw b w) (rk_g n) hi hj h rk_0
  rw [Int.neg_mul, Int.one_mul] at this
  exact this
theorem rk_dg_cg {n : Nat} {b b' : Nat → Nat → Bool} {w w' : Nat → Nat → Int32} (hc : rk_ce n b n = rk_ce n b' n) (hR : ∀ k, rk_R n b k = rk_R n b' k) (hS : ∀ k, rk_Su n b w k = rk_Su n b' w' k) : ∀ i, rk_dg n b w i = rk_dg n b' w' i
  | 0 => by rw [rk_dg, rk_dg, hc]
  | i + 1 => by rw [rk_dg, rk_dg, rk_dg_cg hc hR hS i, hR, hS, rk_H_cg hR]
theorem rk_dg_tr {n : Nat} (hn : n ≤ 6) (b : Nat → Nat → Bool) (w : Nat → Nat → Int32) (i : Nat) : rk_dg n (fun r c => b c r) (fun r c => w c r) i = rk_dg n b w i :=
  rk_dg_cg (rk_ce_tr n b) (rk_R_tr hn b) (rk_Su_tr hn b w) i
theorem rk_dg_sw {n : Nat} (hn : n ≤ 6) (b : Nat → Nat → Bool) (w : Nat → Nat → Int32) {i j : Nat} (hi : i < n) (hj : j < n) (m : Nat) : rk_dg n (fun r c => b (rk_sw i j r) c) (fun r c => w (rk_sw i j r) c) m = rk_dg n b w m :=
  rk_dg_cg (rk_ce_sw b hi hj) (fun k => rk_R_sw hn b k hi hj) (fun k => rk_Su_sw hn b w k hi hj) m
theorem rk_nd_tr {n : Nat} (hn : n ≤ 6) (b : Nat → Nat → Bool) (k r c : Nat) : rk_nd n (fun r c => b c r) k c r = rk_nd n b k r c := by
  have e : rk_R n (rk_del (fun r c => b c r) c r) k = rk_R n (rk_del b r c) k := by
    rw [← rk_R_tr hn (rk_del b r c) k]
    refine rk_R_cg (fun x y _ _ => ?_) k
    unfold rk_del
    rw [Bool.and_comm (decide (x = c))]
  unfold rk_nd
  rw [e, rk_R_tr hn]
theorem rk_ne_dm (n : Nat) (b : Nat → Nat → Bool) (k : Nat) : rk_ne n b k 36 = rk_s 6 (fun r => rk_s 6 (fun c => if r < n ∧ c < n then rk_nd n b k r c else 0)) :=
  rk_s_dm (fun r c => if r < n ∧ c < n then rk_nd n b k r c else 0) (n := 6) (by omega) 6
theorem rk_ne_tr {n : Nat} (hn : n ≤ 6) (b : Nat → Nat → Bool) (k : Nat) : rk_ne n (fun r c => b c r) k 36 = rk_ne n b k 36 := by
  rw [rk_ne_dm, rk_ne_dm, rk_s_swap]
  refine rk_s_congr (fun r _ => rk_s_congr (fun c _ => ?_))
  rw [rk_nd_tr hn]
  by_cases z : r < n ∧ c < n
  · rw [if_pos z, if_pos ⟨z.2, z.1⟩]
  · rw [if_neg z, if_neg (fun y => z ⟨y.2, y.1⟩)]
theorem rk_sw_sw (i j r : Nat) : rk_sw i j (rk_sw i j r) = r := by
  by_cases e1 : r = i
  · rw [e1, rk_sw_i, rk_sw_j]
  · by_cases e2 : r = j
    · rw [e2, rk_sw_j, rk_sw_i]
    · rw [rk_sw_o e1 e2, rk_sw_o e1 e2]
end
section
theorem rk_ch128 {post : Int32 → St2 → Prop} {n i j k : Nat} {b : Nat → Nat → Bool} {w : Nat → Nat → Int32} {z0 z1 tr : Int32} {a1 a2 a3 a4 a5 a6 a7 a8 a9 a10 a11 : Nat → Int32} (hX : rk_P n (fun r c => b (rk_sw i j r) c) (fun r c => w (rk_sw i j r) c) a1 a2 a7 a8) (hi : i < n) (hj : j < n) (hk : k ≤ n) (hz : z1 = z0)
    (H : ∀ a1 a2 : Nat → Int32, rk_P n b w a1 a2 a7 a8 → rk_sc n a1 a2 a7 a8 post 1) : wL_changes_128 post (nI n) (nI i) (nI j) (nI k) (rk_dg n b w (n + 1)) (rk_i (rk_De n b w)) (rk_i (rk_H n b k)) (rk_i (rk_ce n b n)) z0 z1 (nI n) tr a1 a2 a3 a4 a5 a6 a7 a8 a9 a10 a11 := by
  have hn := hX.2.1
  unfold wL_changes_128
  refine br_t hz (rk_exchange hX hi hj (fun a1 a2 hY => br_t rfl ?_))
  have hP : rk_P n b w a1 a2 a7 a8 := rk_P_cg hY (fun r c _ _ => by rw [rk_sw_sw]) (fun r c _ _ => by rw [rk_sw_sw])
  refine rk_complement hP (fun a1 hC => br_t ?_ ?_)
  · rw [rk_ce_co, rk_i_sub, rk_i_mul, rk_i_nI]
  rw [pk_sub hk]
  refine rk_hits hC (by omega) (fun tr a3 a4 a5 a6 a9 a10 a11 => br_t ?_ (rk_complement hC (fun a1 hD => br_t ?_ ?_)))
  · rw [rk_H_co hn b hk]
  · rw [rk_ce_co, rk_ce_co]
    congr 1
    omega
  have hQ : rk_P n b w a1 a2 a7 a8 := rk_P_cg hD (fun r c _ _ => by simp) (fun r c _ _ => rfl)
  exact rk_digest hQ (fun tr a3 a4 a5 a6 a9 a10 a11 => br_t rfl (rk_signedSum hQ (fun tr a3 a4 a5 a6 a9 a10 a11 => br_t rfl (H _ _ hQ _ _ _ _ _ _ _ _))))
theorem rk_changes {post : Int32 → St2 → Prop} {n i j k : Nat} {b : Nat → Nat → Bool} {w : Nat → Nat → Int32} {tr : Int32} {a1 a2 a3 a4 a5 a6 a7 a8 a9 a10 a11 : Nat → Int32} (hP : rk_P n b w a1 a2 a7 a8) (hi : i < n) (hj : j < n) (hk : k ≤ n)
    (H : ∀ a1 a2 : Nat → Int32, rk_P n b w a1 a2 a7 a8 → rk_sc n a1 a2 a7 a8 post 1) : wpL_changes post (nI n, tr, a1, a2, a3, a4, a5, a6, a7, a8, a9, a10, a11) (nI n) (nI i) (nI j) (nI k) := by
  have hn := hP.2.1
  unfold wpL_changes
  refine rk_digest hP (fun tr a3 a4 a5 a6 a9 a10 a11 => ?_)
  refine rk_signedSum hP (fun tr a3 a4 a5 a6 a9 a10 a11 => ?_)
  refine rk_most hP (fun f hf => fun tr a3 a4 a5 a6 a9 a10 a11 => ?_)
  refine rk_needed hP (fun f' hf' => fun tr a3 a4 a5 a6 a9 a10 a11 => ?_)
  refine rk_hits hP hk (fun tr a3 a4 a5 a6 a9 a10 a11 => ?_)
  refine rk_cells hn hP.2.2.1 ?_
  refine rk_turn hP (fun a1 a2 hT => br_t rfl ?_)
  refine rk_digest hT (fun tr a3 a4 a5 a6 a9 a10 a11 => br_t (rk_dg_tr hn b w _) ?_)
  refine rk_signedSum hT (fun tr a3 a4 a5 a6 a9 a10 a11 => br_t (by rw [rk_De_tr hn]) ?_)
  refine rk_most hT (fun g hg => fun tr a3 a4 a5 a6 a9 a10 a11 => br_t (by rw [rk_mo_u hg hf (rk_R_tr hn b)]) ?_)
  refine rk_needed hT (fun g' hg' => fun tr a3 a4 a5 a6 a9 a10 a11 => br_t (by rw [rk_ne_tr hn, rk_mo_u hg' hf' (rk_R_tr hn b)]) ?_)
  refine rk_turn hT (fun a1 a2 (hQ : rk_P n b w a1 a2 a7 a8) => br_t rfl ?_)
  refine rk_exchange hQ hi hj (fun a1 a2 hX => br_t rfl ?_)
  refine rk_digest hX (fun tr a3 a4 a5 a6 a9 a10 a11 => br_t (rk_dg_sw hn b w hi hj _) ?_)
  refine rk_signedSum hX (fun tr a3 a4 a5 a6 a9 a10 a11 => ?_)
  refine pk_eq i j (fun e => rk_ch128 hX hi hj hk ?_ H) (fun e => rk_ch128 hX hi hj hk ?_ H)
  · subst e
    rw [rk_De_ii]
  · rw [rk_De_sw hn b w hi hj e, rk_i_neg]
end
section
theorem rk_C_gt : ∀ i j, i < j → rk_C i j = 0
  | 0, 0, h => absurd h (by omega)
  | 0, j + 1, _ => rfl
  | i + 1, 0, h => absurd h (by omega)
  | i + 1, j + 1, h => by rw [rk_C, rk_C_gt i j (by omega), rk_C_gt i (j + 1) (by omega)]; rfl
theorem rk_ix7 (r c : Nat) : 7 * nI r + nI c = nI (7 * r + c) := by
  rw [show (7 : Int32) = nI 7 from rfl, pk_mul, nI_add]
/-- the rows of choices below i -/
def rk_ch (i : Nat) (f : Nat → Int32) : Prop := (∀ t k, t < i → k < 7 → f (7 * t + k) = rk_i (rk_C t k)) ∧ (∀ m, 7 * i ≤ m → f m = 0)
theorem rk_in197 {post : St2 → Prop} {mc ms kc ks i : Nat} {J : Int32 → (Nat → Int32) → (Nat → Int32) → (Nat → Int32) → (Nat → Int32) → (Nat → Int32) → (Nat → Int32) → (Nat → Int32) → (Nat → Int32) → (Nat → Int32) → (Nat → Int32) → (Nat → Int32) → Prop} {fn tr : Int32} {a1 a2 a3 a4 a5 a6 a7 a8 a9 a10 a11 : Nat → Int32} (hi : i < 7) (h : rk_ch i a8)
    (H : ∀ f : Nat → Int32, rk_ch (i + 1) f → J (nI (i + 1)) a1 a2 a3 a4 a5 a6 a7 f a9 a10 a11) : ∃ fu : Nat, wX_init_197 post mc ms J (nI i) kc ks fn tr fu 1 a1 a2 a3 a4 a5 a6 a7 (upd a8 (7 * i) 1) a9 a10 a11 := by
  refine pk_loop (fun fu j f => wX_init_197 post mc ms J (nI i) kc ks fn tr fu (nI (j + 1)) a1 a2 a3 a4 a5 a6 a7 f a9 a10 a11) (fun j f => (∀ t k, t < i → k < 7 → f (7 * t + k) = rk_i (rk_C t k)) ∧ (∀ k, k < j + 1 → f (7 * i + k) = rk_i (rk_C i k)) ∧ (∀ m, 7 * i + (j + 1) ≤ m → f m = 0)) i 0 (upd a8 (7 * i) 1) (by omega)
    ⟨fun t k ht hk => by rw [pk_un (by omega)]; exact h.1 t k ht hk, fun k hk => by rw [show k = 0 by omega, Nat.add_zero, pk_us, rk_C_z, rk_i_1], fun m hm => by rw [pk_un (by omega)]; exact h.2 m (by omega)⟩
    (fun fu f hf => pk_lt i (i + 1) (fun _ => nm_r (nI_1 i) (H f ⟨fun t k ht hk => ?_, fun m hm => hf.2.2 m (by omega)⟩)) (fun z => absurd z (by omega)))
    (fun fu j f hj hf hw => ?_)
  · by_cases e : t = i
    · rw [e]
      by_cases z : k < i + 1
      · exact hf.2.1 k z
      · rw [hf.2.2 _ (by omega), rk_C_gt i k (by omega), rk_i_0]
    · exact hf.1 t k (by omega) hk
  · obtain ⟨p, e⟩ : ∃ p, i = p + 1 := ⟨i - 1, by omega⟩
    subst e
    have e1 : 7 * (nI (p + 1) - 1) + nI (j + 1) - 1 = nI (7 * p + j) := by
      rw [nI_pred, rk_ix7, show 7 * p + (j + 1) = (7 * p + j) + 1 by omega, nI_pred]
    have e2 : 7 * (nI (p + 1) - 1) + nI (j + 1) = nI (7 * p + (j + 1)) := by rw [nI_pred, rk_ix7]
    refine pk_lt (p + 1) (j + 1) (fun z => absurd z (by omega)) (fun _ => ⟨pk_in (7 * p + j) 49 (by omega) e1, pk_in (7 * p + (j + 1)) 49 (by omega) e2, pk_in (7 * (p + 1) + (j + 1)) 49 (by omega) (rk_ix7 _ _), nm_r (e' := upd f (7 * (p + 1) + (j + 1)) (rk_i (rk_C (p + 1) (j + 1)))) ?_ (nm_r (nI_1 (j + 1)) (hw _ ⟨fun t k ht hk => ?_, fun k hk => ?_, fun m hm => ?_⟩))⟩)
    · rw [e1, e2, rk_ix7, nI_clamp (by omega), nI_clamp (by omega), nI_clamp (by omega), hf.1 p j (by omega) (by omega), hf.1 p (j + 1) (by omega) (by omega), ← rk_i_add, rk_C]
    · rw [pk_un (by omega)]
      exact hf.1 t k ht hk
    · by_cases e : k = j + 1
      · rw [e, pk_us]
      · rw [pk_un (by omega)]
        exact hf.2.1 k (by omega)
    · rw [pk_un (by omega)]
      exact hf.2.2 m (by omega)
theorem rk_init {post : St2 → Prop} {n : Nat} (hn1 : 1 ≤ n) (hn : n ≤ 6)
    (H : ∀ (tr : Int32) (a1 a2 a3 a4 a5 a6 a7 a8 a9 a10 a11 : Nat → Int32), rk_P n (fun _ _ => false) (fun _ _ => 1) a1 a2 a7 a8 → post (nI n, tr, a1, a2, a3, a4, a5, a6, a7, a8, a9, a10, a11)) : wpX_init post 11 1142 (0, 0) (nI n) := by
  unfold wpX_init
  refine ⟨by omega, by omega, by omega, by omega, by omega, by omega, by omega, by omega, by omega, by omega, by omega, by omega, by omega, by omega, by omega, by omega, by omega, by omega, by omega, by omega, by omega, by omega, ?_⟩
  refine br_t (nI_le (a := 1) hn1 (by omega)) (br_t (nI_le (b := 6) hn (by omega)) ?_)
  refine pk_loop (fun fu i f => wX_init_121 post 11 1142 11 1142 (nI n) 0 fu (nI i) (fun _ => 0) f (fun _ => 0) (fun _ => 0) (fun _ => 0) (fun _ => 0) (fun _ => 0) (fun _ => 0) (fun _ => 0) (fun _ => 0) (fun _ => 0)) (fun i f => ∀ t, t < i → f t = 1) 36 0 (fun _ => 0) (by omega) (fun t ht => absurd ht (by omega))
    (fun fu f2 h2 => pk_le 36 36 (fun _ => nm_e ?_) (fun z => absurd z (by omega)))
    (fun fu i f hi h hw => pk_le 36 i (fun z => absurd z (by omega)) (fun _ => ⟨pk_in i 36 hi, nm_e (nm_r (nI_1 i) (hw _ (by
      rw [nI_clamp (by omega)]
      intro t ht
      by_cases e : t = i
      · rw [e, pk_us]
      · rw [pk_un e]; exact h t (by omega))))⟩))
  refine pk_loop (fun fu i f => wX_init_149 post 11 1142 11 1142 (nI n) 0 fu (nI (i + 1)) (fun _ => 0) f2 (fun _ => 0) (fun _ => 0) (fun _ => 0) (fun _ => 0) f (fun _ => 0) (fun _ => 0) (fun _ => 0) (fun _ => 0)) (fun i f => ∀ t, t < i + 1 → f t = rk_i (rk_f t)) 6 0 (upd (fun _ => 0) 0 1) (by omega) (fun t ht => by rw [show t = 0 by omega, pk_us]; rfl)
    (fun fu f7 h7 => pk_le 7 7 (fun _ => ?_) (fun z => absurd z (by omega)))
    (fun fu i f hi h hw => pk_le 7 (i + 1) (fun z => absurd z (by omega)) (fun _ => ⟨pk_in i 7 (by omega) (nI_pred i), pk_in (i + 1) 7 (by omega), nm_r (e' := upd f (i + 1) (rk_i (rk_f (i + 1)))) (by rw [nI_pred, nI_clamp (by omega), nI_clamp (by omega), h i (by omega), rk_f, rk_i_mul, rk_i_nI]) (nm_r (nI_1 (i + 1)) (hw _ (by
      intro t ht
      by_cases e : t = i + 1
      · rw [e, pk_us]
      · rw [pk_un e]; exact h t (by omega))))⟩))
  refine pk_loop (fun fu i f => wX_init_179 post 11 1142 11 1142 (nI n) 0 fu (nI i) (fun _ => 0) f2 (fun _ => 0) (fun _ => 0) (fun _ => 0) (fun _ => 0) f7 f (fun _ => 0) (fun _ => 0) (fun _ => 0)) rk_ch 7 0 (fun _ => 0) (by omega) ⟨fun t k ht => absurd ht (by omega), fun _ _ => rfl⟩
    (fun fu f8 h8 => pk_le 7 7 (fun _ => H 0 _ f2 _ _ _ _ f7 f8 _ _ _ ⟨hn1, hn, fun r hr => ?_, fun r c hr hc => h2 _ (by omega), fun i hi => h7 i (by omega), h8.1⟩) (fun z => absurd z (by omega)))
    (fun fu i f hi h hw => pk_le 7 i (fun z => absurd z (by omega)) (fun _ => ⟨pk_in (7 * i) 49 (by omega) (by rw [show (7 : Int32) = nI 7 from rfl, pk_mul]), nm_r (e' := upd f (7 * i) 1) (by rw [show (7 : Int32) = nI 7 from rfl, pk_mul, nI_clamp (by omega)]) (rk_in197 hi h (fun g hg => hw g hg))⟩))
  have e : ∀ n, rk_mk n (fun _ => false) = 0 := by
    intro n
    induction n with
    | zero => rfl
    | succ n ih => rw [rk_mk, ih]; rfl
  rw [e]
  rfl
end
section
theorem rk_cell {post : Int32 → Prop} {L : Nat} {xs : Nat → Int32} {m : Nat} (hL : L ≤ 260) (hm : m < 2 ^ 31) (H : ∀ v, post v) : wpL_cell post L xs () (nI m) :=
  pk_le L m (fun _ => H 0) (fun z => ⟨pk_in m L z, H _⟩)
theorem rk_md (x : Int32) {n : Nat} (h0 : 0 < n) (hn : n < 100) : ∃ r : Nat, r < n ∧ (x &&& 127) - (x &&& 127) / nI n * nI n = nI r := by
  obtain ⟨j, hj, e⟩ := pk_andE x (m := 127) 7 rfl
  rw [e]
  exact ⟨j % n, Nat.mod_lt j h0, pk_rem (by omega) h0 (by omega)⟩
theorem rk_l189 {post : Int32 → Prop} {L : Nat} {xs : Nat → Int32} {J : Int32 → Int32 → Int32 → Int32 → (Nat → Int32) → (Nat → Int32) → (Nat → Int32) → (Nat → Int32) → (Nat → Int32) → (Nat → Int32) → (Nat → Int32) → (Nat → Int32) → (Nat → Int32) → (Nat → Int32) → (Nat → Int32) → Prop} {n r c t kc ks : Nat} {x2 x5 tr : Int32} {b : Nat → Nat → Bool} {w : Nat → Nat → Int32} {a1 a2 a3 a4 a5 a6 a7 a8 a9 a10 a11 : Nat → Int32} (hP : rk_P n b w a1 a2 a7 a8) (hr : r < n) (hc : c < n)
    (H : ∀ (x tr : Int32) (a1 a2 a3 a4 a5 a6 a9 a10 a11 : Nat → Int32), rk_P n b w a1 a2 a7 a8 → J x (nI (1 + 2 * (t + 1))) (nI n) tr a1 a2 a3 a4 a5 a6 a7 a8 a9 a10 a11) : wL_law_189 post L xs J (nI n) x2 (nI (1 + 2 * t)) x5 (nI r) (nI c) kc ks (nI n) tr a1 a2 a3 a4 a5 a6 a7 a8 a9 a10 a11 := by
  have hn := hP.2.1
  have e4 : nI (1 + 2 * t) + 2 = nI (1 + 2 * (t + 1)) := by
    rw [show (2 : Int32) = nI 2 from rfl, nI_add, show 1 + 2 * t + 2 = 1 + 2 * (t + 1) by omega]
  unfold wL_law_189
  rw [nI_1]
  obtain ⟨k, hk, ek⟩ := rk_md (x5 >>> ((4 : Int32) &&& 31)) (n := n + 1) (by omega) (by omega)
  refine ⟨nI_ne0 (by omega) (by omega), nm_r ek (br_c (fun _ => nm_e (br_c (fun _ => nm_r e4 (H _ _ _ _ _ _ _ _ _ _ _ hP)) (fun _ => ?_))) (fun _ => nm_r e4 (H _ _ _ _ _ _ _ _ _ _ _ hP)))⟩
  exact rk_counts hP (by omega) (fun tr a3 a4 a5 a6 a9 a10 a11 => br_f (by decide) (rk_changes hP hr hc (by omega) (fun a1 a2 hQ => fun tr a3 a4 a5 a6 a9 a10 a11 => br_f (by decide) (nm_r e4 (H _ _ _ _ _ _ _ _ _ _ _ hQ)))))
theorem i_vc (xs : Nat → Int32) (L : Nat) (hL : L ≤ 260) : wpL_law (fun r => r = 1) L xs := by
  refine rk_cell (m := 0) hL (by omega) (fun v => ⟨by decide, ?_⟩)
  obtain ⟨q, hq, e⟩ := rk_md v (n := 6) (by omega) (by omega)
  have e0 : 1 + ((v &&& 127) - (v &&& 127) / 6 * 6) = nI (1 + q) := by
    rw [show ((v &&& 127) - (v &&& 127) / 6 * 6) = nI q from e, show (1 : Int32) = nI 1 from rfl, nI_add]
  refine nm_r e0 ⟨11, 1142, by omega, by omega, rk_init (by omega) (by omega) (fun tr a1 a2 a3 a4 a5 a6 a7 a8 a9 a10 a11 hP => ?_)⟩
  generalize hn : 1 + q = n at *
  have hn1 : 1 ≤ n := by omega
  have hn6 : n ≤ 6 := by omega
  refine pk_loop (fun fu i (s : Int32 × Int32 × (Nat → Int32) × (Nat → Int32) × (Nat → Int32) × (Nat → Int32) × (Nat → Int32) × (Nat → Int32) × (Nat → Int32) × (Nat → Int32) × (Nat → Int32)) => wL_law_28 (fun r => r = 1) L xs (nI n) (1 + 11) (13 + 1142) fu s.1 (nI (1 + 2 * i)) (nI n) s.2.1 s.2.2.1 s.2.2.2.1 s.2.2.2.2.1 s.2.2.2.2.2.1 s.2.2.2.2.2.2.1 s.2.2.2.2.2.2.2.1 a7 a8 s.2.2.2.2.2.2.2.2.1 s.2.2.2.2.2.2.2.2.2.1 s.2.2.2.2.2.2.2.2.2.2)
    (fun i s => ∃ (b : Nat → Nat → Bool) (w : Nat → Nat → Int32), rk_P n b w s.2.2.1 s.2.2.2.1 a7 a8) (L / 2) 0 (0, tr, a1, a2, a3, a4, a5, a6, a9, a10, a11) (by omega) ⟨_, _, hP⟩ (fun fu s h => ?_) (fun fu i s hi h hw => ?_)
  · obtain ⟨b, w, hP⟩ := h
    refine pk_le L (1 + 2 * (L / 2)) (fun _ => ?_) (fun z => absurd z (by omega))
    refine rk_counts hP (Nat.le_refl n) (fun tr a3 a4 a5 a6 a9 a10 a11 => br_f (by decide) ⟨by decide, ?_⟩)
    rw [show nI n / 2 = nI (n / 2) from pk_div (d := 2) (by omega) (by omega) (by omega), show nI n - 1 = nI (n - 1) from pk_sub (b := 1) hn1]
    exact rk_counts hP (by omega) (fun tr a3 a4 a5 a6 a9 a10 a11 => br_f (by decide) (rk_changes (i := 0) (k := 1) hP (by omega) (by omega) hn1 (fun a1 a2 hQ => fun tr a3 a4 a5 a6 a9 a10 a11 => br_f (by decide) rfl)))
  · obtain ⟨b, w, hP⟩ := h
    have go : ∀ (b : Nat → Nat → Bool) (w : Nat → Nat → Int32) (x tr : Int32) (a1 a2 a3 a4 a5 a6 a9 a10 a11 : Nat → Int32), rk_P n b w a1 a2 a7 a8 → wL_law_28 (fun r => r = 1) L xs (nI n) (1 + 11) (13 + 1142) fu x (nI (1 + 2 * (i + 1))) (nI n) tr a1 a2 a3 a4 a5 a6 a7 a8 a9 a10 a11 := fun b w x tr a1 a2 a3 a4 a5 a6 a9 a10 a11 hQ => hw (x, tr, a1, a2, a3, a4, a5, a6, a9, a10, a11) ⟨b, w, hQ⟩
    refine pk_le L (1 + 2 * i) (fun z => absurd z (by omega)) (fun _ => rk_cell hL (by omega) (fun c => ?_))
    rw [nI_1]
    refine rk_cell hL (by omega) (fun d => nm_e ?_)
    obtain ⟨r, hr, er⟩ := rk_md d hn1 (by omega)
    obtain ⟨cc, hc, ec⟩ := rk_md (d >>> ((7 : Int32) &&& 31)) hn1 (by omega)
    refine ⟨nI_ne0 hn1 (by omega), nm_r er ⟨nI_ne0 hn1 (by omega), nm_r ec (nm_r (rk_ix6 r cc) (br_c (fun _ => br_c (fun _ => br_c (fun _ => ?_) (fun _ => br_c (fun _ => ?_) (fun _ => br_c (fun _ => ?_) (fun _ => ?_)))) (fun _ => ?_)) (fun _ => ?_)))⟩⟩
    · exact rk_exchange hP hr hc (fun a1 a2 hQ => rk_l189 hQ hr hc (go _ _))
    · exact rk_turn hP (fun a1 a2 hQ => rk_l189 hQ hr hc (go _ _))
    · exact rk_complement hP (fun a1 hQ => rk_l189 hQ hr hc (go _ _))
    · exact rk_l189 hP hr hc (go _ _)
    · exact rk_weight hP hr hc (fun v w' a2 hQ => rk_l189 hQ hr hc (go _ _))
    · exact rk_set hP hr hc (fun v b' a1 hQ => rk_l189 hQ hr hc (go _ _))
end
