section
/-! ===== the plain law: numbering the leaves of a tree of prefixes, no program in sight ===== -/
/-- the sum of f below n -/
def rk_sm (f : Nat → Nat) : Nat → Nat
  | 0 => 0
  | n + 1 => rk_sm f n + f n
/-- p with x at place i -/
def rk_up (p : Nat → Nat) (i x : Nat) : Nat → Nat := fun j => if j = i then x else p j
theorem rk_up_s (p : Nat → Nat) (i x : Nat) : rk_up p i x i = x := by
  unfold rk_up
  rw [if_pos rfl]
theorem rk_up_n {p : Nat → Nat} {i x j : Nat} (h : j ≠ i) : rk_up p i x j = p j := by
  unfold rk_up
  rw [if_neg h]
theorem rk_up_lo {p : Nat → Nat} {i x : Nat} : ∀ j, j < i → rk_up p i x j = p j := fun j hj => rk_up_n (by omega)
theorem rk_up_id (p : Nat → Nat) (i : Nat) : rk_up p i (p i) = p := by
  funext j
  by_cases e : j = i
  · rw [e, rk_up_s]
  · rw [rk_up_n e]
theorem rk_up_lt {p : Nat → Nat} {i x m : Nat} (h : ∀ j, p j < m) (hx : x < m) : ∀ j, rk_up p i x j < m := by
  intro j
  by_cases e : j = i
  · rw [e, rk_up_s]
    exact hx
  · rw [rk_up_n e]
    exact h j
theorem rk_sm_s (f : Nat → Nat) (n : Nat) : rk_sm f (n + 1) = rk_sm f n + f n := rfl
theorem rk_sm_congr {f g : Nat → Nat} {n : Nat} (h : ∀ j, j < n → f j = g j) : rk_sm f n = rk_sm g n := by
  induction n with
  | zero => rfl
  | succ n ih => rw [rk_sm_s, rk_sm_s, ih (fun j hj => h j (by omega)), h n (by omega)]
theorem rk_sm_mono {f : Nat → Nat} {a b : Nat} (h : a ≤ b) : rk_sm f a ≤ rk_sm f b := by
  induction b with
  | zero =>
    have e : a = 0 := by omega
    rw [e]
    exact Nat.le_refl _
  | succ b ih =>
    by_cases e : a = b + 1
    · rw [e]
      exact Nat.le_refl _
    · have t := ih (by omega)
      rw [rk_sm_s]
      omega
theorem rk_sm_gap {f : Nat → Nat} {a b : Nat} (h : a ≤ b) (z : ∀ y, a ≤ y → y < b → f y = 0) : rk_sm f b = rk_sm f a := by
  induction b with
  | zero =>
    have e : a = 0 := by omega
    rw [e]
  | succ b ih =>
    by_cases e : a = b + 1
    · rw [e]
    · have t := ih (by omega) (fun y h1 h2 => z y h1 (by omega))
      rw [rk_sm_s, t, z b (by omega) (by omega)]
      rfl
theorem rk_sm_0 {f : Nat → Nat} {b : Nat} (z : ∀ y, y < b → f y = 0) : rk_sm f b = 0 := rk_sm_gap (a := 0) (Nat.zero_le b) (fun y _ h => z y h)
/-- the first i items may stand: with each of them there is some object -/
def rk_ok (W : (Nat → Nat) → Nat → Nat → Nat) (p : Nat → Nat) (i : Nat) : Prop := ∀ j, j < i → 0 < W p j (p j)
/-- how many objects come before all those that begin with the first i items -/
def rk_R (W : (Nat → Nat) → Nat → Nat → Nat) (p : Nat → Nat) : Nat → Nat
  | 0 => 0
  | i + 1 => rk_R W p i + rk_sm (W p i) (p i)
/-- W counts the objects with x at place i, G those that go on from the first i items, L places -/
def rk_Law (W : (Nat → Nat) → Nat → Nat → Nat) (G : (Nat → Nat) → Nat → Nat) (L : Nat) : Prop :=
  (∀ p q i x, (∀ j, j < i → p j = q j) → W p i x = W q i x) ∧
  (∀ p q i, (∀ j, j < i → p j = q j) → G p i = G q i) ∧
  (∀ p i, i < L → rk_ok W p (i + 1) → W p i (p i) = G p (i + 1)) ∧
  (∀ p i, i < L → rk_ok W p i → rk_sm (W p i) 8 = G p i) ∧
  (∀ p, rk_ok W p L → G p L ≤ 1) ∧
  (∀ p i x, i < L → rk_ok W p i → 0 < W p i x → x < 8)
section
variable {W : (Nat → Nat) → Nat → Nat → Nat} {G : (Nat → Nat) → Nat → Nat} {L : Nat}
theorem rk_R_s (p : Nat → Nat) (i : Nat) : rk_R W p (i + 1) = rk_R W p i + rk_sm (W p i) (p i) := rfl
theorem rk_ok_lo {p : Nat → Nat} {i j : Nat} (h : rk_ok W p j) (e : i ≤ j) : rk_ok W p i := fun k hk => h k (by omega)
theorem rk_ok_congr (H : rk_Law W G L) {p q : Nat → Nat} {i : Nat} (e : ∀ j, j < i → p j = q j) (h : rk_ok W p i) : rk_ok W q i := by
  intro j hj
  have t := h j hj
  rw [H.1 p q j (p j) (fun k hk => e k (by omega)), e j hj] at t
  exact t
theorem rk_R_congr (H : rk_Law W G L) {p q : Nat → Nat} {i : Nat} (e : ∀ j, j < i → p j = q j) : rk_R W p i = rk_R W q i := by
  induction i with
  | zero => rfl
  | succ i ih =>
    rw [rk_R_s, rk_R_s, ih (fun j hj => e j (by omega)), e i (by omega)]
    rw [rk_sm_congr (fun x _ => H.1 p q i x (fun k hk => e k (by omega)))]
theorem rk_R_mono {p : Nat → Nat} {i j : Nat} (h : i ≤ j) : rk_R W p i ≤ rk_R W p j := by
  induction j with
  | zero =>
    have e : i = 0 := by omega
    rw [e]
    exact Nat.le_refl _
  | succ j ih =>
    by_cases e : i = j + 1
    · rw [e]
      exact Nat.le_refl _
    · have t := ih (by omega)
      rw [rk_R_s]
      omega
theorem rk_pos (H : rk_Law W G L) {p : Nat → Nat} {i : Nat} (hi : i ≤ L) (h : rk_ok W p i) (h0 : 0 < G p 0) : 0 < G p i := by
  cases i with
  | zero => exact h0
  | succ i =>
    rw [← H.2.2.1 p i (by omega) h]
    exact h i (by omega)
theorem rk_last (H : rk_Law W G L) {p : Nat → Nat} (h : rk_ok W p L) (h0 : 0 < G p 0) : G p L = 1 := by
  have a := H.2.2.2.2.1 p h
  have b := rk_pos H (Nat.le_refl L) h h0
  omega
theorem rk_lt8 (H : rk_Law W G L) {p : Nat → Nat} {i : Nat} (hi : i < L) (h : rk_ok W p (i + 1)) : p i < 8 :=
  H.2.2.2.2.2 p i (p i) hi (rk_ok_lo h (by omega)) (h i (by omega))
/-- one place on: the objects up to the item that stands there -/
theorem rk_step (H : rk_Law W G L) {p : Nat → Nat} {i : Nat} (hi : i < L) (h : rk_ok W p (i + 1)) : rk_R W p (i + 1) + G p (i + 1) = rk_R W p i + rk_sm (W p i) (p i + 1) := by
  rw [← H.2.2.1 p i hi h, rk_R_s, rk_sm_s]
  omega
theorem rk_tail (H : rk_Law W G L) {p : Nat → Nat} (h : rk_ok W p L) (h0 : 0 < G p 0) : ∀ d i, i + d = L → rk_R W p L < rk_R W p i + G p i := by
  intro d
  induction d with
  | zero =>
    intro i hi
    have e : i = L := by omega
    rw [e, rk_last H h h0]
    omega
  | succ d ih =>
    intro i hi
    have t := ih (i + 1) (by omega)
    have hk : rk_ok W p (i + 1) := rk_ok_lo h (by omega)
    rw [rk_step H (by omega) hk] at t
    have l := rk_sm_mono (f := W p i) (show p i + 1 ≤ 8 from rk_lt8 H (by omega) hk)
    rw [H.2.2.2.1 p i (by omega) (rk_ok_lo h (by omega))] at l
    omega
theorem rk_less (H : rk_Law W G L) {p q : Nat → Nat} (hp : rk_ok W p L) (h0 : 0 < G p 0) {i : Nat} (hi : i < L) (e : ∀ j, j < i → p j = q j) (hl : p i < q i) : rk_R W p L < rk_R W q L := by
  have t := rk_tail H hp h0 (L - (i + 1)) (i + 1) (by omega)
  rw [rk_step H hi (rk_ok_lo hp (by omega))] at t
  have l := rk_sm_mono (f := W p i) (show p i + 1 ≤ q i from hl)
  have m : rk_R W q (i + 1) ≤ rk_R W q L := rk_R_mono (by omega)
  rw [rk_R_s, ← rk_R_congr H e, ← rk_sm_congr (f := W p i) (fun x _ => H.1 p q i x e)] at m
  omega
/-- a number has one object alone -/
theorem rk_inj (H : rk_Law W G L) {p q : Nat → Nat} (hp : rk_ok W p L) (hq : rk_ok W q L) (h0 : 0 < G p 0) (e : rk_R W p L = rk_R W q L) : ∀ j, j < L → p j = q j := by
  have h0' : 0 < G q 0 := by
    rw [← H.2.1 p q 0 (fun j hj => absurd hj (by omega))]
    exact h0
  have main : ∀ i, i ≤ L → ∀ j, j < i → p j = q j := by
    intro i
    induction i with
    | zero => exact fun _ j hj => absurd hj (by omega)
    | succ i ih =>
      intro hi j hj
      have ih' := ih (by omega)
      by_cases ej : j = i
      · rw [ej]
        rcases Nat.lt_trichotomy (p i) (q i) with l | l | l
        · have := rk_less H hp h0 (by omega) ih' l
          omega
        · exact l
        · have := rk_less H hq h0' (by omega) (fun j hj => (ih' j hj).symm) l
          omega
      · exact ih' j (by omega)
  exact main L (Nat.le_refl L)
/-- an item that may stand is put at place i -/
theorem rk_put (H : rk_Law W G L) {p : Nat → Nat} {i x : Nat} (hi : i < L) (h : rk_ok W p i) (hx : 0 < W p i x) : rk_ok W (rk_up p i x) (i + 1) ∧ G (rk_up p i x) (i + 1) = W p i x ∧ rk_R W (rk_up p i x) (i + 1) = rk_R W p i + rk_sm (W p i) x := by
  have e : ∀ j, j < i → p j = rk_up p i x j := fun j hj => (rk_up_lo j hj).symm
  have k : rk_ok W (rk_up p i x) (i + 1) := by
    intro j hj
    by_cases ej : j = i
    · rw [ej, rk_up_s, ← H.1 p _ i x e]
      exact hx
    · exact rk_ok_congr H e h j (by omega)
  refine ⟨k, ?_, ?_⟩
  · rw [← H.2.2.1 _ i hi k, rk_up_s, ← H.1 p _ i x e]
  · rw [rk_R_s, ← rk_R_congr H e, rk_up_s, ← rk_sm_congr (f := W p i) (fun y _ => H.1 p _ i y e)]
/-- some item may stand at the next place -/
theorem rk_some (H : rk_Law W G L) {p : Nat → Nat} {i : Nat} (hi : i < L) (h : rk_ok W p i) (h0 : 0 < G p 0) (z : ∀ y, y < 8 → W p i y = 0) : False := by
  have t := rk_pos H (by omega) h h0
  rw [← H.2.2.2.1 p i hi h, rk_sm_0 z] at t
  omega
/-! next -/
theorem rk_nx0 (H : rk_Law W G L) {p : Nat → Nat} (h : rk_ok W p L) (h0 : 0 < G p 0) : rk_R W p L + 1 = rk_R W p L + G p L := by
  rw [rk_last H h h0]
theorem rk_nx_skip (H : rk_Law W G L) {p : Nat → Nat} {i : Nat} (hi : i < L) (h : rk_ok W p L) (z : ∀ y, p i < y → y < 8 → W p i y = 0) (e : rk_R W p L + 1 = rk_R W p (i + 1) + G p (i + 1)) : rk_R W p L + 1 = rk_R W p i + G p i := by
  have hk : rk_ok W p (i + 1) := rk_ok_lo h (by omega)
  rw [e, rk_step H hi hk, ← H.2.2.2.1 p i hi (rk_ok_lo h (by omega))]
  rw [rk_sm_gap (f := W p i) (show p i + 1 ≤ 8 from rk_lt8 H hi hk) (fun y h1 h2 => z y (by omega) h2)]
theorem rk_nx_put (H : rk_Law W G L) {p : Nat → Nat} {i x : Nat} (hi : i < L) (h : rk_ok W p L) (hx : p i < x) (hw : 0 < W p i x) (z : ∀ y, p i < y → y < x → W p i y = 0) (e : rk_R W p L + 1 = rk_R W p (i + 1) + G p (i + 1)) : rk_ok W (rk_up p i x) (i + 1) ∧ rk_R W (rk_up p i x) (i + 1) = rk_R W p L + 1 := by
  have hk : rk_ok W p (i + 1) := rk_ok_lo h (by omega)
  obtain ⟨k1, _, k3⟩ := rk_put H hi (rk_ok_lo h (by omega)) hw
  refine ⟨k1, ?_⟩
  rw [k3, e, rk_step H hi hk]
  rw [rk_sm_gap (f := W p i) (show p i + 1 ≤ x from hx) (fun y h1 h2 => z y (by omega) h2)]
theorem rk_nx_min (H : rk_Law W G L) {p : Nat → Nat} {i x : Nat} (hi : i < L) (h : rk_ok W p i) (hw : 0 < W p i x) (z : ∀ y, y < x → W p i y = 0) : rk_ok W (rk_up p i x) (i + 1) ∧ rk_R W (rk_up p i x) (i + 1) = rk_R W p i := by
  obtain ⟨k1, _, k3⟩ := rk_put H hi h hw
  refine ⟨k1, ?_⟩
  rw [k3, rk_sm_0 z]
  rfl
/-! previous -/
theorem rk_pv_skip {p : Nat → Nat} {i : Nat} (z : ∀ y, y < p i → W p i y = 0) (e : rk_R W p L = rk_R W p (i + 1)) : rk_R W p L = rk_R W p i := by
  rw [e, rk_R_s, rk_sm_0 z]
  rfl
theorem rk_pv_put (H : rk_Law W G L) {p : Nat → Nat} {i x : Nat} (hi : i < L) (h : rk_ok W p L) (hx : x < p i) (hw : 0 < W p i x) (z : ∀ y, x < y → y < p i → W p i y = 0) (e : rk_R W p L = rk_R W p (i + 1)) : rk_ok W (rk_up p i x) (i + 1) ∧ rk_R W (rk_up p i x) (i + 1) + G (rk_up p i x) (i + 1) = rk_R W p L := by
  obtain ⟨k1, k2, k3⟩ := rk_put H hi (rk_ok_lo h (by omega)) hw
  refine ⟨k1, ?_⟩
  rw [k2, k3, e, rk_R_s]
  rw [rk_sm_gap (f := W p i) (show x + 1 ≤ p i from hx) (fun y h1 h2 => z y (by omega) h2), rk_sm_s]
  omega
theorem rk_pv_max (H : rk_Law W G L) {p : Nat → Nat} {i x : Nat} (hi : i < L) (h : rk_ok W p i) (hw : 0 < W p i x) (z : ∀ y, x < y → y < 8 → W p i y = 0) : rk_ok W (rk_up p i x) (i + 1) ∧ rk_R W (rk_up p i x) (i + 1) + G (rk_up p i x) (i + 1) = rk_R W p i + G p i := by
  obtain ⟨k1, k2, k3⟩ := rk_put H hi h hw
  refine ⟨k1, ?_⟩
  have hx8 : x < 8 := H.2.2.2.2.2 p i x hi h hw
  rw [k2, k3, ← H.2.2.2.1 p i hi h]
  rw [rk_sm_gap (f := W p i) (show x + 1 ≤ 8 from hx8) (fun y h1 h2 => z y (by omega) h2), rk_sm_s]
  omega
end
end
section
/-! ===== the five sorts: how many objects, and that they make a tree ===== -/
def rk_fac : Nat → Nat
  | 0 => 1
  | n + 1 => (n + 1) * rk_fac n
def rk_bin : Nat → Nat → Nat
  | _, 0 => 1
  | 0, _ + 1 => 0
  | a + 1, b + 1 => rk_bin a b + rk_bin a (b + 1)
theorem rk_bin0 (a : Nat) : rk_bin a 0 = 1 := by
  cases a <;> rfl
theorem rk_binz : ∀ a b : Nat, a < b → rk_bin a b = 0 := by
  intro a
  induction a with
  | zero =>
    intro b hb
    cases b with
    | zero => omega
    | succ b => rfl
  | succ a ih =>
    intro b hb
    cases b with
    | zero => omega
    | succ b =>
      show rk_bin a b + rk_bin a (b + 1) = 0
      rw [ih b (by omega), ih (b + 1) (by omega)]
def rk_grp : Nat → Nat → Nat
  | 0, _ => 1
  | l + 1, g => g * rk_grp l g + rk_grp l (g + 1)
def rk_nr (f : Nat → Nat) (z : Nat) : Nat → Nat
  | 0 => f 0
  | o + 1 => rk_nr f z o + (if o + 1 < z then f (o + 1) else 0)
def rk_nst : Nat → Nat → Nat
  | 0, _ => 1
  | z + 1, o => rk_nr (rk_nst z) (z + 1) o
def rk_ws (s : Nat) : Nat → Nat
  | 0 => 1
  | k + 1 => rk_ws s k * (s + (k + 1)) / (k + 1)
/-- sums of l numbers that make r -/
def rk_E (r : Nat) : Nat → Nat
  | 0 => if r = 0 then 1 else 0
  | l + 1 => rk_ws r l
/-- how many groups there are: the greatest item and one -/
def rk_gm (p : Nat → Nat) : Nat → Nat
  | 0 => 0
  | i + 1 => max (rk_gm p i) (p i + 1)
/-- the set of the first items -/
def rk_mk (p : Nat → Nat) : Nat → Nat
  | 0 => 0
  | i + 1 => rk_mk p i ||| 2 ^ p i
def rk_G (s n L : Nat) (p : Nat → Nat) (i : Nat) : Nat :=
  if s = 1 then rk_fac (L - i)
  else if s = 2 then rk_grp (L - i) (rk_gm p i)
  else if s = 0 then rk_bin (if i = 0 then n else n - 1 - p (i - 1)) (L - i)
  else if s = 3 then rk_nst (n + rk_sm p i - i) (n - rk_sm p i)
  else if n < rk_sm p i then 0 else rk_E (n - rk_sm p i) (L - i)
def rk_may (s n : Nat) (p : Nat → Nat) (i x : Nat) : Bool :=
  if s = 0 then decide (x < n) && (decide (i = 0) || decide (p (i - 1) < x))
  else if s = 1 then decide (x < n) && !(rk_mk p i).testBit x
  else if s = 2 then decide (x ≤ rk_gm p i)
  else if s = 4 then decide (x ≤ n)
  else if x = 1 then decide (rk_sm p i < n) else decide (x = 0) && decide (i < 2 * rk_sm p i)
def rk_W (s n L : Nat) (p : Nat → Nat) (i x : Nat) : Nat := if rk_may s n p i x = true then rk_G s n L (rk_up p i x) (i + 1) else 0
/-- a sort, a size and a length that fit -/
def rk_D (s n L : Nat) : Prop := s ≤ 4 ∧ 1 ≤ n ∧ n ≤ 7 ∧ (s = 0 → L ≤ n) ∧ (s = 1 → L = n) ∧ (s = 2 → L = n) ∧ (s = 3 → L = 2 * n) ∧ (s = 4 → L ≤ n)
theorem rk_D14 {s n L : Nat} (h : rk_D s n L) : L ≤ 14 := by
  obtain ⟨h0, h1, h2, h3, h4, h5, h6, h7⟩ := h
  have : s = 0 ∨ s = 1 ∨ s = 2 ∨ s = 3 ∨ s = 4 := by omega
  rcases this with e | e | e | e | e
  · have := h3 e
    omega
  · have := h4 e
    omega
  · have := h5 e
    omega
  · have := h6 e
    omega
  · have := h7 e
    omega
/-! congruence -/
theorem rk_gm_congr {p q : Nat → Nat} {i : Nat} (e : ∀ j, j < i → p j = q j) : rk_gm p i = rk_gm q i := by
  induction i with
  | zero => rfl
  | succ i ih =>
    show max (rk_gm p i) (p i + 1) = max (rk_gm q i) (q i + 1)
    rw [ih (fun j hj => e j (by omega)), e i (by omega)]
theorem rk_mk_congr {p q : Nat → Nat} {i : Nat} (e : ∀ j, j < i → p j = q j) : rk_mk p i = rk_mk q i := by
  induction i with
  | zero => rfl
  | succ i ih =>
    show rk_mk p i ||| 2 ^ p i = rk_mk q i ||| 2 ^ q i
    rw [ih (fun j hj => e j (by omega)), e i (by omega)]
theorem rk_G_congr {s n L : Nat} {p q : Nat → Nat} {i : Nat} (e : ∀ j, j < i → p j = q j) : rk_G s n L p i = rk_G s n L q i := by
  unfold rk_G
  rw [rk_gm_congr e, rk_sm_congr e]
  by_cases h : i = 0
  · rw [if_pos h, if_pos h]
  · rw [if_neg h, if_neg h, e (i - 1) (by omega)]
theorem rk_may_congr {s n : Nat} {p q : Nat → Nat} {i x : Nat} (e : ∀ j, j < i → p j = q j) : rk_may s n p i x = rk_may s n q i x := by
  unfold rk_may
  rw [rk_gm_congr e, rk_sm_congr e, rk_mk_congr e]
  by_cases h : i = 0
  · rw [decide_eq_true h, Bool.true_or, Bool.true_or]
  · rw [e (i - 1) (by omega)]
theorem rk_up_congr {p q : Nat → Nat} {i x : Nat} (e : ∀ j, j < i → p j = q j) : ∀ j, j < i + 1 → rk_up p i x j = rk_up q i x j := by
  intro j hj
  by_cases h : j = i
  · rw [h, rk_up_s, rk_up_s]
  · rw [rk_up_n h, rk_up_n h, e j (by omega)]
theorem rk_W_congr {s n L : Nat} {p q : Nat → Nat} {i x : Nat} (e : ∀ j, j < i → p j = q j) : rk_W s n L p i x = rk_W s n L q i x := by
  unfold rk_W
  rw [rk_may_congr e, rk_G_congr (rk_up_congr e)]
theorem rk_W_may {s n L : Nat} {p : Nat → Nat} {i x : Nat} (h : 0 < rk_W s n L p i x) : rk_may s n p i x = true := by
  unfold rk_W at h
  by_cases e : rk_may s n p i x = true
  · exact e
  · rw [if_neg e] at h
    omega
theorem rk_W_t {s n L : Nat} {p : Nat → Nat} {i x : Nat} (h : rk_may s n p i x = true) : rk_W s n L p i x = rk_G s n L (rk_up p i x) (i + 1) := by
  unfold rk_W
  rw [if_pos h]
theorem rk_W_f {s n L : Nat} {p : Nat → Nat} {i x : Nat} (h : rk_may s n p i x = false) : rk_W s n L p i x = 0 := by
  unfold rk_W
  rw [h]
  rfl
theorem rk_W_self {s n L : Nat} {p : Nat → Nat} {i : Nat} (h : 0 < rk_W s n L p i (p i)) : rk_W s n L p i (p i) = rk_G s n L p (i + 1) := by
  rw [rk_W_t (rk_W_may h), rk_up_id]
theorem rk_ok_may {s n L : Nat} {p : Nat → Nat} {i : Nat} (h : rk_ok (rk_W s n L) p i) : ∀ j, j < i → rk_may s n p j (p j) = true := fun j hj => rk_W_may (h j hj)
/-! one place on -/
theorem rk_sm_up (p : Nat → Nat) (i x : Nat) : rk_sm (rk_up p i x) (i + 1) = rk_sm p i + x := by
  rw [rk_sm_s, rk_up_s, rk_sm_congr rk_up_lo]
theorem rk_gm_up (p : Nat → Nat) (i x : Nat) : rk_gm (rk_up p i x) (i + 1) = max (rk_gm p i) (x + 1) := by
  show max (rk_gm (rk_up p i x) i) (rk_up p i x i + 1) = _
  rw [rk_up_s, rk_gm_congr rk_up_lo]
/-! the sorts one by one -/
theorem rk_G0 (n L : Nat) (p : Nat → Nat) (i : Nat) : rk_G 0 n L p i = rk_bin (if i = 0 then n else n - 1 - p (i - 1)) (L - i) := rfl
theorem rk_G1 (n L : Nat) (p : Nat → Nat) (i : Nat) : rk_G 1 n L p i = rk_fac (L - i) := rfl
theorem rk_G2 (n L : Nat) (p : Nat → Nat) (i : Nat) : rk_G 2 n L p i = rk_grp (L - i) (rk_gm p i) := rfl
theorem rk_G3 (n L : Nat) (p : Nat → Nat) (i : Nat) : rk_G 3 n L p i = rk_nst (n + rk_sm p i - i) (n - rk_sm p i) := rfl
theorem rk_G4 (n L : Nat) (p : Nat → Nat) (i : Nat) : rk_G 4 n L p i = if n < rk_sm p i then 0 else rk_E (n - rk_sm p i) (L - i) := rfl
theorem rk_may0 (n : Nat) (p : Nat → Nat) (i x : Nat) : rk_may 0 n p i x = true ↔ x < n ∧ (i = 0 ∨ p (i - 1) < x) := by
  show (decide (x < n) && (decide (i = 0) || decide (p (i - 1) < x))) = true ↔ _
  rw [Bool.and_eq_true, Bool.or_eq_true, decide_eq_true_iff, decide_eq_true_iff, decide_eq_true_iff]
theorem rk_may1 (n : Nat) (p : Nat → Nat) (i x : Nat) : rk_may 1 n p i x = true ↔ x < n ∧ (rk_mk p i).testBit x = false := by
  show (decide (x < n) && !(rk_mk p i).testBit x) = true ↔ _
  rw [Bool.and_eq_true, decide_eq_true_iff, Bool.not_eq_true']
theorem rk_may2 (n : Nat) (p : Nat → Nat) (i x : Nat) : rk_may 2 n p i x = true ↔ x ≤ rk_gm p i := by
  show decide (x ≤ rk_gm p i) = true ↔ _
  rw [decide_eq_true_iff]
theorem rk_may4 (n : Nat) (p : Nat → Nat) (i x : Nat) : rk_may 4 n p i x = true ↔ x ≤ n := by
  show decide (x ≤ n) = true ↔ _
  rw [decide_eq_true_iff]
theorem rk_may3 (n : Nat) (p : Nat → Nat) (i x : Nat) : rk_may 3 n p i x = true ↔ (x = 1 ∧ rk_sm p i < n) ∨ (x = 0 ∧ i < 2 * rk_sm p i) := by
  show (if x = 1 then decide (rk_sm p i < n) else decide (x = 0) && decide (i < 2 * rk_sm p i)) = true ↔ _
  by_cases e : x = 1
  · rw [if_pos e, decide_eq_true_iff]
    omega
  · rw [if_neg e, Bool.and_eq_true, decide_eq_true_iff, decide_eq_true_iff]
    omega
theorem rk_W_not {s n L : Nat} {p : Nat → Nat} {i x : Nat} (h : ¬ rk_may s n p i x = true) : rk_W s n L p i x = 0 := by
  unfold rk_W
  rw [if_neg h]
/-! choices -/
theorem rk_c0 : ∀ n, n < 8 → ∀ l, l < 7 → rk_sm (fun x => if x < n then rk_bin (n - 1 - x) l else 0) 8 = rk_bin n (l + 1) := by decide +kernel
theorem rk_c1 : ∀ n, n < 8 → ∀ q, q < 8 → ∀ l, l < 7 → rk_sm (fun x => if x < n ∧ q < x then rk_bin (n - 1 - x) l else 0) 8 = rk_bin (n - 1 - q) (l + 1) := by decide +kernel
theorem rk_sum0 {n L : Nat} (hn : n ≤ 7) (hL : L ≤ n) {p : Nat → Nat} {i : Nat} (hi : i < L) (h : rk_ok (rk_W 0 n L) p i) : rk_sm (rk_W 0 n L p i) 8 = rk_G 0 n L p i := by
  have e : ∀ x, rk_W 0 n L p i x = if x < n ∧ (i = 0 ∨ p (i - 1) < x) then rk_bin (n - 1 - x) (L - (i + 1)) else 0 := by
    intro x
    by_cases c : x < n ∧ (i = 0 ∨ p (i - 1) < x)
    · rw [if_pos c, rk_W_t ((rk_may0 n p i x).mpr c), rk_G0, if_neg (by omega), show i + 1 - 1 = i from rfl, rk_up_s]
    · rw [if_neg c, rk_W_not (fun t => c ((rk_may0 n p i x).mp t))]
  rw [rk_sm_congr (fun x _ => e x), rk_G0]
  have el : L - i = L - (i + 1) + 1 := by omega
  rw [el]
  by_cases c : i = 0
  · rw [if_pos c, ← rk_c0 n (by omega) (L - (i + 1)) (by omega)]
    refine rk_sm_congr (fun x _ => ?_)
    by_cases d : x < n
    · rw [if_pos ⟨d, Or.inl c⟩, if_pos d]
    · rw [if_neg (fun t => d t.1), if_neg d]
  · have b := ((rk_may0 n p (i - 1) _).mp (rk_ok_may h (i - 1) (by omega))).1
    rw [if_neg c, ← rk_c1 n (by omega) (p (i - 1)) (by omega) (L - (i + 1)) (by omega)]
    refine rk_sm_congr (fun x _ => ?_)
    by_cases d : x < n ∧ p (i - 1) < x
    · rw [if_pos ⟨d.1, Or.inr d.2⟩, if_pos d]
    · rw [if_neg (fun t => d ⟨t.1, by omega⟩), if_neg d]
/-! orders -/
theorem rk_sm_del {f g : Nat → Nat} {a N : Nat} (h : ∀ x, x ≠ a → g x = f x) (ha : a < N) (hg : g a = 0) (hf : f a = 1) : rk_sm g N + 1 = rk_sm f N := by
  induction N with
  | zero => omega
  | succ N ih =>
    rw [rk_sm_s, rk_sm_s]
    by_cases e : a = N
    · rw [rk_sm_congr (f := g) (g := f) (fun x hx => h x (by omega)), ← e, hg, hf]
    · rw [h N (by omega), ← ih (by omega)]
      omega
theorem rk_sm_mul (f : Nat → Nat) (c n : Nat) : rk_sm (fun x => f x * c) n = rk_sm f n * c := by
  induction n with
  | zero =>
    show 0 = 0 * c
    omega
  | succ n ih => rw [rk_sm_s, rk_sm_s, ih, Nat.add_mul]
theorem rk_o0 : ∀ n, n < 8 → rk_sm (fun x => if x < n then 1 else 0) 8 = n := by decide +kernel
def rk_one (n : Nat) (p : Nat → Nat) (i : Nat) : Nat → Nat := fun x => if rk_may 1 n p i x = true then 1 else 0
theorem rk_mk_s (p : Nat → Nat) (i x : Nat) : (rk_mk p (i + 1)).testBit x = ((rk_mk p i).testBit x || decide (p i = x)) := by
  show (rk_mk p i ||| 2 ^ p i).testBit x = _
  rw [Nat.testBit_or, Nat.testBit_two_pow]
theorem rk_cnt {n L : Nat} (hn : n ≤ 7) {p : Nat → Nat} {i : Nat} (h : rk_ok (rk_W 1 n L) p i) : rk_sm (rk_one n p i) 8 + i = n := by
  induction i with
  | zero =>
    rw [rk_sm_congr (f := rk_one n p 0) (g := fun x => if x < n then 1 else 0)]
    · exact rk_o0 n (by omega)
    · intro x _
      unfold rk_one
      by_cases c : x < n
      · rw [if_pos c, if_pos ((rk_may1 n p 0 x).mpr ⟨c, Nat.zero_testBit x⟩)]
      · rw [if_neg c, if_neg (fun t => c ((rk_may1 n p 0 x).mp t).1)]
  | succ i ih =>
    have ih' := ih (rk_ok_lo h (by omega))
    have m := rk_ok_may h i (by omega)
    have m' := (rk_may1 n p i (p i)).mp m
    have t := rk_sm_del (f := rk_one n p i) (g := rk_one n p (i + 1)) (a := p i) (N := 8) (fun x hx => ?_) (by omega) ?_ ?_
    · omega
    · unfold rk_one
      by_cases c : rk_may 1 n p i x = true
      · have c' := (rk_may1 n p i x).mp c
        rw [if_pos c, if_pos ((rk_may1 n p (i + 1) x).mpr ⟨c'.1, by rw [rk_mk_s, c'.2, Bool.false_or, decide_eq_false (fun z => hx z.symm)]⟩)]
      · rw [if_neg c, if_neg (fun t => c ?_)]
        have t' := (rk_may1 n p (i + 1) x).mp t
        refine (rk_may1 n p i x).mpr ⟨t'.1, ?_⟩
        have t2 := t'.2
        rw [rk_mk_s, Bool.or_eq_false_iff] at t2
        exact t2.1
    · unfold rk_one
      rw [if_neg (fun t => ?_)]
      have t2 := ((rk_may1 n p (i + 1) (p i)).mp t).2
      rw [rk_mk_s, Bool.or_eq_false_iff, decide_eq_false_iff_not] at t2
      exact t2.2 rfl
    · unfold rk_one
      rw [if_pos m]
theorem rk_sum1 {n : Nat} (hn : n ≤ 7) {p : Nat → Nat} {i : Nat} (hi : i < n) (h : rk_ok (rk_W 1 n n) p i) : rk_sm (rk_W 1 n n p i) 8 = rk_G 1 n n p i := by
  have e : ∀ x, rk_W 1 n n p i x = rk_one n p i x * rk_fac (n - (i + 1)) := by
    intro x
    unfold rk_one
    by_cases c : rk_may 1 n p i x = true
    · rw [if_pos c, rk_W_t c, rk_G1, Nat.one_mul]
    · rw [if_neg c, rk_W_not c, Nat.zero_mul]
  rw [rk_sm_congr (fun x _ => e x), rk_sm_mul, rk_G1]
  have t := rk_cnt hn h
  have el : n - i = n - (i + 1) + 1 := by omega
  rw [show rk_sm (rk_one n p i) 8 = n - (i + 1) + 1 by omega, el]
  rfl
/-! groupings -/
theorem rk_g0 : ∀ g, g < 8 → ∀ l, l < 7 → rk_sm (fun x => if x ≤ g then rk_grp l (max g (x + 1)) else 0) 8 = rk_grp (l + 1) g := by decide +kernel
theorem rk_gm_le {n L : Nat} {p : Nat → Nat} {i : Nat} (h : rk_ok (rk_W 2 n L) p i) : rk_gm p i ≤ i := by
  induction i with
  | zero => exact Nat.le_refl 0
  | succ i ih =>
    have a := ih (rk_ok_lo h (by omega))
    have b := (rk_may2 n p i _).mp (rk_ok_may h i (by omega))
    show max (rk_gm p i) (p i + 1) ≤ i + 1
    omega
theorem rk_sum2 {n L : Nat} (hL : L ≤ 7) {p : Nat → Nat} {i : Nat} (hi : i < L) (h : rk_ok (rk_W 2 n L) p i) : rk_sm (rk_W 2 n L p i) 8 = rk_G 2 n L p i := by
  have e : ∀ x, rk_W 2 n L p i x = if x ≤ rk_gm p i then rk_grp (L - (i + 1)) (max (rk_gm p i) (x + 1)) else 0 := by
    intro x
    by_cases c : x ≤ rk_gm p i
    · rw [if_pos c, rk_W_t ((rk_may2 n p i x).mpr c), rk_G2, rk_gm_up]
    · rw [if_neg c, rk_W_not (fun t => c ((rk_may2 n p i x).mp t))]
  have g := rk_gm_le h
  have el : L - i = L - (i + 1) + 1 := by omega
  rw [rk_sm_congr (fun x _ => e x), rk_G2, el, rk_g0 (rk_gm p i) (by omega) (L - (i + 1)) (by omega)]
/-! nestings -/
theorem rk_nst0 (z : Nat) : rk_nst (z + 1) 0 = rk_nst z 0 := rfl
theorem rk_nst1 (z o : Nat) : rk_nst (z + 1) (o + 1) = rk_nst (z + 1) o + (if o + 1 < z + 1 then rk_nst z (o + 1) else 0) := rfl
theorem rk_ball {n L : Nat} {p : Nat → Nat} {i : Nat} (h : rk_ok (rk_W 3 n L) p i) : rk_sm p i ≤ n ∧ i ≤ 2 * rk_sm p i ∧ rk_sm p i ≤ i := by
  induction i with
  | zero => exact ⟨Nat.zero_le n, by omega, Nat.le_refl 0⟩
  | succ i ih =>
    have a := ih (rk_ok_lo h (by omega))
    have b := (rk_may3 n p i _).mp (rk_ok_may h i (by omega))
    rw [rk_sm_s]
    omega
theorem rk_sm8 (f : Nat → Nat) (h : ∀ x, 2 ≤ x → f x = 0) : rk_sm f 8 = f 0 + f 1 := by
  rw [rk_sm_gap (a := 2) (by omega) (fun y h1 _ => h y h1)]
  show 0 + f 0 + f 1 = f 0 + f 1
  omega
theorem rk_sum3 {n L : Nat} (hL : L = 2 * n) {p : Nat → Nat} {i : Nat} (hi : i < L) (h : rk_ok (rk_W 3 n L) p i) : rk_sm (rk_W 3 n L p i) 8 = rk_G 3 n L p i := by
  obtain ⟨b1, b2, b3⟩ := rk_ball h
  rw [rk_sm8 _ (fun x hx => rk_W_not (fun t => by have := (rk_may3 n p i x).mp t; omega)), rk_G3]
  generalize hS : rk_sm p i = S at *
  have e0 : rk_W 3 n L p i 0 = if i < 2 * S then rk_nst (n + S - i - 1) (n - S) else 0 := by
    by_cases c : i < 2 * S
    · rw [if_pos c, rk_W_t ((rk_may3 n p i 0).mpr (Or.inr ⟨rfl, by omega⟩)), rk_G3, rk_sm_up, hS]
      rw [show n + (S + 0) - (i + 1) = n + S - i - 1 by omega, show n - (S + 0) = n - S by omega]
    · rw [if_neg c, rk_W_not (fun t => by have := (rk_may3 n p i 0).mp t; omega)]
  have e1 : rk_W 3 n L p i 1 = if S < n then rk_nst (n + S - i) (n - S - 1) else 0 := by
    by_cases c : S < n
    · rw [if_pos c, rk_W_t ((rk_may3 n p i 1).mpr (Or.inl ⟨rfl, by omega⟩)), rk_G3, rk_sm_up, hS]
      rw [show n + (S + 1) - (i + 1) = n + S - i by omega, show n - (S + 1) = n - S - 1 by omega]
    · rw [if_neg c, rk_W_not (fun t => by have := (rk_may3 n p i 1).mp t; omega)]
  rw [e0, e1]
  obtain ⟨z, hz⟩ : ∃ z, n + S - i = z + 1 := ⟨n + S - i - 1, by omega⟩
  rw [hz, show z + 1 - 1 = z from rfl]
  rcases Nat.eq_zero_or_pos (n - S) with o | o
  · rw [if_pos (by omega), if_neg (by omega), o, rk_nst0]
    rfl
  · obtain ⟨o', ho⟩ : ∃ o', n - S = o' + 1 := ⟨n - S - 1, by omega⟩
    rw [ho, rk_nst1, show o' + 1 - 1 = o' from rfl, if_pos (show S < n by omega)]
    by_cases c : i < 2 * S
    · rw [if_pos c, if_pos (show o' + 1 < z + 1 by omega)]
      omega
    · rw [if_neg c, if_neg (show ¬ o' + 1 < z + 1 by omega)]
      omega
/-! parts -/
theorem rk_p0 : ∀ r, r < 8 → ∀ l, l < 7 → rk_sm (fun x => if x ≤ r then rk_E (r - x) l else 0) 8 = rk_E r (l + 1) := by decide +kernel
theorem rk_sum4 {n L : Nat} (hn : n ≤ 7) (hL : L ≤ n) {p : Nat → Nat} {i : Nat} (hi : i < L) (h : rk_ok (rk_W 4 n L) p i) : rk_sm (rk_W 4 n L p i) 8 = rk_G 4 n L p i := by
  rw [rk_G4]
  generalize hS : rk_sm p i = S at *
  have el : L - i = L - (i + 1) + 1 := by omega
  have e : ∀ x, rk_W 4 n L p i x = if S + x ≤ n then rk_E (n - S - x) (L - (i + 1)) else 0 := by
    intro x
    by_cases c : x ≤ n
    · rw [rk_W_t ((rk_may4 n p i x).mpr c), rk_G4, rk_sm_up, hS]
      by_cases d : S + x ≤ n
      · rw [if_pos d, if_neg (by omega), show n - (S + x) = n - S - x by omega]
      · rw [if_neg d, if_pos (by omega)]
    · rw [rk_W_not (fun t => c ((rk_may4 n p i x).mp t)), if_neg (by omega)]
  rw [rk_sm_congr (fun x _ => e x)]
  by_cases c : n < S
  · rw [if_pos c]
    exact rk_sm_0 (fun y _ => if_neg (by omega))
  · rw [if_neg c, el, ← rk_p0 (n - S) (by omega) (L - (i + 1)) (by omega)]
    refine rk_sm_congr (fun x _ => ?_)
    by_cases d : S + x ≤ n
    · rw [if_pos d, if_pos (by omega)]
    · rw [if_neg d, if_neg (by omega)]
/-! all sorts -/
theorem rk_law {s n L : Nat} (h : rk_D s n L) : rk_Law (rk_W s n L) (rk_G s n L) L := by
  obtain ⟨h0, h1, h2, h3, h4, h5, h6, h7⟩ := h
  refine ⟨fun p q i x e => rk_W_congr e, fun p q i e => rk_G_congr e, fun p i _ k => rk_W_self (k i (by omega)), ?_, ?_, ?_⟩
  · intro p i hi k
    have : s = 0 ∨ s = 1 ∨ s = 2 ∨ s = 3 ∨ s = 4 := by omega
    rcases this with e | e | e | e | e
    · have l := h3 e
      subst e
      exact rk_sum0 h2 l hi k
    · have l := h4 e
      subst e
      subst l
      exact rk_sum1 h2 hi k
    · have l := h5 e
      subst e
      exact rk_sum2 (by omega) hi k
    · have l := h6 e
      subst e
      exact rk_sum3 l hi k
    · have l := h7 e
      subst e
      exact rk_sum4 h2 l hi k
  · intro p k
    have : s = 0 ∨ s = 1 ∨ s = 2 ∨ s = 3 ∨ s = 4 := by omega
    rcases this with e | e | e | e | e
    · subst e
      rw [rk_G0, Nat.sub_self, rk_bin0]
      exact Nat.le_refl 1
    · subst e
      rw [rk_G1, Nat.sub_self]
      exact Nat.le_refl 1
    · subst e
      rw [rk_G2, Nat.sub_self]
      exact Nat.le_refl 1
    · have l := h6 e
      subst e
      have b := rk_ball k
      rw [rk_G3, show n + rk_sm p L - L = 0 by omega, show n - rk_sm p L = 0 by omega]
      exact Nat.le_refl 1
    · subst e
      rw [rk_G4, Nat.sub_self]
      show (if n < rk_sm p L then 0 else (if n - rk_sm p L = 0 then 1 else 0)) ≤ 1
      split
      · omega
      · split <;> omega
  · intro p i x hi k hw
    have m := rk_W_may hw
    have : s = 0 ∨ s = 1 ∨ s = 2 ∨ s = 3 ∨ s = 4 := by omega
    rcases this with e | e | e | e | e
    · subst e
      have t := ((rk_may0 n p i x).mp m).1
      omega
    · subst e
      have t := ((rk_may1 n p i x).mp m).1
      omega
    · have l := h5 e
      subst e
      have t := (rk_may2 n p i x).mp m
      have g := rk_gm_le k
      omega
    · subst e
      have t := (rk_may3 n p i x).mp m
      omega
    · subst e
      have t := (rk_may4 n p i x).mp m
      omega
/-! what a count needs of the items -/
def rk_pre (s n : Nat) (p : Nat → Nat) (i : Nat) : Prop := (s = 3 → rk_sm p i ≤ n ∧ i ≤ 2 * rk_sm p i ∧ rk_sm p i ≤ i)
def rk_prg (s n : Nat) (p : Nat → Nat) (i : Nat) : Prop := rk_pre s n p i ∧ (s = 0 → 0 < i → p (i - 1) < n)
theorem rk_pre_ok {s n L : Nat} {p : Nat → Nat} {i : Nat} (h : rk_ok (rk_W s n L) p i) : rk_prg s n p i := by
  refine ⟨fun e => ?_, fun e hi => ?_⟩
  · subst e
    exact rk_ball h
  · subst e
    exact ((rk_may0 n p (i - 1) _).mp (rk_ok_may h (i - 1) (by omega))).1
theorem rk_prg_0 (s n : Nat) (p : Nat → Nat) : rk_prg s n p 0 := ⟨fun _ => ⟨Nat.zero_le n, by omega, Nat.le_refl 0⟩, fun _ h => absurd h (by omega)⟩
theorem rk_prg_up {s n : Nat} {p : Nat → Nat} {i x : Nat} (h : rk_pre s n p i) (m : rk_may s n p i x = true) : rk_prg s n (rk_up p i x) (i + 1) := by
  refine ⟨fun e => ?_, fun e _ => ?_⟩
  · have a := h e
    subst e
    have t := (rk_may3 n p i x).mp m
    rw [rk_sm_up]
    omega
  · subst e
    rw [show i + 1 - 1 = i from rfl, rk_up_s]
    exact ((rk_may0 n p i x).mp m).1
/-! bounds -/
theorem rk_b0 : ∀ a, a < 8 → ∀ b, b < 8 → rk_bin a b < 2 ^ 30 := by decide +kernel
theorem rk_b1 : ∀ a, a < 8 → rk_fac a < 2 ^ 30 := by decide +kernel
theorem rk_b2 : ∀ a, a < 8 → ∀ b, b < 9 → rk_grp a b < 2 ^ 30 := by decide +kernel
theorem rk_b3 : ∀ a, a < 8 → ∀ b, b < 8 → rk_nst a b < 2 ^ 30 := by decide +kernel
theorem rk_b4 : ∀ a, a < 8 → ∀ b, b < 8 → rk_E a b < 2 ^ 30 := by decide +kernel
theorem rk_gm8 {p : Nat → Nat} (hp : ∀ j, p j < 8) (i : Nat) : rk_gm p i ≤ 8 := by
  induction i with
  | zero => exact Nat.zero_le 8
  | succ i ih =>
    have := hp i
    show max (rk_gm p i) (p i + 1) ≤ 8
    omega
theorem rk_G_lt {s n L : Nat} (h : rk_D s n L) {p : Nat → Nat} (hp : ∀ j, p j < 8) {i : Nat} (hi : i ≤ L) (hk : rk_pre s n p i) : rk_G s n L p i < 2 ^ 30 := by
  obtain ⟨h0, h1, h2, h3, h4, h5, h6, h7⟩ := h
  have : s = 0 ∨ s = 1 ∨ s = 2 ∨ s = 3 ∨ s = 4 := by omega
  rcases this with e | e | e | e | e
  · have l := h3 e
    subst e
    rw [rk_G0]
    refine rk_b0 _ ?_ _ (by omega)
    split <;> omega
  · have l := h4 e
    subst e
    rw [rk_G1]
    exact rk_b1 _ (by omega)
  · have l := h5 e
    subst e
    rw [rk_G2]
    have := rk_gm8 hp i
    exact rk_b2 _ (by omega) _ (by omega)
  · have l := h6 e
    have b := hk e
    subst e
    rw [rk_G3]
    exact rk_b3 _ (by omega) _ (by omega)
  · have l := h7 e
    subst e
    rw [rk_G4]
    split
    · omega
    · exact rk_b4 _ (by omega) _ (by omega)
theorem rk_W_lt {s n L : Nat} (h : rk_D s n L) {p : Nat → Nat} (hp : ∀ j, p j < 8) {i x : Nat} (hi : i < L) (hx : x < 8) (hk : rk_pre s n p i) : rk_W s n L p i x < 2 ^ 30 := by
  by_cases c : rk_may s n p i x = true
  · rw [rk_W_t c]
    exact rk_G_lt h (rk_up_lt hp hx) (by omega) (rk_prg_up hk c).1
  · rw [rk_W_not c]
    omega
end
section
/-! ===== walks: the little methods, counting ===== -/
/-- an array of small numbers -/
def rk_a (p : Nat → Nat) : Nat → Int32 := fun j => nI (p j)
theorem rk_a_at (p : Nat → Nat) (j : Nat) : rk_a p j = nI (p j) := rfl
theorem rk_a_up (p : Nat → Nat) (i x : Nat) : upd (rk_a p) i (nI x) = rk_a (rk_up p i x) := by
  funext j
  by_cases e : j = i
  · rw [e, pk_us, rk_a_at, rk_up_s]
  · rw [pk_un e, rk_a_at, rk_a_at, rk_up_n e]
theorem rk_by : ∀ x, x < 8 → (nI x).toInt8.toInt32 = nI x := by decide +kernel
theorem rk_nar {x : Nat} (h : x < 8) : vp_nar .byte (nI x) = nI x := by
  rw [vp_nar_byte, rk_by x h]
theorem rk_a_set {p : Nat → Nat} {i x : Nat} (hi : i < 14) (hx : x < 8) : upd (rk_a p) (nI i).toNatClampNeg (nI x).toInt8.toInt32 = rk_a (rk_up p i x) := by
  rw [nI_clamp (by omega), rk_by x hx, rk_a_up]
theorem rk_a_back {p : Nat → Nat} {i x : Nat} (hi : i < 14) (hp : ∀ j, p j < 8) : upd (rk_a (rk_up p i x)) (nI i).toNatClampNeg (vp_nar .byte (rk_a p (nI i).toNatClampNeg)) = rk_a p := by
  rw [nI_clamp (by omega), rk_a_at, rk_nar (hp i), rk_a_up]
  congr 1
  funext j
  by_cases e : j = i
  · rw [e, rk_up_s]
  · rw [rk_up_n e, rk_up_n e]
/-- the tables -/
def rk_T (a3 a4 a5 a6 : Nat → Int32) : Prop :=
  (∀ a, a < 8 → ∀ b, b ≤ a → a3 (8 * a + b) = nI (rk_bin a b)) ∧ (∀ l, l < 8 → ∀ g, g + l < 16 → a4 (16 * l + g) = nI (rk_grp l g)) ∧
  (∀ z, z < 8 → ∀ o, o ≤ z → a5 (8 * z + o) = nI (rk_nst z o)) ∧ (∀ a, a < 8 → a6 a = nI (rk_fac a))
theorem rk_sm_b {p : Nat → Nat} (hp : ∀ j, p j < 8) (i : Nat) : rk_sm p i ≤ 7 * i := by
  induction i with
  | zero => exact Nat.le_refl 0
  | succ i ih =>
    have := hp i
    rw [rk_sm_s]
    omega
/-- the greatest item before: one less than the groups -/
def rk_g : Nat → Int32
  | 0 => -1
  | g + 1 => nI g
theorem rk_g1 (g : Nat) : rk_g g + 1 = nI g := by
  cases g with
  | zero => decide
  | succ g => exact nI_1 g
theorem rk_gle {a g : Nat} (ha : a < 2 ^ 30) (hg : g < 2 ^ 30) : nI a ≤ rk_g g ↔ a < g := by
  cases g with
  | zero =>
    refine ⟨fun z => ?_, fun z => absurd z (by omega)⟩
    exfalso
    have t : (nI a).toInt ≤ (-1 : Int32).toInt := Int32.le_iff_toInt_le.mp z
    rw [nI_toInt (by omega), show (-1 : Int32).toInt = -1 from by decide] at t
    omega
  | succ g =>
    show nI a ≤ nI g ↔ _
    rw [nI_leI (by omega) (by omega)]
    omega
theorem rk_or : ∀ m, m < 256 → ∀ t, t < 8 → (nI m ||| ((1 : Int32) <<< (nI t &&& 31))) = nI (m ||| 2 ^ t) := by decide +kernel
theorem rk_bit : ∀ m, m < 256 → ∀ x, x < 8 → (((nI m >>> (nI x &&& 31)) &&& 1) = 0 ↔ m.testBit x = false) := by decide +kernel
theorem rk_mk_lt {p : Nat → Nat} (hp : ∀ j, p j < 8) (i : Nat) : rk_mk p i < 256 := by
  induction i with
  | zero =>
    show 0 < 256
    omega
  | succ i ih =>
    have a : 2 ^ p i < 2 ^ 8 := Nat.pow_lt_pow_right (by omega) (hp i)
    show rk_mk p i ||| 2 ^ p i < 2 ^ 8
    exact Nat.or_lt_two_pow ih a
theorem rk_w31 : ∀ r, r < 8 → ∀ j, j < 7 → rk_ws r j * (r + (j + 1)) < 2 ^ 31 := by decide +kernel
theorem rk_sc (a b c : Int32) : a - b + c = a + c - b := by
  rw [Int32.sub_eq_add_neg, Int32.add_assoc, Int32.add_comm (-b) c, ← Int32.add_assoc, ← Int32.sub_eq_add_neg]
theorem rk_8 (a b : Nat) : (8 : Int32) * nI a + nI b = nI (8 * a + b) := by
  rw [show (8 : Int32) = nI 8 from rfl, pk_mul, nI_add]
theorem rk_16 (a b : Nat) : (16 : Int32) * nI a + nI b = nI (16 * a + b) := by
  rw [show (16 : Int32) = nI 16 from rfl, pk_mul, nI_add]
theorem rk_le2 {S i : Nat} (hS : S < 2 ^ 20) (hi : i < 2 ^ 20) : nI S ≤ nI i - nI S ↔ 2 * S ≤ i := by
  rw [Int32.le_iff_toInt_le, pk_sub_toInt (by omega) (by omega), nI_toInt (by omega)]
  omega
section
variable {f1 f2 f3 f4 f5 : Int32} {a2 a3 a4 a5 a6 : Nat → Int32} {p : Nat → Nat} {s n L i x : Nat}
theorem rk_sumB {post : Int32 → Prop} (hi : i ≤ 14) (H : post (nI (rk_sm p i))) : wpX_sumBefore post (f1, f2, f3, f4, f5, rk_a p, a2, a3, a4, a5, a6) (nI i) :=
  pk_loop (σ := Unit) (fun n j _ => wX_sumBefore_4 post (nI i) f1 f2 f3 f4 f5 (rk_a p) a2 a3 a4 a5 a6 n (nI (rk_sm p j)) (nI j)) (fun _ _ => True) i 0 () (Nat.zero_le i) trivial
    (fun n _ _ => pk_le i i (fun _ => H) (fun z => absurd z (by omega)))
    (fun n j _ hj _ hw => pk_le i j (fun z => absurd z (by omega)) (fun _ => ⟨pk_in j 14 (by omega), nm_r (e' := nI (rk_sm p (j + 1))) (by rw [nI_clamp (by omega)]; exact nI_add _ _) (nm_r (nI_1 j) (hw () trivial))⟩))
theorem rk_gB {post : Int32 → Prop} (hp : ∀ j, p j < 8) (hi : i ≤ 14) (H : post (rk_g (rk_gm p i))) : wpX_greatestBefore post (f1, f2, f3, f4, f5, rk_a p, a2, a3, a4, a5, a6) (nI i) := by
  refine pk_loop (σ := Unit) (fun n j _ => wX_greatestBefore_4 post (nI i) f1 f2 f3 f4 f5 (rk_a p) a2 a3 a4 a5 a6 n (rk_g (rk_gm p j)) (nI j)) (fun _ _ => True) i 0 () (Nat.zero_le i) trivial
    (fun n _ _ => pk_le i i (fun _ => H) (fun z => absurd z (by omega)))
    (fun n j _ hj _ hw => pk_le i j (fun z => absurd z (by omega)) (fun _ => ⟨pk_in j 14 (by omega), ?_⟩))
  have hw' : wX_greatestBefore_4 post (nI i) f1 f2 f3 f4 f5 (rk_a p) a2 a3 a4 a5 a6 n (rk_g (max (rk_gm p j) (p j + 1))) (nI (j + 1)) := hw () trivial
  rw [nI_clamp (show j < 2 ^ 31 by omega), rk_a_at]
  have g8 := rk_gm8 hp j
  have p8 := hp j
  by_cases c : p j < rk_gm p j
  · refine br_t ((rk_gle (by omega) (by omega)).mpr c) (nm_r (nI_1 j) ?_)
    rw [show max (rk_gm p j) (p j + 1) = rk_gm p j by omega] at hw'
    exact hw'
  · refine br_f (fun z => c ((rk_gle (by omega) (by omega)).mp z)) ⟨pk_in j 14 (by omega), nm_e (nm_r (nI_1 j) ?_)⟩
    rw [show max (rk_gm p j) (p j + 1) = p j + 1 by omega] at hw'
    exact hw'
theorem rk_uB {post : Int32 → Prop} (hp : ∀ j, p j < 8) (hi : i ≤ 14) (H : post (nI (rk_mk p i))) : wpX_usedBefore post (f1, f2, f3, f4, f5, rk_a p, a2, a3, a4, a5, a6) (nI i) :=
  pk_loop (σ := Unit) (fun n j _ => wX_usedBefore_4 post (nI i) f1 f2 f3 f4 f5 (rk_a p) a2 a3 a4 a5 a6 n (nI (rk_mk p j)) (nI j)) (fun _ _ => True) i 0 () (Nat.zero_le i) trivial
    (fun n _ _ => pk_le i i (fun _ => H) (fun z => absurd z (by omega)))
    (fun n j _ hj _ hw => pk_le i j (fun z => absurd z (by omega)) (fun _ => ⟨pk_in j 14 (by omega), nm_r (e' := nI (rk_mk p (j + 1))) (by rw [nI_clamp (by omega)]; exact rk_or _ (rk_mk_lt hp j) _ (hp j)) (nm_r (nI_1 j) (hw () trivial))⟩))
theorem rk_wS {post : Int32 → Prop} {r l : Nat} (hr : r < 8) (hl : l < 7) (H : post (nI (rk_ws r l))) : wpX_waysToSplit post (f1, f2, f3, f4, f5, rk_a p, a2, a3, a4, a5, a6) (nI r) (nI (l + 1)) :=
  pk_loop (σ := Unit) (fun n j _ => wX_waysToSplit_5 post (nI r) (nI (l + 1)) f1 f2 f3 f4 f5 (rk_a p) a2 a3 a4 a5 a6 n (nI (rk_ws r j)) (nI (j + 1))) (fun _ _ => True) l 0 () (Nat.zero_le l) trivial
    (fun n _ _ => pk_le (l + 1) (l + 1) (fun _ => H) (fun z => absurd z (by omega)))
    (fun n j _ hj _ hw => pk_le (l + 1) (j + 1) (fun z => absurd z (by omega)) (fun _ => ⟨nI_ne0 (by omega) (by omega), nm_r (e' := nI (rk_ws r (j + 1))) (by rw [nI_add, pk_mul, pk_div (rk_w31 r hr j (by omega)) (by omega) (by omega)]; rfl) (nm_r (nI_1 (j + 1)) (hw () trivial))⟩))
theorem rk_g83 {post : Int32 → Prop} {f l : Nat} (hT : rk_T a3 a4 a5 a6) (hf : f < 8) (hl : l < 8) (H : post (nI (rk_bin f l))) : wX_goingOn_83 post (nI l) (nI f) f1 f2 f3 f4 f5 (rk_a p) a2 a3 a4 a5 a6 := by
  unfold wX_goingOn_83
  rw [rk_8]
  refine pk_le l f (fun z => ⟨pk_in (8 * f + l) 64 (by omega), ?_⟩) (fun z => ?_)
  · rw [nI_clamp (by omega), hT.1 f hf l z]
    exact H
  · rw [rk_binz f l z] at H
    exact H
theorem rk_going {post : Int32 → Prop} (hD : rk_D s n L) (hT : rk_T a3 a4 a5 a6) (hp : ∀ j, p j < 8) (hi : i ≤ L) (hk : rk_prg s n p i) (H : post (nI (rk_G s n L p i))) : wpX_goingOn post (nI s, nI n, f3, nI L, f5, rk_a p, a2, a3, a4, a5, a6) (nI i) := by
  have hL := rk_D14 hD
  obtain ⟨h0, h1, h2, h3, h4, h5, h6, h7⟩ := hD
  unfold wpX_goingOn
  refine nm_r (pk_sub hi) ?_
  refine pk_eq s 1 (fun e => ?_) (fun e1 => pk_eq s 2 (fun e => ?_) (fun e2 => pk_eq s 0 (fun e => ?_) (fun e0 => ?_)))
  · have l := h4 e
    subst e
    refine ⟨pk_in (L - i) 8 (by omega), ?_⟩
    rw [nI_clamp (by omega), hT.2.2.2 (L - i) (by omega)]
    exact H
  · have l := h5 e
    subst e
    have g8 := rk_gm8 hp i
    refine rk_gB hp (by omega) (nm_r (rk_g1 _) ?_)
    rw [rk_16]
    refine ⟨pk_in (16 * (L - i) + rk_gm p i) 128 (by omega), ?_⟩
    rw [nI_clamp (by omega), hT.2.1 (L - i) (by omega) (rk_gm p i) (by omega)]
    exact H
  · have l := h3 e
    have k := hk.2 e
    subst e
    rw [rk_G0] at H
    refine pk_eq i 0 (fun z => ?_) (fun z => ⟨pk_in (i - 1) 14 (by omega) (by rw [show (1 : Int32) = nI 1 from rfl, pk_sub (by omega)]), ?_⟩)
    · rw [if_pos z] at H
      exact rk_g83 hT (by omega) (by omega) H
    · rw [if_neg z] at H
      have k' := k (by omega)
      rw [show (1 : Int32) = nI 1 from rfl, pk_sub (show 1 ≤ i by omega), pk_sub (show 1 ≤ n by omega), nI_clamp (by omega), rk_a_at, pk_sub (by omega)]
      exact rk_g83 hT (by omega) (by omega) H
  · have S := rk_sm_b hp i
    refine rk_sumB (by omega) ?_
    refine pk_eq s 3 (fun e => ?_) (fun e3 => ?_)
    · have b := hk.1 e
      have l := h6 e
      subst e
      rw [rk_sc, nI_add, pk_sub (show i ≤ n + rk_sm p i by omega), rk_8, pk_sub (show rk_sm p i ≤ 8 * (n + rk_sm p i - i) + n by omega)]
      rw [show 8 * (n + rk_sm p i - i) + n - rk_sm p i = 8 * (n + rk_sm p i - i) + (n - rk_sm p i) by omega]
      refine ⟨pk_in (8 * (n + rk_sm p i - i) + (n - rk_sm p i)) 64 (by omega), ?_⟩
      rw [nI_clamp (by omega), hT.2.2.1 (n + rk_sm p i - i) (by omega) (n - rk_sm p i) (by omega)]
      exact H
    · have e4 : s = 4 := by omega
      have l := h7 e4
      subst e4
      rw [rk_G4] at H
      by_cases c : n < rk_sm p i
      · rw [if_pos c] at H
        exact nm_e (br_t (pk_sneg (by omega) c) H)
      · rw [if_neg c] at H
        have r8 : n - rk_sm p i < 8 := by omega
        refine nm_r (pk_sub (by omega)) (br_f (nI_pos (by omega)) ?_)
        generalize n - rk_sm p i = r at *
        refine pk_eq (L - i) 0 (fun z => ?_) (fun z => ?_)
        · rw [z] at H ⊢
          refine pk_le r 0 (fun d => ?_) (fun d => ?_)
          · have r0 : r = 0 := by omega
            subst r0
            exact br_t rfl H
          · have E : rk_E r 0 = 0 := if_neg (by omega)
            rw [E] at H
            exact H
        · obtain ⟨m, hm⟩ : ∃ m, L - i = m + 1 := ⟨L - i - 1, by omega⟩
          rw [hm] at H ⊢
          exact br_f (nI_ne0 (by omega) (by omega)) (rk_wS r8 (by omega) H)
theorem rk_mayW {post : Int32 → Prop} (h4 : s ≤ 4) (hn : n ≤ 7) (hp : ∀ j, p j < 8) (hi : i ≤ 14) (hx : x < 8) (H0 : ¬ rk_may s n p i x = true → post 0) (H1 : rk_may s n p i x = true → post 1) : wpX_mayCome post (nI s, nI n, f3, f4, f5, rk_a p, a2, a3, a4, a5, a6) (nI i) (nI x) := by
  unfold wpX_mayCome
  refine pk_eq s 0 (fun e => ?_) (fun e0 => pk_eq s 1 (fun e => ?_) (fun e1 => pk_eq s 2 (fun e => ?_) (fun e2 => pk_eq s 4 (fun e => ?_) (fun e4 => ?_))))
  · subst e
    rw [rk_may0] at H0 H1
    refine pk_le n x (fun z => H0 (by omega)) (fun z => pk_eq i 0 (fun c => H1 ⟨z, Or.inl c⟩) (fun c => ⟨pk_in (i - 1) 14 (by omega) (by rw [show (1 : Int32) = nI 1 from rfl, pk_sub (by omega)]), ?_⟩))
    have p8 := hp (i - 1)
    rw [show (1 : Int32) = nI 1 from rfl, pk_sub (show 1 ≤ i by omega), nI_clamp (by omega), rk_a_at]
    exact pk_le x (p (i - 1)) (fun d => H0 (by omega)) (fun d => H1 ⟨z, Or.inr d⟩)
  · subst e
    rw [rk_may1] at H0 H1
    refine pk_le n x (fun z => H0 (fun t => absurd t.1 (by omega))) (fun z => rk_uB hp hi ?_)
    refine ek_if (rk_bit _ (rk_mk_lt hp i) x hx) (fun t => H1 ⟨z, t⟩) (fun t => H0 (fun t' => t t'.2))
  · subst e
    rw [rk_may2] at H0 H1
    have g8 := rk_gm8 hp i
    refine rk_gB hp hi ?_
    rw [rk_g1]
    exact pk_lt (rk_gm p i) x (fun z => H0 (by omega)) (fun z => H1 z)
  · subst e
    rw [rk_may4] at H0 H1
    exact pk_lt n x (fun z => H0 (by omega)) (fun z => H1 z)
  · have e3 : s = 3 := by omega
    subst e3
    rw [rk_may3] at H0 H1
    have S := rk_sm_b hp i
    refine pk_le x 1 (fun z => rk_sumB hi ?_) (fun z => H0 (by omega))
    refine pk_eq x 1 (fun c => ?_) (fun c => ?_)
    · exact pk_le n (rk_sm p i) (fun d => H0 (by omega)) (fun d => H1 (by omega))
    · exact ek_if (rk_le2 (by omega) (by omega)) (fun d => H0 (by omega)) (fun d => H1 (by omega))
theorem rk_with {post : Int32 → St1 → Prop} (hD : rk_D s n L) (hT : rk_T a3 a4 a5 a6) (hp : ∀ j, p j < 8) (hi : i < L) (hx : x < 8) (hk : rk_pre s n p i) (H : post (nI (rk_W s n L p i x)) (nI s, nI n, f3, nI L, f5, rk_a p, a2, a3, a4, a5, a6)) : wpX_withItem post (nI s, nI n, f3, nI L, f5, rk_a p, a2, a3, a4, a5, a6) (nI i) (nI x) := by
  have hL := rk_D14 hD
  unfold wpX_withItem
  refine rk_mayW hD.1 hD.2.2.1 hp (by omega) hx (fun m => br_t rfl ?_) (fun m => br_f (by decide) ⟨pk_in i 14 (by omega), nm_e ⟨pk_in i 14 (by omega), nm_r (rk_a_set (by omega) hx) ?_⟩⟩)
  · rw [rk_W_not m] at H
    exact H
  · rw [nI_1]
    refine rk_going hD hT (rk_up_lt hp hx) (by omega) (rk_prg_up hk m) ⟨pk_in i 14 (by omega), nm_r (rk_a_back (by omega) hp) ?_⟩
    rw [rk_W_t m] at H
    exact H
theorem rk_with2 {post : Int32 → St1 → Prop} (hD : rk_D s n L) (hT : rk_T a3 a4 a5 a6) (hp : ∀ j, p j < 8) (hi : i < L) (hx : x < 8) (hk : rk_pre s n p i) (H : post (nI (rk_W s n L p i x)) (nI s, nI n, f3, nI L, f5, rk_a p, a2, a3, a4, a5, a6)) : wpX_withItem_2 post (nI s, nI n, f3, nI L, f5, rk_a p, a2, a3, a4, a5, a6) (nI i) (nI x) := by
  have hL := rk_D14 hD
  unfold wpX_withItem_2
  refine rk_mayW hD.1 hD.2.2.1 hp (by omega) hx (fun m => br_t rfl ?_) (fun m => br_f (by decide) ⟨pk_in i 14 (by omega), nm_e ⟨pk_in i 14 (by omega), nm_r (rk_a_set (by omega) hx) ?_⟩⟩)
  · rw [rk_W_not m] at H
    exact H
  · rw [nI_1]
    refine rk_going hD hT (rk_up_lt hp hx) (by omega) (rk_prg_up hk m) ⟨pk_in i 14 (by omega), nm_r (rk_a_back (by omega) hp) ?_⟩
    rw [rk_W_t m] at H
    exact H
end
end
section
/-! ===== walks: the tables ===== -/
theorem rk_pm {i : Nat} (h : 1 ≤ i) : nI i - 1 = nI (i - 1) := by
  rw [show (1 : Int32) = nI 1 from rfl, pk_sub h]
theorem rk_i8 (a : Nat) : (8 : Int32) * nI (a + 1) - 8 = nI (8 * a) := by
  rw [show (8 : Int32) = nI 8 from rfl, pk_mul, pk_sub (by omega)]
  exact congrArg nI (by omega)
theorem rk_i16 (a : Nat) : (16 : Int32) * nI (a + 1) - 16 = nI (16 * a) := by
  rw [show (16 : Int32) = nI 16 from rfl, pk_mul, pk_sub (by omega)]
  exact congrArg nI (by omega)
theorem rk_i15 (a : Nat) : (16 : Int32) * nI (a + 1) - 15 = nI (16 * a + 1) := by
  rw [show (16 : Int32) = nI 16 from rfl, show (15 : Int32) = nI 15 from rfl, pk_mul, pk_sub (by omega)]
  exact congrArg nI (by omega)
section
variable {f1 f2 f3 f4 f5 : Int32} {a1 a2 a3 a4 a5 a6 : Nat → Int32} {post : St1 → Prop}
/-! nestings -/
theorem rk_f285 {J220 J228 : Int32 → (Nat → Int32) → (Nat → Int32) → (Nat → Int32) → (Nat → Int32) → (Nat → Int32) → (Nat → Int32) → Prop} {z o : Nat} {x : Int32} (hz : z < 8) (ho : o ≤ z)
    (H : J228 (nI (o + 1)) a1 a2 a3 a4 (upd a5 (8 * z + o) x) a6) : wX_fillTables_285 post J220 J228 (nI z) (nI o) x f1 f2 f3 f4 f5 a1 a2 a3 a4 a5 a6 := by
  unfold wX_fillTables_285
  rw [rk_8, nI_clamp (by omega)]
  exact ⟨pk_in (8 * z + o) 64 (by omega), nm_e (nm_r (nI_1 o) H)⟩
theorem rk_f242 {J220 J228 : Int32 → (Nat → Int32) → (Nat → Int32) → (Nat → Int32) → (Nat → Int32) → (Nat → Int32) → (Nat → Int32) → Prop} {z o : Nat} {z0 : Int32} (hz : z < 8) (ho : o ≤ z) (e0 : z = 0 → z0 = nI 1) (e1 : 0 < z → z0 = nI 0)
    (h1 : ∀ z', z' < z → ∀ o', o' ≤ z' → a5 (8 * z' + o') = nI (rk_nst z' o')) (h2 : ∀ o', o' < o → a5 (8 * z + o') = nI (rk_nst z o'))
    (H : J228 (nI (o + 1)) a1 a2 a3 a4 (upd a5 (8 * z + o) (nI (rk_nst z o))) a6) : wX_fillTables_242 post J220 J228 (nI z) (nI o) z0 f1 f2 f3 f4 f5 a1 a2 a3 a4 a5 a6 := by
  unfold wX_fillTables_242
  cases z with
  | zero =>
    have eo : o = 0 := by omega
    subst eo
    rw [e0 rfl]
    exact pk_le 0 0 (fun _ => pk_le 0 0 (fun _ => rk_f285 hz ho H) (fun c => absurd c (by omega))) (fun c => absurd c (by omega))
  | succ z =>
    rw [e1 (by omega)]
    cases o with
    | zero =>
      refine pk_le 0 0 (fun _ => ?_) (fun c => absurd c (by omega))
      unfold wX_fillTables_263
      refine pk_le (z + 1) 0 (fun c => absurd c (by omega)) (fun _ => ?_)
      rw [rk_i8, nI_add]
      refine ⟨pk_in (8 * z + 0) 64 (by omega), nm_r (e' := nI (rk_nst (z + 1) 0)) ?_ (rk_f285 hz ho H)⟩
      rw [nI_clamp (by omega), h1 z (by omega) 0 (by omega), nI_add, Nat.zero_add, rk_nst0]
    | succ o =>
      refine pk_le (o + 1) 0 (fun c => absurd c (by omega)) (fun _ => ?_)
      rw [rk_8, show 8 * (z + 1) + (o + 1) = (8 * (z + 1) + o) + 1 by omega, nI_pred]
      refine ⟨pk_in (8 * (z + 1) + o) 64 (by omega), nm_r (e' := nI (rk_nst (z + 1) o)) (by rw [nI_clamp (by omega), h2 o (by omega), nI_add, Nat.zero_add]) ?_⟩
      unfold wX_fillTables_263
      rw [rk_nst1] at H
      refine pk_le (z + 1) (o + 1) (fun c => ?_) (fun c => ?_)
      · rw [if_neg (by omega)] at H
        exact rk_f285 hz ho H
      · rw [if_pos (by omega)] at H
        rw [rk_i8, nI_add]
        refine ⟨pk_in (8 * z + (o + 1)) 64 (by omega), nm_r ?_ (rk_f285 hz ho H)⟩
        rw [nI_clamp (by omega), h1 z (by omega) (o + 1) (by omega), nI_add]
theorem rk_f228 {J220 : Int32 → (Nat → Int32) → (Nat → Int32) → (Nat → Int32) → (Nat → Int32) → (Nat → Int32) → (Nat → Int32) → Prop} {z : Nat} (hz : z < 8)
    (h1 : ∀ z', z' < z → ∀ o', o' ≤ z' → a5 (8 * z' + o') = nI (rk_nst z' o'))
    (H : ∀ b5 : Nat → Int32, (∀ z', z' < z + 1 → ∀ o', o' ≤ z' → b5 (8 * z' + o') = nI (rk_nst z' o')) → J220 (nI (z + 1)) a1 a2 a3 a4 b5 a6) : ∃ n, wX_fillTables_228 post J220 (nI z) f1 f2 f3 f4 f5 n 0 a1 a2 a3 a4 a5 a6 := by
  refine pk_loop (fun n o s => wX_fillTables_228 post J220 (nI z) f1 f2 f3 f4 f5 n (nI o) a1 a2 a3 a4 s a6) (fun o s => (∀ z', z' < z → ∀ o', o' ≤ z' → s (8 * z' + o') = nI (rk_nst z' o')) ∧ (∀ o', o' < o → s (8 * z + o') = nI (rk_nst z o'))) (z + 1) 0 a5 (by omega) ⟨h1, fun o' h => absurd h (by omega)⟩ ?_ ?_
  · intro n s h
    refine pk_lt z (z + 1) (fun _ => nm_r (nI_1 z) (H s ?_)) (fun c => absurd c (by omega))
    intro z' hz' o' ho'
    by_cases e : z' = z
    · subst e
      exact h.2 o' (by omega)
    · exact h.1 z' (by omega) o' ho'
  · intro n o s ho h hw
    refine pk_lt z o (fun c => absurd c (by omega)) (fun _ => ?_)
    have T : wX_fillTables_228 post J220 (nI z) f1 f2 f3 f4 f5 n (nI (o + 1)) a1 a2 a3 a4 (upd s (8 * z + o) (nI (rk_nst z o))) a6 := by
      refine hw _ ⟨fun z' hz' o' ho' => ?_, fun o' ho' => ?_⟩
      · rw [pk_un (by omega)]
        exact h.1 z' hz' o' ho'
      · by_cases e : o' = o
        · rw [e, pk_us]
        · rw [pk_un (by omega)]
          exact h.2 o' (by omega)
    exact pk_eq z 0 (fun c => rk_f242 hz (by omega) (fun _ => rfl) (fun d => absurd d (by omega)) h.1 h.2 T) (fun c => rk_f242 hz (by omega) (fun d => absurd d c) (fun _ => rfl) h.1 h.2 T)
theorem rk_f220 (H : ∀ b5 : Nat → Int32, (∀ z, z < 8 → ∀ o, o ≤ z → b5 (8 * z + o) = nI (rk_nst z o)) → post (f1, f2, f3, f4, f5, a1, a2, a3, a4, b5, a6)) : ∃ n, wX_fillTables_220 post f1 f2 f3 f4 f5 n 0 a1 a2 a3 a4 a5 a6 :=
  pk_loop (fun n z s => wX_fillTables_220 post f1 f2 f3 f4 f5 n (nI z) a1 a2 a3 a4 s a6) (fun z s => ∀ z', z' < z → ∀ o', o' ≤ z' → s (8 * z' + o') = nI (rk_nst z' o')) 8 0 a5 (by omega) (fun z' h => absurd h (by omega))
    (fun n s h => pk_le 8 8 (fun _ => H s h) (fun c => absurd c (by omega)))
    (fun n z s hz h hw => pk_le 8 z (fun c => absurd c (by omega)) (fun _ => rk_f228 hz h (fun b5 hb => hw b5 hb)))
/-! groupings -/
theorem rk_f156 {J148 : Int32 → (Nat → Int32) → (Nat → Int32) → (Nat → Int32) → (Nat → Int32) → (Nat → Int32) → (Nat → Int32) → Prop} {l : Nat} (hl : l + 1 < 8)
    (h1 : ∀ l', l' < l + 1 → ∀ g, g + l' < 16 → a4 (16 * l' + g) = nI (rk_grp l' g))
    (H : ∀ b4 : Nat → Int32, (∀ l', l' < l + 2 → ∀ g, g + l' < 16 → b4 (16 * l' + g) = nI (rk_grp l' g)) → J148 (nI (l + 2)) a1 a2 a3 b4 a5 a6) : ∃ n, wX_fillTables_156 post J148 (nI (l + 1)) f1 f2 f3 f4 f5 n 0 a1 a2 a3 a4 a5 a6 := by
  refine pk_loop (fun n g s => wX_fillTables_156 post J148 (nI (l + 1)) f1 f2 f3 f4 f5 n (nI g) a1 a2 a3 s a5 a6) (fun g s => (∀ l', l' < l + 1 → ∀ g, g + l' < 16 → s (16 * l' + g) = nI (rk_grp l' g)) ∧ (∀ g', g' < g → s (16 * (l + 1) + g') = nI (rk_grp (l + 1) g'))) (15 - l) 0 a4 (by omega) ⟨h1, fun g h => absurd h (by omega)⟩ ?_ ?_
  · intro n s h
    refine pk_le 16 (15 - l + (l + 1)) (fun _ => nm_r (nI_1 (l + 1)) (H s ?_)) (fun c => absurd c (by omega)) rfl (nI_add _ _)
    intro l' hl' g hg
    by_cases e : l' = l + 1
    · subst e
      exact h.2 g (by omega)
    · exact h.1 l' (by omega) g hg
  · intro n g s hg h hw
    refine pk_le 16 (g + (l + 1)) (fun c => absurd c (by omega)) (fun _ => ?_) rfl (nI_add _ _)
    rw [rk_i16, rk_i15, rk_16, nI_add, nI_add]
    refine ⟨pk_in (16 * l + g) 128 (by omega), pk_in (16 * l + 1 + g) 128 (by omega), pk_in (16 * (l + 1) + g) 128 (by omega), nm_r (e' := upd s (16 * (l + 1) + g) (nI (rk_grp (l + 1) g))) ?_ (nm_r (nI_1 g) (hw _ ⟨fun l' hl' g' hg' => ?_, fun g' hg' => ?_⟩))⟩
    · rw [nI_clamp (by omega), nI_clamp (by omega), nI_clamp (by omega), show 16 * l + 1 + g = 16 * l + (g + 1) by omega, h.1 l (by omega) g (by omega), h.1 l (by omega) (g + 1) (by omega), pk_mul, nI_add]
      rfl
    · rw [pk_un (by omega)]
      exact h.1 l' hl' g' hg'
    · by_cases e : g' = g
      · rw [e, pk_us]
      · rw [pk_un (by omega)]
        exact h.2 g' (by omega)
theorem rk_f148 (h1 : ∀ l', l' < 1 → ∀ g, g + l' < 16 → a4 (16 * l' + g) = nI (rk_grp l' g))
    (H : ∀ b4 : Nat → Int32, (∀ l, l < 8 → ∀ g, g + l < 16 → b4 (16 * l + g) = nI (rk_grp l g)) → ∃ n, wX_fillTables_220 post f1 f2 f3 f4 f5 n 0 a1 a2 a3 b4 a5 a6) : ∃ n, wX_fillTables_148 post f1 f2 f3 f4 f5 n 1 a1 a2 a3 a4 a5 a6 :=
  pk_loop (fun n l s => wX_fillTables_148 post f1 f2 f3 f4 f5 n (nI (l + 1)) a1 a2 a3 s a5 a6) (fun l s => ∀ l', l' < l + 1 → ∀ g, g + l' < 16 → s (16 * l' + g) = nI (rk_grp l' g)) 7 0 a4 (by omega) h1
    (fun n s h => pk_le 8 8 (fun _ => H s h) (fun c => absurd c (by omega)))
    (fun n l s hl h hw => pk_le 8 (l + 1) (fun c => absurd c (by omega)) (fun _ => rk_f156 (by omega) h (fun b4 hb => hw b4 hb)))
theorem rk_f127 (H : ∀ b4 : Nat → Int32, (∀ l', l' < 1 → ∀ g, g + l' < 16 → b4 (16 * l' + g) = nI (rk_grp l' g)) → ∃ n, wX_fillTables_148 post f1 f2 f3 f4 f5 n 1 a1 a2 a3 b4 a5 a6) : ∃ n, wX_fillTables_127 post f1 f2 f3 f4 f5 n 0 a1 a2 a3 a4 a5 a6 := by
  refine pk_loop (fun n g s => wX_fillTables_127 post f1 f2 f3 f4 f5 n (nI g) a1 a2 a3 s a5 a6) (fun g s => ∀ g', g' < g → s g' = nI 1) 16 0 a4 (by omega) (fun g h => absurd h (by omega)) ?_ ?_
  · intro n s h
    refine pk_le 16 16 (fun _ => H s ?_) (fun c => absurd c (by omega))
    intro l' hl' g hg
    have e : l' = 0 := by omega
    subst e
    rw [show 16 * 0 + g = g by omega]
    exact h g (by omega)
  · intro n g s hg h hw
    refine pk_le 16 g (fun c => absurd c (by omega)) (fun _ => ⟨pk_in g 128 (by omega), nm_e (nm_r (nI_1 g) (hw _ (fun g' hg' => ?_)))⟩)
    rw [nI_clamp (by omega)]
    by_cases e : g' = g
    · rw [e, pk_us]
      rfl
    · rw [pk_un (by omega)]
      exact h g' (by omega)
/-! binomials -/
theorem rk_bins (a b : Nat) : rk_bin (a + 1) (b + 1) = rk_bin a b + rk_bin a (b + 1) := rfl
theorem rk_f57 {J39 : Int32 → (Nat → Int32) → (Nat → Int32) → (Nat → Int32) → (Nat → Int32) → (Nat → Int32) → (Nat → Int32) → Prop} {a : Nat} (ha : a < 8)
    (h1 : ∀ a', a' < a → ∀ b, b ≤ a' → a3 (8 * a' + b) = nI (rk_bin a' b)) (h2 : a3 (8 * a) = nI 1)
    (H : ∀ b3 : Nat → Int32, (∀ a', a' < a + 1 → ∀ b, b ≤ a' → b3 (8 * a' + b) = nI (rk_bin a' b)) → J39 (nI (a + 1)) a1 a2 b3 a4 a5 a6) : ∃ n, wX_fillTables_57 post J39 (nI a) f1 f2 f3 f4 f5 n 1 a1 a2 a3 a4 a5 a6 := by
  refine pk_loop (fun n b s => wX_fillTables_57 post J39 (nI a) f1 f2 f3 f4 f5 n (nI (b + 1)) a1 a2 s a4 a5 a6) (fun b s => (∀ a', a' < a → ∀ b, b ≤ a' → s (8 * a' + b) = nI (rk_bin a' b)) ∧ (∀ b', b' < b + 1 → s (8 * a + b') = nI (rk_bin a b'))) a 0 a3 (by omega) ⟨h1, fun b h => ?_⟩ ?_ ?_
  · have e : b = 0 := by omega
    subst e
    rw [rk_bin0]
    exact h2
  · intro n s h
    refine pk_lt a (a + 1) (fun _ => nm_r (nI_1 a) (H s ?_)) (fun c => absurd c (by omega))
    intro a' ha' b hb
    by_cases e : a' = a
    · subst e
      exact h.2 b (by omega)
    · exact h.1 a' (by omega) b hb
  · intro n b s hb h hw
    refine pk_lt a (b + 1) (fun c => absurd c (by omega)) (fun _ => ?_)
    cases a with
    | zero => omega
    | succ a =>
      have T : wX_fillTables_57 post J39 (nI (a + 1)) f1 f2 f3 f4 f5 n (nI (b + 1 + 1)) a1 a2 (upd s (8 * (a + 1) + (b + 1)) (nI (rk_bin (a + 1) (b + 1)))) a4 a5 a6 := by
        refine hw _ ⟨fun a' ha' b' hb' => ?_, fun b' hb' => ?_⟩
        · rw [pk_un (by omega)]
          exact h.1 a' ha' b' hb'
        · by_cases e : b' = b + 1
          · rw [e, pk_us]
          · rw [pk_un (by omega)]
            exact h.2 b' (by omega)
      rw [rk_i8, nI_add, rk_8, show 8 * a + (b + 1) = (8 * a + b) + 1 by omega, nI_pred]
      refine ⟨pk_in (8 * a + b) 64 (by omega), ?_⟩
      rw [nI_clamp (show 8 * a + b < 2 ^ 31 by omega), nI_clamp (show 8 * a + b + 1 < 2 ^ 31 by omega), nI_clamp (show 8 * (a + 1) + (b + 1) < 2 ^ 31 by omega), h.1 a (by omega) b (by omega)]
      rw [rk_bins] at T
      refine pk_le (a + 1) (b + 1) (fun c => ?_) (fun c => ?_)
      · rw [rk_binz a (b + 1) (by omega)] at T
        exact ⟨pk_in (8 * (a + 1) + (b + 1)) 64 (by omega), nm_r (by rw [Int32.add_zero]; rfl) (nm_r (nI_1 (b + 1)) T)⟩
      · refine ⟨pk_in (8 * a + b + 1) 64 (by omega), pk_in (8 * (a + 1) + (b + 1)) 64 (by omega), nm_r ?_ (nm_r (nI_1 (b + 1)) T)⟩
        rw [show 8 * a + b + 1 = 8 * a + (b + 1) by omega, h.1 a (by omega) (b + 1) (by omega), nI_add]
theorem rk_f39 (H : ∀ b3 : Nat → Int32, (∀ a, a < 8 → ∀ b, b ≤ a → b3 (8 * a + b) = nI (rk_bin a b)) → ∃ n, wX_fillTables_127 post f1 f2 f3 f4 f5 n 0 a1 a2 b3 a4 a5 a6) : ∃ n, wX_fillTables_39 post f1 f2 f3 f4 f5 n 0 a1 a2 a3 a4 a5 a6 := by
  refine pk_loop (fun n a s => wX_fillTables_39 post f1 f2 f3 f4 f5 n (nI a) a1 a2 s a4 a5 a6) (fun a s => ∀ a', a' < a → ∀ b, b ≤ a' → s (8 * a' + b) = nI (rk_bin a' b)) 8 0 a3 (by omega) (fun a h => absurd h (by omega))
    (fun n s h => pk_le 8 8 (fun _ => H s h) (fun c => absurd c (by omega))) ?_
  intro n a s ha h hw
  refine pk_le 8 a (fun c => absurd c (by omega)) (fun _ => ?_)
  have e : (8 : Int32) * nI a = nI (8 * a) := by
    rw [show (8 : Int32) = nI 8 from rfl, pk_mul]
  rw [e, nI_clamp (by omega)]
  refine ⟨pk_in (8 * a) 64 (by omega), nm_e (rk_f57 ha (fun a' ha' b hb => ?_) pk_us (fun b3 hb => hw b3 hb))⟩
  rw [pk_un (by omega)]
  exact h a' ha' b hb
/-! factorials -/
theorem rk_f9 (h : a6 0 = nI 1) (H : ∀ b6 : Nat → Int32, (∀ a, a < 8 → b6 a = nI (rk_fac a)) → ∃ n, wX_fillTables_39 post f1 f2 f3 f4 f5 n 0 a1 a2 a3 a4 a5 b6) : ∃ n, wX_fillTables_9 post f1 f2 f3 f4 f5 n 1 a1 a2 a3 a4 a5 a6 := by
  refine pk_loop (fun n a s => wX_fillTables_9 post f1 f2 f3 f4 f5 n (nI (a + 1)) a1 a2 a3 a4 a5 s) (fun a s => ∀ a', a' < a + 1 → s a' = nI (rk_fac a')) 7 0 a6 (by omega) (fun a ha => ?_)
    (fun n s h => pk_le 8 8 (fun _ => H s h) (fun c => absurd c (by omega))) ?_
  · have e : a = 0 := by omega
    rw [e]
    exact h
  · intro n a s ha h hw
    refine pk_le 8 (a + 1) (fun c => absurd c (by omega)) (fun _ => ?_)
    rw [nI_pred, nI_clamp (show a < 2 ^ 31 by omega), nI_clamp (show a + 1 < 2 ^ 31 by omega), h a (by omega), pk_mul]
    refine ⟨pk_in a 8 (by omega), pk_in (a + 1) 8 (by omega), nm_e (nm_r (nI_1 (a + 1)) (hw _ (fun a' ha' => ?_)))⟩
    by_cases e : a' = a + 1
    · rw [e, pk_us]
      rfl
    · rw [pk_un e]
      exact h a' (by omega)
theorem rk_fill (H : ∀ b3 b4 b5 b6 : Nat → Int32, rk_T b3 b4 b5 b6 → post (f1, f2, f3, f4, f5, a1, a2, b3, b4, b5, b6)) : wpX_fillTables post (f1, f2, f3, f4, f5, a1, a2, a3, a4, a5, a6) := by
  unfold wpX_fillTables
  exact nm_e (rk_f9 pk_us (fun b6 h6 => rk_f39 (fun b3 h3 => rk_f127 (fun c4 hc => rk_f148 hc (fun b4 h4 => rk_f220 (fun b5 h5 => H b3 b4 b5 b6 ⟨h3, h4, h5, h6⟩))))))
end
end
section
/-! ===== walks: go, choose, the picture of a state ===== -/
def rk_tot (s n L : Nat) : Nat := rk_G s n L (fun _ => 0) 0
theorem rk_tot_G {s n L : Nat} (p : Nat → Nat) : rk_G s n L p 0 = rk_tot s n L := rk_G_congr (fun j hj => absurd hj (by omega))
theorem rk_tot_lt {s n L : Nat} (h : rk_D s n L) : rk_tot s n L < 2 ^ 30 :=
  rk_G_lt h (p := fun _ => 0) (fun _ => by omega) (Nat.zero_le L) (rk_prg_0 s n _).1
/-- the object m of a sort, a size and a length -/
def rk_Ob (s n L m : Nat) (p : Nat → Nat) : Prop := (∀ j, p j < 8) ∧ m < rk_tot s n L ∧ rk_ok (rk_W s n L) p L ∧ rk_R (rk_W s n L) p L = m
section
variable {f1 f2 f3 f4 f5 : Int32} {a2 a3 a4 a5 a6 : Nat → Int32} {p : Nat → Nat} {s n L i x : Nat}
theorem rk_go44 {post : Int32 → St1 → Prop} {J22 : Int32 → Int32 → Int32 → Int32 → Int32 → Int32 → Int32 → (Nat → Int32) → (Nat → Int32) → (Nat → Int32) → (Nat → Int32) → (Nat → Int32) → (Nat → Int32) → Prop} {x1 : Int32} {rest : Nat}
    (hD : rk_D s n L) (hT : rk_T a3 a4 a5 a6) (hp : ∀ j, p j < 8) (hi : i < L) (hk : rk_ok (rk_W s n L) p i) (hr : rest < rk_G s n L p i)
    (HJ : ∀ x t, x < 8 → t < rk_W s n L p i x → rk_sm (rk_W s n L p i) x + t = rest → J22 (nI t) (nI (i + 1)) (nI s) (nI n) f3 (nI L) f5 (rk_a (rk_up p i x)) a2 a3 a4 a5 a6) :
    ∃ fu, wX_go_44 post J22 x1 (nI i) fu (nI rest) 0 (nI (rk_W s n L p i 0)) (nI s) (nI n) f3 (nI L) f5 (rk_a p) a2 a3 a4 a5 a6 := by
  have hL := rk_D14 hD
  have hpre := (rk_pre_ok hk).1
  have hG := rk_G_lt hD hp (by omega) hpre
  have hS := (rk_law hD).2.2.2.1 p i hi hk
  refine loop_m (fun fu (x : Nat) => wX_go_44 post J22 x1 (nI i) fu (nI (rest - rk_sm (rk_W s n L p i) x)) (nI x) (nI (rk_W s n L p i x)) (nI s) (nI n) f3 (nI L) f5 (rk_a p) a2 a3 a4 a5 a6)
    (fun x => x < 8 ∧ rk_sm (rk_W s n L p i) x ≤ rest) (fun x => 8 - x) ?_ 0 ⟨by omega, Nat.zero_le _⟩
  intro m x ⟨hx, hle⟩ hw
  have hW := rk_W_lt hD hp hi hx hpre
  refine pk_lt (rest - rk_sm (rk_W s n L p i) x) (rk_W s n L p i x) (fun z => ⟨pk_in i 14 (by omega), nm_r (rk_a_set (by omega) hx) (nm_r (nI_1 i) (HJ x _ hx z (by omega)))⟩) (fun z => ?_)
  have hx1 : x + 1 < 8 := by
    rcases Nat.lt_or_ge (x + 1) 8 with c | c
    · exact c
    · exfalso
      have e : x + 1 = 8 := by omega
      rw [← e, rk_sm_s] at hS
      omega
  refine nm_r (e' := nI (rest - rk_sm (rk_W s n L p i) (x + 1))) (by rw [pk_sub z, Nat.sub_sub]; rfl) (nm_r (nI_1 x) (rk_with hD hT hp hi hx1 hpre (hw (x + 1) ⟨hx1, ?_⟩ ?_)))
  · rw [rk_sm_s]
    omega
  · show 8 - (x + 1) < 8 - x
    omega
theorem rk_go22 {post : Int32 → St1 → Prop} {c : Nat} (hD : rk_D s n L) (hT : rk_T a3 a4 a5 a6) (hp : ∀ j, p j < 8) (hc : c < rk_tot s n L)
    (H : ∀ q, rk_Ob s n L c q → post (nI c) (nI s, nI n, f3, nI L, nI c, rk_a q, a2, a3, a4, a5, a6)) :
    ∃ fu, wX_go_22 post (nI c) fu (nI c) 0 (nI s) (nI n) f3 (nI L) f5 (rk_a p) a2 a3 a4 a5 a6 := by
  have hL := rk_D14 hD
  refine pk_loop (σ := (Nat → Nat) × Nat) (fun fu i t => wX_go_22 post (nI c) fu (nI t.2) (nI i) (nI s) (nI n) f3 (nI L) f5 (rk_a t.1) a2 a3 a4 a5 a6)
    (fun i t => (∀ j, t.1 j < 8) ∧ rk_ok (rk_W s n L) t.1 i ∧ rk_R (rk_W s n L) t.1 i + t.2 = c ∧ t.2 < rk_G s n L t.1 i) L 0 (p, c) (Nat.zero_le L) ⟨hp, fun j hj => absurd hj (by omega), Nat.zero_add c, by rw [rk_tot_G]; exact hc⟩ ?_ ?_
  · intro m t ⟨h1, h2, h3, h4⟩
    refine pk_le L L (fun _ => H t.1 ⟨h1, hc, h2, ?_⟩) (fun z => absurd z (by omega))
    have := (rk_law hD).2.2.2.2.1 t.1 h2
    omega
  · intro m i t hi ⟨h1, h2, h3, h4⟩ hw
    refine pk_le L i (fun z => absurd z (by omega)) (fun _ => ?_)
    refine rk_with (x := 0) hD hT h1 hi (by omega) (rk_pre_ok h2).1 ?_
    refine rk_go44 hD hT h1 hi h2 h4 (fun x r hx hr e => ?_)
    obtain ⟨k1, k2, k3⟩ := rk_put (rk_law hD) hi h2 (show 0 < rk_W s n L t.1 i x by omega)
    exact hw (rk_up t.1 i x, r) ⟨rk_up_lt h1 hx, k1, by rw [k3]; omega, by rw [k2]; exact hr⟩
theorem rk_goW {post : Int32 → St1 → Prop} {c : Nat} (hD : rk_D s n L) (hT : rk_T a3 a4 a5 a6) (hp : ∀ j, p j < 8) (hc31 : c < 2 ^ 31)
    (H0 : rk_tot s n L ≤ c → post (-1) (nI s, nI n, f3, nI L, f5, rk_a p, a2, a3, a4, a5, a6))
    (H1 : c < rk_tot s n L → ∀ q, rk_Ob s n L c q → post (nI c) (nI s, nI n, f3, nI L, nI c, rk_a q, a2, a3, a4, a5, a6)) :
    wpX_go post (nI s, nI n, f3, nI L, f5, rk_a p, a2, a3, a4, a5, a6) (nI c) := by
  have ht := rk_tot_lt hD
  unfold wpX_go
  refine rk_going hD hT hp (Nat.zero_le L) (rk_prg_0 s n p) ?_
  rw [rk_tot_G]
  exact br_f (nI_pos hc31) (pk_lt c (rk_tot s n L) (fun z => rk_go22 hD hT hp z (H1 z)) (fun z => H0 z))
theorem rk_goN {post : Int32 → St1 → Prop} {c : Int32} (hD : rk_D s n L) (hT : rk_T a3 a4 a5 a6) (hp : ∀ j, p j < 8) (hc : c < 0)
    (H0 : post (-1) (nI s, nI n, f3, nI L, f5, rk_a p, a2, a3, a4, a5, a6)) :
    wpX_go post (nI s, nI n, f3, nI L, f5, rk_a p, a2, a3, a4, a5, a6) c := by
  unfold wpX_go
  exact rk_going hD hT hp (Nat.zero_le L) (rk_prg_0 s n p) (br_t hc H0)
theorem rk_count {post : Int32 → Prop} (hD : rk_D s n L) (hT : rk_T a3 a4 a5 a6) (hp : ∀ j, p j < 8) (H : post (nI (rk_tot s n L))) : wpX_count post (nI s, nI n, f3, nI L, f5, rk_a p, a2, a3, a4, a5, a6) := by
  unfold wpX_count
  refine rk_going hD hT hp (Nat.zero_le L) (rk_prg_0 s n p) ?_
  rw [rk_tot_G]
  exact H
end
/-- a state that shows the object m (or, with no object, none) of a sort, a size and a length -/
def rk_M (s n L m : Nat) (u : St1) : Prop := ∃ (f3 : Int32) (p : Nat → Nat) (a2 a3 a4 a5 a6 : Nat → Int32), rk_D s n L ∧ rk_T a3 a4 a5 a6 ∧
  ((rk_tot s n L = 0 ∧ m = 0 ∧ (∀ j, p j < 8) ∧ u = (nI s, nI n, f3, nI L, -2, rk_a p, a2, a3, a4, a5, a6)) ∨ (rk_Ob s n L m p ∧ u = (nI s, nI n, f3, nI L, nI m, rk_a p, a2, a3, a4, a5, a6)))
/-- what choose takes -/
def rk_C (c1 c2 c3 : Int32) (s n L : Nat) : Prop := c1 = nI s ∧ c2 = nI n ∧ rk_D s n L ∧ (s = 0 ∨ s = 4 → c3 = nI L)
theorem rk_C_one {c1 c2 c3 : Int32} {s n L s' n' L' : Nat} (h : rk_C c1 c2 c3 s n L) (h' : rk_C c1 c2 c3 s' n' L') : s' = s ∧ n' = n ∧ L' = L := by
  obtain ⟨e1, e2, d, e3⟩ := h
  obtain ⟨e1', e2', d', e3'⟩ := h'
  have hl := rk_D14 d
  have hl' := rk_D14 d'
  obtain ⟨h0, h1, h2, h3, h4, h5, h6, h7⟩ := d
  obtain ⟨h0', h1', h2', h3', h4', h5', h6', h7'⟩ := d'
  have es : s' = s := (nI_eq (by omega) (by omega)).mp (e1'.symm.trans e1)
  have en : n' = n := (nI_eq (by omega) (by omega)).mp (e2'.symm.trans e2)
  subst es
  subst en
  refine ⟨rfl, rfl, ?_⟩
  by_cases c : s' = 0 ∨ s' = 4
  · exact (nI_eq (by omega) (by omega)).mp ((e3' c).symm.trans (e3 c))
  · have : s' = 1 ∨ s' = 2 ∨ s' = 3 := by omega
    rcases this with e | e | e
    · rw [h4 e, h4' e]
    · rw [h5 e, h5' e]
    · rw [h6 e, h6' e]
section
variable {f1 f2 f3 f4 f5 : Int32} {a2 a3 a4 a5 a6 : Nat → Int32} {p : Nat → Nat} {s n L i x : Nat}
theorem rk_ch100 {post : Int32 → St1 → Prop} (hD : rk_D s n L) (hT : rk_T a3 a4 a5 a6) (hp : ∀ j, p j < 8) (H : ∀ u, rk_M s n L 0 u → post 1 u) : wX_choose_100 post (nI L) (nI s) (nI n) f3 f4 f5 (rk_a p) a2 a3 a4 a5 a6 := by
  have ht := rk_tot_lt hD
  unfold wX_choose_100
  refine rk_count hD hT hp ?_
  refine pk_le (rk_tot s n L) 0 (fun z => H _ ⟨_, p, _, _, _, _, _, hD, hT, Or.inl ⟨by omega, rfl, hp, rfl⟩⟩) (fun z => ?_)
  exact rk_goW (c := 0) hD hT hp (by omega) (fun z' => absurd z' (by omega)) (fun _ q hq => H _ ⟨_, q, _, _, _, _, _, hD, hT, Or.inr ⟨hq, rfl⟩⟩)
theorem rk_choose {post : Int32 → St1 → Prop} {c1 c2 c3 : Int32} (hT : rk_T a3 a4 a5 a6) (hp : ∀ j, p j < 8)
    (H0 : (∀ s n L, ¬ rk_C c1 c2 c3 s n L) → post 0 (f1, f2, f3, f4, f5, rk_a p, a2, a3, a4, a5, a6))
    (H1 : ∀ s n L, rk_C c1 c2 c3 s n L → ∀ u, rk_M s n L 0 u → post 1 u) : wpX_choose post (f1, f2, f3, f4, f5, rk_a p, a2, a3, a4, a5, a6) c1 c2 c3 := by
  unfold wpX_choose
  refine br_c (fun z => H0 (fun s n L h => ?_)) (fun z1 => br_c (fun z => H0 (fun s n L h => ?_)) (fun z2 => br_c (fun z => H0 (fun s n L h => ?_)) (fun z3 => br_c (fun z4 => ?_) (fun z => H0 (fun s n L h => ?_)))))
  · rw [h.1] at z
    have := h.2.2.1.1
    exact nI_pos (by omega) z
  · rw [h.1] at z
    have := h.2.2.1.1
    exact nI_nlt (a := 4) (by omega) (by omega) z
  · rw [h.2.1] at z
    have := h.2.2.1.2.1
    have := h.2.2.1.2.2.1
    exact nI_nlt (b := 1) (by omega) (by omega) z
  · obtain ⟨s, hs, es⟩ := nI_of z1
    subst es
    have hs4 : s ≤ 4 := by
      rcases Nat.lt_or_ge 4 s with c | c
      · exact absurd (nI_lt c hs) z2
      · exact c
    obtain ⟨n, hn, en⟩ := nI_of (x := c2) (fun t => z3 (Int32.lt_trans t (by decide)))
    subst en
    have hn1 : 1 ≤ n := by
      rcases Nat.lt_or_ge n 1 with c | c
      · exact absurd (nI_lt (b := 1) c (by omega)) z3
      · exact c
    have hn7 : n ≤ 7 := (nI_leI (b := 7) hn (by omega)).mp z4
    have two : s = 0 ∨ s = 4 → wX_choose_36 post (nI s) (nI n) c3 1 f1 f2 f3 f4 f5 (rk_a p) a2 a3 a4 a5 a6 := by
      intro c
      unfold wX_choose_36
      refine br_f (by decide) (br_c (fun z => H0 (fun s' n' L' h => ?_)) (fun z5 => ?_))
      · have es : s' = s := (nI_eq (by have := h.2.2.1.1; omega) hs).mp h.1.symm
        rw [h.2.2.2 (by omega)] at z
        exact nI_pos (by have := rk_D14 h.2.2.1; omega) z
      · obtain ⟨k, hk, ek⟩ := nI_of z5
        subst ek
        refine pk_le k n (fun z6 => ?_) (fun z6 => H0 (fun s' n' L' h => ?_))
        · have hD : rk_D s n k := ⟨hs4, hn1, hn7, fun _ => z6, fun t => absurd t (by omega), fun t => absurd t (by omega), fun t => absurd t (by omega), fun _ => z6⟩
          unfold wX_choose_54
          refine br_f (by decide) ?_
          unfold wX_choose_75
          refine br_f (by decide) ?_
          exact rk_ch100 hD hT hp (H1 s n k ⟨rfl, rfl, hD, fun _ => rfl⟩)
        · have es : s' = s := (nI_eq (by have := h.2.2.1.1; omega) hs).mp h.1.symm
          have en : n' = n := (nI_eq (by have := h.2.2.1.2.2.1; omega) hn).mp h.2.1.symm
          have ek : k = L' := (nI_eq hk (by have := rk_D14 h.2.2.1; omega)).mp (h.2.2.2 (by omega))
          have a := h.2.2.1.2.2.2.1
          have b := h.2.2.1.2.2.2.2.2.2.2
          rcases c with c | c
          · have := a (by omega)
            omega
          · have := b (by omega)
            omega
    refine pk_eq s 0 (fun c => two (Or.inl c)) (fun c0 => pk_eq s 4 (fun c => two (Or.inr c)) (fun c4 => ?_))
    unfold wX_choose_36
    refine br_t rfl ?_
    unfold wX_choose_54
    refine br_t rfl ?_
    unfold wX_choose_75
    refine br_t rfl ?_
    refine pk_eq s 3 (fun c => ?_) (fun c3' => ?_)
    · have hD : rk_D s n (2 * n) := ⟨hs4, hn1, hn7, fun t => absurd t (by omega), fun t => absurd t (by omega), fun t => absurd t (by omega), fun _ => rfl, fun t => absurd t (by omega)⟩
      rw [show (2 : Int32) = nI 2 from rfl, pk_mul]
      exact rk_ch100 hD hT hp (H1 s n (2 * n) ⟨rfl, rfl, hD, fun t => absurd t (by omega)⟩)
    · have hD : rk_D s n n := ⟨hs4, hn1, hn7, fun t => absurd t (by omega), fun _ => rfl, fun _ => rfl, fun t => absurd t (by omega), fun t => absurd t (by omega)⟩
      exact rk_ch100 hD hT hp (H1 s n n ⟨rfl, rfl, hD, fun t => absurd t (by omega)⟩)
  · rw [h.2.1] at z
    have := h.2.2.1.2.2.1
    exact z (nI_le (b := 7) this (by omega))
end
end
section
/-! ===== walks: the next and the previous object ===== -/
theorem rk_gdec (L : Nat) : nI L - 1 = rk_g L := by
  cases L with
  | zero => decide
  | succ L => exact nI_pred L
theorem rk_gm1 (i : Nat) : nI i + (-1) = rk_g i := by
  cases i with
  | zero => decide
  | succ i => exact pk_m1 i
theorem rk_glt {a g : Nat} (ha : a < 2 ^ 30) (hg : g < 2 ^ 30) : rk_g g < nI a ↔ g ≤ a := by
  rw [← Int32.not_le, rk_gle ha hg]
  omega
section
variable {f1 f2 f3 f4 f5 : Int32} {a2 a3 a4 a5 a6 : Nat → Int32} {p : Nat → Nat} {s n L i x : Nat}
theorem rk_smallest {post : Int32 → St1 → Prop} (hD : rk_D s n L) (hT : rk_T a3 a4 a5 a6) (hp : ∀ j, p j < 8) (hi : i < L) (hk : rk_ok (rk_W s n L) p i) (h0 : 0 < rk_tot s n L)
    (H : ∀ x, x < 8 → 0 < rk_W s n L p i x → (∀ y, y < x → rk_W s n L p i y = 0) → post (nI x) (nI s, nI n, f3, nI L, f5, rk_a p, a2, a3, a4, a5, a6)) :
    wpX_smallestAt post (nI s, nI n, f3, nI L, f5, rk_a p, a2, a3, a4, a5, a6) (nI i) := by
  have hpre := (rk_pre_ok hk).1
  refine loop_m (fun fu (x : Nat) => wX_smallestAt_2 post (nI i) fu (nI x) (nI s) (nI n) f3 (nI L) f5 (rk_a p) a2 a3 a4 a5 a6)
    (fun x => x < 8 ∧ ∀ y, y < x → rk_W s n L p i y = 0) (fun x => 8 - x) ?_ 0 ⟨by omega, fun y hy => absurd hy (by omega)⟩
  intro m x ⟨hx, hz⟩ hw
  have hW := rk_W_lt hD hp hi hx hpre
  unfold wX_smallestAt_2
  refine rk_with2 hD hT hp hi hx hpre ?_
  refine pk_eq (rk_W s n L p i x) 0 (fun z => nm_r (nI_1 x) ?_) (fun z => H x hx (by omega) hz)
  have hz' : ∀ y, y < x + 1 → rk_W s n L p i y = 0 := by
    intro y hy
    by_cases e : y = x
    · rw [e]
      exact z
    · exact hz y (by omega)
  refine hw (x + 1) ⟨?_, hz'⟩ ?_
  · rcases Nat.lt_or_ge (x + 1) 8 with c | c
    · exact c
    · exact absurd (rk_some (rk_law hD) hi hk (by rw [rk_tot_G]; exact h0) (fun y hy => hz' y (by omega))) id
  · show 8 - (x + 1) < 8 - x
    omega
theorem rk_greatest {post : Int32 → St1 → Prop} (hD : rk_D s n L) (hT : rk_T a3 a4 a5 a6) (hp : ∀ j, p j < 8) (hi : i < L) (hk : rk_ok (rk_W s n L) p i) (h0 : 0 < rk_tot s n L)
    (H : ∀ x, x < 8 → 0 < rk_W s n L p i x → (∀ y, x < y → y < 8 → rk_W s n L p i y = 0) → post (nI x) (nI s, nI n, f3, nI L, f5, rk_a p, a2, a3, a4, a5, a6)) :
    wpX_greatestAt post (nI s, nI n, f3, nI L, f5, rk_a p, a2, a3, a4, a5, a6) (nI i) := by
  have hpre := (rk_pre_ok hk).1
  refine ⟨8 + 1, pk_loopD (σ := Unit) (fun fu d _ => wX_greatestAt_3 post (nI i) fu (rk_g d) (nI s) (nI n) f3 (nI L) f5 (rk_a p) a2 a3 a4 a5 a6)
    (fun d _ => d ≤ 8 ∧ ∀ y, d ≤ y → y < 8 → rk_W s n L p i y = 0) ?_ ?_ 8 () ⟨Nat.le_refl 8, fun y h1 h2 => absurd h1 (by omega)⟩⟩
  · intro m _ ⟨_, hz⟩
    exact absurd (rk_some (rk_law hD) hi hk (by rw [rk_tot_G]; exact h0) (fun y hy => hz y (by omega) hy)) id
  · intro m x _ ⟨hx, hz⟩ hw
    have hW := rk_W_lt hD hp hi (show x < 8 by omega) hpre
    show wX_greatestAt_3 post (nI i) (m + 1) (nI x) (nI s) (nI n) f3 (nI L) f5 (rk_a p) a2 a3 a4 a5 a6
    unfold wX_greatestAt_3
    refine rk_with2 (x := x) hD hT hp hi (by omega) hpre ?_
    refine pk_eq (rk_W s n L p i x) 0 (fun z => nm_r (rk_gm1 x) (hw () ⟨by omega, fun y h1 h2 => ?_⟩)) (fun z => H x (by omega) (by omega) (fun y h1 h2 => hz y (by omega) h2))
    by_cases e : y = x
    · rw [e]
      exact z
    · exact hz y (by omega) h2
/-! next -/
theorem rk_next89 {post : Int32 → St1 → Prop} {c : Nat} (hD : rk_D s n L) (hT : rk_T a3 a4 a5 a6) (hp : ∀ j, p j < 8) (hi : i ≤ L) (hk : rk_ok (rk_W s n L) p i) (hR : rk_R (rk_W s n L) p i = c) (hc : c < rk_tot s n L)
    (H : ∀ q, rk_Ob s n L c q → post (f5 + 1) (nI s, nI n, f3, nI L, f5 + 1, rk_a q, a2, a3, a4, a5, a6)) :
    ∃ fu, wX_next_89 post fu (nI i) (nI s) (nI n) f3 (nI L) f5 (rk_a p) a2 a3 a4 a5 a6 := by
  have hL := rk_D14 hD
  refine pk_loop (fun fu i q => wX_next_89 post fu (nI i) (nI s) (nI n) f3 (nI L) f5 (rk_a q) a2 a3 a4 a5 a6)
    (fun i q => (∀ j, q j < 8) ∧ rk_ok (rk_W s n L) q i ∧ rk_R (rk_W s n L) q i = c) L i p hi ⟨hp, hk, hR⟩ ?_ ?_
  · intro m q ⟨h1, h2, h3⟩
    exact pk_le L L (fun _ => nm_e (H q ⟨h1, hc, h2, h3⟩)) (fun z => absurd z (by omega))
  · intro m i q hi ⟨h1, h2, h3⟩ hw
    refine pk_le L i (fun z => absurd z (by omega)) (fun _ => ?_)
    refine rk_smallest hD hT h1 hi h2 (by omega) (fun x hx hW hz => ⟨pk_in i 14 (by omega), nm_r (rk_a_set (by omega) hx) (nm_r (nI_1 i) (hw _ ?_))⟩)
    obtain ⟨k1, k2⟩ := rk_nx_min (rk_law hD) hi h2 hW hz
    exact ⟨rk_up_lt h1 hx, k1, by rw [k2]; exact h3⟩
theorem rk_next33 {post : Int32 → St1 → Prop} {c : Nat} (hD : rk_D s n L) (hT : rk_T a3 a4 a5 a6) (hO : rk_Ob s n L c p) (hc : c + 1 < rk_tot s n L)
    (H : ∀ q, rk_Ob s n L (c + 1) q → post (nI (c + 1)) (nI s, nI n, f3, nI L, nI (c + 1), rk_a q, a2, a3, a4, a5, a6)) :
    ∃ fu, wX_next_33 post fu (rk_g L) (nI s) (nI n) f3 (nI L) (nI c) (rk_a p) a2 a3 a4 a5 a6 := by
  have hL := rk_D14 hD
  have HL := rk_law hD
  obtain ⟨hp, hc', hk, hR⟩ := hO
  have h0 : 0 < rk_G s n L p 0 := by
    rw [rk_tot_G]
    omega
  refine ⟨L + 1, pk_loopD (σ := Unit) (fun fu d _ => wX_next_33 post fu (rk_g d) (nI s) (nI n) f3 (nI L) (nI c) (rk_a p) a2 a3 a4 a5 a6)
    (fun d _ => d ≤ L ∧ rk_R (rk_W s n L) p L + 1 = rk_R (rk_W s n L) p d + rk_G s n L p d) ?_ ?_ L () ⟨Nat.le_refl L, rk_nx0 HL hk h0⟩⟩
  · intro m _ ⟨_, h⟩
    exfalso
    rw [rk_tot_G, hR] at h
    have h' : c + 1 = 0 + rk_tot s n L := h
    omega
  · intro m i _ ⟨hi, h⟩ hw
    have hi' : i < L := hi
    have hpre := (rk_pre_ok (rk_ok_lo hk (show i ≤ L by omega))).1
    refine br_f (nI_pos (by omega)) ⟨pk_in i 14 (by omega), nm_r (e' := nI (p i + 1)) (by show rk_a p (nI i).toNatClampNeg + 1 = _; rw [nI_clamp (by omega)]; exact nI_1 (p i)) ?_⟩
    have put : ∀ x, x < 8 → p i < x → 0 < rk_W s n L p i x → (∀ y, p i < y → y < x → rk_W s n L p i y = 0) → wX_next_67 post (wX_next_33 post m) (nI i) (nI x) (nI s) (nI n) f3 (nI L) (nI c) (rk_a p) a2 a3 a4 a5 a6 := by
      intro x hx hpx hW hz
      unfold wX_next_67
      refine pk_eq x 8 (fun z => absurd z (by omega)) (fun _ => ⟨pk_in i 14 (by omega), nm_r (rk_a_set (by omega) hx) (nm_r (nI_1 i) ?_)⟩)
      obtain ⟨k1, k2⟩ := rk_nx_put HL hi' hk hpx hW hz h
      refine rk_next89 hD hT (rk_up_lt hp hx) hi k1 (by rw [k2, hR]) hc (fun q hq => ?_)
      rw [nI_1]
      exact H q hq
    refine loop_m (fun fu (x : Nat) => wX_next_46 post (wX_next_33 post m) (nI i) fu (nI x) (nI s) (nI n) f3 (nI L) (nI c) (rk_a p) a2 a3 a4 a5 a6)
      (fun x => p i < x ∧ x ≤ 8 ∧ ∀ y, p i < y → y < x → rk_W s n L p i y = 0) (fun x => 8 - x) ?_ (p i + 1) ⟨by omega, hp i, fun y h1 h2 => absurd h1 (by omega)⟩
    intro m' x ⟨hpx, hx, hz⟩ hw'
    refine pk_le 8 x (fun z => ?_) (fun z => ?_)
    · have e : x = 8 := by omega
      subst e
      unfold wX_next_67
      exact pk_eq 8 8 (fun _ => nm_r (rk_gm1 i) (hw () ⟨by omega, rk_nx_skip HL hi' hk hz h⟩)) (fun z => absurd rfl z)
    · have hW := rk_W_lt hD hp hi' z hpre
      refine rk_with hD hT hp hi' z hpre ?_
      refine pk_eq (rk_W s n L p i x) 0 (fun w => nm_r (nI_1 x) (hw' (x + 1) ⟨by omega, by omega, fun y h1 h2 => ?_⟩ ?_)) (fun w => put x z hpx (by omega) hz)
      · by_cases e : y = x
        · rw [e]
          exact w
        · exact hz y h1 (by omega)
      · show 8 - (x + 1) < 8 - x
        omega
theorem rk_next {post : Int32 → St1 → Prop} {c : Nat} (hD : rk_D s n L) (hT : rk_T a3 a4 a5 a6) (hO : rk_Ob s n L c p)
    (H0 : rk_tot s n L ≤ c + 1 → post (-2) (nI s, nI n, f3, nI L, nI c, rk_a p, a2, a3, a4, a5, a6))
    (H1 : c + 1 < rk_tot s n L → ∀ q, rk_Ob s n L (c + 1) q → post (nI (c + 1)) (nI s, nI n, f3, nI L, nI (c + 1), rk_a q, a2, a3, a4, a5, a6)) :
    wpX_next post (nI s, nI n, f3, nI L, nI c, rk_a p, a2, a3, a4, a5, a6) := by
  have ht := rk_tot_lt hD
  have hc := hO.2.1
  unfold wpX_next
  refine rk_going hD hT hO.1 (Nat.zero_le L) (rk_prg_0 s n p) ?_
  rw [rk_tot_G]
  refine br_f (nI_pos (by omega)) (pk_lt (c + 1) (rk_tot s n L) (fun z => nm_r (rk_gdec L) (rk_next33 hD hT hO z (H1 z))) (fun z => H0 z) (nI_1 c))
theorem rk_nextN {post : Int32 → St1 → Prop} (hD : rk_D s n L) (hT : rk_T a3 a4 a5 a6) (hp : ∀ j, p j < 8)
    (H0 : post (-2) (nI s, nI n, f3, nI L, -2, rk_a p, a2, a3, a4, a5, a6)) :
    wpX_next post (nI s, nI n, f3, nI L, -2, rk_a p, a2, a3, a4, a5, a6) := by
  unfold wpX_next
  exact rk_going hD hT hp (Nat.zero_le L) (rk_prg_0 s n p) (br_t (by decide) H0)
/-! previous -/
theorem rk_prev68 {post : Int32 → St1 → Prop} {c : Nat} (hD : rk_D s n L) (hT : rk_T a3 a4 a5 a6) (hp : ∀ j, p j < 8) (hi : i ≤ L) (hk : rk_ok (rk_W s n L) p i) (hR : rk_R (rk_W s n L) p i + rk_G s n L p i = c + 1) (hc : c < rk_tot s n L)
    (H : ∀ q, rk_Ob s n L c q → post (f5 - 1) (nI s, nI n, f3, nI L, f5 - 1, rk_a q, a2, a3, a4, a5, a6)) :
    ∃ fu, wX_previous_68 post fu (nI i) (nI s) (nI n) f3 (nI L) f5 (rk_a p) a2 a3 a4 a5 a6 := by
  have hL := rk_D14 hD
  refine pk_loop (fun fu i q => wX_previous_68 post fu (nI i) (nI s) (nI n) f3 (nI L) f5 (rk_a q) a2 a3 a4 a5 a6)
    (fun i q => (∀ j, q j < 8) ∧ rk_ok (rk_W s n L) q i ∧ rk_R (rk_W s n L) q i + rk_G s n L q i = c + 1) L i p hi ⟨hp, hk, hR⟩ ?_ ?_
  · intro m q ⟨h1, h2, h3⟩
    refine pk_le L L (fun _ => nm_e (H q ⟨h1, hc, h2, ?_⟩)) (fun z => absurd z (by omega))
    rw [rk_last (rk_law hD) h2 (by rw [rk_tot_G]; omega)] at h3
    omega
  · intro m i q hi ⟨h1, h2, h3⟩ hw
    refine pk_le L i (fun z => absurd z (by omega)) (fun _ => ?_)
    refine rk_greatest hD hT h1 hi h2 (by omega) (fun x hx hW hz => ⟨pk_in i 14 (by omega), nm_r (rk_a_set (by omega) hx) (nm_r (nI_1 i) (hw _ ?_))⟩)
    obtain ⟨k1, k2⟩ := rk_pv_max (rk_law hD) hi h2 hW hz
    exact ⟨rk_up_lt h1 hx, k1, by rw [k2]; exact h3⟩
theorem rk_prev17 {post : Int32 → St1 → Prop} {c : Nat} (hD : rk_D s n L) (hT : rk_T a3 a4 a5 a6) (hO : rk_Ob s n L (c + 1) p)
    (H : ∀ q, rk_Ob s n L c q → post (nI c) (nI s, nI n, f3, nI L, nI c, rk_a q, a2, a3, a4, a5, a6)) :
    ∃ fu, wX_previous_17 post fu (rk_g L) (nI s) (nI n) f3 (nI L) (nI (c + 1)) (rk_a p) a2 a3 a4 a5 a6 := by
  have hL := rk_D14 hD
  have HL := rk_law hD
  obtain ⟨hp, hc', hk, hR⟩ := hO
  refine ⟨L + 1, pk_loopD (σ := Unit) (fun fu d _ => wX_previous_17 post fu (rk_g d) (nI s) (nI n) f3 (nI L) (nI (c + 1)) (rk_a p) a2 a3 a4 a5 a6)
    (fun d _ => d ≤ L ∧ rk_R (rk_W s n L) p L = rk_R (rk_W s n L) p d) ?_ ?_ L () ⟨Nat.le_refl L, rfl⟩⟩
  · intro m _ ⟨_, h⟩
    exfalso
    rw [hR] at h
    have h' : c + 1 = 0 := h
    omega
  · intro m i _ ⟨hi, h⟩ hw
    have hi' : i < L := hi
    have hpre := (rk_pre_ok (rk_ok_lo hk (show i ≤ L by omega))).1
    refine br_f (nI_pos (by omega)) ⟨pk_in i 14 (by omega), nm_r (e' := rk_g (p i)) (by show rk_a p (nI i).toNatClampNeg - 1 = _; rw [nI_clamp (by omega)]; exact rk_gdec (p i)) ?_⟩
    have put : ∀ x, x < p i → 0 < rk_W s n L p i x → (∀ y, x < y → y < p i → rk_W s n L p i y = 0) → wX_previous_49 post (wX_previous_17 post m) (nI i) (nI x) (nI s) (nI n) f3 (nI L) (nI (c + 1)) (rk_a p) a2 a3 a4 a5 a6 := by
      intro x hpx hW hz
      have hx : x < 8 := by
        have := hp i
        omega
      unfold wX_previous_49
      refine br_t (nI_pos' (by omega)) ⟨pk_in i 14 (by omega), nm_r (rk_a_set (by omega) hx) (nm_r (nI_1 i) ?_)⟩
      obtain ⟨k1, k2⟩ := rk_pv_put HL hi' hk hpx hW hz h
      refine rk_prev68 hD hT (rk_up_lt hp hx) hi k1 (by rw [k2, hR]) (by omega) (fun q hq => ?_)
      rw [nI_pred]
      exact H q hq
    refine ⟨p i + 1, pk_loopD (σ := Unit) (fun fu d _ => wX_previous_30 post (wX_previous_17 post m) (nI i) fu (rk_g d) (nI s) (nI n) f3 (nI L) (nI (c + 1)) (rk_a p) a2 a3 a4 a5 a6)
      (fun d _ => d ≤ p i ∧ ∀ y, d ≤ y → y < p i → rk_W s n L p i y = 0) ?_ ?_ (p i) () ⟨Nat.le_refl _, fun y h1 h2 => absurd h1 (by omega)⟩⟩
    · intro m' _ ⟨_, hz⟩
      refine br_t (by decide) ?_
      unfold wX_previous_49
      exact br_f (by decide) (nm_r (rk_gm1 i) (hw () ⟨by omega, rk_pv_skip (fun y hy => hz y (by omega) hy) h⟩))
    · intro m' x _ ⟨hx, hz⟩ hw'
      have hx8 : x < 8 := by
        have := hp i
        omega
      have hW := rk_W_lt hD hp hi' hx8 hpre
      refine br_f (nI_pos (by omega)) (rk_with (x := x) hD hT hp hi' hx8 hpre ?_)
      refine pk_eq (rk_W s n L p i x) 0 (fun w => nm_r (rk_gm1 x) (hw' () ⟨by omega, fun y h1 h2 => ?_⟩)) (fun w => put x hx (by omega) (fun y h1 h2 => hz y (by omega) h2))
      by_cases e : y = x
      · rw [e]
        exact w
      · exact hz y (by omega) h2
theorem rk_prev {post : Int32 → St1 → Prop} {c : Nat} (hD : rk_D s n L) (hT : rk_T a3 a4 a5 a6) (hO : rk_Ob s n L c p)
    (H0 : c = 0 → post (-2) (nI s, nI n, f3, nI L, nI c, rk_a p, a2, a3, a4, a5, a6))
    (H1 : ∀ d, c = d + 1 → ∀ q, rk_Ob s n L d q → post (nI d) (nI s, nI n, f3, nI L, nI d, rk_a q, a2, a3, a4, a5, a6)) :
    wpX_previous post (nI s, nI n, f3, nI L, nI c, rk_a p, a2, a3, a4, a5, a6) := by
  have ht := rk_tot_lt hD
  have hc := hO.2.1
  unfold wpX_previous
  refine pk_lt 0 c (fun z => nm_r (rk_gdec L) ?_) (fun z => H0 (by omega))
  obtain ⟨d, hd⟩ : ∃ d, c = d + 1 := ⟨c - 1, by omega⟩
  subst hd
  exact rk_prev17 hD hT hO (H1 d rfl)
theorem rk_prevN {post : Int32 → St1 → Prop}
    (H0 : post (-2) (f1, f2, f3, f4, -2, rk_a p, a2, a3, a4, a5, a6)) :
    wpX_previous post (f1, f2, f3, f4, -2, rk_a p, a2, a3, a4, a5, a6) := by
  unfold wpX_previous
  exact br_f (by decide) H0
end
end
section
/-! ===== walks: difference, mirrored, item, like ===== -/
/-- at how many of the first places two objects differ -/
def rk_df (p q : Nat → Nat) : Nat → Nat
  | 0 => 0
  | i + 1 => rk_df p q i + (if q i = p i then 0 else 1)
theorem rk_df_le (p q : Nat → Nat) (i : Nat) : rk_df p q i ≤ i := by
  induction i with
  | zero => exact Nat.le_refl 0
  | succ i ih =>
    show rk_df p q i + (if q i = p i then 0 else 1) ≤ i + 1
    split <;> omega
theorem rk_df_congr {p q p' q' : Nat → Nat} {i : Nat} (e : ∀ j, j < i → p j = p' j) (e' : ∀ j, j < i → q j = q' j) : rk_df p q i = rk_df p' q' i := by
  induction i with
  | zero => rfl
  | succ i ih =>
    show rk_df p q i + (if q i = p i then 0 else 1) = rk_df p' q' i + (if q' i = p' i then 0 else 1)
    rw [ih (fun j hj => e j (by omega)) (fun j hj => e' j (by omega)), e i (by omega), e' i (by omega)]
theorem rk_df_comm (p q : Nat → Nat) (i : Nat) : rk_df p q i = rk_df q p i := by
  induction i with
  | zero => rfl
  | succ i ih =>
    show rk_df p q i + (if q i = p i then 0 else 1) = rk_df q p i + (if p i = q i then 0 else 1)
    rw [ih]
    by_cases c : p i = q i
    · rw [if_pos c, if_pos c.symm]
    · rw [if_neg c, if_neg (fun t => c t.symm)]
theorem rk_df_0 {p q : Nat → Nat} {i : Nat} : rk_df p q i = 0 ↔ ∀ j, j < i → p j = q j := by
  induction i with
  | zero => exact ⟨fun _ j hj => absurd hj (by omega), fun _ => rfl⟩
  | succ i ih =>
    show rk_df p q i + (if q i = p i then 0 else 1) = 0 ↔ _
    by_cases c : q i = p i
    · rw [if_pos c, Nat.add_zero, ih]
      refine ⟨fun h j hj => ?_, fun h j hj => h j (by omega)⟩
      by_cases e : j = i
      · rw [e, c]
      · exact h j (by omega)
    · rw [if_neg c]
      exact ⟨fun h => absurd h (by omega), fun h => absurd (h i (by omega)).symm c⟩
theorem rk_Ob_same {s n L m : Nat} (hD : rk_D s n L) {p q : Nat → Nat} (hp : rk_Ob s n L m p) (hq : rk_Ob s n L m q) : ∀ j, j < L → p j = q j :=
  rk_inj (rk_law hD) hp.2.2.1 hq.2.2.1 (by rw [rk_tot_G]; exact Nat.lt_of_le_of_lt (Nat.zero_le m) hp.2.1) (hp.2.2.2.trans hq.2.2.2.symm)
/-- objects differ at no place if and only if their numbers are the same -/
theorem rk_df_iff {s n L m m' : Nat} (hD : rk_D s n L) {p q : Nat → Nat} (hp : rk_Ob s n L m p) (hq : rk_Ob s n L m' q) : rk_df p q L = 0 ↔ m = m' := by
  rw [rk_df_0]
  refine ⟨fun h => ?_, fun h => ?_⟩
  · rw [← hp.2.2.2, ← hq.2.2.2]
    exact rk_R_congr (rk_law hD) h
  · subst h
    exact rk_Ob_same hD hp hq
/-- the mirror image -/
def rk_mi (s n L : Nat) (p : Nat → Nat) (j : Nat) : Nat := if s = 0 then n - 1 - p (L - 1 - j) else if s = 3 then 1 - p (L - 1 - j) else p (L - 1 - j)
def rk_mv (s n L : Nat) (p : Nat → Nat) : Int32 := if s = 2 then -2 else nI (rk_R (rk_W s n L) (rk_mi s n L p) L)
theorem rk_mi_congr {s n L : Nat} {p q : Nat → Nat} (e : ∀ j, j < L → p j = q j) : ∀ j, j < L → rk_mi s n L p j = rk_mi s n L q j := by
  intro j hj
  unfold rk_mi
  rw [e (L - 1 - j) (by omega)]
theorem rk_mv_congr {s n L : Nat} (hD : rk_D s n L) {p q : Nat → Nat} (e : ∀ j, j < L → p j = q j) : rk_mv s n L p = rk_mv s n L q := by
  unfold rk_mv
  rw [rk_R_congr (rk_law hD) (rk_mi_congr e)]
theorem rk_mi_8 {s n L : Nat} {p : Nat → Nat} (hn : n ≤ 7) (hp : ∀ j, p j < 8) (j : Nat) : rk_mi s n L p j < 8 := by
  have := hp (L - 1 - j)
  unfold rk_mi
  split
  · omega
  · split <;> omega
theorem rk_ok_1 {n L : Nat} {p : Nat → Nat} {i : Nat} (h : rk_ok (rk_W 3 n L) p i) : ∀ j, j < i → p j ≤ 1 := by
  intro j hj
  have := (rk_may3 n p j _).mp (rk_ok_may h j hj)
  omega
theorem rk_mi_sm {n L : Nat} {p : Nat → Nat} (h : ∀ j, j < L → p j ≤ 1) : ∀ i, i ≤ L → rk_sm (rk_mi 3 n L p) i + rk_sm p L = i + rk_sm p (L - i) := by
  intro i
  induction i with
  | zero =>
    intro _
    show 0 + rk_sm p L = 0 + rk_sm p (L - 0)
    rw [Nat.sub_zero]
  | succ i ih =>
    intro hi
    have t := ih (by omega)
    have e : L - i = L - (i + 1) + 1 := by omega
    rw [e, rk_sm_s] at t
    have m : rk_mi 3 n L p i = 1 - p (L - (i + 1)) := by
      show 1 - p (L - 1 - i) = _
      rw [show L - 1 - i = L - (i + 1) by omega]
    have b := h (L - (i + 1)) (by omega)
    rw [rk_sm_s, m]
    omega
theorem rk_mi_pre {s n L : Nat} (hD : rk_D s n L) {p : Nat → Nat} (h : rk_ok (rk_W s n L) p L) {q : Nat → Nat} (e : ∀ j, j < L → q j = rk_mi s n L p j) : ∀ i, i < L → rk_pre s n q i := by
  intro i hi es
  have hl := hD.2.2.2.2.2.2.1 es
  subst es
  have a := rk_mi_sm (n := n) (rk_ok_1 h) i (by omega)
  have b := rk_ball h
  have c := rk_ball (rk_ok_lo h (show L - i ≤ L by omega))
  rw [rk_sm_congr (f := q) (g := rk_mi 3 n L p) (fun j hj => e j (by omega))]
  omega
section
variable {f1 f2 f3 f4 f5 : Int32} {a2 a3 a4 a5 a6 : Nat → Int32} {p : Nat → Nat} {s n L i x : Nat}
theorem rk_fillA {f t : Nat → Int32} {i k : Nat} {x : Int32} (hk : k = i) (h : ∀ j, j < i → t j = f j) (hx : x = f i) : ∀ j, j < i + 1 → upd t k x j = f j := by
  intro j hj
  rw [hk]
  by_cases e : j = i
  · rw [e, pk_us, hx]
  · rw [pk_un e]
    exact h j (by omega)
theorem rk_diff66 {post : Int32 → St1 → Prop} {c d : Nat} {q : Nat → Nat} (hD : rk_D s n L) (hT : rk_T a3 a4 a5 a6) (hc : c < rk_tot s n L) (hp : ∀ j, p j < 8) (hq : rk_Ob s n L d q) (h2 : ∀ j, j < L → a2 j = rk_a p j)
    (H : ∀ p', rk_Ob s n L c p' → post (nI (rk_df p q L)) (nI s, nI n, f3, nI L, nI c, rk_a p', a2, a3, a4, a5, a6)) :
    ∃ fu, wX_difference_66 post (nI c) (nI s) (nI n) f3 (nI L) f5 (rk_a q) a2 a3 a4 a5 a6 fu 0 0 := by
  have hL := rk_D14 hD
  have ht := rk_tot_lt hD
  refine pk_loop (σ := Unit) (fun fu i _ => wX_difference_66 post (nI c) (nI s) (nI n) f3 (nI L) f5 (rk_a q) a2 a3 a4 a5 a6 fu (nI (rk_df p q i)) (nI i)) (fun _ _ => True) L 0 () (Nat.zero_le L) trivial ?_ ?_
  · intro m _ _
    exact pk_le L L (fun _ => rk_goW hD hT hq.1 (by omega) (fun z => absurd z (by omega)) (fun _ p' hp' => H p' hp')) (fun z => absurd z (by omega))
  · intro m i _ hi _ hw
    refine pk_le L i (fun z => absurd z (by omega)) (fun _ => ⟨pk_in i 14 (by omega), pk_in i 14 (by omega), ?_⟩)
    rw [nI_clamp (by omega), h2 i hi, rk_a_at, rk_a_at]
    have p8 := hp i
    have q8 := hq.1 i
    have T : wX_difference_66 post (nI c) (nI s) (nI n) f3 (nI L) f5 (rk_a q) a2 a3 a4 a5 a6 m (nI (rk_df p q i + (if q i = p i then 0 else 1))) (nI (i + 1)) := hw () trivial
    refine pk_eq (q i) (p i) (fun z => nm_r (nI_1 i) ?_) (fun z => nm_r (nI_1 _) (nm_r (nI_1 i) ?_))
    · rw [if_pos z] at T
      exact T
    · rw [if_neg z] at T
      exact T
theorem rk_diff {post : Int32 → St1 → Prop} {c d : Nat} (hD : rk_D s n L) (hT : rk_T a3 a4 a5 a6) (hO : rk_Ob s n L c p) (hd : d < rk_tot s n L)
    (H : ∀ q p' b2, rk_Ob s n L d q → rk_Ob s n L c p' → post (nI (rk_df p q L)) (nI s, nI n, f3, nI L, nI c, rk_a p', b2, a3, a4, a5, a6)) :
    wpX_difference post (nI s, nI n, f3, nI L, nI c, rk_a p, a2, a3, a4, a5, a6) (nI d) := by
  have hL := rk_D14 hD
  have ht := rk_tot_lt hD
  unfold wpX_difference
  refine rk_going hD hT hO.1 (Nat.zero_le L) (rk_prg_0 s n p) ?_
  rw [rk_tot_G]
  refine br_f (nI_pos (by omega)) (pk_lt d (rk_tot s n L) (fun _ => ?_) (fun z => absurd z (by omega)))
  refine pk_loop (fun fu i b => wX_difference_25 post (nI d) (nI c) (nI s) (nI n) f3 (nI L) (nI c) fu (nI i) (rk_a p) b a3 a4 a5 a6) (fun i b => ∀ j, j < i → b j = rk_a p j) L 0 a2 (Nat.zero_le L) (fun j hj => absurd hj (by omega)) ?_ ?_
  · intro m b hb
    exact pk_le L L (fun _ => rk_goW hD hT hO.1 (by omega) (fun z => absurd z (by omega)) (fun _ q hq => rk_diff66 hD hT hO.2.1 hO.1 hq hb (fun p' hp' => H q p' b hq hp'))) (fun z => absurd z (by omega))
  · intro m i b hi hb hw
    exact pk_le L i (fun z => absurd z (by omega)) (fun _ => ⟨pk_in i 14 (by omega), pk_in i 14 (by omega), nm_e (nm_r (nI_1 i) (hw _ (rk_fillA (nI_clamp (by omega)) hb (by rw [nI_clamp (by omega)]; exact rk_nar (hO.1 i)))))⟩)
theorem rk_diffN {post : Int32 → St1 → Prop} {d : Nat} (hD : rk_D s n L) (hT : rk_T a3 a4 a5 a6) (hp : ∀ j, p j < 8) (hd : rk_tot s n L ≤ d) (hd31 : d < 2 ^ 31)
    (H : post (-1) (nI s, nI n, f3, nI L, f5, rk_a p, a2, a3, a4, a5, a6)) :
    wpX_difference post (nI s, nI n, f3, nI L, f5, rk_a p, a2, a3, a4, a5, a6) (nI d) := by
  have ht := rk_tot_lt hD
  unfold wpX_difference
  refine rk_going hD hT hp (Nat.zero_le L) (rk_prg_0 s n p) ?_
  rw [rk_tot_G]
  exact br_f (nI_pos hd31) (pk_lt d (rk_tot s n L) (fun z => absurd z (by omega)) (fun _ => H))
/-! mirrored -/
theorem rk_rank {post : Int32 → St1 → Prop} (hD : rk_D s n L) (hT : rk_T a3 a4 a5 a6) (hp : ∀ j, p j < 8) (hk : ∀ i, i < L → rk_pre s n p i)
    (H : post (nI (rk_R (rk_W s n L) p L)) (nI s, nI n, f3, nI L, f5, rk_a p, a2, a3, a4, a5, a6)) :
    wpX_rankUpTo post (nI s, nI n, f3, nI L, f5, rk_a p, a2, a3, a4, a5, a6) (rk_g L) := by
  have hL := rk_D14 hD
  refine pk_loop (σ := Unit) (fun fu j _ => wX_rankUpTo_4 post (rk_g L) fu (nI (rk_R (rk_W s n L) p j)) (nI j) (nI s) (nI n) f3 (nI L) f5 (rk_a p) a2 a3 a4 a5 a6) (fun _ _ => True) L 0 () (Nat.zero_le L) trivial ?_ ?_
  · intro m _ _
    exact br_t ((rk_glt (by omega) (by omega)).mpr (Nat.le_refl L)) H
  · intro m j _ hj _ hw
    have p8 := hp j
    refine br_f (fun z => absurd ((rk_glt (by omega) (by omega)).mp z) (by omega)) ⟨pk_in j 14 (by omega), nm_r (e' := nI (p j)) (by rw [nI_clamp (by omega)]; rfl) ?_⟩
    refine pk_loop (σ := Unit) (fun fu x _ => wX_rankUpTo_20 post (wX_rankUpTo_4 post (rk_g L) m) (rk_g L) (nI j) (nI (p j)) fu (nI (rk_R (rk_W s n L) p j + rk_sm (rk_W s n L p j) x)) (nI x) (nI s) (nI n) f3 (nI L) f5 (rk_a p) a2 a3 a4 a5 a6) (fun _ _ => True) (p j) 0 () (Nat.zero_le _) trivial ?_ ?_
    · intro m' _ _
      refine pk_le (p j) (p j) (fun _ => ⟨pk_in j 14 (by omega), nm_r (rk_a_set (by omega) p8) (nm_r (nI_1 j) ?_)⟩) (fun z => absurd z (by omega))
      rw [rk_up_id]
      exact hw () trivial
    · intro m' x _ hx _ hw'
      refine pk_le (p j) x (fun z => absurd z (by omega)) (fun _ => rk_with hD hT hp hj (by omega) (hk j hj) ?_)
      exact nm_r (e' := nI (rk_R (rk_W s n L) p j + rk_sm (rk_W s n L p j) (x + 1))) (by rw [nI_add, rk_sm_s, Nat.add_assoc]) (nm_r (nI_1 x) (hw' () trivial))
theorem rk_mir91 {post : Int32 → St1 → Prop} {c : Nat} {r : Nat → Nat} (hD : rk_D s n L) (hT : rk_T a3 a4 a5 a6) (hc : c < rk_tot s n L) (hp : ∀ j, p j < 8) (hr : ∀ j, r j < 8) (h2 : ∀ j, j < L → a2 j = rk_a r j) (hk : ∀ q : Nat → Nat, (∀ j, j < L → q j = r j) → ∀ i, i < L → rk_pre s n q i)
    (H : ∀ p', rk_Ob s n L c p' → post (nI (rk_R (rk_W s n L) r L)) (nI s, nI n, f3, nI L, nI c, rk_a p', a2, a3, a4, a5, a6)) :
    ∃ fu, wX_mirrored_91 post (nI c) (nI s) (nI n) f3 (nI L) f5 fu 0 (rk_a p) a2 a3 a4 a5 a6 := by
  have hL := rk_D14 hD
  have ht := rk_tot_lt hD
  refine pk_loop (fun fu i q => wX_mirrored_91 post (nI c) (nI s) (nI n) f3 (nI L) f5 fu (nI i) (rk_a q) a2 a3 a4 a5 a6) (fun i q => (∀ j, q j < 8) ∧ ∀ j, j < i → q j = r j) L 0 p (Nat.zero_le L) ⟨hp, fun j hj => absurd hj (by omega)⟩ ?_ ?_
  · intro m q ⟨hq, e⟩
    refine pk_le L L (fun _ => ?_) (fun z => absurd z (by omega))
    rw [rk_gdec]
    refine rk_rank hD hT hq (hk q e) ?_
    refine rk_goW hD hT hq (by omega) (fun z => absurd z (by omega)) (fun _ p' hp' => ?_)
    rw [rk_R_congr (rk_law hD) e]
    exact H p' hp'
  · intro m i q hi ⟨hq, e⟩ hw
    refine pk_le L i (fun z => absurd z (by omega)) (fun _ => ⟨pk_in i 14 (by omega), pk_in i 14 (by omega), nm_r (e' := rk_a (rk_up q i (r i))) (by rw [nI_clamp (by omega), h2 i hi, rk_a_at, rk_nar (hr i), rk_a_up]) (nm_r (nI_1 i) (hw _ ⟨rk_up_lt hq (hr i), fun j hj => ?_⟩))⟩)
    by_cases ej : j = i
    · rw [ej, rk_up_s]
    · rw [rk_up_n ej]
      exact e j (by omega)
theorem rk_mir {post : Int32 → St1 → Prop} {c : Nat} (hD : rk_D s n L) (hT : rk_T a3 a4 a5 a6) (hO : rk_Ob s n L c p)
    (H : ∀ p' b2, rk_Ob s n L c p' → post (rk_mv s n L p) (nI s, nI n, f3, nI L, nI c, rk_a p', b2, a3, a4, a5, a6)) :
    wpX_mirrored post (nI s, nI n, f3, nI L, nI c, rk_a p, a2, a3, a4, a5, a6) := by
  have hL := rk_D14 hD
  have ht := rk_tot_lt hD
  obtain ⟨hp, hc, hk, hR⟩ := id hO
  have hs4 := hD.1
  have hn1 := hD.2.1
  have hn7 := hD.2.2.1
  unfold wpX_mirrored
  refine br_f (nI_pos (by omega)) (pk_eq s 2 (fun z => ?_) (fun z => ?_))
  · have e : rk_mv s n L p = -2 := if_pos z
    rw [e] at H
    exact H p a2 hO
  · have e : rk_mv s n L p = nI (rk_R (rk_W s n L) (rk_mi s n L p) L) := if_neg z
    rw [e] at H
    refine pk_loop (fun fu i b => wX_mirrored_25 post (nI c) (nI s) (nI n) f3 (nI L) (nI c) fu (nI i) (rk_a p) b a3 a4 a5 a6) (fun i b => ∀ j, j < i → b j = rk_a (rk_mi s n L p) j) L 0 a2 (Nat.zero_le L) (fun j hj => absurd hj (by omega)) ?_ ?_
    · intro m b hb
      exact pk_le L L (fun _ => rk_mir91 hD hT hc hp (rk_mi_8 hn7 hp) hb (fun q e => rk_mi_pre hD hk e) (fun p' hp' => H p' b hp')) (fun z => absurd z (by omega))
    · intro m i b hi hb hw
      refine pk_le L i (fun z => absurd z (by omega)) (fun _ => ?_)
      rw [show (1 : Int32) = nI 1 from rfl, pk_sub (show 1 ≤ L by omega), pk_sub (show i ≤ L - 1 by omega), pk_sub hn1]
      refine ⟨pk_in (L - 1 - i) 14 (by omega), ?_⟩
      rw [nI_clamp (show L - 1 - i < 2 ^ 31 by omega), rk_a_at]
      have m8 := rk_mi_8 (s := s) (L := L) hn7 hp i
      have T : wX_mirrored_75 post (wX_mirrored_25 post (nI c) (nI s) (nI n) f3 (nI L) (nI c) m) (nI c) (nI i) (nI (rk_mi s n L p i)) (nI s) (nI n) f3 (nI L) (nI c) (rk_a p) b a3 a4 a5 a6 := by
        unfold wX_mirrored_75
        exact ⟨pk_in i 14 (by omega), nm_e (nm_r (nI_1 i) (hw _ (rk_fillA (nI_clamp (by omega)) hb (rk_by _ m8))))⟩
      have p8 := hp (L - 1 - i)
      refine nm_e (pk_eq s 0 (fun z0 => ?_) (fun z0 => ?_))
      · subst z0
        have b0 := ((rk_may0 n p (L - 1 - i) _).mp (rk_ok_may hk (L - 1 - i) (by omega))).1
        refine nm_r (pk_sub (by omega)) ?_
        unfold wX_mirrored_63
        exact pk_eq 0 3 (fun t => absurd t (by omega)) (fun _ => T)
      · unfold wX_mirrored_63
        refine pk_eq s 3 (fun z3 => ?_) (fun z3 => ?_)
        · subst z3
          have b3 := rk_ok_1 hk (L - 1 - i) (by omega)
          exact nm_r (pk_sub b3) T
        · have em : rk_mi s n L p i = p (L - 1 - i) := by
            unfold rk_mi
            rw [if_neg z0, if_neg z3]
          rw [em] at T
          exact T
theorem rk_mirN {post : Int32 → St1 → Prop} (H : post (-2) (f1, f2, f3, f4, -2, rk_a p, a2, a3, a4, a5, a6)) : wpX_mirrored post (f1, f2, f3, f4, -2, rk_a p, a2, a3, a4, a5, a6) := by
  unfold wpX_mirrored
  exact br_t (by decide) H
/-! item and like -/
def rk_iv (L : Nat) (p : Nat → Nat) (i : Nat) : Int32 := if i < L then nI (p i) else -1
def rk_lv (s n L : Nat) (p : Nat → Nat) (i : Nat) : Int32 := if i < L then nI (rk_G s n L p (i + 1)) else -1
theorem rk_item {post : Int32 → Prop} {c : Nat} (hc : c < 2 ^ 31) (hL : L ≤ 14) (hi : i < 2 ^ 31) (H : post (rk_iv L p i)) : wpX_item post (f1, f2, f3, nI L, nI c, rk_a p, a2, a3, a4, a5, a6) (nI i) := by
  unfold wpX_item
  refine br_f (nI_pos hc) (br_f (nI_pos hi) (pk_lt i L (fun z => ⟨pk_in i 14 (by omega), ?_⟩) (fun z => ?_)))
  · rw [nI_clamp hi, rk_a_at]
    have e : rk_iv L p i = nI (p i) := if_pos z
    rw [e] at H
    exact H
  · have e : rk_iv L p i = -1 := if_neg (by omega)
    rw [e] at H
    exact H
theorem rk_itemN {post : Int32 → Prop} (H : post (-1)) {j : Int32} : wpX_item post (f1, f2, f3, f4, -2, rk_a p, a2, a3, a4, a5, a6) j := by
  unfold wpX_item
  exact br_t (by decide) H
theorem rk_like {post : Int32 → Prop} {c : Nat} (hD : rk_D s n L) (hT : rk_T a3 a4 a5 a6) (hO : rk_Ob s n L c p) (hi : i < 2 ^ 31) (H : post (rk_lv s n L p i)) : wpX_like post (nI s, nI n, f3, nI L, nI c, rk_a p, a2, a3, a4, a5, a6) (nI i) := by
  have hL := rk_D14 hD
  have ht := rk_tot_lt hD
  have hc := hO.2.1
  unfold wpX_like
  refine br_f (nI_pos (by omega)) (br_f (nI_pos hi) (pk_lt i L (fun z => ?_) (fun z => ?_)))
  · have e : rk_lv s n L p i = nI (rk_G s n L p (i + 1)) := if_pos z
    rw [e] at H
    rw [nI_1]
    exact rk_going hD hT hO.1 z (rk_pre_ok (rk_ok_lo hO.2.2.1 z)) H
  · have e : rk_lv s n L p i = -1 := if_neg (by omega)
    rw [e] at H
    exact H
theorem rk_likeN {post : Int32 → Prop} (H : post (-1)) {j : Int32} : wpX_like post (f1, f2, f3, f4, -2, rk_a p, a2, a3, a4, a5, a6) j := by
  unfold wpX_like
  exact br_t (by decide) H
theorem rk_number {post : Int32 → Prop} (H : post f5) : wpX_number post (f1, f2, f3, f4, f5, rk_a p, a2, a3, a4, a5, a6) := H
end
end
section
/-! ===== walk: aside ===== -/
theorem rk_no5 {c2 c3 : Int32} {s n L : Nat} (h : rk_C 5 c2 c3 s n L) : False := by
  have a := h.2.2.1.1
  have e : (5 : Nat) = s := (nI_eq (by omega) (by omega)).mp h.1
  omega
theorem rk_no8 {c1 c3 : Int32} {s n L : Nat} (h : rk_C c1 8 c3 s n L) : False := by
  have a := h.2.2.1.2.2.1
  have e : (8 : Nat) = n := (nI_eq (by omega) (by omega)).mp h.2.1
  omega
section
variable {f1 f2 f3 f4 f5 : Int32} {a2 a3 a4 a5 a6 : Nat → Int32} {p : Nat → Nat} {s n L i x : Nat}
theorem rk_as191 {post : Int32 → St1 → Prop} {m q st : Nat} (hD : rk_D s n L) (hT : rk_T a3 a4 a5 a6) (hm : m < rk_tot s n L) (hs7 : st < 8) (hO : rk_Ob s n L (q + st) p) (H : ∀ u, rk_M s n L m u → post 1 u) :
    ∃ fu, wL_aside_191 post (nI m) (nI q) (nI st) fu 0 (nI s) (nI n) f3 (nI L) (nI (q + st)) (rk_a p) a2 a3 a4 a5 a6 := by
  have ht := rk_tot_lt hD
  refine pk_loop (fun fu k t => wL_aside_191 post (nI m) (nI q) (nI st) fu (nI k) (nI s) (nI n) f3 (nI L) (nI (q + st - k)) (rk_a t) a2 a3 a4 a5 a6) (fun k t => rk_Ob s n L (q + st - k) t) st 0 p (Nat.zero_le st) hO ?_ ?_
  · intro fu t hO'
    rw [Nat.add_sub_cancel] at hO' ⊢
    refine pk_le st st (fun _ => rk_number (br_t rfl ?_)) (fun z => absurd z (by omega))
    refine rk_goW hD hT hO'.1 (by omega) (fun z => absurd z (by omega)) (fun _ p1 h1 => br_t rfl ?_)
    refine rk_diff hD hT h1 hm (fun q2 p2 b2 h2 h3 => br_t ?_ (H _ ⟨_, p2, _, _, _, _, _, hD, hT, Or.inr ⟨h3, rfl⟩⟩))
    rw [(rk_df_iff hD h1 h2).mpr rfl]
    rfl
  · intro fu k t hk hO' hw
    refine pk_le st k (fun z => absurd z (by omega)) (fun _ => ?_)
    refine rk_prev hD hT hO' (fun z => absurd z (by omega)) (fun d hd q' hq' => ?_)
    have e : d = q + st - (k + 1) := by omega
    subst e
    have b := hq'.2.1
    exact br_t (nI_pos' (by omega)) (nm_r (nI_1 k) (hw q' hq'))
theorem rk_as163 {post : Int32 → St1 → Prop} {m q : Nat} {c2 : Int32} (hD : rk_D s n L) (hT : rk_T a3 a4 a5 a6) (hm : m < rk_tot s n L) (hO : rk_Ob s n L q p) (H : ∀ u, rk_M s n L m u → post 1 u) :
    ∃ fu, wL_aside_163 post c2 (nI m) (nI q) fu 0 0 (nI s) (nI n) f3 (nI L) (nI q) (rk_a p) a2 a3 a4 a5 a6 := by
  have ht := rk_tot_lt hD
  obtain ⟨j, hj, ej⟩ := pk_andE c2 3 (m := 7) (by decide)
  refine pk_loop (σ := Nat × (Nat → Nat)) (fun fu k t => wL_aside_163 post c2 (nI m) (nI q) fu (nI t.1) (nI k) (nI s) (nI n) f3 (nI L) (nI (q + t.1)) (rk_a t.2) a2 a3 a4 a5 a6) (fun k t => t.1 ≤ k ∧ rk_Ob s n L (q + t.1) t.2) j 0 (0, p) (Nat.zero_le j) ⟨Nat.le_refl 0, hO⟩ ?_ ?_
  · intro fu t ⟨h1, h2⟩
    exact pk_le j j (fun _ => rk_as191 hD hT hm (by omega) h2 H) (fun z => absurd z (by omega)) ej
  · intro fu k t hk ⟨h1, h2⟩ hw
    refine pk_le j k (fun z => absurd z (by omega)) (fun _ => ?_) ej
    refine rk_next hD hT h2 (fun z => br_t (by decide) (nm_r (nI_1 k) (hw t ⟨by omega, h2⟩))) (fun z q' hq' => ?_)
    have b := hq'.2.1
    exact br_f (nI_pos (by omega)) (nm_r (nI_1 t.1) (nm_r (nI_1 k) (hw (t.1 + 1, q') ⟨Nat.succ_le_succ h1, hq'⟩)))
theorem rk_asideO {post : Int32 → St1 → Prop} {m : Nat} {c1 c2 : Int32} (hD : rk_D s n L) (hT : rk_T a3 a4 a5 a6) (hO : rk_Ob s n L m p) (H : ∀ u, rk_M s n L m u → post 1 u) :
    wpL_aside post (nI s, nI n, f3, nI L, nI m, rk_a p, a2, a3, a4, a5, a6) c1 c2 := by
  have ht := rk_tot_lt hD
  have hm := hO.2.1
  unfold wpL_aside
  refine rk_number (rk_count hD hT hO.1 ?_)
  refine rk_choose hT hO.1 (fun _ => br_t rfl ?_) (fun s' n' L' h => absurd h rk_no5)
  refine rk_choose hT hO.1 (fun _ => br_t rfl ?_) (fun s' n' L' h => absurd h rk_no8)
  refine rk_goW (c := rk_tot s n L) hD hT hO.1 (by omega) (fun _ => br_t rfl ?_) (fun z => absurd z (by omega))
  refine rk_goN hD hT hO.1 (by decide) (br_t rfl ?_)
  obtain ⟨j, hj, ej⟩ := pk_andE c1 16 (m := 65535) (by decide)
  have hq : j % rk_tot s n L < rk_tot s n L := Nat.mod_lt _ (by omega)
  refine br_f (nI_ne0 (by omega) (by omega)) ⟨nI_ne0 (by omega) (by omega), nm_r (e' := nI (j % rk_tot s n L)) (by rw [ej, pk_rem (by omega) (by omega) (by omega)]) ?_⟩
  generalize j % rk_tot s n L = q at hq ⊢
  refine rk_diff hD hT hO hq (fun q1 p1 b1 hq1 hp1 => ?_)
  refine rk_goW hD hT hp1.1 (by omega) (fun z => absurd z (by omega)) (fun _ p2 hp2 => br_t rfl ?_)
  refine rk_diff hD hT hp2 hm (fun q3 p3 b3 hq3 hp3 => br_t ?_ ?_)
  · rw [rk_df_congr (rk_Ob_same hD hp2 hq1) (rk_Ob_same hD hq3 hO), rk_df_comm]
  · have l14 := rk_D14 hD
    have dl := rk_df_le p q1 L
    have iff := rk_df_iff hD hO hq1
    have T := rk_as163 (post := post) (c2 := c2) (f3 := f3) (a2 := b3) hD hT hm hp3 H
    refine pk_eq (rk_df p q1 L) 0 (fun z => ?_) (fun z => ?_)
    · unfold wL_aside_141
      refine pk_eq m q (fun e => ?_) (fun e => absurd (iff.mp z) e)
      unfold wL_aside_152
      exact br_t rfl T
    · unfold wL_aside_141
      refine pk_eq m q (fun e => absurd (iff.mpr e) z) (fun e => ?_)
      unfold wL_aside_152
      exact br_t rfl T
theorem rk_asideN {post : Int32 → St1 → Prop} {c1 c2 : Int32} (hD : rk_D s n L) (hT : rk_T a3 a4 a5 a6) (hp : ∀ j, p j < 8) (h0 : rk_tot s n L = 0) (H : post 1 (nI s, nI n, f3, nI L, -2, rk_a p, a2, a3, a4, a5, a6)) :
    wpL_aside post (nI s, nI n, f3, nI L, -2, rk_a p, a2, a3, a4, a5, a6) c1 c2 := by
  unfold wpL_aside
  refine rk_number (rk_count hD hT hp ?_)
  refine rk_choose hT hp (fun _ => br_t rfl ?_) (fun s' n' L' h => absurd h rk_no5)
  refine rk_choose hT hp (fun _ => br_t rfl ?_) (fun s' n' L' h => absurd h rk_no8)
  refine rk_goW (c := rk_tot s n L) hD hT hp (by omega) (fun _ => br_t rfl ?_) (fun z => absurd z (by omega))
  refine rk_goN hD hT hp (by decide) (br_t rfl ?_)
  refine br_t (by rw [h0]; rfl) ?_
  refine rk_nextN hD hT hp (br_t rfl ?_)
  refine rk_prevN (br_t rfl ?_)
  exact rk_diffN (d := 0) hD hT hp (by omega) (by omega) (br_t rfl H)
end
end
section
/-! ===== walk: same ===== -/
theorem rk_iv_congr {L : Nat} {p q : Nat → Nat} (e : ∀ j, j < L → p j = q j) (i : Nat) : rk_iv L p i = rk_iv L q i := by
  unfold rk_iv
  by_cases c : i < L
  · rw [if_pos c, if_pos c, e i c]
  · rw [if_neg c, if_neg c]
theorem rk_lv_congr {s n L : Nat} {p q : Nat → Nat} (e : ∀ j, j < L → p j = q j) (i : Nat) : rk_lv s n L p i = rk_lv s n L q i := by
  unfold rk_lv
  by_cases c : i < L
  · rw [if_pos c, if_pos c, rk_G_congr (fun j hj => e j (by omega))]
  · rw [if_neg c, if_neg c]
section
variable {f3 g3 : Int32} {a2 a3 a4 a5 a6 b2 b3 b4 b5 b6 : Nat → Int32} {p q : Nat → Nat} {s n L m : Nat}
theorem rk_same37 {post : Int32 → St2 → Prop} (hD : rk_D s n L) (hT : rk_T a3 a4 a5 a6) (hT' : rk_T b3 b4 b5 b6) (hp : rk_Ob s n L m p) (hq : rk_Ob s n L m q)
    (H : post 1 (nI s, nI n, f3, nI L, nI m, rk_a p, a2, a3, a4, a5, a6, nI s, nI n, g3, nI L, nI m, rk_a q, b2, b3, b4, b5, b6)) :
    ∃ fu, wL_same_37 post (nI s) (nI n) f3 (nI L) (nI m) (rk_a p) a2 a3 a4 a5 a6 (nI s) (nI n) g3 (nI L) (nI m) (rk_a q) b2 b3 b4 b5 b6 fu 0 := by
  have ht := rk_tot_lt hD
  have hL := rk_D14 hD
  have hm := hp.2.1
  have e := rk_Ob_same hD hp hq
  refine pk_loop (σ := Unit) (fun fu i _ => wL_same_37 post (nI s) (nI n) f3 (nI L) (nI m) (rk_a p) a2 a3 a4 a5 a6 (nI s) (nI n) g3 (nI L) (nI m) (rk_a q) b2 b3 b4 b5 b6 fu (nI i)) (fun _ _ => True) 15 0 () (Nat.zero_le 15) trivial ?_ ?_
  · intro fu _ _
    exact pk_le 15 15 (fun _ => H) (fun z => absurd z (by omega))
  · intro fu i _ hi _ hw
    refine pk_le 15 i (fun z => absurd z (by omega)) (fun _ => ?_)
    refine rk_item (by omega) hL (by omega) (rk_item (by omega) hL (by omega) (br_t (rk_iv_congr e i) ?_))
    exact rk_like hD hT hp (by omega) (rk_like hD hT' hq (by omega) (br_t (rk_lv_congr e i) (nm_r (nI_1 i) (hw () trivial))))
theorem rk_same37N {post : Int32 → St2 → Prop}
    (H : post 1 (nI s, nI n, f3, nI L, -2, rk_a p, a2, a3, a4, a5, a6, nI s, nI n, g3, nI L, -2, rk_a q, b2, b3, b4, b5, b6)) :
    ∃ fu, wL_same_37 post (nI s) (nI n) f3 (nI L) (-2) (rk_a p) a2 a3 a4 a5 a6 (nI s) (nI n) g3 (nI L) (-2) (rk_a q) b2 b3 b4 b5 b6 fu 0 := by
  refine pk_loop (σ := Unit) (fun fu i _ => wL_same_37 post (nI s) (nI n) f3 (nI L) (-2) (rk_a p) a2 a3 a4 a5 a6 (nI s) (nI n) g3 (nI L) (-2) (rk_a q) b2 b3 b4 b5 b6 fu (nI i)) (fun _ _ => True) 15 0 () (Nat.zero_le 15) trivial ?_ ?_
  · intro fu _ _
    exact pk_le 15 15 (fun _ => H) (fun z => absurd z (by omega))
  · intro fu i _ hi _ hw
    refine pk_le 15 i (fun z => absurd z (by omega)) (fun _ => ?_)
    refine rk_itemN ?_
    refine rk_itemN (br_t rfl ?_)
    refine rk_likeN ?_
    exact rk_likeN (br_t rfl (nm_r (nI_1 i) (hw () trivial)))
theorem rk_sameO {post : Int32 → St2 → Prop} (hD : rk_D s n L) (hT : rk_T a3 a4 a5 a6) (hT' : rk_T b3 b4 b5 b6) (hp : rk_Ob s n L m p) (hq : rk_Ob s n L m q)
    (H : ∀ p q a2 b2, rk_Ob s n L m p → rk_Ob s n L m q → post 1 (nI s, nI n, f3, nI L, nI m, rk_a p, a2, a3, a4, a5, a6, nI s, nI n, g3, nI L, nI m, rk_a q, b2, b3, b4, b5, b6)) :
    wpL_same post (nI s, nI n, f3, nI L, nI m, rk_a p, a2, a3, a4, a5, a6, nI s, nI n, g3, nI L, nI m, rk_a q, b2, b3, b4, b5, b6) := by
  unfold wpL_same
  refine rk_count hD hT hp.1 (rk_count hD hT' hq.1 (br_t rfl (rk_number (rk_number (br_t rfl ?_)))))
  refine rk_mir hD hT hp (fun p' d2 hp' => rk_mir hD hT' hq (fun q' e2 hq' => br_t (rk_mv_congr hD (rk_Ob_same hD hp hq)) ?_))
  exact rk_same37 hD hT hT' hp' hq' (H p' q' d2 e2 hp' hq')
theorem rk_sameN {post : Int32 → St2 → Prop} (hD : rk_D s n L) (hT : rk_T a3 a4 a5 a6) (hT' : rk_T b3 b4 b5 b6) (hp : ∀ j, p j < 8) (hq : ∀ j, q j < 8)
    (H : post 1 (nI s, nI n, f3, nI L, -2, rk_a p, a2, a3, a4, a5, a6, nI s, nI n, g3, nI L, -2, rk_a q, b2, b3, b4, b5, b6)) :
    wpL_same post (nI s, nI n, f3, nI L, -2, rk_a p, a2, a3, a4, a5, a6, nI s, nI n, g3, nI L, -2, rk_a q, b2, b3, b4, b5, b6) := by
  unfold wpL_same
  refine rk_count hD hT hp (rk_count hD hT' hq (br_t rfl (rk_number (rk_number (br_t rfl ?_)))))
  exact rk_mirN (rk_mirN (br_t rfl (rk_same37N H)))
end
end
section
/-! ===== the methods over the picture, the law's loop, the owed statement ===== -/
section
variable {s n L m : Nat} {u v : St1}
theorem rk_chooseM {post : Int32 → St1 → Prop} {c1 c2 c3 : Int32} (h : rk_M s n L m u) (H0 : (∀ s n L, ¬ rk_C c1 c2 c3 s n L) → post 0 u) (H1 : ∀ s n L, rk_C c1 c2 c3 s n L → ∀ u, rk_M s n L 0 u → post 1 u) : wpX_choose post u c1 c2 c3 := by
  obtain ⟨f3, p, a2, a3, a4, a5, a6, hD, hT, h | h⟩ := h
  · obtain ⟨_, _, hp, e⟩ := h
    subst e
    exact rk_choose hT hp H0 H1
  · obtain ⟨hO, e⟩ := h
    subst e
    exact rk_choose hT hO.1 H0 H1
theorem rk_goM {post : Int32 → St1 → Prop} {c : Nat} (h : rk_M s n L m u) (hc : c < 2 ^ 31) (H0 : rk_tot s n L ≤ c → post (-1) u) (H1 : c < rk_tot s n L → ∀ u, rk_M s n L c u → post (nI c) u) : wpX_go post u (nI c) := by
  obtain ⟨f3, p, a2, a3, a4, a5, a6, hD, hT, h | h⟩ := h
  · obtain ⟨_, _, hp, e⟩ := h
    subst e
    exact rk_goW hD hT hp hc H0 (fun z q hq => H1 z _ ⟨_, q, _, _, _, _, _, hD, hT, Or.inr ⟨hq, rfl⟩⟩)
  · obtain ⟨hO, e⟩ := h
    subst e
    exact rk_goW hD hT hO.1 hc H0 (fun z q hq => H1 z _ ⟨_, q, _, _, _, _, _, hD, hT, Or.inr ⟨hq, rfl⟩⟩)
theorem rk_nextM {post : Int32 → St1 → Prop} (h : rk_M s n L m u) (H0 : rk_tot s n L ≤ m + 1 → post (-2) u) (H1 : m + 1 < rk_tot s n L → ∀ u, rk_M s n L (m + 1) u → post (nI (m + 1)) u) : wpX_next post u := by
  obtain ⟨f3, p, a2, a3, a4, a5, a6, hD, hT, h | h⟩ := h
  · obtain ⟨h0, _, hp, e⟩ := h
    subst e
    exact rk_nextN hD hT hp (H0 (by omega))
  · obtain ⟨hO, e⟩ := h
    subst e
    exact rk_next hD hT hO H0 (fun z q hq => H1 z _ ⟨_, q, _, _, _, _, _, hD, hT, Or.inr ⟨hq, rfl⟩⟩)
theorem rk_prevM {post : Int32 → St1 → Prop} (h : rk_M s n L m u) (H0 : m = 0 → post (-2) u) (H1 : ∀ d, m = d + 1 → ∀ u, rk_M s n L d u → post (nI d) u) : wpX_previous post u := by
  obtain ⟨f3, p, a2, a3, a4, a5, a6, hD, hT, h | h⟩ := h
  · obtain ⟨_, h0, hp, e⟩ := h
    subst e
    exact rk_prevN (H0 h0)
  · obtain ⟨hO, e⟩ := h
    subst e
    exact rk_prev hD hT hO H0 (fun d z q hq => H1 d z _ ⟨_, q, _, _, _, _, _, hD, hT, Or.inr ⟨hq, rfl⟩⟩)
theorem rk_asideM {post : Int32 → St1 → Prop} {c1 c2 : Int32} (h : rk_M s n L m u) (H : ∀ u, rk_M s n L m u → post 1 u) : wpL_aside post u c1 c2 := by
  obtain ⟨f3, p, a2, a3, a4, a5, a6, hD, hT, h | h⟩ := h
  · obtain ⟨h0, h1, hp, e⟩ := h
    subst e
    exact rk_asideN hD hT hp h0 (H _ ⟨_, p, _, _, _, _, _, hD, hT, Or.inl ⟨h0, h1, hp, rfl⟩⟩)
  · obtain ⟨hO, e⟩ := h
    subst e
    exact rk_asideO hD hT hO H
theorem rk_sameM {post : Int32 → St2 → Prop} (h : rk_M s n L m u) (h' : rk_M s n L m v) (H : ∀ u v, rk_M s n L m u → rk_M s n L m v → post 1 (u.1, u.2.1, u.2.2.1, u.2.2.2.1, u.2.2.2.2.1, u.2.2.2.2.2.1, u.2.2.2.2.2.2.1, u.2.2.2.2.2.2.2.1, u.2.2.2.2.2.2.2.2.1, u.2.2.2.2.2.2.2.2.2.1, u.2.2.2.2.2.2.2.2.2.2, v.1, v.2.1, v.2.2.1, v.2.2.2.1, v.2.2.2.2.1, v.2.2.2.2.2.1, v.2.2.2.2.2.2.1, v.2.2.2.2.2.2.2.1, v.2.2.2.2.2.2.2.2.1, v.2.2.2.2.2.2.2.2.2.1, v.2.2.2.2.2.2.2.2.2.2)) : wpL_same post (u.1, u.2.1, u.2.2.1, u.2.2.2.1, u.2.2.2.2.1, u.2.2.2.2.2.1, u.2.2.2.2.2.2.1, u.2.2.2.2.2.2.2.1, u.2.2.2.2.2.2.2.2.1, u.2.2.2.2.2.2.2.2.2.1, u.2.2.2.2.2.2.2.2.2.2, v.1, v.2.1, v.2.2.1, v.2.2.2.1, v.2.2.2.2.1, v.2.2.2.2.2.1, v.2.2.2.2.2.2.1, v.2.2.2.2.2.2.2.1, v.2.2.2.2.2.2.2.2.1, v.2.2.2.2.2.2.2.2.2.1, v.2.2.2.2.2.2.2.2.2.2) := by
  obtain ⟨f3, p, a2, a3, a4, a5, a6, hD, hT, h | h⟩ := h
  · obtain ⟨h0, h1, hp, e⟩ := h
    obtain ⟨g3, q, b2, b3, b4, b5, b6, _, hT', h' | h'⟩ := h'
    · obtain ⟨_, _, hq, e'⟩ := h'
      subst e
      subst e'
      exact rk_sameN hD hT hT' hp hq (H _ _ ⟨_, p, _, _, _, _, _, hD, hT, Or.inl ⟨h0, h1, hp, rfl⟩⟩ ⟨_, q, _, _, _, _, _, hD, hT', Or.inl ⟨h0, h1, hq, rfl⟩⟩)
    · have := h'.1.2.1
      omega
  · obtain ⟨hO, e⟩ := h
    obtain ⟨g3, q, b2, b3, b4, b5, b6, _, hT', h' | h'⟩ := h'
    · have := h'.1
      have := hO.2.1
      omega
    · obtain ⟨hO', e'⟩ := h'
      subst e
      subst e'
      exact rk_sameO hD hT hT' hO hO' (fun p q a2 b2 k k' => H _ _ ⟨_, p, _, _, _, _, _, hD, hT, Or.inr ⟨k, rfl⟩⟩ ⟨_, q, _, _, _, _, _, hD, hT', Or.inr ⟨k', rfl⟩⟩)
theorem rk_init {post : St1 → Prop} (H : ∀ u, rk_M 1 3 3 0 u → post u) : wpX_init post 6 292 (0, 0, 0, 0, 0) := by
  have C : rk_C 1 3 0 1 3 3 := ⟨rfl, rfl, ⟨by omega, by omega, by omega, by omega, by omega, by omega, by omega, by omega⟩, fun t => absurd t (by omega)⟩
  unfold wpX_init
  refine ⟨by omega, by omega, by omega, by omega, by omega, by omega, by omega, by omega, by omega, by omega, by omega, by omega, rk_fill (fun b3 b4 b5 b6 hT => ?_)⟩
  refine rk_choose (p := fun _ => 0) hT (fun _ => by omega) (fun hn => absurd C (hn 1 3 3)) (fun s n L h u hu => ?_)
  obtain ⟨e1, e2, e3⟩ := rk_C_one C h
  subst e1
  subst e2
  subst e3
  exact H u hu
end
theorem rk_end {N i : Nat} (hN : N ≤ 260) (hi : i ≤ 1000) : nI N - 4 < nI (4 * i) ↔ N < 4 * i + 4 := by
  rw [show (4 : Int32) = nI 4 from rfl, Int32.lt_iff_toInt_lt, pk_sub_toInt (by omega) (by omega), nI_toInt (by omega)]
  omega
theorem rk_l270 {s n L m : Nat} {u v : St1} {N : Nat} {xs : Nat → Int32} {kc ks i : Nat} {post : Int32 → Prop} {J : Int32 → Int32 → Int32 → Int32 → Int32 → Int32 → (Nat → Int32) → (Nat → Int32) → (Nat → Int32) → (Nat → Int32) → (Nat → Int32) → (Nat → Int32) → Int32 → Int32 → Int32 → Int32 → Int32 → (Nat → Int32) → (Nat → Int32) → (Nat → Int32) → (Nat → Int32) → (Nat → Int32) → (Nat → Int32) → Prop} (h : rk_M s n L m u) (h' : rk_M s n L m v)
    (HJ : ∀ u v, rk_M s n L m u → rk_M s n L m v → J (nI (4 * (i + 1))) u.1 u.2.1 u.2.2.1 u.2.2.2.1 u.2.2.2.2.1 u.2.2.2.2.2.1 u.2.2.2.2.2.2.1 u.2.2.2.2.2.2.2.1 u.2.2.2.2.2.2.2.2.1 u.2.2.2.2.2.2.2.2.2.1 u.2.2.2.2.2.2.2.2.2.2 v.1 v.2.1 v.2.2.1 v.2.2.2.1 v.2.2.2.2.1 v.2.2.2.2.2.1 v.2.2.2.2.2.2.1 v.2.2.2.2.2.2.2.1 v.2.2.2.2.2.2.2.2.1 v.2.2.2.2.2.2.2.2.2.1 v.2.2.2.2.2.2.2.2.2.2) :
    wL_law_270 post N xs J (nI (4 * i)) 1 kc ks u.1 u.2.1 u.2.2.1 u.2.2.2.1 u.2.2.2.2.1 u.2.2.2.2.2.1 u.2.2.2.2.2.2.1 u.2.2.2.2.2.2.2.1 u.2.2.2.2.2.2.2.2.1 u.2.2.2.2.2.2.2.2.2.1 u.2.2.2.2.2.2.2.2.2.2 v.1 v.2.1 v.2.2.1 v.2.2.2.1 v.2.2.2.2.1 v.2.2.2.2.2.1 v.2.2.2.2.2.2.1 v.2.2.2.2.2.2.2.1 v.2.2.2.2.2.2.2.2.1 v.2.2.2.2.2.2.2.2.2.1 v.2.2.2.2.2.2.2.2.2.2 := by
  unfold wL_law_270
  refine br_f (by decide) (rk_sameM h h' (fun u v k k' => br_f (by decide) (nm_r (e' := nI (4 * (i + 1))) ?_ (HJ u v k k'))))
  rw [show (4 : Int32) = nI 4 from rfl, nI_add]
  exact congrArg nI (by omega)
theorem rk_l18 {s n L m : Nat} {u v : St1} {N : Nat} {xs : Nat → Int32} {kc ks i fu : Nat} {post : Int32 → Prop} (hN : N ≤ 260) (hi : 4 * i + 4 ≤ N) (h : rk_M s n L m u) (h' : rk_M s n L m v)
    (HJ : ∀ s n L m u v, rk_M s n L m u → rk_M s n L m v → wL_law_18 post N xs kc ks fu (nI (4 * (i + 1))) u.1 u.2.1 u.2.2.1 u.2.2.2.1 u.2.2.2.2.1 u.2.2.2.2.2.1 u.2.2.2.2.2.2.1 u.2.2.2.2.2.2.2.1 u.2.2.2.2.2.2.2.2.1 u.2.2.2.2.2.2.2.2.2.1 u.2.2.2.2.2.2.2.2.2.2 v.1 v.2.1 v.2.2.1 v.2.2.2.1 v.2.2.2.2.1 v.2.2.2.2.2.1 v.2.2.2.2.2.2.1 v.2.2.2.2.2.2.2.1 v.2.2.2.2.2.2.2.2.1 v.2.2.2.2.2.2.2.2.2.1 v.2.2.2.2.2.2.2.2.2.2) :
    wL_law_18 post N xs kc ks (fu + 1) (nI (4 * i)) u.1 u.2.1 u.2.2.1 u.2.2.2.1 u.2.2.2.2.1 u.2.2.2.2.2.1 u.2.2.2.2.2.2.1 u.2.2.2.2.2.2.2.1 u.2.2.2.2.2.2.2.2.1 u.2.2.2.2.2.2.2.2.2.1 u.2.2.2.2.2.2.2.2.2.2 v.1 v.2.1 v.2.2.1 v.2.2.2.1 v.2.2.2.2.1 v.2.2.2.2.2.1 v.2.2.2.2.2.2.1 v.2.2.2.2.2.2.2.1 v.2.2.2.2.2.2.2.2.1 v.2.2.2.2.2.2.2.2.2.1 v.2.2.2.2.2.2.2.2.2.2 := by
  have fin : ∀ (s n L m : Nat) (f1 f2 f3 f4 f5 : Int32) (a1 a2 a3 a4 a5 a6 : Nat → Int32) (g1 g2 g3 g4 g5 : Int32) (b1 b2 b3 b4 b5 b6 : Nat → Int32), rk_M s n L m (f1, f2, f3, f4, f5, a1, a2, a3, a4, a5, a6) → rk_M s n L m (g1, g2, g3, g4, g5, b1, b2, b3, b4, b5, b6) → wL_law_270 post N xs (wL_law_18 post N xs kc ks fu) (nI (4 * i)) 1 kc ks f1 f2 f3 f4 f5 a1 a2 a3 a4 a5 a6 g1 g2 g3 g4 g5 b1 b2 b3 b4 b5 b6 := fun s n L m f1 f2 f3 f4 f5 a1 a2 a3 a4 a5 a6 g1 g2 g3 g4 g5 b1 b2 b3 b4 b5 b6 k k' => rk_l270 (u := (f1, f2, f3, f4, f5, a1, a2, a3, a4, a5, a6)) (v := (g1, g2, g3, g4, g5, b1, b2, b3, b4, b5, b6)) (J := wL_law_18 post N xs kc ks fu) (i := i) k k' (HJ s n L m)
  have t1 : nI (4 * i) + 1 = nI (4 * i + 1) := nI_add _ 1
  have t2 : nI (4 * i) + 2 = nI (4 * i + 2) := nI_add _ 2
  have t3 : nI (4 * i) + 3 = nI (4 * i + 3) := nI_add _ 3
  obtain ⟨f1, f2, f3, f4, f5, a1, a2, a3, a4, a5, a6⟩ := u
  obtain ⟨g1, g2, g3, g4, g5, b1, b2, b3, b4, b5, b6⟩ := v
  refine br_f (fun z => absurd ((rk_end hN (by omega)).mp z) (by omega)) ?_
  refine ⟨pk_in (4 * i + 1) N (by omega) t1, ?_⟩
  refine nm_e ⟨pk_in (4 * i + 2) N (by omega) t2, ?_⟩
  refine nm_e ⟨pk_in (4 * i + 3) N (by omega) t3, ?_⟩
  refine nm_e ?_
  refine rk_asideM h' (fun v k' => ?_)
  obtain ⟨g1, g2, g3, g4, g5, b1, b2, b3, b4, b5, b6⟩ := v
  obtain ⟨w, hw, ew⟩ := pk_andE (xs (nI (4 * i)).toNatClampNeg) 3 (m := 7) (by decide)
  obtain ⟨c, hc, ec⟩ := pk_andE (xs (nI (4 * i) + 1).toNatClampNeg) 10 (m := 1023) (by decide)
  refine br_f (by decide) ⟨pk_in (4 * i) N (by omega), ?_⟩
  refine nm_r ew (br_f (nI_pos (by omega)) ?_)
  refine pk_lt 3 w (fun z => ?_) (fun z => ?_)
  · rw [ec]
    refine rk_goM h (by omega) (fun z1 => ?_) (fun z1 u hu => ?_)
    · refine rk_goM k' (by omega) (fun _ => ?_) (fun z2 => absurd z2 (by omega))
      refine br_t rfl ?_
      exact fin s n L m f1 f2 f3 f4 f5 a1 a2 a3 a4 a5 a6 g1 g2 g3 g4 g5 b1 b2 b3 b4 b5 b6 h k'
    · obtain ⟨f1, f2, f3, f4, f5, a1, a2, a3, a4, a5, a6⟩ := u
      refine rk_goM k' (by omega) (fun z2 => absurd z2 (by omega)) (fun z2 v hv => ?_)
      obtain ⟨g1, g2, g3, g4, g5, b1, b2, b3, b4, b5, b6⟩ := v
      refine br_t rfl ?_
      exact fin s n L c f1 f2 f3 f4 f5 a1 a2 a3 a4 a5 a6 g1 g2 g3 g4 g5 b1 b2 b3 b4 b5 b6 hu hv
  refine pk_eq w 0 (fun z0 => ?_) (fun z0 => ?_)
  · refine rk_chooseM h (fun hn => ?_) (fun s n L hC u hu => ?_)
    · refine rk_chooseM k' (fun _ => ?_) (fun s n L hC => absurd hC (hn s n L))
      refine br_t rfl ?_
      exact fin s n L m f1 f2 f3 f4 f5 a1 a2 a3 a4 a5 a6 g1 g2 g3 g4 g5 b1 b2 b3 b4 b5 b6 h k'
    · obtain ⟨f1, f2, f3, f4, f5, a1, a2, a3, a4, a5, a6⟩ := u
      refine rk_chooseM k' (fun hn => absurd hC (hn s n L)) (fun s' n' L' hC' v hv => ?_)
      obtain ⟨e1, e2, e3⟩ := rk_C_one hC hC'
      subst e1
      subst e2
      subst e3
      obtain ⟨g1, g2, g3, g4, g5, b1, b2, b3, b4, b5, b6⟩ := v
      refine br_t rfl ?_
      exact fin _ _ _ 0 f1 f2 f3 f4 f5 a1 a2 a3 a4 a5 a6 g1 g2 g3 g4 g5 b1 b2 b3 b4 b5 b6 hu hv
  refine pk_eq w 1 (fun z1 => ⟨by decide, by decide, ?_⟩) (fun z1 => ?_)
  · refine rk_chooseM h (fun hn => ?_) (fun s n L hC u hu => ?_)
    · refine ⟨by decide, by decide, ?_⟩
      refine rk_chooseM k' (fun _ => ?_) (fun s n L hC => absurd hC (hn s n L))
      refine br_t rfl ?_
      exact fin s n L m f1 f2 f3 f4 f5 a1 a2 a3 a4 a5 a6 g1 g2 g3 g4 g5 b1 b2 b3 b4 b5 b6 h k'
    · obtain ⟨f1, f2, f3, f4, f5, a1, a2, a3, a4, a5, a6⟩ := u
      refine ⟨by decide, by decide, ?_⟩
      refine rk_chooseM k' (fun hn => absurd hC (hn s n L)) (fun s' n' L' hC' v hv => ?_)
      obtain ⟨e1, e2, e3⟩ := rk_C_one hC hC'
      subst e1
      subst e2
      subst e3
      obtain ⟨g1, g2, g3, g4, g5, b1, b2, b3, b4, b5, b6⟩ := v
      refine br_t rfl ?_
      exact fin _ _ _ 0 f1 f2 f3 f4 f5 a1 a2 a3 a4 a5 a6 g1 g2 g3 g4 g5 b1 b2 b3 b4 b5 b6 hu hv
  refine pk_eq w 2 (fun z2 => ?_) (fun z2 => ?_)
  · refine rk_nextM h (fun y1 => ?_) (fun y1 u hu => ?_)
    · refine rk_nextM k' (fun _ => ?_) (fun y2 => absurd y2 (by omega))
      refine br_t rfl ?_
      exact fin s n L m f1 f2 f3 f4 f5 a1 a2 a3 a4 a5 a6 g1 g2 g3 g4 g5 b1 b2 b3 b4 b5 b6 h k'
    · obtain ⟨f1, f2, f3, f4, f5, a1, a2, a3, a4, a5, a6⟩ := u
      refine rk_nextM k' (fun y2 => absurd y2 (by omega)) (fun y2 v hv => ?_)
      obtain ⟨g1, g2, g3, g4, g5, b1, b2, b3, b4, b5, b6⟩ := v
      refine br_t rfl ?_
      exact fin s n L (m + 1) f1 f2 f3 f4 f5 a1 a2 a3 a4 a5 a6 g1 g2 g3 g4 g5 b1 b2 b3 b4 b5 b6 hu hv
  refine pk_eq w 3 (fun z3 => ?_) (fun z3 => trivial)
  · refine rk_prevM h (fun y1 => ?_) (fun d y1 u hu => ?_)
    · refine rk_prevM k' (fun _ => ?_) (fun d y2 => absurd y2 (by omega))
      refine br_t rfl ?_
      exact fin s n L m f1 f2 f3 f4 f5 a1 a2 a3 a4 a5 a6 g1 g2 g3 g4 g5 b1 b2 b3 b4 b5 b6 h k'
    · obtain ⟨f1, f2, f3, f4, f5, a1, a2, a3, a4, a5, a6⟩ := u
      refine rk_prevM k' (fun y2 => absurd y2 (by omega)) (fun d' y2 v hv => ?_)
      have ed : d' = d := by omega
      subst ed
      obtain ⟨g1, g2, g3, g4, g5, b1, b2, b3, b4, b5, b6⟩ := v
      refine br_t rfl ?_
      exact fin s n L _ f1 f2 f3 f4 f5 a1 a2 a3 a4 a5 a6 g1 g2 g3 g4 g5 b1 b2 b3 b4 b5 b6 hu hv
theorem rk_loop {s n L m : Nat} {u v : St1} {N : Nat} {xs : Nat → Int32} {kc ks : Nat} (hN : N ≤ 260) (h : rk_M s n L m u) (h' : rk_M s n L m v) :
    ∃ fu, wL_law_18 (fun r => r = 1) N xs kc ks fu 0 u.1 u.2.1 u.2.2.1 u.2.2.2.1 u.2.2.2.2.1 u.2.2.2.2.2.1 u.2.2.2.2.2.2.1 u.2.2.2.2.2.2.2.1 u.2.2.2.2.2.2.2.2.1 u.2.2.2.2.2.2.2.2.2.1 u.2.2.2.2.2.2.2.2.2.2 v.1 v.2.1 v.2.2.1 v.2.2.2.1 v.2.2.2.2.1 v.2.2.2.2.2.1 v.2.2.2.2.2.2.1 v.2.2.2.2.2.2.2.1 v.2.2.2.2.2.2.2.2.1 v.2.2.2.2.2.2.2.2.2.1 v.2.2.2.2.2.2.2.2.2.2 := by
  refine pk_loop (σ := St1 × St1) (fun fu i t => wL_law_18 (fun r => r = 1) N xs kc ks fu (nI (4 * i)) t.1.1 t.1.2.1 t.1.2.2.1 t.1.2.2.2.1 t.1.2.2.2.2.1 t.1.2.2.2.2.2.1 t.1.2.2.2.2.2.2.1 t.1.2.2.2.2.2.2.2.1 t.1.2.2.2.2.2.2.2.2.1 t.1.2.2.2.2.2.2.2.2.2.1 t.1.2.2.2.2.2.2.2.2.2.2 t.2.1 t.2.2.1 t.2.2.2.1 t.2.2.2.2.1 t.2.2.2.2.2.1 t.2.2.2.2.2.2.1 t.2.2.2.2.2.2.2.1 t.2.2.2.2.2.2.2.2.1 t.2.2.2.2.2.2.2.2.2.1 t.2.2.2.2.2.2.2.2.2.2.1 t.2.2.2.2.2.2.2.2.2.2.2) (fun i t => ∃ s n L m, rk_M s n L m t.1 ∧ rk_M s n L m t.2) (N / 4) 0 (u, v) (Nat.zero_le _) ⟨s, n, L, m, h, h'⟩ ?_ ?_
  · intro fu t _
    exact br_t ((rk_end hN (by omega)).mpr (by omega)) rfl
  · intro fu i t hi ⟨s, n, L, m, k, k'⟩ hw
    exact rk_l18 hN (by omega) k k' (fun s n L m u v k k' => hw (u, v) ⟨s, n, L, m, k, k'⟩)
theorem i_vc (xs : Nat → Int32) (L : Nat) (hL : L ≤ 260) : wpL_law (fun r => r = 1) L xs := by
  refine ⟨6, 292, by omega, by omega, rk_init (fun u hu => ?_)⟩
  obtain ⟨f1, f2, f3, f4, f5, a1, a2, a3, a4, a5, a6⟩ := u
  refine ⟨by omega, by omega, 6, 292, by omega, by omega, rk_init (fun v hv => ?_)⟩
  obtain ⟨g1, g2, g3, g4, g5, b1, b2, b3, b4, b5, b6⟩ := v
  exact rk_loop hL hu hv
end
