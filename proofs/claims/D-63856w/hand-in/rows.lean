section
/-! PURE LAW: what class and reference compute, in plain Nat and Bool -/
/-- how many k < n with p k -/
def pu_ct (p : Nat → Bool) : Nat → Nat
  | 0 => 0
  | n + 1 => pu_ct p n + (if p n then 1 else 0)
theorem pu_ct_0 (p : Nat → Bool) : pu_ct p 0 = 0 := rfl
theorem pu_ct_s (p : Nat → Bool) (n : Nat) : pu_ct p (n + 1) = pu_ct p n + (if p n then 1 else 0) := rfl
theorem pu_ct_le (p : Nat → Bool) (n : Nat) : pu_ct p n ≤ n := by
  induction n with
  | zero => exact Nat.le_refl 0
  | succ n ih =>
    rw [pu_ct_s]
    split <;> omega
theorem pu_ct_congr {p q : Nat → Bool} {n : Nat} (h : ∀ k, k < n → p k = q k) : pu_ct p n = pu_ct q n := by
  induction n with
  | zero => rfl
  | succ n ih =>
    rw [pu_ct_s, pu_ct_s, ih (fun k hk => h k (by omega)), h n (by omega)]
theorem pu_ct_tail {p : Nat → Bool} {n m : Nat} (hnm : n ≤ m) (h : ∀ k, n ≤ k → k < m → p k = false) : pu_ct p m = pu_ct p n := by
  induction m with
  | zero =>
    have : n = 0 := by omega
    subst this
    rfl
  | succ m ih =>
    by_cases e : n = m + 1
    · rw [e]
    · rw [pu_ct_s, h m (by omega) (by omega), ih (by omega) (fun k h1 h2 => h k h1 (by omega))]
      simp
theorem pu_ct_pos {p : Nat → Bool} {n : Nat} : 0 < pu_ct p n ↔ ∃ k, k < n ∧ p k = true := by
  induction n with
  | zero =>
    constructor
    · intro h
      exact absurd h (by rw [pu_ct_0]; omega)
    · rintro ⟨k, hk, -⟩
      omega
  | succ n ih =>
    rw [pu_ct_s]
    constructor
    · intro h
      by_cases hp : p n = true
      · exact ⟨n, by omega, hp⟩
      · rw [if_neg hp] at h
        obtain ⟨k, hk, hq⟩ := ih.mp (by omega)
        exact ⟨k, by omega, hq⟩
    · rintro ⟨k, hk, hq⟩
      by_cases e : k = n
      · subst e
        rw [if_pos hq]
        omega
      · have := ih.mpr ⟨k, by omega, hq⟩
        omega
theorem pu_ct_false {p : Nat → Bool} {n : Nat} (h : ∀ k, k < n → p k = false) : pu_ct p n = 0 := by
  rw [pu_ct_tail (n := 0) (Nat.zero_le n) (fun k _ hk => h k hk)]
  rfl
/-- the lesser of two -/
def pu_mi (a b : Nat) : Nat := if a < b then a else b
theorem pu_mi_le1 (a b : Nat) : pu_mi a b ≤ a := by
  unfold pu_mi
  split <;> omega
theorem pu_mi_le2 (a b : Nat) : pu_mi a b ≤ b := by
  unfold pu_mi
  split <;> omega
/-- a leaf's cost: w for each mistake, over the samples k < n of the set S -/
def pu_lf (n w : Nat) (G S : Nat → Bool) : Nat := w * pu_mi (pu_ct (fun k => S k && G k) n) (pu_ct (fun k => S k && !G k) n)
theorem pu_lf_congr {n w : Nat} {G S S' : Nat → Bool} (h : ∀ k, k < n → S k = S' k) : pu_lf n w G S = pu_lf n w G S' := by
  unfold pu_lf
  rw [pu_ct_congr (q := fun k => S' k && G k) (fun k hk => by rw [h k hk]), pu_ct_congr (p := fun k => S k && !G k) (q := fun k => S' k && !G k) (fun k hk => by rw [h k hk])]
theorem pu_lf_le (n w : Nat) (G S : Nat → Bool) : pu_lf n w G S ≤ w * n :=
  Nat.mul_le_mul_left w (Nat.le_trans (pu_mi_le1 _ _) (pu_ct_le _ n))
theorem pu_lf_empty {n w : Nat} {G S : Nat → Bool} (h : ∀ k, k < n → S k = false) : pu_lf n w G S = 0 := by
  unfold pu_lf
  rw [pu_ct_false (p := fun k => S k && G k) (fun k hk => by rw [h k hk]; rfl), pu_ct_false (p := fun k => S k && !G k) (fun k hk => by rw [h k hk]; rfl)]
  rfl
/-- the least of b and of g 0 .. g (k - 1) -/
def pu_mf (g : Nat → Nat) (b : Nat) : Nat → Nat
  | 0 => b
  | k + 1 => if g k < pu_mf g b k then g k else pu_mf g b k
theorem pu_mf_0 (g : Nat → Nat) (b : Nat) : pu_mf g b 0 = b := rfl
theorem pu_mf_s (g : Nat → Nat) (b k : Nat) : pu_mf g b (k + 1) = if g k < pu_mf g b k then g k else pu_mf g b k := rfl
theorem pu_mf_le (g : Nat → Nat) (b k : Nat) : pu_mf g b k ≤ b := by
  induction k with
  | zero => exact Nat.le_refl b
  | succ k ih =>
    rw [pu_mf_s]
    split <;> omega
theorem pu_mf_leg (g : Nat → Nat) (b : Nat) {k j : Nat} (h : j < k) : pu_mf g b k ≤ g j := by
  induction k with
  | zero => omega
  | succ k ih =>
    rw [pu_mf_s]
    by_cases e : j = k
    · subst e
      split <;> omega
    · have := ih (by omega)
      split <;> omega
theorem pu_mf_glb (g : Nat → Nat) {b k x : Nat} (hb : x ≤ b) (hg : ∀ j, j < k → x ≤ g j) : x ≤ pu_mf g b k := by
  induction k with
  | zero => exact hb
  | succ k ih =>
    rw [pu_mf_s]
    have h1 := ih (fun j hj => hg j (by omega))
    have h2 := hg k (by omega)
    split <;> omega
theorem pu_mf_congr {g g' : Nat → Nat} {b k : Nat} (h : ∀ j, j < k → g j = g' j) : pu_mf g b k = pu_mf g' b k := by
  induction k with
  | zero => rfl
  | succ k ih =>
    rw [pu_mf_s, pu_mf_s, ih (fun j hj => h j (by omega)), h k (by omega)]
/-- the same over those k alone with c k -/
def pu_cf (c : Nat → Bool) (g : Nat → Nat) (b : Nat) : Nat → Nat
  | 0 => b
  | k + 1 => if c k then (if g k < pu_cf c g b k then g k else pu_cf c g b k) else pu_cf c g b k
theorem pu_cf_0 (c : Nat → Bool) (g : Nat → Nat) (b : Nat) : pu_cf c g b 0 = b := rfl
theorem pu_cf_s (c : Nat → Bool) (g : Nat → Nat) (b k : Nat) : pu_cf c g b (k + 1) = if c k then (if g k < pu_cf c g b k then g k else pu_cf c g b k) else pu_cf c g b k := rfl
theorem pu_cf_le (c : Nat → Bool) (g : Nat → Nat) (b k : Nat) : pu_cf c g b k ≤ b := by
  induction k with
  | zero => exact Nat.le_refl b
  | succ k ih =>
    rw [pu_cf_s]
    split
    · split <;> omega
    · exact ih
theorem pu_cf_leg (c : Nat → Bool) (g : Nat → Nat) (b : Nat) {k j : Nat} (h : j < k) (hc : c j = true) : pu_cf c g b k ≤ g j := by
  induction k with
  | zero => omega
  | succ k ih =>
    rw [pu_cf_s]
    by_cases e : j = k
    · subst e
      rw [if_pos hc]
      split <;> omega
    · have := ih (by omega)
      split
      · split <;> omega
      · exact this
theorem pu_cf_glb (c : Nat → Bool) (g : Nat → Nat) {b k x : Nat} (hb : x ≤ b) (hg : ∀ j, j < k → c j = true → x ≤ g j) : x ≤ pu_cf c g b k := by
  induction k with
  | zero => exact hb
  | succ k ih =>
    rw [pu_cf_s]
    have h1 := ih (fun j hj => hg j (by omega))
    split
    · have h2 := hg k (by omega) (by assumption)
      split <;> omega
    · exact h1
theorem pu_cf_congr {c : Nat → Bool} {g g' : Nat → Nat} {b k : Nat} (h : ∀ j, j < k → c j = true → g j = g' j) : pu_cf c g b k = pu_cf c g' b k := by
  induction k with
  | zero => rfl
  | succ k ih =>
    rw [pu_cf_s, pu_cf_s, ih (fun j hj => h j (by omega))]
    by_cases e : c k = true
    · rw [if_pos e, if_pos e, h k (by omega) e]
    · rw [if_neg e, if_neg e]
/-- the reference: the least cost of a tree of at most d levels over the set S; w for a mistake, q for a question; B k f: sample k says yes to f -/
def pu_M (n w q : Nat) (B : Nat → Nat → Bool) (G : Nat → Bool) : Nat → (Nat → Bool) → Nat
  | 0, S => pu_lf n w G S
  | d + 1, S => pu_mf (fun f => q + pu_M n w q B G d (fun k => S k && !B k f) + pu_M n w q B G d (fun k => S k && B k f)) (pu_lf n w G S) 6
theorem pu_M_0 (n w q : Nat) (B : Nat → Nat → Bool) (G S : Nat → Bool) : pu_M n w q B G 0 S = pu_lf n w G S := rfl
theorem pu_M_s (n w q : Nat) (B : Nat → Nat → Bool) (G : Nat → Bool) (d : Nat) (S : Nat → Bool) : pu_M n w q B G (d + 1) S = pu_mf (fun f => q + pu_M n w q B G d (fun k => S k && !B k f) + pu_M n w q B G d (fun k => S k && B k f)) (pu_lf n w G S) 6 := rfl
theorem pu_M_congr {n w q : Nat} {B : Nat → Nat → Bool} {G : Nat → Bool} (d : Nat) : ∀ {S S' : Nat → Bool}, (∀ k, k < n → S k = S' k) → pu_M n w q B G d S = pu_M n w q B G d S' := by
  induction d with
  | zero =>
    intro S S' h
    exact pu_lf_congr h
  | succ d ih =>
    intro S S' h
    rw [pu_M_s, pu_M_s, pu_lf_congr h]
    refine pu_mf_congr (fun f _ => ?_)
    rw [ih (S := fun k => S k && !B k f) (S' := fun k => S' k && !B k f) (fun k hk => by rw [h k hk]), ih (S := fun k => S k && B k f) (S' := fun k => S' k && B k f) (fun k hk => by rw [h k hk])]
theorem pu_M_le (n w q : Nat) (B : Nat → Nat → Bool) (G : Nat → Bool) (d : Nat) (S : Nat → Bool) : pu_M n w q B G d S ≤ w * n := by
  cases d with
  | zero => exact pu_lf_le n w G S
  | succ d => exact Nat.le_trans (pu_mf_le _ _ _) (pu_lf_le n w G S)
/-- does a sample that says b go with the answer x (0 not asked, 1 no, 2 yes) -/
def pu_ok (x : Nat) (b : Bool) : Bool := x == 0 || (if x == 1 then !b else b)
def pu_dg (ans f : Nat) : Nat := ans / 3 ^ f % 3
/-- does sample k go with the first j of the answers -/
def pu_Lq (B : Nat → Nat → Bool) (ans k : Nat) : Nat → Bool
  | 0 => true
  | f + 1 => pu_Lq B ans k f && pu_ok (pu_dg ans f) (B k f)
def pu_L (B : Nat → Nat → Bool) (ans k : Nat) : Bool := pu_Lq B ans k 6
theorem pu_Lq_s (B : Nat → Nat → Bool) (ans k f : Nat) : pu_Lq B ans k (f + 1) = (pu_Lq B ans k f && pu_ok (pu_dg ans f) (B k f)) := rfl
theorem pu_Lq_iff {B : Nat → Nat → Bool} {ans k j : Nat} : pu_Lq B ans k j = true ↔ ∀ f, f < j → pu_ok (pu_dg ans f) (B k f) = true := by
  induction j with
  | zero => exact ⟨fun _ f h => absurd h (Nat.not_lt_zero f), fun _ => rfl⟩
  | succ j ih =>
    rw [pu_Lq_s, Bool.and_eq_true, ih]
    constructor
    · rintro ⟨h1, h2⟩ f hf
      by_cases e : f = j
      · rw [e]; exact h2
      · exact h1 f (by omega)
    · intro h
      exact ⟨fun f hf => h f (by omega), h j (by omega)⟩
/-- the class: the same, by the answers so far -/
def pu_A (n w q : Nat) (B : Nat → Nat → Bool) (G : Nat → Bool) : Nat → Nat → Nat
  | 0, ans => pu_lf n w G (pu_L B ans)
  | d + 1, ans => pu_cf (fun f => pu_dg ans f == 0) (fun f => pu_A n w q B G d (ans + 3 ^ f) + pu_A n w q B G d (ans + 2 * 3 ^ f) + q) (pu_lf n w G (pu_L B ans)) 6
theorem pu_A_0 (n w q : Nat) (B : Nat → Nat → Bool) (G : Nat → Bool) (ans : Nat) : pu_A n w q B G 0 ans = pu_lf n w G (pu_L B ans) := rfl
theorem pu_A_s (n w q : Nat) (B : Nat → Nat → Bool) (G : Nat → Bool) (d ans : Nat) : pu_A n w q B G (d + 1) ans = pu_cf (fun f => pu_dg ans f == 0) (fun f => pu_A n w q B G d (ans + 3 ^ f) + pu_A n w q B G d (ans + 2 * 3 ^ f) + q) (pu_lf n w G (pu_L B ans)) 6 := rfl
theorem pu_A_le (n w q : Nat) (B : Nat → Nat → Bool) (G : Nat → Bool) (d ans : Nat) : pu_A n w q B G d ans ≤ w * n := by
  cases d with
  | zero => exact pu_lf_le n w G _
  | succ d => exact Nat.le_trans (pu_cf_le _ _ _ _) (pu_lf_le n w G _)
theorem pu_A_mono (n w q : Nat) (B : Nat → Nat → Bool) (G : Nat → Bool) (d : Nat) : ∀ ans, pu_A n w q B G (d + 1) ans ≤ pu_A n w q B G d ans := by
  induction d with
  | zero =>
    intro ans
    exact pu_cf_le _ _ _ _
  | succ d ih =>
    intro ans
    rw [pu_A_s n w q B G d ans]
    refine pu_cf_glb _ _ (pu_cf_le _ _ _ _) (fun f hf hc => ?_)
    refine Nat.le_trans (pu_cf_leg _ _ _ hf hc) ?_
    have h1 := ih (ans + 3 ^ f)
    have h2 := ih (ans + 2 * 3 ^ f)
    omega
/-- one digit set: the others stay -/
theorem pu_dg_add {ans f c : Nat} (g : Nat) (h0 : pu_dg ans f = 0) (hc : c < 3) : pu_dg (ans + c * 3 ^ f) g = if g = f then c else pu_dg ans g := by
  unfold pu_dg at h0 ⊢
  have hp : 0 < 3 ^ f := Nat.pow_pos (by omega)
  have hd : (ans + c * 3 ^ f) / 3 ^ f = ans / 3 ^ f + c := Nat.add_mul_div_right ans c hp
  rcases Nat.lt_trichotomy g f with h | h | h
  · rw [if_neg (by omega)]
    obtain ⟨j, rfl⟩ : ∃ j, f = g + (j + 1) := ⟨f - g - 1, by omega⟩
    have hg : 0 < 3 ^ g := Nat.pow_pos (by omega)
    have e : c * 3 ^ (g + (j + 1)) = (c * 3 ^ j * 3) * 3 ^ g := by
      rw [Nat.pow_add, Nat.pow_succ, Nat.mul_comm (3 ^ g), ← Nat.mul_assoc, ← Nat.mul_assoc]
    rw [e, Nat.add_mul_div_right _ _ hg]
    omega
  · subst h
    rw [if_pos rfl, hd]
    omega
  · rw [if_neg (by omega)]
    obtain ⟨j, rfl⟩ : ∃ j, g = f + 1 + j := ⟨g - f - 1, by omega⟩
    have e : ∀ x : Nat, x / 3 ^ (f + 1 + j) = x / 3 ^ f / 3 / 3 ^ j := by
      intro x
      rw [Nat.pow_add, Nat.pow_succ, ← Nat.div_div_eq_div_mul, ← Nat.div_div_eq_div_mul]
    rw [e, e, hd]
    have e2 : (ans / 3 ^ f + c) / 3 = ans / 3 ^ f / 3 := by omega
    rw [e2]
theorem pu_L_add {B : Nat → Nat → Bool} {ans f c : Nat} (k : Nat) (hf : f < 6) (h0 : pu_dg ans f = 0) (hc : c < 3) : pu_L B (ans + c * 3 ^ f) k = (pu_L B ans k && pu_ok c (B k f)) := by
  rw [Bool.eq_iff_iff, Bool.and_eq_true]
  unfold pu_L
  rw [pu_Lq_iff, pu_Lq_iff]
  constructor
  · intro h
    refine ⟨fun g hg => ?_, ?_⟩
    · by_cases e : g = f
      · subst e
        rw [h0]
        rfl
      · have := h g hg
        rw [pu_dg_add g h0 hc, if_neg e] at this
        exact this
    · have := h f hf
      rw [pu_dg_add f h0 hc, if_pos rfl] at this
      exact this
  · rintro ⟨h1, h2⟩ g hg
    rw [pu_dg_add g h0 hc]
    by_cases e : g = f
    · subst e
      rw [if_pos rfl]
      exact h2
    · rw [if_neg e]
      exact h1 g hg
theorem pu_L_no {B : Nat → Nat → Bool} {ans f : Nat} (k : Nat) (hf : f < 6) (h0 : pu_dg ans f = 0) : pu_L B (ans + 3 ^ f) k = (pu_L B ans k && !B k f) := by
  have h := pu_L_add (B := B) (c := 1) k hf h0 (by omega)
  rw [Nat.one_mul] at h
  rw [h]
  rfl
theorem pu_L_yes {B : Nat → Nat → Bool} {ans f : Nat} (k : Nat) (hf : f < 6) (h0 : pu_dg ans f = 0) : pu_L B (ans + 2 * 3 ^ f) k = (pu_L B ans k && B k f) := by
  rw [pu_L_add (B := B) (c := 2) k hf h0 (by omega)]
  rfl
/-- a question that has been asked gains nothing -/
theorem pu_L_asked {B : Nat → Nat → Bool} {ans f : Nat} (k : Nat) (hf : f < 6) (h0 : pu_dg ans f ≠ 0) (h : pu_L B ans k = true) : B k f = !(pu_dg ans f == 1) := by
  unfold pu_L at h
  have h1 := pu_Lq_iff.mp h f hf
  unfold pu_ok at h1
  have h2 : (pu_dg ans f == 0) = false := by
    rw [beq_eq_false_iff_ne]; exact h0
  rw [h2] at h1
  cases h3 : (pu_dg ans f == 1) <;> rw [h3] at h1 <;> simpa using h1
/-- CLASS AND REFERENCE: the same least cost -/
theorem pu_AM (n w q : Nat) (B : Nat → Nat → Bool) (G : Nat → Bool) (d : Nat) : ∀ ans, pu_A n w q B G d ans = pu_M n w q B G d (pu_L B ans) := by
  induction d with
  | zero =>
    intro ans
    rfl
  | succ d ih =>
    intro ans
    have hterm : ∀ f, f < 6 → pu_dg ans f = 0 → q + pu_M n w q B G d (fun k => pu_L B ans k && !B k f) + pu_M n w q B G d (fun k => pu_L B ans k && B k f) = pu_A n w q B G d (ans + 3 ^ f) + pu_A n w q B G d (ans + 2 * 3 ^ f) + q := by
      intro f hf h0
      rw [ih, ih, pu_M_congr (S := pu_L B (ans + 3 ^ f)) (S' := fun k => pu_L B ans k && !B k f) d (fun k _ => pu_L_no k hf h0), pu_M_congr (S := pu_L B (ans + 2 * 3 ^ f)) (S' := fun k => pu_L B ans k && B k f) d (fun k _ => pu_L_yes k hf h0)]
      omega
    apply Nat.le_antisymm
    · rw [pu_M_s]
      refine pu_mf_glb _ (by rw [pu_A_s]; exact pu_cf_le _ _ _ _) (fun f hf => ?_)
      by_cases h0 : pu_dg ans f = 0
      · rw [hterm f hf h0, pu_A_s]
        exact pu_cf_leg _ _ _ hf (by rw [h0]; rfl)
      · have hm := pu_A_mono n w q B G d ans
        rw [ih ans] at hm
        have hs : pu_M n w q B G d (pu_L B ans) = pu_M n w q B G d (fun k => pu_L B ans k && !B k f) ∨ pu_M n w q B G d (pu_L B ans) = pu_M n w q B G d (fun k => pu_L B ans k && B k f) := by
          cases h3 : (pu_dg ans f == 1)
          · right
            refine pu_M_congr d (fun k _ => ?_)
            cases h4 : pu_L B ans k
            · rfl
            · rw [pu_L_asked k hf h0 h4, h3]
              rfl
          · left
            refine pu_M_congr d (fun k _ => ?_)
            cases h4 : pu_L B ans k
            · rfl
            · rw [pu_L_asked k hf h0 h4, h3]
              rfl
        omega
    · rw [pu_A_s]
      refine pu_cf_glb _ _ (by rw [pu_M_s]; exact pu_mf_le _ _ _) (fun f hf hc => ?_)
      have h0 : pu_dg ans f = 0 := by simpa using hc
      rw [← hterm f hf h0, pu_M_s]
      exact pu_mf_leg (fun f => q + pu_M n w q B G d (fun k => pu_L B ans k && !B k f) + pu_M n w q B G d (fun k => pu_L B ans k && B k f)) _ hf
theorem pu_dg_0 (f : Nat) : pu_dg 0 f = 0 := by
  unfold pu_dg
  rw [Nat.zero_div]
theorem pu_L_0 (B : Nat → Nat → Bool) (k : Nat) : pu_L B 0 k = true := by
  unfold pu_L
  rw [pu_Lq_iff]
  intro f _
  rw [pu_dg_0]
  rfl
/-- the reference's cost of a tree whose first question is f, over all samples -/
def pu_By (n w q : Nat) (B : Nat → Nat → Bool) (G : Nat → Bool) (d f : Nat) : Nat := q + pu_M n w q B G d (fun k => !B k f) + pu_M n w q B G d (fun k => B k f)
/-- the class's sum of both trees below the first question f -/
def pu_Di (n w q : Nat) (B : Nat → Nat → Bool) (G : Nat → Bool) (d ans f : Nat) : Nat := pu_A n w q B G d (ans + 3 ^ f) + pu_A n w q B G d (ans + 2 * 3 ^ f)
theorem pu_By_Di {n w q : Nat} {B : Nat → Nat → Bool} {G : Nat → Bool} {d f : Nat} (hf : f < 6) : pu_By n w q B G d f = q + pu_Di n w q B G d 0 f := by
  unfold pu_By pu_Di
  rw [pu_AM, pu_AM, pu_M_congr (S := pu_L B (0 + 3 ^ f)) (S' := fun k => !B k f) d (fun k _ => by rw [pu_L_no k hf (pu_dg_0 f), pu_L_0]; rfl), pu_M_congr (S := pu_L B (0 + 2 * 3 ^ f)) (S' := fun k => B k f) d (fun k _ => by rw [pu_L_yes k hf (pu_dg_0 f), pu_L_0]; rfl)]
  omega
theorem pu_A_all (n w q : Nat) (B : Nat → Nat → Bool) (G : Nat → Bool) (d : Nat) : pu_A n w q B G d 0 = pu_M n w q B G d (fun _ => true) := by
  rw [pu_AM]
  exact pu_M_congr d (fun k _ => pu_L_0 B k)
/-- the first of the least: over g 0 .. g k -/
def pu_ar (g : Nat → Nat) : Nat → Nat
  | 0 => 0
  | k + 1 => if g (k + 1) < g (pu_ar g k) then k + 1 else pu_ar g k
theorem pu_ar_0 (g : Nat → Nat) : pu_ar g 0 = 0 := rfl
theorem pu_ar_s (g : Nat → Nat) (k : Nat) : pu_ar g (k + 1) = if g (k + 1) < g (pu_ar g k) then k + 1 else pu_ar g k := rfl
theorem pu_ar_le (g : Nat → Nat) (k : Nat) : pu_ar g k ≤ k := by
  induction k with
  | zero => exact Nat.le_refl 0
  | succ k ih =>
    rw [pu_ar_s]
    split <;> omega
theorem pu_ar_shift {g h : Nat → Nat} {q k : Nat} (e : ∀ f, f ≤ k → h f = q + g f) : pu_ar h k = pu_ar g k := by
  induction k with
  | zero => rfl
  | succ k ih =>
    rw [pu_ar_s, pu_ar_s, ih (fun f hf => e f (by omega)), e (k + 1) (by omega), e (pu_ar g k) (by have := pu_ar_le g k; omega)]
    by_cases h1 : g (k + 1) < g (pu_ar g k)
    · rw [if_pos h1, if_pos (by omega)]
    · rw [if_neg h1, if_neg (by omega)]
/-- two costs of one tree: x by the weight u, y by the weight v; at most b questions -/
def pu_R (u v b x y : Nat) : Prop := ∃ m q, q ≤ b ∧ x = u * m + q ∧ y = v * m + q
theorem pu_R_lt {u v b x y x' y' : Nat} (hu : b < u) (hv : b < v) (h : pu_R u v b x y) (h' : pu_R u v b x' y') : x < x' ↔ y < y' := by
  obtain ⟨m, q, hq, rfl, rfl⟩ := h
  obtain ⟨m', q', hq', rfl, rfl⟩ := h'
  rcases Nat.lt_trichotomy m m' with e | e | e
  · have h1 : u * (m + 1) ≤ u * m' := Nat.mul_le_mul_left u e
    have h2 : v * (m + 1) ≤ v * m' := Nat.mul_le_mul_left v e
    rw [Nat.mul_succ] at h1 h2
    constructor <;> intro _ <;> omega
  · subst e
    constructor <;> intro _ <;> omega
  · have h1 : u * (m' + 1) ≤ u * m := Nat.mul_le_mul_left u e
    have h2 : v * (m' + 1) ≤ v * m := Nat.mul_le_mul_left v e
    rw [Nat.mul_succ] at h1 h2
    constructor <;> intro _ <;> omega
theorem pu_R_mono {u v b b' x y : Nat} (hb : b ≤ b') (h : pu_R u v b x y) : pu_R u v b' x y := by
  obtain ⟨m, q, hq, h1, h2⟩ := h
  exact ⟨m, q, Nat.le_trans hq hb, h1, h2⟩
theorem pu_R_cf {u v b : Nat} {c : Nat → Bool} {g h : Nat → Nat} {x y : Nat} (hu : b < u) (hv : b < v) (h0 : pu_R u v b x y) : ∀ k, (∀ f, f < k → pu_R u v b (g f) (h f)) → pu_R u v b (pu_cf c g x k) (pu_cf c h y k) := by
  intro k
  induction k with
  | zero =>
    intro _
    exact h0
  | succ k ih =>
    intro hg
    have h1 := ih (fun f hf => hg f (by omega))
    have h2 := hg k (by omega)
    rw [pu_cf_s, pu_cf_s]
    by_cases hc : c k = true
    · rw [if_pos hc, if_pos hc]
      have h3 := pu_R_lt hu hv h2 h1
      by_cases h4 : g k < pu_cf c g x k
      · rw [if_pos h4, if_pos (h3.mp h4)]
        exact h2
      · rw [if_neg h4, if_neg (fun h5 => h4 (h3.mpr h5))]
        exact h1
    · rw [if_neg hc, if_neg hc]
      exact h1
theorem pu_R_A {n u v : Nat} {B : Nat → Nat → Bool} {G : Nat → Bool} (d : Nat) : ∀ ans, 2 ^ d ≤ u → 2 ^ d ≤ v → pu_R u v (2 ^ d - 1) (pu_A n u 1 B G d ans) (pu_A n v 1 B G d ans) := by
  induction d with
  | zero =>
    intro ans _ _
    exact ⟨pu_mi (pu_ct (fun k => pu_L B ans k && G k) n) (pu_ct (fun k => pu_L B ans k && !G k) n), 0, Nat.le_refl 0, rfl, rfl⟩
  | succ d ih =>
    intro ans hu hv
    have hp : 0 < 2 ^ d := Nat.pow_pos (by omega)
    rw [Nat.pow_succ] at hu hv ⊢
    rw [pu_A_s, pu_A_s]
    refine pu_R_cf (by omega) (by omega) ?_ 6 (fun f hf => ?_)
    · exact ⟨pu_mi (pu_ct (fun k => pu_L B ans k && G k) n) (pu_ct (fun k => pu_L B ans k && !G k) n), 0, Nat.zero_le _, rfl, rfl⟩
    · obtain ⟨m1, q1, a1, b1, c1⟩ := ih (ans + 3 ^ f) (by omega) (by omega)
      obtain ⟨m2, q2, a2, b2, c2⟩ := ih (ans + 2 * 3 ^ f) (by omega) (by omega)
      refine ⟨m1 + m2, q1 + q2 + 1, by omega, ?_, ?_⟩
      · rw [b1, b2, Nat.mul_add]
        omega
      · rw [c1, c2, Nat.mul_add]
        omega
theorem pu_leaves {n : Nat} {B : Nat → Nat → Bool} {G : Nat → Bool} {d : Nat} (hd : d ≤ 3) (ans : Nat) : pu_A n 64 1 B G d ans % 64 = pu_A n 100 1 B G d ans % 100 := by
  have hp : 2 ^ d ≤ 2 ^ 3 := Nat.pow_le_pow_right (by omega) hd
  obtain ⟨m, q, h1, h2, h3⟩ := pu_R_A (n := n) (u := 64) (v := 100) (B := B) (G := G) d ans (by omega) (by omega)
  rw [h2, h3]
  omega
/-- the answers of sample k to all six questions -/
def pu_fa (B : Nat → Nat → Bool) (k : Nat) : Nat → Nat
  | 0 => 0
  | f + 1 => pu_fa B k f + 3 ^ f * (1 + (if B k f then 1 else 0))
theorem pu_fa_s (B : Nat → Nat → Bool) (k f : Nat) : pu_fa B k (f + 1) = pu_fa B k f + 3 ^ f * (1 + (if B k f then 1 else 0)) := rfl
theorem pu_fa_lt (B : Nat → Nat → Bool) (k j : Nat) : pu_fa B k j < 3 ^ j := by
  induction j with
  | zero => exact Nat.one_pos
  | succ j ih =>
    rw [pu_fa_s, Nat.pow_succ]
    cases B k j
    · rw [if_neg (by decide)]
      omega
    · rw [if_pos rfl]
      omega
theorem pu_fa_dg (B : Nat → Nat → Bool) (k : Nat) (j : Nat) : ∀ f, f < j → pu_dg (pu_fa B k j) f = 1 + (if B k f then 1 else 0) := by
  induction j with
  | zero =>
    intro f h
    omega
  | succ j ih =>
    intro f hf
    have hlt := pu_fa_lt B k j
    have h0 : pu_dg (pu_fa B k j) j = 0 := by
      unfold pu_dg
      rw [Nat.div_eq_of_lt hlt]
    have hc : (1 + (if B k j then 1 else 0)) < 3 := by split <;> omega
    rw [pu_fa_s, Nat.mul_comm, pu_dg_add f h0 hc]
    by_cases e : f = j
    · rw [if_pos e, e]
    · rw [if_neg e]
      exact ih f (by omega)
theorem pu_fa_L (B : Nat → Nat → Bool) (k j : Nat) : pu_L B (pu_fa B k 6) j = true ↔ ∀ f, f < 6 → B j f = B k f := by
  unfold pu_L
  rw [pu_Lq_iff]
  have key : ∀ a b : Bool, pu_ok (1 + (if a then 1 else 0)) b = true ↔ b = a := by decide
  constructor
  · intro h f hf
    have := h f hf
    rw [pu_fa_dg B k 6 f hf] at this
    exact (key _ _).mp this
  · intro h f hf
    rw [pu_fa_dg B k 6 f hf]
    exact (key _ _).mpr (h f hf)
/-- doubtful: by the class's counts -/
def pu_dC (n : Nat) (B : Nat → Nat → Bool) (G : Nat → Bool) (k : Nat) : Bool :=
  if G k then decide (0 < pu_ct (fun j => pu_L B (pu_fa B k 6) j && !G j) n) else decide (0 < pu_ct (fun j => pu_L B (pu_fa B k 6) j && G j) n)
/-- doubtful: by the reference's search (E: the same features) -/
def pu_dM (E : Nat → Nat → Bool) (G : Nat → Bool) (k : Nat) : Nat → Bool
  | 0 => false
  | j + 1 => if E k j && (G k != G j) then true else pu_dM E G k j
theorem pu_dM_s (E : Nat → Nat → Bool) (G : Nat → Bool) (k j : Nat) : pu_dM E G k (j + 1) = if E k j && (G k != G j) then true else pu_dM E G k j := rfl
theorem pu_dM_iff {E : Nat → Nat → Bool} {G : Nat → Bool} {k n : Nat} : pu_dM E G k n = true ↔ ∃ j, j < n ∧ E k j = true ∧ G k ≠ G j := by
  induction n with
  | zero =>
    constructor
    · intro h
      exact absurd (show false = true from h) (by decide)
    · rintro ⟨j, h, -⟩
      omega
  | succ n ih =>
    rw [pu_dM_s]
    by_cases h : (E k n && (G k != G n)) = true
    · rw [if_pos h]
      rw [Bool.and_eq_true] at h
      exact ⟨fun _ => ⟨n, by omega, h.1, by simpa using h.2⟩, fun _ => rfl⟩
    · rw [if_neg h, ih]
      constructor
      · rintro ⟨j, h1, h2⟩
        exact ⟨j, by omega, h2⟩
      · rintro ⟨j, h1, h2, h3⟩
        by_cases e : j = n
        · subst e
          exact absurd (by rw [h2, Bool.true_and]; simpa using h3) h
        · exact ⟨j, by omega, h2, h3⟩
theorem pu_doubt {n : Nat} {B E : Nat → Nat → Bool} {G : Nat → Bool} {k : Nat} (hE : ∀ j, j < n → (E k j = true ↔ ∀ f, f < 6 → B j f = B k f)) : pu_dC n B G k = pu_dM E G k n := by
  rw [Bool.eq_iff_iff, pu_dM_iff]
  unfold pu_dC
  cases hG : G k
  · rw [if_neg (by decide), decide_eq_true_iff, pu_ct_pos]
    constructor
    · rintro ⟨j, hj, h⟩
      rw [Bool.and_eq_true, pu_fa_L] at h
      exact ⟨j, hj, (hE j hj).mpr h.1, by rw [h.2]; decide⟩
    · rintro ⟨j, hj, h1, h2⟩
      refine ⟨j, hj, ?_⟩
      rw [Bool.and_eq_true, pu_fa_L]
      refine ⟨(hE j hj).mp h1, ?_⟩
      cases hj2 : G j
      · exact absurd hj2.symm h2
      · rfl
  · rw [if_pos rfl, decide_eq_true_iff, pu_ct_pos]
    constructor
    · rintro ⟨j, hj, h⟩
      rw [Bool.and_eq_true, pu_fa_L] at h
      refine ⟨j, hj, (hE j hj).mpr h.1, ?_⟩
      have h2 := h.2
      cases hj2 : G j
      · decide
      · rw [hj2] at h2
        exact absurd h2 (by decide)
    · rintro ⟨j, hj, h1, h2⟩
      refine ⟨j, hj, ?_⟩
      rw [Bool.and_eq_true, pu_fa_L]
      refine ⟨(hE j hj).mp h1, ?_⟩
      cases hj2 : G j
      · rfl
      · exact absurd hj2.symm h2
end
section
-- ===== PART A: goes FIRST, ahead of the names: the tables' words, and 'selects' of the private methods out of them =====
/-- a private method of a class that the tables say can be made, by its rows of tables_1 -/
def lw_okq (q : MethodName × Nat) : Prop := (q.1.cls ≠ "java/lang/invoke/MethodHandle" ∧ q.1.cls ≠ "java/lang/invoke/VarHandle") ∧ Cond.instantiable q.1.cls q.2 ∈ tables_1 ∧ Cond.privateMethod q.1 ∈ tables_1 ∧ Cond.instanceMethod q.1 ∈ tables_1
set_option maxRecDepth 100000
theorem lw_p0 : lw_okq (⟨"BestTree", "workOut", "(II)V"⟩, 9) := ⟨⟨by decide +kernel, by decide +kernel⟩, List.mem_of_getElem? (i := 4) rfl, List.mem_of_getElem? (i := 55) rfl, List.mem_of_getElem? (i := 56) rfl⟩
theorem lw_p1 : lw_okq (⟨"BestTree", "count", "()V"⟩, 9) := ⟨⟨by decide +kernel, by decide +kernel⟩, List.mem_of_getElem? (i := 4) rfl, List.mem_of_getElem? (i := 59) rfl, List.mem_of_getElem? (i := 60) rfl⟩
theorem lw_p2 : lw_okq (⟨"BestTree", "leastAt", "(III)I"⟩, 9) := ⟨⟨by decide +kernel, by decide +kernel⟩, List.mem_of_getElem? (i := 4) rfl, List.mem_of_getElem? (i := 67) rfl, List.mem_of_getElem? (i := 68) rfl⟩
theorem lw_p3 : lw_okq (⟨"BestTree", "divided", "(III)I"⟩, 9) := ⟨⟨by decide +kernel, by decide +kernel⟩, List.mem_of_getElem? (i := 4) rfl, List.mem_of_getElem? (i := 71) rfl, List.mem_of_getElem? (i := 72) rfl⟩
theorem lw_p4 : lw_okq (⟨"BestTreeModel", "weigh", "(II)V"⟩, 5) := ⟨⟨by decide +kernel, by decide +kernel⟩, List.mem_of_getElem? (i := 95) rfl, List.mem_of_getElem? (i := 129) rfl, List.mem_of_getElem? (i := 130) rfl⟩
theorem lw_p5 : lw_okq (⟨"BestTreeModel", "cheapest", "(I)I"⟩, 5) := ⟨⟨by decide +kernel, by decide +kernel⟩, List.mem_of_getElem? (i := 95) rfl, List.mem_of_getElem? (i := 136) rfl, List.mem_of_getElem? (i := 137) rfl⟩
theorem lw_p6 : lw_okq (⟨"BestTreeModel", "all", "()J"⟩, 5) := ⟨⟨by decide +kernel, by decide +kernel⟩, List.mem_of_getElem? (i := 95) rfl, List.mem_of_getElem? (i := 140) rfl, List.mem_of_getElem? (i := 141) rfl⟩
theorem lw_p7 : lw_okq (⟨"BestTreeModel", "leaf", "(J)I"⟩, 5) := ⟨⟨by decide +kernel, by decide +kernel⟩, List.mem_of_getElem? (i := 95) rfl, List.mem_of_getElem? (i := 144) rfl, List.mem_of_getElem? (i := 145) rfl⟩
theorem lw_p8 : lw_okq (⟨"BestTreeModel", "by", "(II)I"⟩, 5) := ⟨⟨by decide +kernel, by decide +kernel⟩, List.mem_of_getElem? (i := 95) rfl, List.mem_of_getElem? (i := 148) rfl, List.mem_of_getElem? (i := 149) rfl⟩
theorem lw_p9 : lw_okq (⟨"BestTreeModel", "part", "(JIZ)J"⟩, 5) := ⟨⟨by decide +kernel, by decide +kernel⟩, List.mem_of_getElem? (i := 95) rfl, List.mem_of_getElem? (i := 152) rfl, List.mem_of_getElem? (i := 153) rfl⟩
theorem lw_p10 : lw_okq (⟨"BestTreeModel", "least", "(JI)I"⟩, 5) := ⟨⟨by decide +kernel, by decide +kernel⟩, List.mem_of_getElem? (i := 95) rfl, List.mem_of_getElem? (i := 156) rfl, List.mem_of_getElem? (i := 157) rfl⟩
theorem lw_p11 : lw_okq (⟨"BestTreeModel", "one", "(J)I"⟩, 5) := ⟨⟨by decide +kernel, by decide +kernel⟩, List.mem_of_getElem? (i := 95) rfl, List.mem_of_getElem? (i := 160) rfl, List.mem_of_getElem? (i := 161) rfl⟩
theorem lw_p12 : lw_okq (⟨"BestTreeModel", "two", "(J)I"⟩, 5) := ⟨⟨by decide +kernel, by decide +kernel⟩, List.mem_of_getElem? (i := 95) rfl, List.mem_of_getElem? (i := 165) rfl, List.mem_of_getElem? (i := 166) rfl⟩
def lw_privs_1 : List (MethodName × Nat) := [(⟨"BestTree", "workOut", "(II)V"⟩, 9), (⟨"BestTree", "count", "()V"⟩, 9), (⟨"BestTree", "leastAt", "(III)I"⟩, 9), (⟨"BestTree", "divided", "(III)I"⟩, 9), (⟨"BestTreeModel", "weigh", "(II)V"⟩, 5), (⟨"BestTreeModel", "cheapest", "(I)I"⟩, 5), (⟨"BestTreeModel", "all", "()J"⟩, 5), (⟨"BestTreeModel", "leaf", "(J)I"⟩, 5), (⟨"BestTreeModel", "by", "(II)I"⟩, 5), (⟨"BestTreeModel", "part", "(JIZ)J"⟩, 5), (⟨"BestTreeModel", "least", "(JI)I"⟩, 5), (⟨"BestTreeModel", "one", "(J)I"⟩, 5), (⟨"BestTreeModel", "two", "(J)I"⟩, 5)]
theorem lw_r1 : ∀ q ∈ lw_privs_1, lw_okq q := List.forall_mem_cons.mpr ⟨lw_p0, List.forall_mem_cons.mpr ⟨lw_p1, List.forall_mem_cons.mpr ⟨lw_p2, List.forall_mem_cons.mpr ⟨lw_p3, List.forall_mem_cons.mpr ⟨lw_p4, List.forall_mem_cons.mpr ⟨lw_p5, List.forall_mem_cons.mpr ⟨lw_p6, List.forall_mem_cons.mpr ⟨lw_p7, List.forall_mem_cons.mpr ⟨lw_p8, List.forall_mem_cons.mpr ⟨lw_p9, List.forall_mem_cons.mpr ⟨lw_p10, List.forall_mem_cons.mpr ⟨lw_p11, List.forall_mem_cons.mpr ⟨lw_p12, fun _ h => absurd h List.not_mem_nil⟩⟩⟩⟩⟩⟩⟩⟩⟩⟩⟩⟩⟩
def lw_privs : List (MethodName × Nat) := lw_privs_1
def lw_tbl : List Cond := k2_sels lw_privs ++ tables_1
theorem lw_privs_ok : ∀ q ∈ lw_privs, lw_okq q := lw_r1
-- ===== ONE list of words for every method: the tables' words that hold all through a run =====
def lw_all : List Cond := lw_tbl.filter goodWord
/-- a word of the tables by its place: claim/WORDS.tsv -/
theorem lw_w {w : Cond} (i : Nat) (h : lw_tbl[i]? = some w) (g : goodWord w = true) : w ∈ lw_all := List.mem_filter.mpr ⟨List.mem_of_getElem? h, g⟩
theorem lw_all_tbl {w : Cond} (h : w ∈ lw_all) : w ∈ lw_tbl := (List.mem_filter.mp h).1
theorem lw_self : GoodIn lw_all lw_all := fun w h => ⟨h, good_of_word (List.mem_filter.mp h).2⟩
/-- a class's field words, by their places -/
theorem lw_in (ws : List Cond) (ps : List Nat) (hp : ws = ps.filterMap (fun i => lw_tbl[i]?)) (hg : ws.all goodWord = true) : ∀ w ∈ ws, w ∈ lw_all := by
  intro w h
  have h1 := List.all_eq_true.mp hg w h
  rw [hp] at h
  obtain ⟨i, -, hi⟩ := List.mem_filterMap.mp h
  exact lw_w i hi h1
/-- the words of a contract for the method y with code b, L locals, answer r -/
abbrev ws_ (y : MethodName) (b : ByteArray) (L : Nat) (r : Option FieldType) : List Cond := Cond.code y b L r :: lw_all
theorem lw_meth {y : MethodName} {b : ByteArray} {L : Nat} {r : Option FieldType} (h : Cond.code y b L r ∈ lw_all) : GoodIn lw_all (ws_ y b L r) := by
  intro w hw
  rcases List.mem_cons.mp hw with e | e
  · rw [e]
    exact lw_self _ h
  · exact lw_self _ e
theorem lw_app {a c : List Cond} (ha : ∀ w ∈ a, w ∈ lw_all) (hc : GoodIn lw_all c) : GoodIn lw_all (a ++ c) := by
  intro w hw
  rcases List.mem_append.mp hw with e | e
  · exact lw_self w (ha w e)
  · exact hc w e
/-- what a call through an object asks: cwV n hts (lw_V ..) -/
theorem lw_V {own : String} {idx : Nat} {C : String} {y : MethodName} {b : ByteArray} {L : Nat} {r : Option FieldType} (h1 : Cond.methodLink own idx y ∈ lw_all) (h2 : Cond.instanceMethod y ∈ lw_all) (h3 : Cond.selects C y y ∈ lw_all) (h4 : Cond.initialized C ∈ lw_all) (h5 : Cond.code y b L r ∈ lw_all) : GoodIn lw_all (wsV own idx C y (ws_ y b L r)) := by
  refine lw_app ?_ (lw_meth h5)
  intro w hw
  simp only [List.mem_cons, List.not_mem_nil, or_false] at hw
  rcases hw with e | e | e | e
  · rw [e]; exact h1
  · rw [e]; exact h2
  · rw [e]; exact h3
  · rw [e]; exact h4
/-- what a static call asks: va_cwS n hts (lw_S ..) -/
theorem lw_S {own : String} {idx : Nat} {y : MethodName} {b : ByteArray} {L : Nat} {r : Option FieldType} (h1 : Cond.methodLink own idx y ∈ lw_all) (h2 : Cond.static y ∈ lw_all) (h3 : Cond.initialized y.cls ∈ lw_all) (h4 : Cond.code y b L r ∈ lw_all) : GoodIn lw_all (va_wsS own idx y (ws_ y b L r)) := by
  refine lw_app ?_ (lw_meth h4)
  intro w hw
  simp only [List.mem_cons, List.not_mem_nil, or_false] at hw
  rcases hw with e | e | e
  · rw [e]; exact h1
  · rw [e]; exact h2
  · rw [e]; exact h3
/-- the words of a contract for a method WITH HANDLERS (hh: its table) -/
abbrev wsW_ (y : MethodName) (b : ByteArray) (L : Nat) (r : Option FieldType) (hh : List (Nat × Nat × Nat × Nat)) : List Cond := Cond.codeWith y b L r hh :: lw_all
theorem lw_methW {y : MethodName} {b : ByteArray} {L : Nat} {r : Option FieldType} {hh : List (Nat × Nat × Nat × Nat)} (h : Cond.codeWith y b L r hh ∈ lw_all) : GoodIn lw_all (wsW_ y b L r hh) := by
  intro w hw
  rcases List.mem_cons.mp hw with e | e
  · rw [e]
    exact lw_self _ h
  · exact lw_self _ e
/-- any list of words by their places (lw_in), good -/
theorem lw_good {ws : List Cond} (h : ∀ w ∈ ws, w ∈ lw_all) : GoodIn lw_all ws := fun w hw => lw_self w (h w hw)
/-- what a call of a method with handlers asks: vx_cwVW n hts (lw_VW ..), vx_cwSW n hts (lw_SW ..) -/
theorem lw_VW {own : String} {idx : Nat} {C : String} {y : MethodName} {b : ByteArray} {L : Nat} {r : Option FieldType} {hh : List (Nat × Nat × Nat × Nat)} (h1 : Cond.methodLink own idx y ∈ lw_all) (h2 : Cond.instanceMethod y ∈ lw_all) (h3 : Cond.selects C y y ∈ lw_all) (h4 : Cond.initialized C ∈ lw_all) (h5 : Cond.codeWith y b L r hh ∈ lw_all) : GoodIn lw_all (wsV own idx C y (wsW_ y b L r hh)) := by
  refine lw_app ?_ (lw_methW h5)
  intro w hw
  simp only [List.mem_cons, List.not_mem_nil, or_false] at hw
  rcases hw with e | e | e | e
  · rw [e]; exact h1
  · rw [e]; exact h2
  · rw [e]; exact h3
  · rw [e]; exact h4
theorem lw_SW {own : String} {idx : Nat} {y : MethodName} {b : ByteArray} {L : Nat} {r : Option FieldType} {hh : List (Nat × Nat × Nat × Nat)} (h1 : Cond.methodLink own idx y ∈ lw_all) (h2 : Cond.static y ∈ lw_all) (h3 : Cond.initialized y.cls ∈ lw_all) (h4 : Cond.codeWith y b L r hh ∈ lw_all) : GoodIn lw_all (va_wsS own idx y (wsW_ y b L r hh)) := by
  refine lw_app ?_ (lw_methW h4)
  intro w hw
  simp only [List.mem_cons, List.not_mem_nil, or_false] at hw
  rcases hw with e | e | e
  · rw [e]; exact h1
  · rw [e]; exact h2
  · rw [e]; exact h3
/-- a word by its place in its run of the tables -/
theorem lw_at {r : List Cond} (hr : ∀ w ∈ r, w ∈ lw_tbl) {w : Cond} (i : Nat) (h : r[i]? = some w) : w ∈ lw_tbl := hr w (List.mem_of_getElem? h)
theorem lw_g {w : Cond} (h : w ∈ lw_tbl) (g : goodWord w = true) : w ∈ lw_all := List.mem_filter.mpr ⟨h, g⟩
theorem lw_ms : ∀ w ∈ k2_sels lw_privs, w ∈ lw_tbl := fun w h => show w ∈ k2_sels lw_privs ++ tables_1 from List.mem_append_left _ h
theorem lw_m0 : ∀ w ∈ tables_1, w ∈ lw_tbl := fun w h => show w ∈ k2_sels lw_privs ++ tables_1 from List.mem_append_right (k2_sels lw_privs) h
theorem qs0 : (Cond.selects "BestTree" ⟨"BestTree", "workOut", "(II)V"⟩ ⟨"BestTree", "workOut", "(II)V"⟩) ∈ lw_all := lw_g (lw_at lw_ms 0 rfl) rfl
theorem qs1 : (Cond.selects "BestTree" ⟨"BestTree", "count", "()V"⟩ ⟨"BestTree", "count", "()V"⟩) ∈ lw_all := lw_g (lw_at lw_ms 1 rfl) rfl
theorem qs2 : (Cond.selects "BestTree" ⟨"BestTree", "leastAt", "(III)I"⟩ ⟨"BestTree", "leastAt", "(III)I"⟩) ∈ lw_all := lw_g (lw_at lw_ms 2 rfl) rfl
theorem qs3 : (Cond.selects "BestTree" ⟨"BestTree", "divided", "(III)I"⟩ ⟨"BestTree", "divided", "(III)I"⟩) ∈ lw_all := lw_g (lw_at lw_ms 3 rfl) rfl
theorem qs4 : (Cond.selects "BestTreeModel" ⟨"BestTreeModel", "weigh", "(II)V"⟩ ⟨"BestTreeModel", "weigh", "(II)V"⟩) ∈ lw_all := lw_g (lw_at lw_ms 4 rfl) rfl
theorem qs5 : (Cond.selects "BestTreeModel" ⟨"BestTreeModel", "cheapest", "(I)I"⟩ ⟨"BestTreeModel", "cheapest", "(I)I"⟩) ∈ lw_all := lw_g (lw_at lw_ms 5 rfl) rfl
theorem qs6 : (Cond.selects "BestTreeModel" ⟨"BestTreeModel", "all", "()J"⟩ ⟨"BestTreeModel", "all", "()J"⟩) ∈ lw_all := lw_g (lw_at lw_ms 6 rfl) rfl
theorem qs7 : (Cond.selects "BestTreeModel" ⟨"BestTreeModel", "leaf", "(J)I"⟩ ⟨"BestTreeModel", "leaf", "(J)I"⟩) ∈ lw_all := lw_g (lw_at lw_ms 7 rfl) rfl
theorem qs8 : (Cond.selects "BestTreeModel" ⟨"BestTreeModel", "by", "(II)I"⟩ ⟨"BestTreeModel", "by", "(II)I"⟩) ∈ lw_all := lw_g (lw_at lw_ms 8 rfl) rfl
theorem qs9 : (Cond.selects "BestTreeModel" ⟨"BestTreeModel", "part", "(JIZ)J"⟩ ⟨"BestTreeModel", "part", "(JIZ)J"⟩) ∈ lw_all := lw_g (lw_at lw_ms 9 rfl) rfl
theorem qs10 : (Cond.selects "BestTreeModel" ⟨"BestTreeModel", "least", "(JI)I"⟩ ⟨"BestTreeModel", "least", "(JI)I"⟩) ∈ lw_all := lw_g (lw_at lw_ms 10 rfl) rfl
theorem qs11 : (Cond.selects "BestTreeModel" ⟨"BestTreeModel", "one", "(J)I"⟩ ⟨"BestTreeModel", "one", "(J)I"⟩) ∈ lw_all := lw_g (lw_at lw_ms 11 rfl) rfl
theorem qs12 : (Cond.selects "BestTreeModel" ⟨"BestTreeModel", "two", "(J)I"⟩ ⟨"BestTreeModel", "two", "(J)I"⟩) ∈ lw_all := lw_g (lw_at lw_ms 12 rfl) rfl
end
section
/-! java/lang/Object -/
set_option maxRecDepth 100000
def RJ0 : String := "java/lang/Object"
abbrev cJ0_init : ByteArray := object_method_1_code
def yJ0_init : MethodName := ⟨RJ0, "<init>", "()V"⟩
theorem dJ0_init_0 : decode cJ0_init 0 = .ok (.return_, 1) := by decide +kernel
theorem q22 : (Jvm.Cond.instanceMethod ({ cls := "java/lang/Object", name := "<init>", desc := "()V" } : Jvm.MethodName)) ∈ lw_all := lw_g (lw_at lw_m0 9 rfl) rfl
theorem q23 : (Jvm.Cond.code ({ cls := "java/lang/Object", name := "<init>", desc := "()V" } : Jvm.MethodName) object_method_1_code (1 : Nat) (Option.none : Option Jvm.ClassFile.FieldType)) ∈ lw_all := lw_g (lw_at lw_m0 10 rfl) rfl
/-! BestTree -/
set_option maxRecDepth 100000
def RX0 : String := "BestTree"
def TX0 : u_T := fun k => match k with
  | 0 => ("BestTree", "samples", "I", false)
  | 1 => ("BestTree", "features", "[I", true)
  | 2 => ("BestTree", "good", "[Z", true)
  | 3 => ("BestTree", "counted", "Z", false)
  | 4 => ("BestTree", "goodLeft", "[I", true)
  | 5 => ("BestTree", "badLeft", "[I", true)
  | 6 => ("BestTree", "saysYes", "[J", true)
  | 7 => ("BestTree", "best", "[I", true)
  | _ => ("BestTree", "power", "[I", true)
def tyX0 : Nat → FieldType := fun k => match k with
  | 0 => .int
  | 1 => .array .int
  | 2 => .array .boolean
  | 3 => .boolean
  | 4 => .array .int
  | 5 => .array .int
  | 6 => .array .long
  | 7 => .array .int
  | _ => .array .int
abbrev wsX00 : List Cond := u_ws RX0 TX0 9
theorem nmX0 : ∀ a, a < 9 → ∀ b, b < 9 → a ≠ b → (TX0 a).2.1 ≠ (TX0 b).2.1 := by decide +kernel
theorem tyX0_ok : ∀ k, k < 9 → parseFieldDescriptor (TX0 k).2.2.1 = some (tyX0 k) := by decide +kernel
abbrev cX0_init : ByteArray := prog_1_method_1_code
def yX0_init : MethodName := ⟨RX0, "<init>", "()V"⟩
theorem dX0_init_0 : decode cX0_init 0 = .ok (.aload_n 0, 1) := by decide +kernel
theorem dX0_init_1 : decode cX0_init 1 = .ok (.invokespecial 1, 3) := by decide +kernel
theorem dX0_init_4 : decode cX0_init 4 = .ok (.aload_n 0, 1) := by decide +kernel
theorem dX0_init_5 : decode cX0_init 5 = .ok (.bipush 48, 2) := by decide +kernel
theorem dX0_init_7 : decode cX0_init 7 = .ok (.newarray .int, 2) := by decide +kernel
theorem dX0_init_9 : decode cX0_init 9 = .ok (.putfield 7, 3) := by decide +kernel
theorem dX0_init_12 : decode cX0_init 12 = .ok (.aload_n 0, 1) := by decide +kernel
theorem dX0_init_13 : decode cX0_init 13 = .ok (.bipush 48, 2) := by decide +kernel
theorem dX0_init_15 : decode cX0_init 15 = .ok (.newarray .boolean, 2) := by decide +kernel
theorem dX0_init_17 : decode cX0_init 17 = .ok (.putfield 13, 3) := by decide +kernel
theorem dX0_init_20 : decode cX0_init 20 = .ok (.aload_n 0, 1) := by decide +kernel
theorem dX0_init_21 : decode cX0_init 21 = .ok (.sipush 729, 3) := by decide +kernel
theorem dX0_init_24 : decode cX0_init 24 = .ok (.newarray .int, 2) := by decide +kernel
theorem dX0_init_26 : decode cX0_init 26 = .ok (.putfield 17, 3) := by decide +kernel
theorem dX0_init_29 : decode cX0_init 29 = .ok (.aload_n 0, 1) := by decide +kernel
theorem dX0_init_30 : decode cX0_init 30 = .ok (.sipush 729, 3) := by decide +kernel
theorem dX0_init_33 : decode cX0_init 33 = .ok (.newarray .int, 2) := by decide +kernel
theorem dX0_init_35 : decode cX0_init 35 = .ok (.putfield 20, 3) := by decide +kernel
theorem dX0_init_38 : decode cX0_init 38 = .ok (.aload_n 0, 1) := by decide +kernel
theorem dX0_init_39 : decode cX0_init 39 = .ok (.bipush 6, 2) := by decide +kernel
theorem dX0_init_41 : decode cX0_init 41 = .ok (.newarray .long, 2) := by decide +kernel
theorem dX0_init_43 : decode cX0_init 43 = .ok (.putfield 23, 3) := by decide +kernel
theorem dX0_init_46 : decode cX0_init 46 = .ok (.aload_n 0, 1) := by decide +kernel
theorem dX0_init_47 : decode cX0_init 47 = .ok (.sipush 2916, 3) := by decide +kernel
theorem dX0_init_50 : decode cX0_init 50 = .ok (.newarray .int, 2) := by decide +kernel
theorem dX0_init_52 : decode cX0_init 52 = .ok (.putfield 27, 3) := by decide +kernel
theorem dX0_init_55 : decode cX0_init 55 = .ok (.aload_n 0, 1) := by decide +kernel
theorem dX0_init_56 : decode cX0_init 56 = .ok (.bipush 7, 2) := by decide +kernel
theorem dX0_init_58 : decode cX0_init 58 = .ok (.newarray .int, 2) := by decide +kernel
theorem dX0_init_60 : decode cX0_init 60 = .ok (.putfield 30, 3) := by decide +kernel
theorem dX0_init_63 : decode cX0_init 63 = .ok (.aload_n 0, 1) := by decide +kernel
theorem dX0_init_64 : decode cX0_init 64 = .ok (.getfield 30, 3) := by decide +kernel
theorem dX0_init_67 : decode cX0_init 67 = .ok (.iconst 0, 1) := by decide +kernel
theorem dX0_init_68 : decode cX0_init 68 = .ok (.iconst 1, 1) := by decide +kernel
theorem dX0_init_69 : decode cX0_init 69 = .ok (.iastore, 1) := by decide +kernel
theorem dX0_init_70 : decode cX0_init 70 = .ok (.iconst 0, 1) := by decide +kernel
theorem dX0_init_71 : decode cX0_init 71 = .ok (.istore_n 1, 1) := by decide +kernel
theorem dX0_init_72 : decode cX0_init 72 = .ok (.iload_n 1, 1) := by decide +kernel
theorem dX0_init_73 : decode cX0_init 73 = .ok (.bipush 6, 2) := by decide +kernel
theorem dX0_init_75 : decode cX0_init 75 = .ok (.if_icmp .ge 25, 3) := by decide +kernel
theorem dX0_init_78 : decode cX0_init 78 = .ok (.aload_n 0, 1) := by decide +kernel
theorem dX0_init_79 : decode cX0_init 79 = .ok (.getfield 30, 3) := by decide +kernel
theorem dX0_init_82 : decode cX0_init 82 = .ok (.iload_n 1, 1) := by decide +kernel
theorem dX0_init_83 : decode cX0_init 83 = .ok (.iconst 1, 1) := by decide +kernel
theorem dX0_init_84 : decode cX0_init 84 = .ok (.iadd, 1) := by decide +kernel
theorem dX0_init_85 : decode cX0_init 85 = .ok (.iconst 3, 1) := by decide +kernel
theorem dX0_init_86 : decode cX0_init 86 = .ok (.aload_n 0, 1) := by decide +kernel
theorem dX0_init_87 : decode cX0_init 87 = .ok (.getfield 30, 3) := by decide +kernel
theorem dX0_init_90 : decode cX0_init 90 = .ok (.iload_n 1, 1) := by decide +kernel
theorem dX0_init_91 : decode cX0_init 91 = .ok (.iaload, 1) := by decide +kernel
theorem dX0_init_92 : decode cX0_init 92 = .ok (.imul, 1) := by decide +kernel
theorem dX0_init_93 : decode cX0_init 93 = .ok (.iastore, 1) := by decide +kernel
theorem dX0_init_94 : decode cX0_init 94 = .ok (.iinc 1 1, 3) := by decide +kernel
theorem dX0_init_97 : decode cX0_init 97 = .ok (.goto (-25), 3) := by decide +kernel
theorem dX0_init_100 : decode cX0_init 100 = .ok (.return_, 1) := by decide +kernel
abbrev cX0_add : ByteArray := prog_1_method_2_code
def yX0_add : MethodName := ⟨RX0, "add", "(IZ)I"⟩
theorem dX0_add_0 : decode cX0_add 0 = .ok (.aload_n 0, 1) := by decide +kernel
theorem dX0_add_1 : decode cX0_add 1 = .ok (.getfield 33, 3) := by decide +kernel
theorem dX0_add_4 : decode cX0_add 4 = .ok (.bipush 48, 2) := by decide +kernel
theorem dX0_add_6 : decode cX0_add 6 = .ok (.if_icmp .lt 5, 3) := by decide +kernel
theorem dX0_add_9 : decode cX0_add 9 = .ok (.iconst (-1), 1) := by decide +kernel
theorem dX0_add_10 : decode cX0_add 10 = .ok (.ireturn, 1) := by decide +kernel
theorem dX0_add_11 : decode cX0_add 11 = .ok (.aload_n 0, 1) := by decide +kernel
theorem dX0_add_12 : decode cX0_add 12 = .ok (.getfield 7, 3) := by decide +kernel
theorem dX0_add_15 : decode cX0_add 15 = .ok (.aload_n 0, 1) := by decide +kernel
theorem dX0_add_16 : decode cX0_add 16 = .ok (.getfield 33, 3) := by decide +kernel
theorem dX0_add_19 : decode cX0_add 19 = .ok (.iload_n 1, 1) := by decide +kernel
theorem dX0_add_20 : decode cX0_add 20 = .ok (.bipush 63, 2) := by decide +kernel
theorem dX0_add_22 : decode cX0_add 22 = .ok (.iand, 1) := by decide +kernel
theorem dX0_add_23 : decode cX0_add 23 = .ok (.iastore, 1) := by decide +kernel
theorem dX0_add_24 : decode cX0_add 24 = .ok (.aload_n 0, 1) := by decide +kernel
theorem dX0_add_25 : decode cX0_add 25 = .ok (.getfield 13, 3) := by decide +kernel
theorem dX0_add_28 : decode cX0_add 28 = .ok (.aload_n 0, 1) := by decide +kernel
theorem dX0_add_29 : decode cX0_add 29 = .ok (.getfield 33, 3) := by decide +kernel
theorem dX0_add_32 : decode cX0_add 32 = .ok (.iload_n 2, 1) := by decide +kernel
theorem dX0_add_33 : decode cX0_add 33 = .ok (.bastore, 1) := by decide +kernel
theorem dX0_add_34 : decode cX0_add 34 = .ok (.aload_n 0, 1) := by decide +kernel
theorem dX0_add_35 : decode cX0_add 35 = .ok (.dup, 1) := by decide +kernel
theorem dX0_add_36 : decode cX0_add 36 = .ok (.getfield 33, 3) := by decide +kernel
theorem dX0_add_39 : decode cX0_add 39 = .ok (.iconst 1, 1) := by decide +kernel
theorem dX0_add_40 : decode cX0_add 40 = .ok (.iadd, 1) := by decide +kernel
theorem dX0_add_41 : decode cX0_add 41 = .ok (.putfield 33, 3) := by decide +kernel
theorem dX0_add_44 : decode cX0_add 44 = .ok (.aload_n 0, 1) := by decide +kernel
theorem dX0_add_45 : decode cX0_add 45 = .ok (.iconst 0, 1) := by decide +kernel
theorem dX0_add_46 : decode cX0_add 46 = .ok (.putfield 37, 3) := by decide +kernel
theorem dX0_add_49 : decode cX0_add 49 = .ok (.aload_n 0, 1) := by decide +kernel
theorem dX0_add_50 : decode cX0_add 50 = .ok (.getfield 33, 3) := by decide +kernel
theorem dX0_add_53 : decode cX0_add 53 = .ok (.ireturn, 1) := by decide +kernel
abbrev cX0_drop : ByteArray := prog_1_method_3_code
def yX0_drop : MethodName := ⟨RX0, "drop", "(I)I"⟩
theorem dX0_drop_0 : decode cX0_drop 0 = .ok (.iload_n 1, 1) := by decide +kernel
theorem dX0_drop_1 : decode cX0_drop 1 = .ok (.ifCond .lt 11, 3) := by decide +kernel
theorem dX0_drop_4 : decode cX0_drop 4 = .ok (.iload_n 1, 1) := by decide +kernel
theorem dX0_drop_5 : decode cX0_drop 5 = .ok (.aload_n 0, 1) := by decide +kernel
theorem dX0_drop_6 : decode cX0_drop 6 = .ok (.getfield 33, 3) := by decide +kernel
theorem dX0_drop_9 : decode cX0_drop 9 = .ok (.if_icmp .lt 5, 3) := by decide +kernel
theorem dX0_drop_12 : decode cX0_drop 12 = .ok (.iconst (-1), 1) := by decide +kernel
theorem dX0_drop_13 : decode cX0_drop 13 = .ok (.ireturn, 1) := by decide +kernel
theorem dX0_drop_14 : decode cX0_drop 14 = .ok (.aload_n 0, 1) := by decide +kernel
theorem dX0_drop_15 : decode cX0_drop 15 = .ok (.dup, 1) := by decide +kernel
theorem dX0_drop_16 : decode cX0_drop 16 = .ok (.getfield 33, 3) := by decide +kernel
theorem dX0_drop_19 : decode cX0_drop 19 = .ok (.iconst 1, 1) := by decide +kernel
theorem dX0_drop_20 : decode cX0_drop 20 = .ok (.isub, 1) := by decide +kernel
theorem dX0_drop_21 : decode cX0_drop 21 = .ok (.putfield 33, 3) := by decide +kernel
theorem dX0_drop_24 : decode cX0_drop 24 = .ok (.iload_n 1, 1) := by decide +kernel
theorem dX0_drop_25 : decode cX0_drop 25 = .ok (.istore_n 2, 1) := by decide +kernel
theorem dX0_drop_26 : decode cX0_drop 26 = .ok (.iload_n 2, 1) := by decide +kernel
theorem dX0_drop_27 : decode cX0_drop 27 = .ok (.aload_n 0, 1) := by decide +kernel
theorem dX0_drop_28 : decode cX0_drop 28 = .ok (.getfield 33, 3) := by decide +kernel
theorem dX0_drop_31 : decode cX0_drop 31 = .ok (.if_icmp .ge 37, 3) := by decide +kernel
theorem dX0_drop_34 : decode cX0_drop 34 = .ok (.aload_n 0, 1) := by decide +kernel
theorem dX0_drop_35 : decode cX0_drop 35 = .ok (.getfield 7, 3) := by decide +kernel
theorem dX0_drop_38 : decode cX0_drop 38 = .ok (.iload_n 2, 1) := by decide +kernel
theorem dX0_drop_39 : decode cX0_drop 39 = .ok (.aload_n 0, 1) := by decide +kernel
theorem dX0_drop_40 : decode cX0_drop 40 = .ok (.getfield 7, 3) := by decide +kernel
theorem dX0_drop_43 : decode cX0_drop 43 = .ok (.iload_n 2, 1) := by decide +kernel
theorem dX0_drop_44 : decode cX0_drop 44 = .ok (.iconst 1, 1) := by decide +kernel
theorem dX0_drop_45 : decode cX0_drop 45 = .ok (.iadd, 1) := by decide +kernel
theorem dX0_drop_46 : decode cX0_drop 46 = .ok (.iaload, 1) := by decide +kernel
theorem dX0_drop_47 : decode cX0_drop 47 = .ok (.iastore, 1) := by decide +kernel
theorem dX0_drop_48 : decode cX0_drop 48 = .ok (.aload_n 0, 1) := by decide +kernel
theorem dX0_drop_49 : decode cX0_drop 49 = .ok (.getfield 13, 3) := by decide +kernel
theorem dX0_drop_52 : decode cX0_drop 52 = .ok (.iload_n 2, 1) := by decide +kernel
theorem dX0_drop_53 : decode cX0_drop 53 = .ok (.aload_n 0, 1) := by decide +kernel
theorem dX0_drop_54 : decode cX0_drop 54 = .ok (.getfield 13, 3) := by decide +kernel
theorem dX0_drop_57 : decode cX0_drop 57 = .ok (.iload_n 2, 1) := by decide +kernel
theorem dX0_drop_58 : decode cX0_drop 58 = .ok (.iconst 1, 1) := by decide +kernel
theorem dX0_drop_59 : decode cX0_drop 59 = .ok (.iadd, 1) := by decide +kernel
theorem dX0_drop_60 : decode cX0_drop 60 = .ok (.baload, 1) := by decide +kernel
theorem dX0_drop_61 : decode cX0_drop 61 = .ok (.bastore, 1) := by decide +kernel
theorem dX0_drop_62 : decode cX0_drop 62 = .ok (.iinc 2 1, 3) := by decide +kernel
theorem dX0_drop_65 : decode cX0_drop 65 = .ok (.goto (-39), 3) := by decide +kernel
theorem dX0_drop_68 : decode cX0_drop 68 = .ok (.aload_n 0, 1) := by decide +kernel
theorem dX0_drop_69 : decode cX0_drop 69 = .ok (.iconst 0, 1) := by decide +kernel
theorem dX0_drop_70 : decode cX0_drop 70 = .ok (.putfield 37, 3) := by decide +kernel
theorem dX0_drop_73 : decode cX0_drop 73 = .ok (.aload_n 0, 1) := by decide +kernel
theorem dX0_drop_74 : decode cX0_drop 74 = .ok (.getfield 33, 3) := by decide +kernel
theorem dX0_drop_77 : decode cX0_drop 77 = .ok (.ireturn, 1) := by decide +kernel
abbrev cX0_mistakes : ByteArray := prog_1_method_4_code
def yX0_mistakes : MethodName := ⟨RX0, "mistakes", "(I)I"⟩
theorem dX0_mistakes_0 : decode cX0_mistakes 0 = .ok (.iload_n 1, 1) := by decide +kernel
theorem dX0_mistakes_1 : decode cX0_mistakes 1 = .ok (.ifCond .ge 7, 3) := by decide +kernel
theorem dX0_mistakes_4 : decode cX0_mistakes 4 = .ok (.iconst 0, 1) := by decide +kernel
theorem dX0_mistakes_5 : decode cX0_mistakes 5 = .ok (.goto 13, 3) := by decide +kernel
theorem dX0_mistakes_8 : decode cX0_mistakes 8 = .ok (.iload_n 1, 1) := by decide +kernel
theorem dX0_mistakes_9 : decode cX0_mistakes 9 = .ok (.iconst 3, 1) := by decide +kernel
theorem dX0_mistakes_10 : decode cX0_mistakes 10 = .ok (.if_icmp .le 7, 3) := by decide +kernel
theorem dX0_mistakes_13 : decode cX0_mistakes 13 = .ok (.iconst 3, 1) := by decide +kernel
theorem dX0_mistakes_14 : decode cX0_mistakes 14 = .ok (.goto 4, 3) := by decide +kernel
theorem dX0_mistakes_17 : decode cX0_mistakes 17 = .ok (.iload_n 1, 1) := by decide +kernel
theorem dX0_mistakes_18 : decode cX0_mistakes 18 = .ok (.istore_n 2, 1) := by decide +kernel
theorem dX0_mistakes_19 : decode cX0_mistakes 19 = .ok (.aload_n 0, 1) := by decide +kernel
theorem dX0_mistakes_20 : decode cX0_mistakes 20 = .ok (.iconst 1, 1) := by decide +kernel
theorem dX0_mistakes_21 : decode cX0_mistakes 21 = .ok (.iconst 0, 1) := by decide +kernel
theorem dX0_mistakes_22 : decode cX0_mistakes 22 = .ok (.invokevirtual 41, 3) := by decide +kernel
theorem dX0_mistakes_25 : decode cX0_mistakes 25 = .ok (.aload_n 0, 1) := by decide +kernel
theorem dX0_mistakes_26 : decode cX0_mistakes 26 = .ok (.getfield 27, 3) := by decide +kernel
theorem dX0_mistakes_29 : decode cX0_mistakes 29 = .ok (.sipush 729, 3) := by decide +kernel
theorem dX0_mistakes_32 : decode cX0_mistakes 32 = .ok (.iload_n 2, 1) := by decide +kernel
theorem dX0_mistakes_33 : decode cX0_mistakes 33 = .ok (.imul, 1) := by decide +kernel
theorem dX0_mistakes_34 : decode cX0_mistakes 34 = .ok (.iaload, 1) := by decide +kernel
theorem dX0_mistakes_35 : decode cX0_mistakes 35 = .ok (.ireturn, 1) := by decide +kernel
abbrev cX0_workOut : ByteArray := prog_1_method_12_code
def yX0_workOut : MethodName := ⟨RX0, "workOut", "(II)V"⟩
theorem dX0_workOut_0 : decode cX0_workOut 0 = .ok (.aload_n 0, 1) := by decide +kernel
theorem dX0_workOut_1 : decode cX0_workOut 1 = .ok (.invokevirtual 49, 3) := by decide +kernel
theorem dX0_workOut_4 : decode cX0_workOut 4 = .ok (.iconst 0, 1) := by decide +kernel
theorem dX0_workOut_5 : decode cX0_workOut 5 = .ok (.istore_n 3, 1) := by decide +kernel
theorem dX0_workOut_6 : decode cX0_workOut 6 = .ok (.iload_n 3, 1) := by decide +kernel
theorem dX0_workOut_7 : decode cX0_workOut 7 = .ok (.sipush 729, 3) := by decide +kernel
theorem dX0_workOut_10 : decode cX0_workOut 10 = .ok (.if_icmp .ge 47, 3) := by decide +kernel
theorem dX0_workOut_13 : decode cX0_workOut 13 = .ok (.aload_n 0, 1) := by decide +kernel
theorem dX0_workOut_14 : decode cX0_workOut 14 = .ok (.getfield 17, 3) := by decide +kernel
theorem dX0_workOut_17 : decode cX0_workOut 17 = .ok (.iload_n 3, 1) := by decide +kernel
theorem dX0_workOut_18 : decode cX0_workOut 18 = .ok (.iaload, 1) := by decide +kernel
theorem dX0_workOut_19 : decode cX0_workOut 19 = .ok (.istore 4, 2) := by decide +kernel
theorem dX0_workOut_21 : decode cX0_workOut 21 = .ok (.aload_n 0, 1) := by decide +kernel
theorem dX0_workOut_22 : decode cX0_workOut 22 = .ok (.getfield 20, 3) := by decide +kernel
theorem dX0_workOut_25 : decode cX0_workOut 25 = .ok (.iload_n 3, 1) := by decide +kernel
theorem dX0_workOut_26 : decode cX0_workOut 26 = .ok (.iaload, 1) := by decide +kernel
theorem dX0_workOut_27 : decode cX0_workOut 27 = .ok (.istore 5, 2) := by decide +kernel
theorem dX0_workOut_29 : decode cX0_workOut 29 = .ok (.aload_n 0, 1) := by decide +kernel
theorem dX0_workOut_30 : decode cX0_workOut 30 = .ok (.getfield 27, 3) := by decide +kernel
theorem dX0_workOut_33 : decode cX0_workOut 33 = .ok (.iload_n 3, 1) := by decide +kernel
theorem dX0_workOut_34 : decode cX0_workOut 34 = .ok (.iload_n 1, 1) := by decide +kernel
theorem dX0_workOut_35 : decode cX0_workOut 35 = .ok (.iload 4, 2) := by decide +kernel
theorem dX0_workOut_37 : decode cX0_workOut 37 = .ok (.iload 5, 2) := by decide +kernel
theorem dX0_workOut_39 : decode cX0_workOut 39 = .ok (.if_icmp .ge 8, 3) := by decide +kernel
theorem dX0_workOut_42 : decode cX0_workOut 42 = .ok (.iload 4, 2) := by decide +kernel
theorem dX0_workOut_44 : decode cX0_workOut 44 = .ok (.goto 5, 3) := by decide +kernel
theorem dX0_workOut_47 : decode cX0_workOut 47 = .ok (.iload 5, 2) := by decide +kernel
theorem dX0_workOut_49 : decode cX0_workOut 49 = .ok (.imul, 1) := by decide +kernel
theorem dX0_workOut_50 : decode cX0_workOut 50 = .ok (.iastore, 1) := by decide +kernel
theorem dX0_workOut_51 : decode cX0_workOut 51 = .ok (.iinc 3 1, 3) := by decide +kernel
theorem dX0_workOut_54 : decode cX0_workOut 54 = .ok (.goto (-48), 3) := by decide +kernel
theorem dX0_workOut_57 : decode cX0_workOut 57 = .ok (.iconst 1, 1) := by decide +kernel
theorem dX0_workOut_58 : decode cX0_workOut 58 = .ok (.istore_n 3, 1) := by decide +kernel
theorem dX0_workOut_59 : decode cX0_workOut 59 = .ok (.iload_n 3, 1) := by decide +kernel
theorem dX0_workOut_60 : decode cX0_workOut 60 = .ok (.iconst 4, 1) := by decide +kernel
theorem dX0_workOut_61 : decode cX0_workOut 61 = .ok (.if_icmp .ge 47, 3) := by decide +kernel
theorem dX0_workOut_64 : decode cX0_workOut 64 = .ok (.iconst 0, 1) := by decide +kernel
theorem dX0_workOut_65 : decode cX0_workOut 65 = .ok (.istore 4, 2) := by decide +kernel
theorem dX0_workOut_67 : decode cX0_workOut 67 = .ok (.iload 4, 2) := by decide +kernel
theorem dX0_workOut_69 : decode cX0_workOut 69 = .ok (.sipush 729, 3) := by decide +kernel
theorem dX0_workOut_72 : decode cX0_workOut 72 = .ok (.if_icmp .ge 30, 3) := by decide +kernel
theorem dX0_workOut_75 : decode cX0_workOut 75 = .ok (.aload_n 0, 1) := by decide +kernel
theorem dX0_workOut_76 : decode cX0_workOut 76 = .ok (.getfield 27, 3) := by decide +kernel
theorem dX0_workOut_79 : decode cX0_workOut 79 = .ok (.sipush 729, 3) := by decide +kernel
theorem dX0_workOut_82 : decode cX0_workOut 82 = .ok (.iload_n 3, 1) := by decide +kernel
theorem dX0_workOut_83 : decode cX0_workOut 83 = .ok (.imul, 1) := by decide +kernel
theorem dX0_workOut_84 : decode cX0_workOut 84 = .ok (.iload 4, 2) := by decide +kernel
theorem dX0_workOut_86 : decode cX0_workOut 86 = .ok (.iadd, 1) := by decide +kernel
theorem dX0_workOut_87 : decode cX0_workOut 87 = .ok (.aload_n 0, 1) := by decide +kernel
theorem dX0_workOut_88 : decode cX0_workOut 88 = .ok (.iload_n 3, 1) := by decide +kernel
theorem dX0_workOut_89 : decode cX0_workOut 89 = .ok (.iload 4, 2) := by decide +kernel
theorem dX0_workOut_91 : decode cX0_workOut 91 = .ok (.iload_n 2, 1) := by decide +kernel
theorem dX0_workOut_92 : decode cX0_workOut 92 = .ok (.invokevirtual 58, 3) := by decide +kernel
theorem dX0_workOut_95 : decode cX0_workOut 95 = .ok (.iastore, 1) := by decide +kernel
theorem dX0_workOut_96 : decode cX0_workOut 96 = .ok (.iinc 4 1, 3) := by decide +kernel
theorem dX0_workOut_99 : decode cX0_workOut 99 = .ok (.goto (-32), 3) := by decide +kernel
theorem dX0_workOut_102 : decode cX0_workOut 102 = .ok (.iinc 3 1, 3) := by decide +kernel
theorem dX0_workOut_105 : decode cX0_workOut 105 = .ok (.goto (-46), 3) := by decide +kernel
theorem dX0_workOut_108 : decode cX0_workOut 108 = .ok (.return_, 1) := by decide +kernel
abbrev cX0_count : ByteArray := prog_1_method_11_code
def yX0_count : MethodName := ⟨RX0, "count", "()V"⟩
theorem dX0_count_0 : decode cX0_count 0 = .ok (.aload_n 0, 1) := by decide +kernel
theorem dX0_count_1 : decode cX0_count 1 = .ok (.getfield 37, 3) := by decide +kernel
theorem dX0_count_4 : decode cX0_count 4 = .ok (.ifCond .eq 4, 3) := by decide +kernel
theorem dX0_count_7 : decode cX0_count 7 = .ok (.return_, 1) := by decide +kernel
theorem dX0_count_8 : decode cX0_count 8 = .ok (.aload_n 0, 1) := by decide +kernel
theorem dX0_count_9 : decode cX0_count 9 = .ok (.iconst 1, 1) := by decide +kernel
theorem dX0_count_10 : decode cX0_count 10 = .ok (.putfield 37, 3) := by decide +kernel
theorem dX0_count_13 : decode cX0_count 13 = .ok (.lconst 0, 1) := by decide +kernel
theorem dX0_count_14 : decode cX0_count 14 = .ok (.lstore_n 1, 1) := by decide +kernel
theorem dX0_count_15 : decode cX0_count 15 = .ok (.lconst 0, 1) := by decide +kernel
theorem dX0_count_16 : decode cX0_count 16 = .ok (.lstore_n 3, 1) := by decide +kernel
theorem dX0_count_17 : decode cX0_count 17 = .ok (.iconst 0, 1) := by decide +kernel
theorem dX0_count_18 : decode cX0_count 18 = .ok (.istore 5, 2) := by decide +kernel
theorem dX0_count_20 : decode cX0_count 20 = .ok (.iload 5, 2) := by decide +kernel
theorem dX0_count_22 : decode cX0_count 22 = .ok (.bipush 6, 2) := by decide +kernel
theorem dX0_count_24 : decode cX0_count 24 = .ok (.if_icmp .ge 17, 3) := by decide +kernel
theorem dX0_count_27 : decode cX0_count 27 = .ok (.aload_n 0, 1) := by decide +kernel
theorem dX0_count_28 : decode cX0_count 28 = .ok (.getfield 23, 3) := by decide +kernel
theorem dX0_count_31 : decode cX0_count 31 = .ok (.iload 5, 2) := by decide +kernel
theorem dX0_count_33 : decode cX0_count 33 = .ok (.lconst 0, 1) := by decide +kernel
theorem dX0_count_34 : decode cX0_count 34 = .ok (.lastore, 1) := by decide +kernel
theorem dX0_count_35 : decode cX0_count 35 = .ok (.iinc 5 1, 3) := by decide +kernel
theorem dX0_count_38 : decode cX0_count 38 = .ok (.goto (-18), 3) := by decide +kernel
theorem dX0_count_41 : decode cX0_count 41 = .ok (.iconst 0, 1) := by decide +kernel
theorem dX0_count_42 : decode cX0_count 42 = .ok (.istore 5, 2) := by decide +kernel
theorem dX0_count_44 : decode cX0_count 44 = .ok (.iload 5, 2) := by decide +kernel
theorem dX0_count_46 : decode cX0_count 46 = .ok (.aload_n 0, 1) := by decide +kernel
theorem dX0_count_47 : decode cX0_count 47 = .ok (.getfield 33, 3) := by decide +kernel
theorem dX0_count_50 : decode cX0_count 50 = .ok (.if_icmp .ge 86, 3) := by decide +kernel
theorem dX0_count_53 : decode cX0_count 53 = .ok (.lload_n 3, 1) := by decide +kernel
theorem dX0_count_54 : decode cX0_count 54 = .ok (.lconst 1, 1) := by decide +kernel
theorem dX0_count_55 : decode cX0_count 55 = .ok (.iload 5, 2) := by decide +kernel
theorem dX0_count_57 : decode cX0_count 57 = .ok (.lshl, 1) := by decide +kernel
theorem dX0_count_58 : decode cX0_count 58 = .ok (.lor, 1) := by decide +kernel
theorem dX0_count_59 : decode cX0_count 59 = .ok (.lstore_n 3, 1) := by decide +kernel
theorem dX0_count_60 : decode cX0_count 60 = .ok (.lload_n 1, 1) := by decide +kernel
theorem dX0_count_61 : decode cX0_count 61 = .ok (.aload_n 0, 1) := by decide +kernel
theorem dX0_count_62 : decode cX0_count 62 = .ok (.getfield 13, 3) := by decide +kernel
theorem dX0_count_65 : decode cX0_count 65 = .ok (.iload 5, 2) := by decide +kernel
theorem dX0_count_67 : decode cX0_count 67 = .ok (.baload, 1) := by decide +kernel
theorem dX0_count_68 : decode cX0_count 68 = .ok (.ifCond .eq 10, 3) := by decide +kernel
theorem dX0_count_71 : decode cX0_count 71 = .ok (.lconst 1, 1) := by decide +kernel
theorem dX0_count_72 : decode cX0_count 72 = .ok (.iload 5, 2) := by decide +kernel
theorem dX0_count_74 : decode cX0_count 74 = .ok (.lshl, 1) := by decide +kernel
theorem dX0_count_75 : decode cX0_count 75 = .ok (.goto 4, 3) := by decide +kernel
theorem dX0_count_78 : decode cX0_count 78 = .ok (.lconst 0, 1) := by decide +kernel
theorem dX0_count_79 : decode cX0_count 79 = .ok (.lor, 1) := by decide +kernel
theorem dX0_count_80 : decode cX0_count 80 = .ok (.lstore_n 1, 1) := by decide +kernel
theorem dX0_count_81 : decode cX0_count 81 = .ok (.iconst 0, 1) := by decide +kernel
theorem dX0_count_82 : decode cX0_count 82 = .ok (.istore 6, 2) := by decide +kernel
theorem dX0_count_84 : decode cX0_count 84 = .ok (.iload 6, 2) := by decide +kernel
theorem dX0_count_86 : decode cX0_count 86 = .ok (.bipush 6, 2) := by decide +kernel
theorem dX0_count_88 : decode cX0_count 88 = .ok (.if_icmp .ge 42, 3) := by decide +kernel
theorem dX0_count_91 : decode cX0_count 91 = .ok (.aload_n 0, 1) := by decide +kernel
theorem dX0_count_92 : decode cX0_count 92 = .ok (.getfield 23, 3) := by decide +kernel
theorem dX0_count_95 : decode cX0_count 95 = .ok (.iload 6, 2) := by decide +kernel
theorem dX0_count_97 : decode cX0_count 97 = .ok (.dup2, 1) := by decide +kernel
theorem dX0_count_98 : decode cX0_count 98 = .ok (.laload, 1) := by decide +kernel
theorem dX0_count_99 : decode cX0_count 99 = .ok (.aload_n 0, 1) := by decide +kernel
theorem dX0_count_100 : decode cX0_count 100 = .ok (.getfield 7, 3) := by decide +kernel
theorem dX0_count_103 : decode cX0_count 103 = .ok (.iload 5, 2) := by decide +kernel
theorem dX0_count_105 : decode cX0_count 105 = .ok (.iaload, 1) := by decide +kernel
theorem dX0_count_106 : decode cX0_count 106 = .ok (.iload 6, 2) := by decide +kernel
theorem dX0_count_108 : decode cX0_count 108 = .ok (.iushr, 1) := by decide +kernel
theorem dX0_count_109 : decode cX0_count 109 = .ok (.iconst 1, 1) := by decide +kernel
theorem dX0_count_110 : decode cX0_count 110 = .ok (.iand, 1) := by decide +kernel
theorem dX0_count_111 : decode cX0_count 111 = .ok (.ifCond .eq 10, 3) := by decide +kernel
theorem dX0_count_114 : decode cX0_count 114 = .ok (.lconst 1, 1) := by decide +kernel
theorem dX0_count_115 : decode cX0_count 115 = .ok (.iload 5, 2) := by decide +kernel
theorem dX0_count_117 : decode cX0_count 117 = .ok (.lshl, 1) := by decide +kernel
theorem dX0_count_118 : decode cX0_count 118 = .ok (.goto 4, 3) := by decide +kernel
theorem dX0_count_121 : decode cX0_count 121 = .ok (.lconst 0, 1) := by decide +kernel
theorem dX0_count_122 : decode cX0_count 122 = .ok (.lor, 1) := by decide +kernel
theorem dX0_count_123 : decode cX0_count 123 = .ok (.lastore, 1) := by decide +kernel
theorem dX0_count_124 : decode cX0_count 124 = .ok (.iinc 6 1, 3) := by decide +kernel
theorem dX0_count_127 : decode cX0_count 127 = .ok (.goto (-43), 3) := by decide +kernel
theorem dX0_count_130 : decode cX0_count 130 = .ok (.iinc 5 1, 3) := by decide +kernel
theorem dX0_count_133 : decode cX0_count 133 = .ok (.goto (-89), 3) := by decide +kernel
theorem dX0_count_136 : decode cX0_count 136 = .ok (.iconst 0, 1) := by decide +kernel
theorem dX0_count_137 : decode cX0_count 137 = .ok (.istore 5, 2) := by decide +kernel
theorem dX0_count_139 : decode cX0_count 139 = .ok (.iload 5, 2) := by decide +kernel
theorem dX0_count_141 : decode cX0_count 141 = .ok (.sipush 729, 3) := by decide +kernel
theorem dX0_count_144 : decode cX0_count 144 = .ok (.if_icmp .ge 117, 3) := by decide +kernel
theorem dX0_count_147 : decode cX0_count 147 = .ok (.lload_n 3, 1) := by decide +kernel
theorem dX0_count_148 : decode cX0_count 148 = .ok (.lstore 6, 2) := by decide +kernel
theorem dX0_count_150 : decode cX0_count 150 = .ok (.iconst 0, 1) := by decide +kernel
theorem dX0_count_151 : decode cX0_count 151 = .ok (.istore 8, 2) := by decide +kernel
theorem dX0_count_153 : decode cX0_count 153 = .ok (.iload 8, 2) := by decide +kernel
theorem dX0_count_155 : decode cX0_count 155 = .ok (.bipush 6, 2) := by decide +kernel
theorem dX0_count_157 : decode cX0_count 157 = .ok (.if_icmp .ge 66, 3) := by decide +kernel
theorem dX0_count_160 : decode cX0_count 160 = .ok (.iload 5, 2) := by decide +kernel
theorem dX0_count_162 : decode cX0_count 162 = .ok (.aload_n 0, 1) := by decide +kernel
theorem dX0_count_163 : decode cX0_count 163 = .ok (.getfield 30, 3) := by decide +kernel
theorem dX0_count_166 : decode cX0_count 166 = .ok (.iload 8, 2) := by decide +kernel
theorem dX0_count_168 : decode cX0_count 168 = .ok (.iaload, 1) := by decide +kernel
theorem dX0_count_169 : decode cX0_count 169 = .ok (.idiv, 1) := by decide +kernel
theorem dX0_count_170 : decode cX0_count 170 = .ok (.iconst 3, 1) := by decide +kernel
theorem dX0_count_171 : decode cX0_count 171 = .ok (.irem, 1) := by decide +kernel
theorem dX0_count_172 : decode cX0_count 172 = .ok (.istore 9, 2) := by decide +kernel
theorem dX0_count_174 : decode cX0_count 174 = .ok (.lload 6, 2) := by decide +kernel
theorem dX0_count_176 : decode cX0_count 176 = .ok (.iload 9, 2) := by decide +kernel
theorem dX0_count_178 : decode cX0_count 178 = .ok (.ifCond .ne 9, 3) := by decide +kernel
theorem dX0_count_181 : decode cX0_count 181 = .ok (.ldc2_w 52, 3) := by decide +kernel
theorem dX0_count_184 : decode cX0_count 184 = .ok (.goto 30, 3) := by decide +kernel
theorem dX0_count_187 : decode cX0_count 187 = .ok (.iload 9, 2) := by decide +kernel
theorem dX0_count_189 : decode cX0_count 189 = .ok (.iconst 1, 1) := by decide +kernel
theorem dX0_count_190 : decode cX0_count 190 = .ok (.if_icmp .ne 17, 3) := by decide +kernel
theorem dX0_count_193 : decode cX0_count 193 = .ok (.aload_n 0, 1) := by decide +kernel
theorem dX0_count_194 : decode cX0_count 194 = .ok (.getfield 23, 3) := by decide +kernel
theorem dX0_count_197 : decode cX0_count 197 = .ok (.iload 8, 2) := by decide +kernel
theorem dX0_count_199 : decode cX0_count 199 = .ok (.laload, 1) := by decide +kernel
theorem dX0_count_200 : decode cX0_count 200 = .ok (.ldc2_w 52, 3) := by decide +kernel
theorem dX0_count_203 : decode cX0_count 203 = .ok (.lxor, 1) := by decide +kernel
theorem dX0_count_204 : decode cX0_count 204 = .ok (.goto 10, 3) := by decide +kernel
theorem dX0_count_207 : decode cX0_count 207 = .ok (.aload_n 0, 1) := by decide +kernel
theorem dX0_count_208 : decode cX0_count 208 = .ok (.getfield 23, 3) := by decide +kernel
theorem dX0_count_211 : decode cX0_count 211 = .ok (.iload 8, 2) := by decide +kernel
theorem dX0_count_213 : decode cX0_count 213 = .ok (.laload, 1) := by decide +kernel
theorem dX0_count_214 : decode cX0_count 214 = .ok (.land, 1) := by decide +kernel
theorem dX0_count_215 : decode cX0_count 215 = .ok (.lstore 6, 2) := by decide +kernel
theorem dX0_count_217 : decode cX0_count 217 = .ok (.iinc 8 1, 3) := by decide +kernel
theorem dX0_count_220 : decode cX0_count 220 = .ok (.goto (-67), 3) := by decide +kernel
theorem dX0_count_223 : decode cX0_count 223 = .ok (.aload_n 0, 1) := by decide +kernel
theorem dX0_count_224 : decode cX0_count 224 = .ok (.getfield 17, 3) := by decide +kernel
theorem dX0_count_227 : decode cX0_count 227 = .ok (.iload 5, 2) := by decide +kernel
theorem dX0_count_229 : decode cX0_count 229 = .ok (.lload 6, 2) := by decide +kernel
theorem dX0_count_231 : decode cX0_count 231 = .ok (.lload_n 1, 1) := by decide +kernel
theorem dX0_count_232 : decode cX0_count 232 = .ok (.land, 1) := by decide +kernel
theorem dX0_count_233 : decode cX0_count 233 = .ok (.invokestatic 54, 3) := by decide +kernel
theorem dX0_count_236 : decode cX0_count 236 = .ok (.iastore, 1) := by decide +kernel
theorem dX0_count_237 : decode cX0_count 237 = .ok (.aload_n 0, 1) := by decide +kernel
theorem dX0_count_238 : decode cX0_count 238 = .ok (.getfield 20, 3) := by decide +kernel
theorem dX0_count_241 : decode cX0_count 241 = .ok (.iload 5, 2) := by decide +kernel
theorem dX0_count_243 : decode cX0_count 243 = .ok (.lload 6, 2) := by decide +kernel
theorem dX0_count_245 : decode cX0_count 245 = .ok (.lload_n 1, 1) := by decide +kernel
theorem dX0_count_246 : decode cX0_count 246 = .ok (.ldc2_w 52, 3) := by decide +kernel
theorem dX0_count_249 : decode cX0_count 249 = .ok (.lxor, 1) := by decide +kernel
theorem dX0_count_250 : decode cX0_count 250 = .ok (.land, 1) := by decide +kernel
theorem dX0_count_251 : decode cX0_count 251 = .ok (.invokestatic 54, 3) := by decide +kernel
theorem dX0_count_254 : decode cX0_count 254 = .ok (.iastore, 1) := by decide +kernel
theorem dX0_count_255 : decode cX0_count 255 = .ok (.iinc 5 1, 3) := by decide +kernel
theorem dX0_count_258 : decode cX0_count 258 = .ok (.goto (-119), 3) := by decide +kernel
theorem dX0_count_261 : decode cX0_count 261 = .ok (.return_, 1) := by decide +kernel
abbrev cX0_ones : ByteArray := prog_1_method_10_code
def yX0_ones : MethodName := ⟨RX0, "ones", "(J)I"⟩
theorem dX0_ones_0 : decode cX0_ones 0 = .ok (.iconst 0, 1) := by decide +kernel
theorem dX0_ones_1 : decode cX0_ones 1 = .ok (.istore_n 2, 1) := by decide +kernel
theorem dX0_ones_2 : decode cX0_ones 2 = .ok (.iconst 0, 1) := by decide +kernel
theorem dX0_ones_3 : decode cX0_ones 3 = .ok (.istore_n 3, 1) := by decide +kernel
theorem dX0_ones_4 : decode cX0_ones 4 = .ok (.iload_n 3, 1) := by decide +kernel
theorem dX0_ones_5 : decode cX0_ones 5 = .ok (.bipush 48, 2) := by decide +kernel
theorem dX0_ones_7 : decode cX0_ones 7 = .ok (.if_icmp .ge 18, 3) := by decide +kernel
theorem dX0_ones_10 : decode cX0_ones 10 = .ok (.iload_n 2, 1) := by decide +kernel
theorem dX0_ones_11 : decode cX0_ones 11 = .ok (.lload_n 0, 1) := by decide +kernel
theorem dX0_ones_12 : decode cX0_ones 12 = .ok (.iload_n 3, 1) := by decide +kernel
theorem dX0_ones_13 : decode cX0_ones 13 = .ok (.lushr, 1) := by decide +kernel
theorem dX0_ones_14 : decode cX0_ones 14 = .ok (.l2i, 1) := by decide +kernel
theorem dX0_ones_15 : decode cX0_ones 15 = .ok (.iconst 1, 1) := by decide +kernel
theorem dX0_ones_16 : decode cX0_ones 16 = .ok (.iand, 1) := by decide +kernel
theorem dX0_ones_17 : decode cX0_ones 17 = .ok (.iadd, 1) := by decide +kernel
theorem dX0_ones_18 : decode cX0_ones 18 = .ok (.istore_n 2, 1) := by decide +kernel
theorem dX0_ones_19 : decode cX0_ones 19 = .ok (.iinc 3 1, 3) := by decide +kernel
theorem dX0_ones_22 : decode cX0_ones 22 = .ok (.goto (-18), 3) := by decide +kernel
theorem dX0_ones_25 : decode cX0_ones 25 = .ok (.iload_n 2, 1) := by decide +kernel
theorem dX0_ones_26 : decode cX0_ones 26 = .ok (.ireturn, 1) := by decide +kernel
abbrev cX0_leastAt : ByteArray := prog_1_method_13_code
def yX0_leastAt : MethodName := ⟨RX0, "leastAt", "(III)I"⟩
theorem dX0_leastAt_0 : decode cX0_leastAt 0 = .ok (.aload_n 0, 1) := by decide +kernel
theorem dX0_leastAt_1 : decode cX0_leastAt 1 = .ok (.getfield 27, 3) := by decide +kernel
theorem dX0_leastAt_4 : decode cX0_leastAt 4 = .ok (.iload_n 2, 1) := by decide +kernel
theorem dX0_leastAt_5 : decode cX0_leastAt 5 = .ok (.iaload, 1) := by decide +kernel
theorem dX0_leastAt_6 : decode cX0_leastAt 6 = .ok (.istore 4, 2) := by decide +kernel
theorem dX0_leastAt_8 : decode cX0_leastAt 8 = .ok (.iconst 0, 1) := by decide +kernel
theorem dX0_leastAt_9 : decode cX0_leastAt 9 = .ok (.istore 5, 2) := by decide +kernel
theorem dX0_leastAt_11 : decode cX0_leastAt 11 = .ok (.iload 5, 2) := by decide +kernel
theorem dX0_leastAt_13 : decode cX0_leastAt 13 = .ok (.bipush 6, 2) := by decide +kernel
theorem dX0_leastAt_15 : decode cX0_leastAt 15 = .ok (.if_icmp .ge 51, 3) := by decide +kernel
theorem dX0_leastAt_18 : decode cX0_leastAt 18 = .ok (.iload_n 2, 1) := by decide +kernel
theorem dX0_leastAt_19 : decode cX0_leastAt 19 = .ok (.aload_n 0, 1) := by decide +kernel
theorem dX0_leastAt_20 : decode cX0_leastAt 20 = .ok (.getfield 30, 3) := by decide +kernel
theorem dX0_leastAt_23 : decode cX0_leastAt 23 = .ok (.iload 5, 2) := by decide +kernel
theorem dX0_leastAt_25 : decode cX0_leastAt 25 = .ok (.iaload, 1) := by decide +kernel
theorem dX0_leastAt_26 : decode cX0_leastAt 26 = .ok (.idiv, 1) := by decide +kernel
theorem dX0_leastAt_27 : decode cX0_leastAt 27 = .ok (.iconst 3, 1) := by decide +kernel
theorem dX0_leastAt_28 : decode cX0_leastAt 28 = .ok (.irem, 1) := by decide +kernel
theorem dX0_leastAt_29 : decode cX0_leastAt 29 = .ok (.ifCond .ne 31, 3) := by decide +kernel
theorem dX0_leastAt_32 : decode cX0_leastAt 32 = .ok (.aload_n 0, 1) := by decide +kernel
theorem dX0_leastAt_33 : decode cX0_leastAt 33 = .ok (.iload_n 1, 1) := by decide +kernel
theorem dX0_leastAt_34 : decode cX0_leastAt 34 = .ok (.iload_n 2, 1) := by decide +kernel
theorem dX0_leastAt_35 : decode cX0_leastAt 35 = .ok (.iload 5, 2) := by decide +kernel
theorem dX0_leastAt_37 : decode cX0_leastAt 37 = .ok (.invokevirtual 45, 3) := by decide +kernel
theorem dX0_leastAt_40 : decode cX0_leastAt 40 = .ok (.iload_n 3, 1) := by decide +kernel
theorem dX0_leastAt_41 : decode cX0_leastAt 41 = .ok (.iadd, 1) := by decide +kernel
theorem dX0_leastAt_42 : decode cX0_leastAt 42 = .ok (.istore 6, 2) := by decide +kernel
theorem dX0_leastAt_44 : decode cX0_leastAt 44 = .ok (.iload 6, 2) := by decide +kernel
theorem dX0_leastAt_46 : decode cX0_leastAt 46 = .ok (.iload 4, 2) := by decide +kernel
theorem dX0_leastAt_48 : decode cX0_leastAt 48 = .ok (.if_icmp .ge 8, 3) := by decide +kernel
theorem dX0_leastAt_51 : decode cX0_leastAt 51 = .ok (.iload 6, 2) := by decide +kernel
theorem dX0_leastAt_53 : decode cX0_leastAt 53 = .ok (.goto 5, 3) := by decide +kernel
theorem dX0_leastAt_56 : decode cX0_leastAt 56 = .ok (.iload 4, 2) := by decide +kernel
theorem dX0_leastAt_58 : decode cX0_leastAt 58 = .ok (.istore 4, 2) := by decide +kernel
theorem dX0_leastAt_60 : decode cX0_leastAt 60 = .ok (.iinc 5 1, 3) := by decide +kernel
theorem dX0_leastAt_63 : decode cX0_leastAt 63 = .ok (.goto (-52), 3) := by decide +kernel
theorem dX0_leastAt_66 : decode cX0_leastAt 66 = .ok (.iload 4, 2) := by decide +kernel
theorem dX0_leastAt_68 : decode cX0_leastAt 68 = .ok (.ireturn, 1) := by decide +kernel
abbrev cX0_divided : ByteArray := prog_1_method_14_code
def yX0_divided : MethodName := ⟨RX0, "divided", "(III)I"⟩
theorem dX0_divided_0 : decode cX0_divided 0 = .ok (.sipush 729, 3) := by decide +kernel
theorem dX0_divided_3 : decode cX0_divided 3 = .ok (.iload_n 1, 1) := by decide +kernel
theorem dX0_divided_4 : decode cX0_divided 4 = .ok (.iconst 1, 1) := by decide +kernel
theorem dX0_divided_5 : decode cX0_divided 5 = .ok (.isub, 1) := by decide +kernel
theorem dX0_divided_6 : decode cX0_divided 6 = .ok (.imul, 1) := by decide +kernel
theorem dX0_divided_7 : decode cX0_divided 7 = .ok (.iload_n 2, 1) := by decide +kernel
theorem dX0_divided_8 : decode cX0_divided 8 = .ok (.iadd, 1) := by decide +kernel
theorem dX0_divided_9 : decode cX0_divided 9 = .ok (.istore 4, 2) := by decide +kernel
theorem dX0_divided_11 : decode cX0_divided 11 = .ok (.aload_n 0, 1) := by decide +kernel
theorem dX0_divided_12 : decode cX0_divided 12 = .ok (.getfield 27, 3) := by decide +kernel
theorem dX0_divided_15 : decode cX0_divided 15 = .ok (.iload 4, 2) := by decide +kernel
theorem dX0_divided_17 : decode cX0_divided 17 = .ok (.aload_n 0, 1) := by decide +kernel
theorem dX0_divided_18 : decode cX0_divided 18 = .ok (.getfield 30, 3) := by decide +kernel
theorem dX0_divided_21 : decode cX0_divided 21 = .ok (.iload_n 3, 1) := by decide +kernel
theorem dX0_divided_22 : decode cX0_divided 22 = .ok (.iaload, 1) := by decide +kernel
theorem dX0_divided_23 : decode cX0_divided 23 = .ok (.iadd, 1) := by decide +kernel
theorem dX0_divided_24 : decode cX0_divided 24 = .ok (.iaload, 1) := by decide +kernel
theorem dX0_divided_25 : decode cX0_divided 25 = .ok (.aload_n 0, 1) := by decide +kernel
theorem dX0_divided_26 : decode cX0_divided 26 = .ok (.getfield 27, 3) := by decide +kernel
theorem dX0_divided_29 : decode cX0_divided 29 = .ok (.iload 4, 2) := by decide +kernel
theorem dX0_divided_31 : decode cX0_divided 31 = .ok (.iconst 2, 1) := by decide +kernel
theorem dX0_divided_32 : decode cX0_divided 32 = .ok (.aload_n 0, 1) := by decide +kernel
theorem dX0_divided_33 : decode cX0_divided 33 = .ok (.getfield 30, 3) := by decide +kernel
theorem dX0_divided_36 : decode cX0_divided 36 = .ok (.iload_n 3, 1) := by decide +kernel
theorem dX0_divided_37 : decode cX0_divided 37 = .ok (.iaload, 1) := by decide +kernel
theorem dX0_divided_38 : decode cX0_divided 38 = .ok (.imul, 1) := by decide +kernel
theorem dX0_divided_39 : decode cX0_divided 39 = .ok (.iadd, 1) := by decide +kernel
theorem dX0_divided_40 : decode cX0_divided 40 = .ok (.iaload, 1) := by decide +kernel
theorem dX0_divided_41 : decode cX0_divided 41 = .ok (.iadd, 1) := by decide +kernel
theorem dX0_divided_42 : decode cX0_divided 42 = .ok (.ireturn, 1) := by decide +kernel
abbrev cX0_price : ByteArray := prog_1_method_5_code
def yX0_price : MethodName := ⟨RX0, "price", "(II)I"⟩
theorem dX0_price_0 : decode cX0_price 0 = .ok (.iload_n 1, 1) := by decide +kernel
theorem dX0_price_1 : decode cX0_price 1 = .ok (.ifCond .ge 7, 3) := by decide +kernel
theorem dX0_price_4 : decode cX0_price 4 = .ok (.iconst 0, 1) := by decide +kernel
theorem dX0_price_5 : decode cX0_price 5 = .ok (.goto 13, 3) := by decide +kernel
theorem dX0_price_8 : decode cX0_price 8 = .ok (.iload_n 1, 1) := by decide +kernel
theorem dX0_price_9 : decode cX0_price 9 = .ok (.iconst 3, 1) := by decide +kernel
theorem dX0_price_10 : decode cX0_price 10 = .ok (.if_icmp .le 7, 3) := by decide +kernel
theorem dX0_price_13 : decode cX0_price 13 = .ok (.iconst 3, 1) := by decide +kernel
theorem dX0_price_14 : decode cX0_price 14 = .ok (.goto 4, 3) := by decide +kernel
theorem dX0_price_17 : decode cX0_price 17 = .ok (.iload_n 1, 1) := by decide +kernel
theorem dX0_price_18 : decode cX0_price 18 = .ok (.istore_n 3, 1) := by decide +kernel
theorem dX0_price_19 : decode cX0_price 19 = .ok (.iload_n 2, 1) := by decide +kernel
theorem dX0_price_20 : decode cX0_price 20 = .ok (.ifCond .ge 7, 3) := by decide +kernel
theorem dX0_price_23 : decode cX0_price 23 = .ok (.iconst 0, 1) := by decide +kernel
theorem dX0_price_24 : decode cX0_price 24 = .ok (.goto 15, 3) := by decide +kernel
theorem dX0_price_27 : decode cX0_price 27 = .ok (.iload_n 2, 1) := by decide +kernel
theorem dX0_price_28 : decode cX0_price 28 = .ok (.bipush 20, 2) := by decide +kernel
theorem dX0_price_30 : decode cX0_price 30 = .ok (.if_icmp .le 8, 3) := by decide +kernel
theorem dX0_price_33 : decode cX0_price 33 = .ok (.bipush 20, 2) := by decide +kernel
theorem dX0_price_35 : decode cX0_price 35 = .ok (.goto 4, 3) := by decide +kernel
theorem dX0_price_38 : decode cX0_price 38 = .ok (.iload_n 2, 1) := by decide +kernel
theorem dX0_price_39 : decode cX0_price 39 = .ok (.istore 4, 2) := by decide +kernel
theorem dX0_price_41 : decode cX0_price 41 = .ok (.aload_n 0, 1) := by decide +kernel
theorem dX0_price_42 : decode cX0_price 42 = .ok (.iconst 1, 1) := by decide +kernel
theorem dX0_price_43 : decode cX0_price 43 = .ok (.iload 4, 2) := by decide +kernel
theorem dX0_price_45 : decode cX0_price 45 = .ok (.invokevirtual 41, 3) := by decide +kernel
theorem dX0_price_48 : decode cX0_price 48 = .ok (.aload_n 0, 1) := by decide +kernel
theorem dX0_price_49 : decode cX0_price 49 = .ok (.getfield 27, 3) := by decide +kernel
theorem dX0_price_52 : decode cX0_price 52 = .ok (.sipush 729, 3) := by decide +kernel
theorem dX0_price_55 : decode cX0_price 55 = .ok (.iload_n 3, 1) := by decide +kernel
theorem dX0_price_56 : decode cX0_price 56 = .ok (.imul, 1) := by decide +kernel
theorem dX0_price_57 : decode cX0_price 57 = .ok (.iaload, 1) := by decide +kernel
theorem dX0_price_58 : decode cX0_price 58 = .ok (.ireturn, 1) := by decide +kernel
abbrev cX0_question : ByteArray := prog_1_method_6_code
def yX0_question : MethodName := ⟨RX0, "question", "(II)I"⟩
theorem dX0_question_0 : decode cX0_question 0 = .ok (.iload_n 1, 1) := by decide +kernel
theorem dX0_question_1 : decode cX0_question 1 = .ok (.iconst 1, 1) := by decide +kernel
theorem dX0_question_2 : decode cX0_question 2 = .ok (.if_icmp .ge 7, 3) := by decide +kernel
theorem dX0_question_5 : decode cX0_question 5 = .ok (.iconst 1, 1) := by decide +kernel
theorem dX0_question_6 : decode cX0_question 6 = .ok (.goto 13, 3) := by decide +kernel
theorem dX0_question_9 : decode cX0_question 9 = .ok (.iload_n 1, 1) := by decide +kernel
theorem dX0_question_10 : decode cX0_question 10 = .ok (.iconst 3, 1) := by decide +kernel
theorem dX0_question_11 : decode cX0_question 11 = .ok (.if_icmp .le 7, 3) := by decide +kernel
theorem dX0_question_14 : decode cX0_question 14 = .ok (.iconst 3, 1) := by decide +kernel
theorem dX0_question_15 : decode cX0_question 15 = .ok (.goto 4, 3) := by decide +kernel
theorem dX0_question_18 : decode cX0_question 18 = .ok (.iload_n 1, 1) := by decide +kernel
theorem dX0_question_19 : decode cX0_question 19 = .ok (.istore_n 3, 1) := by decide +kernel
theorem dX0_question_20 : decode cX0_question 20 = .ok (.iload_n 2, 1) := by decide +kernel
theorem dX0_question_21 : decode cX0_question 21 = .ok (.ifCond .ge 7, 3) := by decide +kernel
theorem dX0_question_24 : decode cX0_question 24 = .ok (.iconst 0, 1) := by decide +kernel
theorem dX0_question_25 : decode cX0_question 25 = .ok (.goto 15, 3) := by decide +kernel
theorem dX0_question_28 : decode cX0_question 28 = .ok (.iload_n 2, 1) := by decide +kernel
theorem dX0_question_29 : decode cX0_question 29 = .ok (.bipush 20, 2) := by decide +kernel
theorem dX0_question_31 : decode cX0_question 31 = .ok (.if_icmp .le 8, 3) := by decide +kernel
theorem dX0_question_34 : decode cX0_question 34 = .ok (.bipush 20, 2) := by decide +kernel
theorem dX0_question_36 : decode cX0_question 36 = .ok (.goto 4, 3) := by decide +kernel
theorem dX0_question_39 : decode cX0_question 39 = .ok (.iload_n 2, 1) := by decide +kernel
theorem dX0_question_40 : decode cX0_question 40 = .ok (.istore 4, 2) := by decide +kernel
theorem dX0_question_42 : decode cX0_question 42 = .ok (.aload_n 0, 1) := by decide +kernel
theorem dX0_question_43 : decode cX0_question 43 = .ok (.iconst 1, 1) := by decide +kernel
theorem dX0_question_44 : decode cX0_question 44 = .ok (.iload 4, 2) := by decide +kernel
theorem dX0_question_46 : decode cX0_question 46 = .ok (.invokevirtual 41, 3) := by decide +kernel
theorem dX0_question_49 : decode cX0_question 49 = .ok (.iconst 0, 1) := by decide +kernel
theorem dX0_question_50 : decode cX0_question 50 = .ok (.istore 5, 2) := by decide +kernel
theorem dX0_question_52 : decode cX0_question 52 = .ok (.iconst 1, 1) := by decide +kernel
theorem dX0_question_53 : decode cX0_question 53 = .ok (.istore 6, 2) := by decide +kernel
theorem dX0_question_55 : decode cX0_question 55 = .ok (.iload 6, 2) := by decide +kernel
theorem dX0_question_57 : decode cX0_question 57 = .ok (.bipush 6, 2) := by decide +kernel
theorem dX0_question_59 : decode cX0_question 59 = .ok (.if_icmp .ge 37, 3) := by decide +kernel
theorem dX0_question_62 : decode cX0_question 62 = .ok (.aload_n 0, 1) := by decide +kernel
theorem dX0_question_63 : decode cX0_question 63 = .ok (.iload_n 3, 1) := by decide +kernel
theorem dX0_question_64 : decode cX0_question 64 = .ok (.iconst 0, 1) := by decide +kernel
theorem dX0_question_65 : decode cX0_question 65 = .ok (.iload 6, 2) := by decide +kernel
theorem dX0_question_67 : decode cX0_question 67 = .ok (.invokevirtual 45, 3) := by decide +kernel
theorem dX0_question_70 : decode cX0_question 70 = .ok (.aload_n 0, 1) := by decide +kernel
theorem dX0_question_71 : decode cX0_question 71 = .ok (.iload_n 3, 1) := by decide +kernel
theorem dX0_question_72 : decode cX0_question 72 = .ok (.iconst 0, 1) := by decide +kernel
theorem dX0_question_73 : decode cX0_question 73 = .ok (.iload 5, 2) := by decide +kernel
theorem dX0_question_75 : decode cX0_question 75 = .ok (.invokevirtual 45, 3) := by decide +kernel
theorem dX0_question_78 : decode cX0_question 78 = .ok (.if_icmp .ge 8, 3) := by decide +kernel
theorem dX0_question_81 : decode cX0_question 81 = .ok (.iload 6, 2) := by decide +kernel
theorem dX0_question_83 : decode cX0_question 83 = .ok (.goto 5, 3) := by decide +kernel
theorem dX0_question_86 : decode cX0_question 86 = .ok (.iload 5, 2) := by decide +kernel
theorem dX0_question_88 : decode cX0_question 88 = .ok (.istore 5, 2) := by decide +kernel
theorem dX0_question_90 : decode cX0_question 90 = .ok (.iinc 6 1, 3) := by decide +kernel
theorem dX0_question_93 : decode cX0_question 93 = .ok (.goto (-38), 3) := by decide +kernel
theorem dX0_question_96 : decode cX0_question 96 = .ok (.iload 5, 2) := by decide +kernel
theorem dX0_question_98 : decode cX0_question 98 = .ok (.ireturn, 1) := by decide +kernel
abbrev cX0_leaves : ByteArray := prog_1_method_7_code
def yX0_leaves : MethodName := ⟨RX0, "leaves", "(I)I"⟩
theorem dX0_leaves_0 : decode cX0_leaves 0 = .ok (.iload_n 1, 1) := by decide +kernel
theorem dX0_leaves_1 : decode cX0_leaves 1 = .ok (.ifCond .ge 7, 3) := by decide +kernel
theorem dX0_leaves_4 : decode cX0_leaves 4 = .ok (.iconst 0, 1) := by decide +kernel
theorem dX0_leaves_5 : decode cX0_leaves 5 = .ok (.goto 13, 3) := by decide +kernel
theorem dX0_leaves_8 : decode cX0_leaves 8 = .ok (.iload_n 1, 1) := by decide +kernel
theorem dX0_leaves_9 : decode cX0_leaves 9 = .ok (.iconst 3, 1) := by decide +kernel
theorem dX0_leaves_10 : decode cX0_leaves 10 = .ok (.if_icmp .le 7, 3) := by decide +kernel
theorem dX0_leaves_13 : decode cX0_leaves 13 = .ok (.iconst 3, 1) := by decide +kernel
theorem dX0_leaves_14 : decode cX0_leaves 14 = .ok (.goto 4, 3) := by decide +kernel
theorem dX0_leaves_17 : decode cX0_leaves 17 = .ok (.iload_n 1, 1) := by decide +kernel
theorem dX0_leaves_18 : decode cX0_leaves 18 = .ok (.istore_n 2, 1) := by decide +kernel
theorem dX0_leaves_19 : decode cX0_leaves 19 = .ok (.aload_n 0, 1) := by decide +kernel
theorem dX0_leaves_20 : decode cX0_leaves 20 = .ok (.bipush 64, 2) := by decide +kernel
theorem dX0_leaves_22 : decode cX0_leaves 22 = .ok (.iconst 1, 1) := by decide +kernel
theorem dX0_leaves_23 : decode cX0_leaves 23 = .ok (.invokevirtual 41, 3) := by decide +kernel
theorem dX0_leaves_26 : decode cX0_leaves 26 = .ok (.aload_n 0, 1) := by decide +kernel
theorem dX0_leaves_27 : decode cX0_leaves 27 = .ok (.getfield 27, 3) := by decide +kernel
theorem dX0_leaves_30 : decode cX0_leaves 30 = .ok (.sipush 729, 3) := by decide +kernel
theorem dX0_leaves_33 : decode cX0_leaves 33 = .ok (.iload_n 2, 1) := by decide +kernel
theorem dX0_leaves_34 : decode cX0_leaves 34 = .ok (.imul, 1) := by decide +kernel
theorem dX0_leaves_35 : decode cX0_leaves 35 = .ok (.iaload, 1) := by decide +kernel
theorem dX0_leaves_36 : decode cX0_leaves 36 = .ok (.bipush 64, 2) := by decide +kernel
theorem dX0_leaves_38 : decode cX0_leaves 38 = .ok (.irem, 1) := by decide +kernel
theorem dX0_leaves_39 : decode cX0_leaves 39 = .ok (.iconst 1, 1) := by decide +kernel
theorem dX0_leaves_40 : decode cX0_leaves 40 = .ok (.iadd, 1) := by decide +kernel
theorem dX0_leaves_41 : decode cX0_leaves 41 = .ok (.ireturn, 1) := by decide +kernel
abbrev cX0_mistakesBy : ByteArray := prog_1_method_8_code
def yX0_mistakesBy : MethodName := ⟨RX0, "mistakesBy", "(II)I"⟩
theorem dX0_mistakesBy_0 : decode cX0_mistakesBy 0 = .ok (.iload_n 2, 1) := by decide +kernel
theorem dX0_mistakesBy_1 : decode cX0_mistakesBy 1 = .ok (.ifCond .lt 8, 3) := by decide +kernel
theorem dX0_mistakesBy_4 : decode cX0_mistakesBy 4 = .ok (.iload_n 2, 1) := by decide +kernel
theorem dX0_mistakesBy_5 : decode cX0_mistakesBy 5 = .ok (.iconst 5, 1) := by decide +kernel
theorem dX0_mistakesBy_6 : decode cX0_mistakesBy 6 = .ok (.if_icmp .le 5, 3) := by decide +kernel
theorem dX0_mistakesBy_9 : decode cX0_mistakesBy 9 = .ok (.iconst (-1), 1) := by decide +kernel
theorem dX0_mistakesBy_10 : decode cX0_mistakesBy 10 = .ok (.ireturn, 1) := by decide +kernel
theorem dX0_mistakesBy_11 : decode cX0_mistakesBy 11 = .ok (.iload_n 1, 1) := by decide +kernel
theorem dX0_mistakesBy_12 : decode cX0_mistakesBy 12 = .ok (.iconst 1, 1) := by decide +kernel
theorem dX0_mistakesBy_13 : decode cX0_mistakesBy 13 = .ok (.if_icmp .ge 7, 3) := by decide +kernel
theorem dX0_mistakesBy_16 : decode cX0_mistakesBy 16 = .ok (.iconst 1, 1) := by decide +kernel
theorem dX0_mistakesBy_17 : decode cX0_mistakesBy 17 = .ok (.goto 13, 3) := by decide +kernel
theorem dX0_mistakesBy_20 : decode cX0_mistakesBy 20 = .ok (.iload_n 1, 1) := by decide +kernel
theorem dX0_mistakesBy_21 : decode cX0_mistakesBy 21 = .ok (.iconst 3, 1) := by decide +kernel
theorem dX0_mistakesBy_22 : decode cX0_mistakesBy 22 = .ok (.if_icmp .le 7, 3) := by decide +kernel
theorem dX0_mistakesBy_25 : decode cX0_mistakesBy 25 = .ok (.iconst 3, 1) := by decide +kernel
theorem dX0_mistakesBy_26 : decode cX0_mistakesBy 26 = .ok (.goto 4, 3) := by decide +kernel
theorem dX0_mistakesBy_29 : decode cX0_mistakesBy 29 = .ok (.iload_n 1, 1) := by decide +kernel
theorem dX0_mistakesBy_30 : decode cX0_mistakesBy 30 = .ok (.istore_n 3, 1) := by decide +kernel
theorem dX0_mistakesBy_31 : decode cX0_mistakesBy 31 = .ok (.aload_n 0, 1) := by decide +kernel
theorem dX0_mistakesBy_32 : decode cX0_mistakesBy 32 = .ok (.iconst 1, 1) := by decide +kernel
theorem dX0_mistakesBy_33 : decode cX0_mistakesBy 33 = .ok (.iconst 0, 1) := by decide +kernel
theorem dX0_mistakesBy_34 : decode cX0_mistakesBy 34 = .ok (.invokevirtual 41, 3) := by decide +kernel
theorem dX0_mistakesBy_37 : decode cX0_mistakesBy 37 = .ok (.aload_n 0, 1) := by decide +kernel
theorem dX0_mistakesBy_38 : decode cX0_mistakesBy 38 = .ok (.iload_n 3, 1) := by decide +kernel
theorem dX0_mistakesBy_39 : decode cX0_mistakesBy 39 = .ok (.iconst 0, 1) := by decide +kernel
theorem dX0_mistakesBy_40 : decode cX0_mistakesBy 40 = .ok (.iload_n 2, 1) := by decide +kernel
theorem dX0_mistakesBy_41 : decode cX0_mistakesBy 41 = .ok (.invokevirtual 45, 3) := by decide +kernel
theorem dX0_mistakesBy_44 : decode cX0_mistakesBy 44 = .ok (.ireturn, 1) := by decide +kernel
abbrev cX0_doubtful : ByteArray := prog_1_method_9_code
def yX0_doubtful : MethodName := ⟨RX0, "doubtful", "()I"⟩
theorem dX0_doubtful_0 : decode cX0_doubtful 0 = .ok (.aload_n 0, 1) := by decide +kernel
theorem dX0_doubtful_1 : decode cX0_doubtful 1 = .ok (.invokevirtual 49, 3) := by decide +kernel
theorem dX0_doubtful_4 : decode cX0_doubtful 4 = .ok (.iconst 0, 1) := by decide +kernel
theorem dX0_doubtful_5 : decode cX0_doubtful 5 = .ok (.istore_n 1, 1) := by decide +kernel
theorem dX0_doubtful_6 : decode cX0_doubtful 6 = .ok (.iconst 0, 1) := by decide +kernel
theorem dX0_doubtful_7 : decode cX0_doubtful 7 = .ok (.istore_n 2, 1) := by decide +kernel
theorem dX0_doubtful_8 : decode cX0_doubtful 8 = .ok (.iload_n 2, 1) := by decide +kernel
theorem dX0_doubtful_9 : decode cX0_doubtful 9 = .ok (.aload_n 0, 1) := by decide +kernel
theorem dX0_doubtful_10 : decode cX0_doubtful 10 = .ok (.getfield 33, 3) := by decide +kernel
theorem dX0_doubtful_13 : decode cX0_doubtful 13 = .ok (.if_icmp .ge 86, 3) := by decide +kernel
theorem dX0_doubtful_16 : decode cX0_doubtful 16 = .ok (.iconst 0, 1) := by decide +kernel
theorem dX0_doubtful_17 : decode cX0_doubtful 17 = .ok (.istore_n 3, 1) := by decide +kernel
theorem dX0_doubtful_18 : decode cX0_doubtful 18 = .ok (.iconst 0, 1) := by decide +kernel
theorem dX0_doubtful_19 : decode cX0_doubtful 19 = .ok (.istore 4, 2) := by decide +kernel
theorem dX0_doubtful_21 : decode cX0_doubtful 21 = .ok (.iload 4, 2) := by decide +kernel
theorem dX0_doubtful_23 : decode cX0_doubtful 23 = .ok (.bipush 6, 2) := by decide +kernel
theorem dX0_doubtful_25 : decode cX0_doubtful 25 = .ok (.if_icmp .ge 33, 3) := by decide +kernel
theorem dX0_doubtful_28 : decode cX0_doubtful 28 = .ok (.iload_n 3, 1) := by decide +kernel
theorem dX0_doubtful_29 : decode cX0_doubtful 29 = .ok (.aload_n 0, 1) := by decide +kernel
theorem dX0_doubtful_30 : decode cX0_doubtful 30 = .ok (.getfield 30, 3) := by decide +kernel
theorem dX0_doubtful_33 : decode cX0_doubtful 33 = .ok (.iload 4, 2) := by decide +kernel
theorem dX0_doubtful_35 : decode cX0_doubtful 35 = .ok (.iaload, 1) := by decide +kernel
theorem dX0_doubtful_36 : decode cX0_doubtful 36 = .ok (.iconst 1, 1) := by decide +kernel
theorem dX0_doubtful_37 : decode cX0_doubtful 37 = .ok (.aload_n 0, 1) := by decide +kernel
theorem dX0_doubtful_38 : decode cX0_doubtful 38 = .ok (.getfield 7, 3) := by decide +kernel
theorem dX0_doubtful_41 : decode cX0_doubtful 41 = .ok (.iload_n 2, 1) := by decide +kernel
theorem dX0_doubtful_42 : decode cX0_doubtful 42 = .ok (.iaload, 1) := by decide +kernel
theorem dX0_doubtful_43 : decode cX0_doubtful 43 = .ok (.iload 4, 2) := by decide +kernel
theorem dX0_doubtful_45 : decode cX0_doubtful 45 = .ok (.iushr, 1) := by decide +kernel
theorem dX0_doubtful_46 : decode cX0_doubtful 46 = .ok (.iconst 1, 1) := by decide +kernel
theorem dX0_doubtful_47 : decode cX0_doubtful 47 = .ok (.iand, 1) := by decide +kernel
theorem dX0_doubtful_48 : decode cX0_doubtful 48 = .ok (.iadd, 1) := by decide +kernel
theorem dX0_doubtful_49 : decode cX0_doubtful 49 = .ok (.imul, 1) := by decide +kernel
theorem dX0_doubtful_50 : decode cX0_doubtful 50 = .ok (.iadd, 1) := by decide +kernel
theorem dX0_doubtful_51 : decode cX0_doubtful 51 = .ok (.istore_n 3, 1) := by decide +kernel
theorem dX0_doubtful_52 : decode cX0_doubtful 52 = .ok (.iinc 4 1, 3) := by decide +kernel
theorem dX0_doubtful_55 : decode cX0_doubtful 55 = .ok (.goto (-34), 3) := by decide +kernel
theorem dX0_doubtful_58 : decode cX0_doubtful 58 = .ok (.iload_n 1, 1) := by decide +kernel
theorem dX0_doubtful_59 : decode cX0_doubtful 59 = .ok (.aload_n 0, 1) := by decide +kernel
theorem dX0_doubtful_60 : decode cX0_doubtful 60 = .ok (.getfield 13, 3) := by decide +kernel
theorem dX0_doubtful_63 : decode cX0_doubtful 63 = .ok (.iload_n 2, 1) := by decide +kernel
theorem dX0_doubtful_64 : decode cX0_doubtful 64 = .ok (.baload, 1) := by decide +kernel
theorem dX0_doubtful_65 : decode cX0_doubtful 65 = .ok (.ifCond .eq 12, 3) := by decide +kernel
theorem dX0_doubtful_68 : decode cX0_doubtful 68 = .ok (.aload_n 0, 1) := by decide +kernel
theorem dX0_doubtful_69 : decode cX0_doubtful 69 = .ok (.getfield 20, 3) := by decide +kernel
theorem dX0_doubtful_72 : decode cX0_doubtful 72 = .ok (.iload_n 3, 1) := by decide +kernel
theorem dX0_doubtful_73 : decode cX0_doubtful 73 = .ok (.iaload, 1) := by decide +kernel
theorem dX0_doubtful_74 : decode cX0_doubtful 74 = .ok (.goto 9, 3) := by decide +kernel
theorem dX0_doubtful_77 : decode cX0_doubtful 77 = .ok (.aload_n 0, 1) := by decide +kernel
theorem dX0_doubtful_78 : decode cX0_doubtful 78 = .ok (.getfield 17, 3) := by decide +kernel
theorem dX0_doubtful_81 : decode cX0_doubtful 81 = .ok (.iload_n 3, 1) := by decide +kernel
theorem dX0_doubtful_82 : decode cX0_doubtful 82 = .ok (.iaload, 1) := by decide +kernel
theorem dX0_doubtful_83 : decode cX0_doubtful 83 = .ok (.ifCond .le 7, 3) := by decide +kernel
theorem dX0_doubtful_86 : decode cX0_doubtful 86 = .ok (.iconst 1, 1) := by decide +kernel
theorem dX0_doubtful_87 : decode cX0_doubtful 87 = .ok (.goto 4, 3) := by decide +kernel
theorem dX0_doubtful_90 : decode cX0_doubtful 90 = .ok (.iconst 0, 1) := by decide +kernel
theorem dX0_doubtful_91 : decode cX0_doubtful 91 = .ok (.iadd, 1) := by decide +kernel
theorem dX0_doubtful_92 : decode cX0_doubtful 92 = .ok (.istore_n 1, 1) := by decide +kernel
theorem dX0_doubtful_93 : decode cX0_doubtful 93 = .ok (.iinc 2 1, 3) := by decide +kernel
theorem dX0_doubtful_96 : decode cX0_doubtful 96 = .ok (.goto (-88), 3) := by decide +kernel
theorem dX0_doubtful_99 : decode cX0_doubtful 99 = .ok (.iload_n 1, 1) := by decide +kernel
theorem dX0_doubtful_100 : decode cX0_doubtful 100 = .ok (.ireturn, 1) := by decide +kernel
theorem q14 : (Jvm.Cond.initialized "BestTree") ∈ lw_all := lw_g (lw_at lw_m0 1 rfl) rfl
theorem q17 : (Jvm.Cond.instantiable "BestTree" (9 : Nat)) ∈ lw_all := lw_g (lw_at lw_m0 4 rfl) rfl
theorem q19 : (Jvm.Cond.instanceMethod ({ cls := "BestTree", name := "<init>", desc := "()V" } : Jvm.MethodName)) ∈ lw_all := lw_g (lw_at lw_m0 6 rfl) rfl
theorem q20 : (Jvm.Cond.code ({ cls := "BestTree", name := "<init>", desc := "()V" } : Jvm.MethodName) prog_1_method_1_code (2 : Nat) (Option.none : Option Jvm.ClassFile.FieldType)) ∈ lw_all := lw_g (lw_at lw_m0 7 rfl) rfl
theorem q21 : (Jvm.Cond.methodLink "BestTree" (1 : Nat) ({ cls := "java/lang/Object", name := "<init>", desc := "()V" } : Jvm.MethodName)) ∈ lw_all := lw_g (lw_at lw_m0 8 rfl) rfl
theorem q24 : (Jvm.Cond.fieldLink "BestTree" (33 : Nat) "BestTree" "samples" "I") ∈ lw_all := lw_g (lw_at lw_m0 11 rfl) rfl
theorem q25 : (Jvm.Cond.fieldLink "BestTree" (7 : Nat) "BestTree" "features" "[I") ∈ lw_all := lw_g (lw_at lw_m0 12 rfl) rfl
theorem q26 : (Jvm.Cond.fieldLink "BestTree" (13 : Nat) "BestTree" "good" "[Z") ∈ lw_all := lw_g (lw_at lw_m0 13 rfl) rfl
theorem q27 : (Jvm.Cond.fieldLink "BestTree" (37 : Nat) "BestTree" "counted" "Z") ∈ lw_all := lw_g (lw_at lw_m0 14 rfl) rfl
theorem q28 : (Jvm.Cond.fieldLink "BestTree" (17 : Nat) "BestTree" "goodLeft" "[I") ∈ lw_all := lw_g (lw_at lw_m0 15 rfl) rfl
theorem q29 : (Jvm.Cond.fieldLink "BestTree" (20 : Nat) "BestTree" "badLeft" "[I") ∈ lw_all := lw_g (lw_at lw_m0 16 rfl) rfl
theorem q30 : (Jvm.Cond.fieldLink "BestTree" (23 : Nat) "BestTree" "saysYes" "[J") ∈ lw_all := lw_g (lw_at lw_m0 17 rfl) rfl
theorem q31 : (Jvm.Cond.fieldLink "BestTree" (27 : Nat) "BestTree" "best" "[I") ∈ lw_all := lw_g (lw_at lw_m0 18 rfl) rfl
theorem q32 : (Jvm.Cond.fieldLink "BestTree" (30 : Nat) "BestTree" "power" "[I") ∈ lw_all := lw_g (lw_at lw_m0 19 rfl) rfl
theorem q33 : (Jvm.Cond.lays "BestTree" "BestTree" "samples" "I") ∈ lw_all := lw_g (lw_at lw_m0 20 rfl) rfl
theorem q34 : (Jvm.Cond.soleField "BestTree" "samples") ∈ lw_all := lw_g (lw_at lw_m0 21 rfl) rfl
theorem q35 : (Jvm.Cond.laysFinal "BestTree" "BestTree" "features" "[I") ∈ lw_all := lw_g (lw_at lw_m0 22 rfl) rfl
theorem q36 : (Jvm.Cond.soleField "BestTree" "features") ∈ lw_all := lw_g (lw_at lw_m0 23 rfl) rfl
theorem q37 : (Jvm.Cond.laysFinal "BestTree" "BestTree" "good" "[Z") ∈ lw_all := lw_g (lw_at lw_m0 24 rfl) rfl
theorem q38 : (Jvm.Cond.soleField "BestTree" "good") ∈ lw_all := lw_g (lw_at lw_m0 25 rfl) rfl
theorem q39 : (Jvm.Cond.lays "BestTree" "BestTree" "counted" "Z") ∈ lw_all := lw_g (lw_at lw_m0 26 rfl) rfl
theorem q40 : (Jvm.Cond.soleField "BestTree" "counted") ∈ lw_all := lw_g (lw_at lw_m0 27 rfl) rfl
theorem q41 : (Jvm.Cond.laysFinal "BestTree" "BestTree" "goodLeft" "[I") ∈ lw_all := lw_g (lw_at lw_m0 28 rfl) rfl
theorem q42 : (Jvm.Cond.soleField "BestTree" "goodLeft") ∈ lw_all := lw_g (lw_at lw_m0 29 rfl) rfl
theorem q43 : (Jvm.Cond.laysFinal "BestTree" "BestTree" "badLeft" "[I") ∈ lw_all := lw_g (lw_at lw_m0 30 rfl) rfl
theorem q44 : (Jvm.Cond.soleField "BestTree" "badLeft") ∈ lw_all := lw_g (lw_at lw_m0 31 rfl) rfl
theorem q45 : (Jvm.Cond.laysFinal "BestTree" "BestTree" "saysYes" "[J") ∈ lw_all := lw_g (lw_at lw_m0 32 rfl) rfl
theorem q46 : (Jvm.Cond.soleField "BestTree" "saysYes") ∈ lw_all := lw_g (lw_at lw_m0 33 rfl) rfl
theorem q47 : (Jvm.Cond.laysFinal "BestTree" "BestTree" "best" "[I") ∈ lw_all := lw_g (lw_at lw_m0 34 rfl) rfl
theorem q48 : (Jvm.Cond.soleField "BestTree" "best") ∈ lw_all := lw_g (lw_at lw_m0 35 rfl) rfl
theorem q49 : (Jvm.Cond.laysFinal "BestTree" "BestTree" "power" "[I") ∈ lw_all := lw_g (lw_at lw_m0 36 rfl) rfl
theorem q50 : (Jvm.Cond.soleField "BestTree" "power") ∈ lw_all := lw_g (lw_at lw_m0 37 rfl) rfl
theorem q51 : (Jvm.Cond.superclass "BestTree" "java/lang/Object") ∈ lw_all := lw_g (lw_at lw_m0 38 rfl) rfl
theorem q56 : (Jvm.Cond.instanceMethod ({ cls := "BestTree", name := "add", desc := "(IZ)I" } : Jvm.MethodName)) ∈ lw_all := lw_g (lw_at lw_m0 43 rfl) rfl
theorem q57 : (Jvm.Cond.selects "BestTree" ({ cls := "BestTree", name := "add", desc := "(IZ)I" } : Jvm.MethodName) ({ cls := "BestTree", name := "add", desc := "(IZ)I" } : Jvm.MethodName)) ∈ lw_all := lw_g (lw_at lw_m0 44 rfl) rfl
theorem q58 : (Jvm.Cond.code ({ cls := "BestTree", name := "add", desc := "(IZ)I" } : Jvm.MethodName) prog_1_method_2_code (3 : Nat) (Option.some Jvm.ClassFile.FieldType.int)) ∈ lw_all := lw_g (lw_at lw_m0 45 rfl) rfl
theorem q60 : (Jvm.Cond.instanceMethod ({ cls := "BestTree", name := "drop", desc := "(I)I" } : Jvm.MethodName)) ∈ lw_all := lw_g (lw_at lw_m0 47 rfl) rfl
theorem q61 : (Jvm.Cond.selects "BestTree" ({ cls := "BestTree", name := "drop", desc := "(I)I" } : Jvm.MethodName) ({ cls := "BestTree", name := "drop", desc := "(I)I" } : Jvm.MethodName)) ∈ lw_all := lw_g (lw_at lw_m0 48 rfl) rfl
theorem q62 : (Jvm.Cond.code ({ cls := "BestTree", name := "drop", desc := "(I)I" } : Jvm.MethodName) prog_1_method_3_code (3 : Nat) (Option.some Jvm.ClassFile.FieldType.int)) ∈ lw_all := lw_g (lw_at lw_m0 49 rfl) rfl
theorem q64 : (Jvm.Cond.instanceMethod ({ cls := "BestTree", name := "mistakes", desc := "(I)I" } : Jvm.MethodName)) ∈ lw_all := lw_g (lw_at lw_m0 51 rfl) rfl
theorem q65 : (Jvm.Cond.selects "BestTree" ({ cls := "BestTree", name := "mistakes", desc := "(I)I" } : Jvm.MethodName) ({ cls := "BestTree", name := "mistakes", desc := "(I)I" } : Jvm.MethodName)) ∈ lw_all := lw_g (lw_at lw_m0 52 rfl) rfl
theorem q66 : (Jvm.Cond.code ({ cls := "BestTree", name := "mistakes", desc := "(I)I" } : Jvm.MethodName) prog_1_method_4_code (3 : Nat) (Option.some Jvm.ClassFile.FieldType.int)) ∈ lw_all := lw_g (lw_at lw_m0 53 rfl) rfl
theorem q67 : (Jvm.Cond.methodLink "BestTree" (41 : Nat) ({ cls := "BestTree", name := "workOut", desc := "(II)V" } : Jvm.MethodName)) ∈ lw_all := lw_g (lw_at lw_m0 54 rfl) rfl
theorem q68 : (Jvm.Cond.privateMethod ({ cls := "BestTree", name := "workOut", desc := "(II)V" } : Jvm.MethodName)) ∈ lw_tbl := lw_at lw_m0 55 rfl
theorem q69 : (Jvm.Cond.instanceMethod ({ cls := "BestTree", name := "workOut", desc := "(II)V" } : Jvm.MethodName)) ∈ lw_all := lw_g (lw_at lw_m0 56 rfl) rfl
theorem q70 : (Jvm.Cond.code ({ cls := "BestTree", name := "workOut", desc := "(II)V" } : Jvm.MethodName) prog_1_method_12_code (6 : Nat) (Option.none : Option Jvm.ClassFile.FieldType)) ∈ lw_all := lw_g (lw_at lw_m0 57 rfl) rfl
theorem q71 : (Jvm.Cond.methodLink "BestTree" (49 : Nat) ({ cls := "BestTree", name := "count", desc := "()V" } : Jvm.MethodName)) ∈ lw_all := lw_g (lw_at lw_m0 58 rfl) rfl
theorem q72 : (Jvm.Cond.privateMethod ({ cls := "BestTree", name := "count", desc := "()V" } : Jvm.MethodName)) ∈ lw_tbl := lw_at lw_m0 59 rfl
theorem q73 : (Jvm.Cond.instanceMethod ({ cls := "BestTree", name := "count", desc := "()V" } : Jvm.MethodName)) ∈ lw_all := lw_g (lw_at lw_m0 60 rfl) rfl
theorem q74 : (Jvm.Cond.code ({ cls := "BestTree", name := "count", desc := "()V" } : Jvm.MethodName) prog_1_method_11_code (10 : Nat) (Option.none : Option Jvm.ClassFile.FieldType)) ∈ lw_all := lw_g (lw_at lw_m0 61 rfl) rfl
theorem q75 : (Jvm.Cond.constantLong "BestTree" (52 : Nat) (-1 : Int64)) ∈ lw_all := lw_g (lw_at lw_m0 62 rfl) rfl
theorem q76 : (Jvm.Cond.methodLink "BestTree" (54 : Nat) ({ cls := "BestTree", name := "ones", desc := "(J)I" } : Jvm.MethodName)) ∈ lw_all := lw_g (lw_at lw_m0 63 rfl) rfl
theorem q77 : (Jvm.Cond.static ({ cls := "BestTree", name := "ones", desc := "(J)I" } : Jvm.MethodName)) ∈ lw_all := lw_g (lw_at lw_m0 64 rfl) rfl
theorem q78 : (Jvm.Cond.code ({ cls := "BestTree", name := "ones", desc := "(J)I" } : Jvm.MethodName) prog_1_method_10_code (4 : Nat) (Option.some Jvm.ClassFile.FieldType.int)) ∈ lw_all := lw_g (lw_at lw_m0 65 rfl) rfl
theorem q79 : (Jvm.Cond.methodLink "BestTree" (58 : Nat) ({ cls := "BestTree", name := "leastAt", desc := "(III)I" } : Jvm.MethodName)) ∈ lw_all := lw_g (lw_at lw_m0 66 rfl) rfl
theorem q80 : (Jvm.Cond.privateMethod ({ cls := "BestTree", name := "leastAt", desc := "(III)I" } : Jvm.MethodName)) ∈ lw_tbl := lw_at lw_m0 67 rfl
theorem q81 : (Jvm.Cond.instanceMethod ({ cls := "BestTree", name := "leastAt", desc := "(III)I" } : Jvm.MethodName)) ∈ lw_all := lw_g (lw_at lw_m0 68 rfl) rfl
theorem q82 : (Jvm.Cond.code ({ cls := "BestTree", name := "leastAt", desc := "(III)I" } : Jvm.MethodName) prog_1_method_13_code (7 : Nat) (Option.some Jvm.ClassFile.FieldType.int)) ∈ lw_all := lw_g (lw_at lw_m0 69 rfl) rfl
theorem q83 : (Jvm.Cond.methodLink "BestTree" (45 : Nat) ({ cls := "BestTree", name := "divided", desc := "(III)I" } : Jvm.MethodName)) ∈ lw_all := lw_g (lw_at lw_m0 70 rfl) rfl
theorem q84 : (Jvm.Cond.privateMethod ({ cls := "BestTree", name := "divided", desc := "(III)I" } : Jvm.MethodName)) ∈ lw_tbl := lw_at lw_m0 71 rfl
theorem q85 : (Jvm.Cond.instanceMethod ({ cls := "BestTree", name := "divided", desc := "(III)I" } : Jvm.MethodName)) ∈ lw_all := lw_g (lw_at lw_m0 72 rfl) rfl
theorem q86 : (Jvm.Cond.code ({ cls := "BestTree", name := "divided", desc := "(III)I" } : Jvm.MethodName) prog_1_method_14_code (5 : Nat) (Option.some Jvm.ClassFile.FieldType.int)) ∈ lw_all := lw_g (lw_at lw_m0 73 rfl) rfl
theorem q88 : (Jvm.Cond.instanceMethod ({ cls := "BestTree", name := "price", desc := "(II)I" } : Jvm.MethodName)) ∈ lw_all := lw_g (lw_at lw_m0 75 rfl) rfl
theorem q89 : (Jvm.Cond.selects "BestTree" ({ cls := "BestTree", name := "price", desc := "(II)I" } : Jvm.MethodName) ({ cls := "BestTree", name := "price", desc := "(II)I" } : Jvm.MethodName)) ∈ lw_all := lw_g (lw_at lw_m0 76 rfl) rfl
theorem q90 : (Jvm.Cond.code ({ cls := "BestTree", name := "price", desc := "(II)I" } : Jvm.MethodName) prog_1_method_5_code (5 : Nat) (Option.some Jvm.ClassFile.FieldType.int)) ∈ lw_all := lw_g (lw_at lw_m0 77 rfl) rfl
theorem q92 : (Jvm.Cond.instanceMethod ({ cls := "BestTree", name := "question", desc := "(II)I" } : Jvm.MethodName)) ∈ lw_all := lw_g (lw_at lw_m0 79 rfl) rfl
theorem q93 : (Jvm.Cond.selects "BestTree" ({ cls := "BestTree", name := "question", desc := "(II)I" } : Jvm.MethodName) ({ cls := "BestTree", name := "question", desc := "(II)I" } : Jvm.MethodName)) ∈ lw_all := lw_g (lw_at lw_m0 80 rfl) rfl
theorem q94 : (Jvm.Cond.code ({ cls := "BestTree", name := "question", desc := "(II)I" } : Jvm.MethodName) prog_1_method_6_code (7 : Nat) (Option.some Jvm.ClassFile.FieldType.int)) ∈ lw_all := lw_g (lw_at lw_m0 81 rfl) rfl
theorem q96 : (Jvm.Cond.instanceMethod ({ cls := "BestTree", name := "leaves", desc := "(I)I" } : Jvm.MethodName)) ∈ lw_all := lw_g (lw_at lw_m0 83 rfl) rfl
theorem q97 : (Jvm.Cond.selects "BestTree" ({ cls := "BestTree", name := "leaves", desc := "(I)I" } : Jvm.MethodName) ({ cls := "BestTree", name := "leaves", desc := "(I)I" } : Jvm.MethodName)) ∈ lw_all := lw_g (lw_at lw_m0 84 rfl) rfl
theorem q98 : (Jvm.Cond.code ({ cls := "BestTree", name := "leaves", desc := "(I)I" } : Jvm.MethodName) prog_1_method_7_code (3 : Nat) (Option.some Jvm.ClassFile.FieldType.int)) ∈ lw_all := lw_g (lw_at lw_m0 85 rfl) rfl
theorem q100 : (Jvm.Cond.instanceMethod ({ cls := "BestTree", name := "mistakesBy", desc := "(II)I" } : Jvm.MethodName)) ∈ lw_all := lw_g (lw_at lw_m0 87 rfl) rfl
theorem q101 : (Jvm.Cond.selects "BestTree" ({ cls := "BestTree", name := "mistakesBy", desc := "(II)I" } : Jvm.MethodName) ({ cls := "BestTree", name := "mistakesBy", desc := "(II)I" } : Jvm.MethodName)) ∈ lw_all := lw_g (lw_at lw_m0 88 rfl) rfl
theorem q102 : (Jvm.Cond.code ({ cls := "BestTree", name := "mistakesBy", desc := "(II)I" } : Jvm.MethodName) prog_1_method_8_code (4 : Nat) (Option.some Jvm.ClassFile.FieldType.int)) ∈ lw_all := lw_g (lw_at lw_m0 89 rfl) rfl
theorem q104 : (Jvm.Cond.instanceMethod ({ cls := "BestTree", name := "doubtful", desc := "()I" } : Jvm.MethodName)) ∈ lw_all := lw_g (lw_at lw_m0 91 rfl) rfl
theorem q105 : (Jvm.Cond.selects "BestTree" ({ cls := "BestTree", name := "doubtful", desc := "()I" } : Jvm.MethodName) ({ cls := "BestTree", name := "doubtful", desc := "()I" } : Jvm.MethodName)) ∈ lw_all := lw_g (lw_at lw_m0 92 rfl) rfl
theorem q106 : (Jvm.Cond.code ({ cls := "BestTree", name := "doubtful", desc := "()I" } : Jvm.MethodName) prog_1_method_9_code (5 : Nat) (Option.some Jvm.ClassFile.FieldType.int)) ∈ lw_all := lw_g (lw_at lw_m0 93 rfl) rfl
theorem in_X0 : ∀ w ∈ wsX00, w ∈ lw_all := lw_in wsX00 [33, 35, 37, 39, 41, 43, 45, 47, 49] (by decide +kernel) (by decide +kernel)
theorem q52 : (Jvm.Cond.arrayClass Jvm.ClassFile.FieldType.int) ∈ lw_all := lw_g (lw_at lw_m0 39 rfl) rfl
set_option maxRecDepth 100000
theorem q53 : (Jvm.Cond.arrayClass Jvm.ClassFile.FieldType.boolean) ∈ lw_all := lw_g (lw_at lw_m0 40 rfl) rfl
theorem q54 : (Jvm.Cond.arrayClass Jvm.ClassFile.FieldType.long) ∈ lw_all := lw_g (lw_at lw_m0 41 rfl) rfl
theorem q13 : (Jvm.Cond.initialized "BestTreeLaw") ∈ lw_all := lw_g (lw_at lw_m0 0 rfl) rfl
set_option maxRecDepth 100000
theorem q16 : (Jvm.Cond.classLink "BestTreeLaw" (7 : Nat) "BestTree") ∈ lw_all := lw_g (lw_at lw_m0 3 rfl) rfl
theorem q18 : (Jvm.Cond.methodLink "BestTreeLaw" (9 : Nat) ({ cls := "BestTree", name := "<init>", desc := "()V" } : Jvm.MethodName)) ∈ lw_all := lw_g (lw_at lw_m0 5 rfl) rfl
theorem q55 : (Jvm.Cond.methodLink "BestTreeLaw" (13 : Nat) ({ cls := "BestTree", name := "add", desc := "(IZ)I" } : Jvm.MethodName)) ∈ lw_all := lw_g (lw_at lw_m0 42 rfl) rfl
theorem q59 : (Jvm.Cond.methodLink "BestTreeLaw" (18 : Nat) ({ cls := "BestTree", name := "drop", desc := "(I)I" } : Jvm.MethodName)) ∈ lw_all := lw_g (lw_at lw_m0 46 rfl) rfl
theorem q63 : (Jvm.Cond.methodLink "BestTreeLaw" (23 : Nat) ({ cls := "BestTree", name := "mistakes", desc := "(I)I" } : Jvm.MethodName)) ∈ lw_all := lw_g (lw_at lw_m0 50 rfl) rfl
theorem q87 : (Jvm.Cond.methodLink "BestTreeLaw" (27 : Nat) ({ cls := "BestTree", name := "price", desc := "(II)I" } : Jvm.MethodName)) ∈ lw_all := lw_g (lw_at lw_m0 74 rfl) rfl
theorem q91 : (Jvm.Cond.methodLink "BestTreeLaw" (32 : Nat) ({ cls := "BestTree", name := "question", desc := "(II)I" } : Jvm.MethodName)) ∈ lw_all := lw_g (lw_at lw_m0 78 rfl) rfl
theorem q95 : (Jvm.Cond.methodLink "BestTreeLaw" (36 : Nat) ({ cls := "BestTree", name := "leaves", desc := "(I)I" } : Jvm.MethodName)) ∈ lw_all := lw_g (lw_at lw_m0 82 rfl) rfl
theorem q99 : (Jvm.Cond.methodLink "BestTreeLaw" (40 : Nat) ({ cls := "BestTree", name := "mistakesBy", desc := "(II)I" } : Jvm.MethodName)) ∈ lw_all := lw_g (lw_at lw_m0 86 rfl) rfl
theorem q103 : (Jvm.Cond.methodLink "BestTreeLaw" (44 : Nat) ({ cls := "BestTree", name := "doubtful", desc := "()I" } : Jvm.MethodName)) ∈ lw_all := lw_g (lw_at lw_m0 90 rfl) rfl
theorem q107 : (Jvm.Cond.classLink "BestTreeLaw" (10 : Nat) "BestTreeModel") ∈ lw_all := lw_g (lw_at lw_m0 94 rfl) rfl
theorem q109 : (Jvm.Cond.methodLink "BestTreeLaw" (12 : Nat) ({ cls := "BestTreeModel", name := "<init>", desc := "()V" } : Jvm.MethodName)) ∈ lw_all := lw_g (lw_at lw_m0 96 rfl) rfl
theorem q129 : (Jvm.Cond.methodLink "BestTreeLaw" (17 : Nat) ({ cls := "BestTreeModel", name := "add", desc := "(IZ)I" } : Jvm.MethodName)) ∈ lw_all := lw_g (lw_at lw_m0 116 rfl) rfl
theorem q133 : (Jvm.Cond.methodLink "BestTreeLaw" (22 : Nat) ({ cls := "BestTreeModel", name := "drop", desc := "(I)I" } : Jvm.MethodName)) ∈ lw_all := lw_g (lw_at lw_m0 120 rfl) rfl
theorem q137 : (Jvm.Cond.methodLink "BestTreeLaw" (26 : Nat) ({ cls := "BestTreeModel", name := "mistakes", desc := "(I)I" } : Jvm.MethodName)) ∈ lw_all := lw_g (lw_at lw_m0 124 rfl) rfl
theorem q181 : (Jvm.Cond.methodLink "BestTreeLaw" (31 : Nat) ({ cls := "BestTreeModel", name := "price", desc := "(II)I" } : Jvm.MethodName)) ∈ lw_all := lw_g (lw_at lw_m0 168 rfl) rfl
theorem q185 : (Jvm.Cond.methodLink "BestTreeLaw" (35 : Nat) ({ cls := "BestTreeModel", name := "question", desc := "(II)I" } : Jvm.MethodName)) ∈ lw_all := lw_g (lw_at lw_m0 172 rfl) rfl
theorem q189 : (Jvm.Cond.methodLink "BestTreeLaw" (39 : Nat) ({ cls := "BestTreeModel", name := "leaves", desc := "(I)I" } : Jvm.MethodName)) ∈ lw_all := lw_g (lw_at lw_m0 176 rfl) rfl
theorem q193 : (Jvm.Cond.methodLink "BestTreeLaw" (43 : Nat) ({ cls := "BestTreeModel", name := "mistakesBy", desc := "(II)I" } : Jvm.MethodName)) ∈ lw_all := lw_g (lw_at lw_m0 180 rfl) rfl
theorem q197 : (Jvm.Cond.methodLink "BestTreeLaw" (48 : Nat) ({ cls := "BestTreeModel", name := "doubtful", desc := "()I" } : Jvm.MethodName)) ∈ lw_all := lw_g (lw_at lw_m0 184 rfl) rfl
end
section
/-! BestTreeModel -/
set_option maxRecDepth 100000
def RX1 : String := "BestTreeModel"
def TX1 : u_T := fun k => match k with
  | 0 => ("BestTreeModel", "held", "I", false)
  | 1 => ("BestTreeModel", "features", "[I", true)
  | 2 => ("BestTreeModel", "goods", "[Z", true)
  | 3 => ("BestTreeModel", "mistake", "I", false)
  | _ => ("BestTreeModel", "asking", "I", false)
def tyX1 : Nat → FieldType := fun k => match k with
  | 0 => .int
  | 1 => .array .int
  | 2 => .array .boolean
  | 3 => .int
  | _ => .int
abbrev wsX10 : List Cond := u_ws RX1 TX1 5
theorem nmX1 : ∀ a, a < 5 → ∀ b, b < 5 → a ≠ b → (TX1 a).2.1 ≠ (TX1 b).2.1 := by decide +kernel
theorem tyX1_ok : ∀ k, k < 5 → parseFieldDescriptor (TX1 k).2.2.1 = some (tyX1 k) := by decide +kernel
abbrev cX1_init : ByteArray := prog_3_method_1_code
def yX1_init : MethodName := ⟨RX1, "<init>", "()V"⟩
theorem dX1_init_0 : decode cX1_init 0 = .ok (.aload_n 0, 1) := by decide +kernel
theorem dX1_init_1 : decode cX1_init 1 = .ok (.invokespecial 1, 3) := by decide +kernel
theorem dX1_init_4 : decode cX1_init 4 = .ok (.aload_n 0, 1) := by decide +kernel
theorem dX1_init_5 : decode cX1_init 5 = .ok (.bipush 48, 2) := by decide +kernel
theorem dX1_init_7 : decode cX1_init 7 = .ok (.newarray .int, 2) := by decide +kernel
theorem dX1_init_9 : decode cX1_init 9 = .ok (.putfield 7, 3) := by decide +kernel
theorem dX1_init_12 : decode cX1_init 12 = .ok (.aload_n 0, 1) := by decide +kernel
theorem dX1_init_13 : decode cX1_init 13 = .ok (.bipush 48, 2) := by decide +kernel
theorem dX1_init_15 : decode cX1_init 15 = .ok (.newarray .boolean, 2) := by decide +kernel
theorem dX1_init_17 : decode cX1_init 17 = .ok (.putfield 13, 3) := by decide +kernel
theorem dX1_init_20 : decode cX1_init 20 = .ok (.return_, 1) := by decide +kernel
abbrev cX1_add : ByteArray := prog_3_method_2_code
def yX1_add : MethodName := ⟨RX1, "add", "(IZ)I"⟩
theorem dX1_add_0 : decode cX1_add 0 = .ok (.aload_n 0, 1) := by decide +kernel
theorem dX1_add_1 : decode cX1_add 1 = .ok (.getfield 17, 3) := by decide +kernel
theorem dX1_add_4 : decode cX1_add 4 = .ok (.bipush 48, 2) := by decide +kernel
theorem dX1_add_6 : decode cX1_add 6 = .ok (.if_icmp .ne 5, 3) := by decide +kernel
theorem dX1_add_9 : decode cX1_add 9 = .ok (.iconst (-1), 1) := by decide +kernel
theorem dX1_add_10 : decode cX1_add 10 = .ok (.ireturn, 1) := by decide +kernel
theorem dX1_add_11 : decode cX1_add 11 = .ok (.aload_n 0, 1) := by decide +kernel
theorem dX1_add_12 : decode cX1_add 12 = .ok (.getfield 7, 3) := by decide +kernel
theorem dX1_add_15 : decode cX1_add 15 = .ok (.aload_n 0, 1) := by decide +kernel
theorem dX1_add_16 : decode cX1_add 16 = .ok (.getfield 17, 3) := by decide +kernel
theorem dX1_add_19 : decode cX1_add 19 = .ok (.iload_n 1, 1) := by decide +kernel
theorem dX1_add_20 : decode cX1_add 20 = .ok (.bipush 63, 2) := by decide +kernel
theorem dX1_add_22 : decode cX1_add 22 = .ok (.iand, 1) := by decide +kernel
theorem dX1_add_23 : decode cX1_add 23 = .ok (.iastore, 1) := by decide +kernel
theorem dX1_add_24 : decode cX1_add 24 = .ok (.aload_n 0, 1) := by decide +kernel
theorem dX1_add_25 : decode cX1_add 25 = .ok (.getfield 13, 3) := by decide +kernel
theorem dX1_add_28 : decode cX1_add 28 = .ok (.aload_n 0, 1) := by decide +kernel
theorem dX1_add_29 : decode cX1_add 29 = .ok (.getfield 17, 3) := by decide +kernel
theorem dX1_add_32 : decode cX1_add 32 = .ok (.iload_n 2, 1) := by decide +kernel
theorem dX1_add_33 : decode cX1_add 33 = .ok (.bastore, 1) := by decide +kernel
theorem dX1_add_34 : decode cX1_add 34 = .ok (.aload_n 0, 1) := by decide +kernel
theorem dX1_add_35 : decode cX1_add 35 = .ok (.dup, 1) := by decide +kernel
theorem dX1_add_36 : decode cX1_add 36 = .ok (.getfield 17, 3) := by decide +kernel
theorem dX1_add_39 : decode cX1_add 39 = .ok (.iconst 1, 1) := by decide +kernel
theorem dX1_add_40 : decode cX1_add 40 = .ok (.iadd, 1) := by decide +kernel
theorem dX1_add_41 : decode cX1_add 41 = .ok (.putfield 17, 3) := by decide +kernel
theorem dX1_add_44 : decode cX1_add 44 = .ok (.aload_n 0, 1) := by decide +kernel
theorem dX1_add_45 : decode cX1_add 45 = .ok (.getfield 17, 3) := by decide +kernel
theorem dX1_add_48 : decode cX1_add 48 = .ok (.ireturn, 1) := by decide +kernel
abbrev cX1_drop : ByteArray := prog_3_method_3_code
def yX1_drop : MethodName := ⟨RX1, "drop", "(I)I"⟩
theorem dX1_drop_0 : decode cX1_drop 0 = .ok (.iload_n 1, 1) := by decide +kernel
theorem dX1_drop_1 : decode cX1_drop 1 = .ok (.ifCond .lt 11, 3) := by decide +kernel
theorem dX1_drop_4 : decode cX1_drop 4 = .ok (.iload_n 1, 1) := by decide +kernel
theorem dX1_drop_5 : decode cX1_drop 5 = .ok (.aload_n 0, 1) := by decide +kernel
theorem dX1_drop_6 : decode cX1_drop 6 = .ok (.getfield 17, 3) := by decide +kernel
theorem dX1_drop_9 : decode cX1_drop 9 = .ok (.if_icmp .lt 5, 3) := by decide +kernel
theorem dX1_drop_12 : decode cX1_drop 12 = .ok (.iconst (-1), 1) := by decide +kernel
theorem dX1_drop_13 : decode cX1_drop 13 = .ok (.ireturn, 1) := by decide +kernel
theorem dX1_drop_14 : decode cX1_drop 14 = .ok (.aload_n 0, 1) := by decide +kernel
theorem dX1_drop_15 : decode cX1_drop 15 = .ok (.dup, 1) := by decide +kernel
theorem dX1_drop_16 : decode cX1_drop 16 = .ok (.getfield 17, 3) := by decide +kernel
theorem dX1_drop_19 : decode cX1_drop 19 = .ok (.iconst 1, 1) := by decide +kernel
theorem dX1_drop_20 : decode cX1_drop 20 = .ok (.isub, 1) := by decide +kernel
theorem dX1_drop_21 : decode cX1_drop 21 = .ok (.putfield 17, 3) := by decide +kernel
theorem dX1_drop_24 : decode cX1_drop 24 = .ok (.iload_n 1, 1) := by decide +kernel
theorem dX1_drop_25 : decode cX1_drop 25 = .ok (.istore_n 2, 1) := by decide +kernel
theorem dX1_drop_26 : decode cX1_drop 26 = .ok (.iload_n 2, 1) := by decide +kernel
theorem dX1_drop_27 : decode cX1_drop 27 = .ok (.aload_n 0, 1) := by decide +kernel
theorem dX1_drop_28 : decode cX1_drop 28 = .ok (.getfield 17, 3) := by decide +kernel
theorem dX1_drop_31 : decode cX1_drop 31 = .ok (.if_icmp .ge 37, 3) := by decide +kernel
theorem dX1_drop_34 : decode cX1_drop 34 = .ok (.aload_n 0, 1) := by decide +kernel
theorem dX1_drop_35 : decode cX1_drop 35 = .ok (.getfield 7, 3) := by decide +kernel
theorem dX1_drop_38 : decode cX1_drop 38 = .ok (.iload_n 2, 1) := by decide +kernel
theorem dX1_drop_39 : decode cX1_drop 39 = .ok (.aload_n 0, 1) := by decide +kernel
theorem dX1_drop_40 : decode cX1_drop 40 = .ok (.getfield 7, 3) := by decide +kernel
theorem dX1_drop_43 : decode cX1_drop 43 = .ok (.iload_n 2, 1) := by decide +kernel
theorem dX1_drop_44 : decode cX1_drop 44 = .ok (.iconst 1, 1) := by decide +kernel
theorem dX1_drop_45 : decode cX1_drop 45 = .ok (.iadd, 1) := by decide +kernel
theorem dX1_drop_46 : decode cX1_drop 46 = .ok (.iaload, 1) := by decide +kernel
theorem dX1_drop_47 : decode cX1_drop 47 = .ok (.iastore, 1) := by decide +kernel
theorem dX1_drop_48 : decode cX1_drop 48 = .ok (.aload_n 0, 1) := by decide +kernel
theorem dX1_drop_49 : decode cX1_drop 49 = .ok (.getfield 13, 3) := by decide +kernel
theorem dX1_drop_52 : decode cX1_drop 52 = .ok (.iload_n 2, 1) := by decide +kernel
theorem dX1_drop_53 : decode cX1_drop 53 = .ok (.aload_n 0, 1) := by decide +kernel
theorem dX1_drop_54 : decode cX1_drop 54 = .ok (.getfield 13, 3) := by decide +kernel
theorem dX1_drop_57 : decode cX1_drop 57 = .ok (.iload_n 2, 1) := by decide +kernel
theorem dX1_drop_58 : decode cX1_drop 58 = .ok (.iconst 1, 1) := by decide +kernel
theorem dX1_drop_59 : decode cX1_drop 59 = .ok (.iadd, 1) := by decide +kernel
theorem dX1_drop_60 : decode cX1_drop 60 = .ok (.baload, 1) := by decide +kernel
theorem dX1_drop_61 : decode cX1_drop 61 = .ok (.bastore, 1) := by decide +kernel
theorem dX1_drop_62 : decode cX1_drop 62 = .ok (.iinc 2 1, 3) := by decide +kernel
theorem dX1_drop_65 : decode cX1_drop 65 = .ok (.goto (-39), 3) := by decide +kernel
theorem dX1_drop_68 : decode cX1_drop 68 = .ok (.aload_n 0, 1) := by decide +kernel
theorem dX1_drop_69 : decode cX1_drop 69 = .ok (.getfield 17, 3) := by decide +kernel
theorem dX1_drop_72 : decode cX1_drop 72 = .ok (.ireturn, 1) := by decide +kernel
abbrev cX1_mistakes : ByteArray := prog_3_method_14_code
def yX1_mistakes : MethodName := ⟨RX1, "mistakes", "(I)I"⟩
theorem dX1_mistakes_0 : decode cX1_mistakes 0 = .ok (.aload_n 0, 1) := by decide +kernel
theorem dX1_mistakes_1 : decode cX1_mistakes 1 = .ok (.iconst 1, 1) := by decide +kernel
theorem dX1_mistakes_2 : decode cX1_mistakes 2 = .ok (.iconst 0, 1) := by decide +kernel
theorem dX1_mistakes_3 : decode cX1_mistakes 3 = .ok (.invokevirtual 55, 3) := by decide +kernel
theorem dX1_mistakes_6 : decode cX1_mistakes 6 = .ok (.iload_n 1, 1) := by decide +kernel
theorem dX1_mistakes_7 : decode cX1_mistakes 7 = .ok (.iconst 0, 1) := by decide +kernel
theorem dX1_mistakes_8 : decode cX1_mistakes 8 = .ok (.iconst 3, 1) := by decide +kernel
theorem dX1_mistakes_9 : decode cX1_mistakes 9 = .ok (.invokestatic 59, 3) := by decide +kernel
theorem dX1_mistakes_12 : decode cX1_mistakes 12 = .ok (.istore_n 2, 1) := by decide +kernel
theorem dX1_mistakes_13 : decode cX1_mistakes 13 = .ok (.aload_n 0, 1) := by decide +kernel
theorem dX1_mistakes_14 : decode cX1_mistakes 14 = .ok (.iload_n 2, 1) := by decide +kernel
theorem dX1_mistakes_15 : decode cX1_mistakes 15 = .ok (.invokevirtual 63, 3) := by decide +kernel
theorem dX1_mistakes_18 : decode cX1_mistakes 18 = .ok (.ireturn, 1) := by decide +kernel
abbrev cX1_weigh : ByteArray := prog_3_method_13_code
def yX1_weigh : MethodName := ⟨RX1, "weigh", "(II)V"⟩
theorem dX1_weigh_0 : decode cX1_weigh 0 = .ok (.aload_n 0, 1) := by decide +kernel
theorem dX1_weigh_1 : decode cX1_weigh 1 = .ok (.iload_n 1, 1) := by decide +kernel
theorem dX1_weigh_2 : decode cX1_weigh 2 = .ok (.putfield 21, 3) := by decide +kernel
theorem dX1_weigh_5 : decode cX1_weigh 5 = .ok (.aload_n 0, 1) := by decide +kernel
theorem dX1_weigh_6 : decode cX1_weigh 6 = .ok (.iload_n 2, 1) := by decide +kernel
theorem dX1_weigh_7 : decode cX1_weigh 7 = .ok (.putfield 32, 3) := by decide +kernel
theorem dX1_weigh_10 : decode cX1_weigh 10 = .ok (.return_, 1) := by decide +kernel
abbrev cX1_within : ByteArray := prog_3_method_12_code
def yX1_within : MethodName := ⟨RX1, "within", "(III)I"⟩
theorem dX1_within_0 : decode cX1_within 0 = .ok (.iload_n 0, 1) := by decide +kernel
theorem dX1_within_1 : decode cX1_within 1 = .ok (.iload_n 1, 1) := by decide +kernel
theorem dX1_within_2 : decode cX1_within 2 = .ok (.if_icmp .ge 7, 3) := by decide +kernel
theorem dX1_within_5 : decode cX1_within 5 = .ok (.iload_n 1, 1) := by decide +kernel
theorem dX1_within_6 : decode cX1_within 6 = .ok (.goto 13, 3) := by decide +kernel
theorem dX1_within_9 : decode cX1_within 9 = .ok (.iload_n 0, 1) := by decide +kernel
theorem dX1_within_10 : decode cX1_within 10 = .ok (.iload_n 2, 1) := by decide +kernel
theorem dX1_within_11 : decode cX1_within 11 = .ok (.if_icmp .le 7, 3) := by decide +kernel
theorem dX1_within_14 : decode cX1_within 14 = .ok (.iload_n 2, 1) := by decide +kernel
theorem dX1_within_15 : decode cX1_within 15 = .ok (.goto 4, 3) := by decide +kernel
theorem dX1_within_18 : decode cX1_within 18 = .ok (.iload_n 0, 1) := by decide +kernel
theorem dX1_within_19 : decode cX1_within 19 = .ok (.ireturn, 1) := by decide +kernel
abbrev cX1_cheapest : ByteArray := prog_3_method_11_code
def yX1_cheapest : MethodName := ⟨RX1, "cheapest", "(I)I"⟩
theorem dX1_cheapest_0 : decode cX1_cheapest 0 = .ok (.aload_n 0, 1) := by decide +kernel
theorem dX1_cheapest_1 : decode cX1_cheapest 1 = .ok (.invokevirtual 43, 3) := by decide +kernel
theorem dX1_cheapest_4 : decode cX1_cheapest 4 = .ok (.lstore_n 2, 1) := by decide +kernel
theorem dX1_cheapest_5 : decode cX1_cheapest 5 = .ok (.aload_n 0, 1) := by decide +kernel
theorem dX1_cheapest_6 : decode cX1_cheapest 6 = .ok (.lload_n 2, 1) := by decide +kernel
theorem dX1_cheapest_7 : decode cX1_cheapest 7 = .ok (.invokevirtual 24, 3) := by decide +kernel
theorem dX1_cheapest_10 : decode cX1_cheapest 10 = .ok (.istore 4, 2) := by decide +kernel
theorem dX1_cheapest_12 : decode cX1_cheapest 12 = .ok (.iconst 0, 1) := by decide +kernel
theorem dX1_cheapest_13 : decode cX1_cheapest 13 = .ok (.istore 5, 2) := by decide +kernel
theorem dX1_cheapest_15 : decode cX1_cheapest 15 = .ok (.iload 5, 2) := by decide +kernel
theorem dX1_cheapest_17 : decode cX1_cheapest 17 = .ok (.bipush 6, 2) := by decide +kernel
theorem dX1_cheapest_19 : decode cX1_cheapest 19 = .ok (.if_icmp .ge 33, 3) := by decide +kernel
theorem dX1_cheapest_22 : decode cX1_cheapest 22 = .ok (.iload_n 1, 1) := by decide +kernel
theorem dX1_cheapest_23 : decode cX1_cheapest 23 = .ok (.ifCond .le 29, 3) := by decide +kernel
theorem dX1_cheapest_26 : decode cX1_cheapest 26 = .ok (.aload_n 0, 1) := by decide +kernel
theorem dX1_cheapest_27 : decode cX1_cheapest 27 = .ok (.iload_n 1, 1) := by decide +kernel
theorem dX1_cheapest_28 : decode cX1_cheapest 28 = .ok (.iload 5, 2) := by decide +kernel
theorem dX1_cheapest_30 : decode cX1_cheapest 30 = .ok (.invokevirtual 51, 3) := by decide +kernel
theorem dX1_cheapest_33 : decode cX1_cheapest 33 = .ok (.istore 6, 2) := by decide +kernel
theorem dX1_cheapest_35 : decode cX1_cheapest 35 = .ok (.iload 6, 2) := by decide +kernel
theorem dX1_cheapest_37 : decode cX1_cheapest 37 = .ok (.iload 4, 2) := by decide +kernel
theorem dX1_cheapest_39 : decode cX1_cheapest 39 = .ok (.if_icmp .ge 7, 3) := by decide +kernel
theorem dX1_cheapest_42 : decode cX1_cheapest 42 = .ok (.iload 6, 2) := by decide +kernel
theorem dX1_cheapest_44 : decode cX1_cheapest 44 = .ok (.istore 4, 2) := by decide +kernel
theorem dX1_cheapest_46 : decode cX1_cheapest 46 = .ok (.iinc 5 1, 3) := by decide +kernel
theorem dX1_cheapest_49 : decode cX1_cheapest 49 = .ok (.goto (-34), 3) := by decide +kernel
theorem dX1_cheapest_52 : decode cX1_cheapest 52 = .ok (.iload 4, 2) := by decide +kernel
theorem dX1_cheapest_54 : decode cX1_cheapest 54 = .ok (.ireturn, 1) := by decide +kernel
abbrev cX1_all : ByteArray := prog_3_method_4_code
def yX1_all : MethodName := ⟨RX1, "all", "()J"⟩
theorem dX1_all_0 : decode cX1_all 0 = .ok (.lconst 1, 1) := by decide +kernel
theorem dX1_all_1 : decode cX1_all 1 = .ok (.aload_n 0, 1) := by decide +kernel
theorem dX1_all_2 : decode cX1_all 2 = .ok (.getfield 17, 3) := by decide +kernel
theorem dX1_all_5 : decode cX1_all 5 = .ok (.lshl, 1) := by decide +kernel
theorem dX1_all_6 : decode cX1_all 6 = .ok (.lconst 1, 1) := by decide +kernel
theorem dX1_all_7 : decode cX1_all 7 = .ok (.lsub, 1) := by decide +kernel
theorem dX1_all_8 : decode cX1_all 8 = .ok (.lreturn, 1) := by decide +kernel
abbrev cX1_leaf : ByteArray := prog_3_method_6_code
def yX1_leaf : MethodName := ⟨RX1, "leaf", "(J)I"⟩
theorem dX1_leaf_0 : decode cX1_leaf 0 = .ok (.iconst 0, 1) := by decide +kernel
theorem dX1_leaf_1 : decode cX1_leaf 1 = .ok (.istore_n 3, 1) := by decide +kernel
theorem dX1_leaf_2 : decode cX1_leaf 2 = .ok (.iconst 0, 1) := by decide +kernel
theorem dX1_leaf_3 : decode cX1_leaf 3 = .ok (.istore 4, 2) := by decide +kernel
theorem dX1_leaf_5 : decode cX1_leaf 5 = .ok (.iconst 0, 1) := by decide +kernel
theorem dX1_leaf_6 : decode cX1_leaf 6 = .ok (.istore 5, 2) := by decide +kernel
theorem dX1_leaf_8 : decode cX1_leaf 8 = .ok (.iload 5, 2) := by decide +kernel
theorem dX1_leaf_10 : decode cX1_leaf 10 = .ok (.aload_n 0, 1) := by decide +kernel
theorem dX1_leaf_11 : decode cX1_leaf 11 = .ok (.getfield 17, 3) := by decide +kernel
theorem dX1_leaf_14 : decode cX1_leaf 14 = .ok (.if_icmp .ge 57, 3) := by decide +kernel
theorem dX1_leaf_17 : decode cX1_leaf 17 = .ok (.lload_n 1, 1) := by decide +kernel
theorem dX1_leaf_18 : decode cX1_leaf 18 = .ok (.iload 5, 2) := by decide +kernel
theorem dX1_leaf_20 : decode cX1_leaf 20 = .ok (.lshr, 1) := by decide +kernel
theorem dX1_leaf_21 : decode cX1_leaf 21 = .ok (.lconst 1, 1) := by decide +kernel
theorem dX1_leaf_22 : decode cX1_leaf 22 = .ok (.land, 1) := by decide +kernel
theorem dX1_leaf_23 : decode cX1_leaf 23 = .ok (.lconst 1, 1) := by decide +kernel
theorem dX1_leaf_24 : decode cX1_leaf 24 = .ok (.lcmp, 1) := by decide +kernel
theorem dX1_leaf_25 : decode cX1_leaf 25 = .ok (.ifCond .ne 16, 3) := by decide +kernel
theorem dX1_leaf_28 : decode cX1_leaf 28 = .ok (.aload_n 0, 1) := by decide +kernel
theorem dX1_leaf_29 : decode cX1_leaf 29 = .ok (.getfield 13, 3) := by decide +kernel
theorem dX1_leaf_32 : decode cX1_leaf 32 = .ok (.iload 5, 2) := by decide +kernel
theorem dX1_leaf_34 : decode cX1_leaf 34 = .ok (.baload, 1) := by decide +kernel
theorem dX1_leaf_35 : decode cX1_leaf 35 = .ok (.ifCond .eq 6, 3) := by decide +kernel
theorem dX1_leaf_38 : decode cX1_leaf 38 = .ok (.iinc 3 1, 3) := by decide +kernel
theorem dX1_leaf_41 : decode cX1_leaf 41 = .ok (.lload_n 1, 1) := by decide +kernel
theorem dX1_leaf_42 : decode cX1_leaf 42 = .ok (.iload 5, 2) := by decide +kernel
theorem dX1_leaf_44 : decode cX1_leaf 44 = .ok (.lshr, 1) := by decide +kernel
theorem dX1_leaf_45 : decode cX1_leaf 45 = .ok (.lconst 1, 1) := by decide +kernel
theorem dX1_leaf_46 : decode cX1_leaf 46 = .ok (.land, 1) := by decide +kernel
theorem dX1_leaf_47 : decode cX1_leaf 47 = .ok (.lconst 1, 1) := by decide +kernel
theorem dX1_leaf_48 : decode cX1_leaf 48 = .ok (.lcmp, 1) := by decide +kernel
theorem dX1_leaf_49 : decode cX1_leaf 49 = .ok (.ifCond .ne 16, 3) := by decide +kernel
theorem dX1_leaf_52 : decode cX1_leaf 52 = .ok (.aload_n 0, 1) := by decide +kernel
theorem dX1_leaf_53 : decode cX1_leaf 53 = .ok (.getfield 13, 3) := by decide +kernel
theorem dX1_leaf_56 : decode cX1_leaf 56 = .ok (.iload 5, 2) := by decide +kernel
theorem dX1_leaf_58 : decode cX1_leaf 58 = .ok (.baload, 1) := by decide +kernel
theorem dX1_leaf_59 : decode cX1_leaf 59 = .ok (.ifCond .ne 6, 3) := by decide +kernel
theorem dX1_leaf_62 : decode cX1_leaf 62 = .ok (.iinc 4 1, 3) := by decide +kernel
theorem dX1_leaf_65 : decode cX1_leaf 65 = .ok (.iinc 5 1, 3) := by decide +kernel
theorem dX1_leaf_68 : decode cX1_leaf 68 = .ok (.goto (-60), 3) := by decide +kernel
theorem dX1_leaf_71 : decode cX1_leaf 71 = .ok (.aload_n 0, 1) := by decide +kernel
theorem dX1_leaf_72 : decode cX1_leaf 72 = .ok (.getfield 21, 3) := by decide +kernel
theorem dX1_leaf_75 : decode cX1_leaf 75 = .ok (.iload_n 3, 1) := by decide +kernel
theorem dX1_leaf_76 : decode cX1_leaf 76 = .ok (.iload 4, 2) := by decide +kernel
theorem dX1_leaf_78 : decode cX1_leaf 78 = .ok (.if_icmp .ge 7, 3) := by decide +kernel
theorem dX1_leaf_81 : decode cX1_leaf 81 = .ok (.iload_n 3, 1) := by decide +kernel
theorem dX1_leaf_82 : decode cX1_leaf 82 = .ok (.goto 5, 3) := by decide +kernel
theorem dX1_leaf_85 : decode cX1_leaf 85 = .ok (.iload 4, 2) := by decide +kernel
theorem dX1_leaf_87 : decode cX1_leaf 87 = .ok (.imul, 1) := by decide +kernel
theorem dX1_leaf_88 : decode cX1_leaf 88 = .ok (.ireturn, 1) := by decide +kernel
abbrev cX1_by : ByteArray := prog_3_method_10_code
def yX1_by : MethodName := ⟨RX1, "by", "(II)I"⟩
theorem dX1_by_0 : decode cX1_by 0 = .ok (.aload_n 0, 1) := by decide +kernel
theorem dX1_by_1 : decode cX1_by 1 = .ok (.invokevirtual 43, 3) := by decide +kernel
theorem dX1_by_4 : decode cX1_by 4 = .ok (.lstore_n 3, 1) := by decide +kernel
theorem dX1_by_5 : decode cX1_by 5 = .ok (.aload_n 0, 1) := by decide +kernel
theorem dX1_by_6 : decode cX1_by 6 = .ok (.lload_n 3, 1) := by decide +kernel
theorem dX1_by_7 : decode cX1_by 7 = .ok (.iload_n 2, 1) := by decide +kernel
theorem dX1_by_8 : decode cX1_by 8 = .ok (.iconst 0, 1) := by decide +kernel
theorem dX1_by_9 : decode cX1_by 9 = .ok (.invokevirtual 28, 3) := by decide +kernel
theorem dX1_by_12 : decode cX1_by 12 = .ok (.lstore 5, 2) := by decide +kernel
theorem dX1_by_14 : decode cX1_by 14 = .ok (.aload_n 0, 1) := by decide +kernel
theorem dX1_by_15 : decode cX1_by 15 = .ok (.getfield 32, 3) := by decide +kernel
theorem dX1_by_18 : decode cX1_by 18 = .ok (.aload_n 0, 1) := by decide +kernel
theorem dX1_by_19 : decode cX1_by 19 = .ok (.lload 5, 2) := by decide +kernel
theorem dX1_by_21 : decode cX1_by 21 = .ok (.iload_n 1, 1) := by decide +kernel
theorem dX1_by_22 : decode cX1_by 22 = .ok (.iconst 1, 1) := by decide +kernel
theorem dX1_by_23 : decode cX1_by 23 = .ok (.isub, 1) := by decide +kernel
theorem dX1_by_24 : decode cX1_by 24 = .ok (.invokevirtual 47, 3) := by decide +kernel
theorem dX1_by_27 : decode cX1_by 27 = .ok (.iadd, 1) := by decide +kernel
theorem dX1_by_28 : decode cX1_by 28 = .ok (.aload_n 0, 1) := by decide +kernel
theorem dX1_by_29 : decode cX1_by 29 = .ok (.lload_n 3, 1) := by decide +kernel
theorem dX1_by_30 : decode cX1_by 30 = .ok (.lload 5, 2) := by decide +kernel
theorem dX1_by_32 : decode cX1_by 32 = .ok (.ldc2_w 35, 3) := by decide +kernel
theorem dX1_by_35 : decode cX1_by 35 = .ok (.lxor, 1) := by decide +kernel
theorem dX1_by_36 : decode cX1_by 36 = .ok (.land, 1) := by decide +kernel
theorem dX1_by_37 : decode cX1_by 37 = .ok (.iload_n 1, 1) := by decide +kernel
theorem dX1_by_38 : decode cX1_by 38 = .ok (.iconst 1, 1) := by decide +kernel
theorem dX1_by_39 : decode cX1_by 39 = .ok (.isub, 1) := by decide +kernel
theorem dX1_by_40 : decode cX1_by 40 = .ok (.invokevirtual 47, 3) := by decide +kernel
theorem dX1_by_43 : decode cX1_by 43 = .ok (.iadd, 1) := by decide +kernel
theorem dX1_by_44 : decode cX1_by 44 = .ok (.ireturn, 1) := by decide +kernel
abbrev cX1_part : ByteArray := prog_3_method_5_code
def yX1_part : MethodName := ⟨RX1, "part", "(JIZ)J"⟩
theorem dX1_part_0 : decode cX1_part 0 = .ok (.lconst 0, 1) := by decide +kernel
theorem dX1_part_1 : decode cX1_part 1 = .ok (.lstore 5, 2) := by decide +kernel
theorem dX1_part_3 : decode cX1_part 3 = .ok (.iconst 0, 1) := by decide +kernel
theorem dX1_part_4 : decode cX1_part 4 = .ok (.istore 7, 2) := by decide +kernel
theorem dX1_part_6 : decode cX1_part 6 = .ok (.iload 7, 2) := by decide +kernel
theorem dX1_part_8 : decode cX1_part 8 = .ok (.aload_n 0, 1) := by decide +kernel
theorem dX1_part_9 : decode cX1_part 9 = .ok (.getfield 17, 3) := by decide +kernel
theorem dX1_part_12 : decode cX1_part 12 = .ok (.if_icmp .ge 53, 3) := by decide +kernel
theorem dX1_part_15 : decode cX1_part 15 = .ok (.lload_n 1, 1) := by decide +kernel
theorem dX1_part_16 : decode cX1_part 16 = .ok (.iload 7, 2) := by decide +kernel
theorem dX1_part_18 : decode cX1_part 18 = .ok (.lshr, 1) := by decide +kernel
theorem dX1_part_19 : decode cX1_part 19 = .ok (.lconst 1, 1) := by decide +kernel
theorem dX1_part_20 : decode cX1_part 20 = .ok (.land, 1) := by decide +kernel
theorem dX1_part_21 : decode cX1_part 21 = .ok (.lconst 1, 1) := by decide +kernel
theorem dX1_part_22 : decode cX1_part 22 = .ok (.lcmp, 1) := by decide +kernel
theorem dX1_part_23 : decode cX1_part 23 = .ok (.ifCond .ne 36, 3) := by decide +kernel
theorem dX1_part_26 : decode cX1_part 26 = .ok (.aload_n 0, 1) := by decide +kernel
theorem dX1_part_27 : decode cX1_part 27 = .ok (.getfield 7, 3) := by decide +kernel
theorem dX1_part_30 : decode cX1_part 30 = .ok (.iload 7, 2) := by decide +kernel
theorem dX1_part_32 : decode cX1_part 32 = .ok (.iaload, 1) := by decide +kernel
theorem dX1_part_33 : decode cX1_part 33 = .ok (.iload_n 3, 1) := by decide +kernel
theorem dX1_part_34 : decode cX1_part 34 = .ok (.ishr, 1) := by decide +kernel
theorem dX1_part_35 : decode cX1_part 35 = .ok (.iconst 1, 1) := by decide +kernel
theorem dX1_part_36 : decode cX1_part 36 = .ok (.iand, 1) := by decide +kernel
theorem dX1_part_37 : decode cX1_part 37 = .ok (.iload 4, 2) := by decide +kernel
theorem dX1_part_39 : decode cX1_part 39 = .ok (.ifCond .eq 7, 3) := by decide +kernel
theorem dX1_part_42 : decode cX1_part 42 = .ok (.iconst 1, 1) := by decide +kernel
theorem dX1_part_43 : decode cX1_part 43 = .ok (.goto 4, 3) := by decide +kernel
theorem dX1_part_46 : decode cX1_part 46 = .ok (.iconst 0, 1) := by decide +kernel
theorem dX1_part_47 : decode cX1_part 47 = .ok (.if_icmp .ne 12, 3) := by decide +kernel
theorem dX1_part_50 : decode cX1_part 50 = .ok (.lload 5, 2) := by decide +kernel
theorem dX1_part_52 : decode cX1_part 52 = .ok (.lconst 1, 1) := by decide +kernel
theorem dX1_part_53 : decode cX1_part 53 = .ok (.iload 7, 2) := by decide +kernel
theorem dX1_part_55 : decode cX1_part 55 = .ok (.lshl, 1) := by decide +kernel
theorem dX1_part_56 : decode cX1_part 56 = .ok (.lor, 1) := by decide +kernel
theorem dX1_part_57 : decode cX1_part 57 = .ok (.lstore 5, 2) := by decide +kernel
theorem dX1_part_59 : decode cX1_part 59 = .ok (.iinc 7 1, 3) := by decide +kernel
theorem dX1_part_62 : decode cX1_part 62 = .ok (.goto (-56), 3) := by decide +kernel
theorem dX1_part_65 : decode cX1_part 65 = .ok (.lload 5, 2) := by decide +kernel
theorem dX1_part_67 : decode cX1_part 67 = .ok (.lreturn, 1) := by decide +kernel
abbrev cX1_least : ByteArray := prog_3_method_9_code
def yX1_least : MethodName := ⟨RX1, "least", "(JI)I"⟩
theorem dX1_least_0 : decode cX1_least 0 = .ok (.iload_n 3, 1) := by decide +kernel
theorem dX1_least_1 : decode cX1_least 1 = .ok (.ifCond .ne 11, 3) := by decide +kernel
theorem dX1_least_4 : decode cX1_least 4 = .ok (.aload_n 0, 1) := by decide +kernel
theorem dX1_least_5 : decode cX1_least 5 = .ok (.lload_n 1, 1) := by decide +kernel
theorem dX1_least_6 : decode cX1_least 6 = .ok (.invokevirtual 24, 3) := by decide +kernel
theorem dX1_least_9 : decode cX1_least 9 = .ok (.goto 21, 3) := by decide +kernel
theorem dX1_least_12 : decode cX1_least 12 = .ok (.iload_n 3, 1) := by decide +kernel
theorem dX1_least_13 : decode cX1_least 13 = .ok (.iconst 1, 1) := by decide +kernel
theorem dX1_least_14 : decode cX1_least 14 = .ok (.if_icmp .ne 11, 3) := by decide +kernel
theorem dX1_least_17 : decode cX1_least 17 = .ok (.aload_n 0, 1) := by decide +kernel
theorem dX1_least_18 : decode cX1_least 18 = .ok (.lload_n 1, 1) := by decide +kernel
theorem dX1_least_19 : decode cX1_least 19 = .ok (.invokevirtual 37, 3) := by decide +kernel
theorem dX1_least_22 : decode cX1_least 22 = .ok (.goto 8, 3) := by decide +kernel
theorem dX1_least_25 : decode cX1_least 25 = .ok (.aload_n 0, 1) := by decide +kernel
theorem dX1_least_26 : decode cX1_least 26 = .ok (.lload_n 1, 1) := by decide +kernel
theorem dX1_least_27 : decode cX1_least 27 = .ok (.invokevirtual 40, 3) := by decide +kernel
theorem dX1_least_30 : decode cX1_least 30 = .ok (.ireturn, 1) := by decide +kernel
abbrev cX1_one : ByteArray := prog_3_method_7_code
def yX1_one : MethodName := ⟨RX1, "one", "(J)I"⟩
theorem dX1_one_0 : decode cX1_one 0 = .ok (.aload_n 0, 1) := by decide +kernel
theorem dX1_one_1 : decode cX1_one 1 = .ok (.lload_n 1, 1) := by decide +kernel
theorem dX1_one_2 : decode cX1_one 2 = .ok (.invokevirtual 24, 3) := by decide +kernel
theorem dX1_one_5 : decode cX1_one 5 = .ok (.istore_n 3, 1) := by decide +kernel
theorem dX1_one_6 : decode cX1_one 6 = .ok (.iconst 0, 1) := by decide +kernel
theorem dX1_one_7 : decode cX1_one 7 = .ok (.istore 4, 2) := by decide +kernel
theorem dX1_one_9 : decode cX1_one 9 = .ok (.iload 4, 2) := by decide +kernel
theorem dX1_one_11 : decode cX1_one 11 = .ok (.bipush 6, 2) := by decide +kernel
theorem dX1_one_13 : decode cX1_one 13 = .ok (.if_icmp .ge 54, 3) := by decide +kernel
theorem dX1_one_16 : decode cX1_one 16 = .ok (.aload_n 0, 1) := by decide +kernel
theorem dX1_one_17 : decode cX1_one 17 = .ok (.lload_n 1, 1) := by decide +kernel
theorem dX1_one_18 : decode cX1_one 18 = .ok (.iload 4, 2) := by decide +kernel
theorem dX1_one_20 : decode cX1_one 20 = .ok (.iconst 0, 1) := by decide +kernel
theorem dX1_one_21 : decode cX1_one 21 = .ok (.invokevirtual 28, 3) := by decide +kernel
theorem dX1_one_24 : decode cX1_one 24 = .ok (.lstore 5, 2) := by decide +kernel
theorem dX1_one_26 : decode cX1_one 26 = .ok (.aload_n 0, 1) := by decide +kernel
theorem dX1_one_27 : decode cX1_one 27 = .ok (.getfield 32, 3) := by decide +kernel
theorem dX1_one_30 : decode cX1_one 30 = .ok (.aload_n 0, 1) := by decide +kernel
theorem dX1_one_31 : decode cX1_one 31 = .ok (.lload 5, 2) := by decide +kernel
theorem dX1_one_33 : decode cX1_one 33 = .ok (.invokevirtual 24, 3) := by decide +kernel
theorem dX1_one_36 : decode cX1_one 36 = .ok (.iadd, 1) := by decide +kernel
theorem dX1_one_37 : decode cX1_one 37 = .ok (.aload_n 0, 1) := by decide +kernel
theorem dX1_one_38 : decode cX1_one 38 = .ok (.lload_n 1, 1) := by decide +kernel
theorem dX1_one_39 : decode cX1_one 39 = .ok (.lload 5, 2) := by decide +kernel
theorem dX1_one_41 : decode cX1_one 41 = .ok (.ldc2_w 35, 3) := by decide +kernel
theorem dX1_one_44 : decode cX1_one 44 = .ok (.lxor, 1) := by decide +kernel
theorem dX1_one_45 : decode cX1_one 45 = .ok (.land, 1) := by decide +kernel
theorem dX1_one_46 : decode cX1_one 46 = .ok (.invokevirtual 24, 3) := by decide +kernel
theorem dX1_one_49 : decode cX1_one 49 = .ok (.iadd, 1) := by decide +kernel
theorem dX1_one_50 : decode cX1_one 50 = .ok (.istore 7, 2) := by decide +kernel
theorem dX1_one_52 : decode cX1_one 52 = .ok (.iload 7, 2) := by decide +kernel
theorem dX1_one_54 : decode cX1_one 54 = .ok (.iload_n 3, 1) := by decide +kernel
theorem dX1_one_55 : decode cX1_one 55 = .ok (.if_icmp .ge 6, 3) := by decide +kernel
theorem dX1_one_58 : decode cX1_one 58 = .ok (.iload 7, 2) := by decide +kernel
theorem dX1_one_60 : decode cX1_one 60 = .ok (.istore_n 3, 1) := by decide +kernel
theorem dX1_one_61 : decode cX1_one 61 = .ok (.iinc 4 1, 3) := by decide +kernel
theorem dX1_one_64 : decode cX1_one 64 = .ok (.goto (-55), 3) := by decide +kernel
theorem dX1_one_67 : decode cX1_one 67 = .ok (.iload_n 3, 1) := by decide +kernel
theorem dX1_one_68 : decode cX1_one 68 = .ok (.ireturn, 1) := by decide +kernel
abbrev cX1_two : ByteArray := prog_3_method_8_code
def yX1_two : MethodName := ⟨RX1, "two", "(J)I"⟩
theorem dX1_two_0 : decode cX1_two 0 = .ok (.aload_n 0, 1) := by decide +kernel
theorem dX1_two_1 : decode cX1_two 1 = .ok (.lload_n 1, 1) := by decide +kernel
theorem dX1_two_2 : decode cX1_two 2 = .ok (.invokevirtual 24, 3) := by decide +kernel
theorem dX1_two_5 : decode cX1_two 5 = .ok (.istore_n 3, 1) := by decide +kernel
theorem dX1_two_6 : decode cX1_two 6 = .ok (.iconst 0, 1) := by decide +kernel
theorem dX1_two_7 : decode cX1_two 7 = .ok (.istore 4, 2) := by decide +kernel
theorem dX1_two_9 : decode cX1_two 9 = .ok (.iload 4, 2) := by decide +kernel
theorem dX1_two_11 : decode cX1_two 11 = .ok (.bipush 6, 2) := by decide +kernel
theorem dX1_two_13 : decode cX1_two 13 = .ok (.if_icmp .ge 54, 3) := by decide +kernel
theorem dX1_two_16 : decode cX1_two 16 = .ok (.aload_n 0, 1) := by decide +kernel
theorem dX1_two_17 : decode cX1_two 17 = .ok (.lload_n 1, 1) := by decide +kernel
theorem dX1_two_18 : decode cX1_two 18 = .ok (.iload 4, 2) := by decide +kernel
theorem dX1_two_20 : decode cX1_two 20 = .ok (.iconst 0, 1) := by decide +kernel
theorem dX1_two_21 : decode cX1_two 21 = .ok (.invokevirtual 28, 3) := by decide +kernel
theorem dX1_two_24 : decode cX1_two 24 = .ok (.lstore 5, 2) := by decide +kernel
theorem dX1_two_26 : decode cX1_two 26 = .ok (.aload_n 0, 1) := by decide +kernel
theorem dX1_two_27 : decode cX1_two 27 = .ok (.getfield 32, 3) := by decide +kernel
theorem dX1_two_30 : decode cX1_two 30 = .ok (.aload_n 0, 1) := by decide +kernel
theorem dX1_two_31 : decode cX1_two 31 = .ok (.lload 5, 2) := by decide +kernel
theorem dX1_two_33 : decode cX1_two 33 = .ok (.invokevirtual 37, 3) := by decide +kernel
theorem dX1_two_36 : decode cX1_two 36 = .ok (.iadd, 1) := by decide +kernel
theorem dX1_two_37 : decode cX1_two 37 = .ok (.aload_n 0, 1) := by decide +kernel
theorem dX1_two_38 : decode cX1_two 38 = .ok (.lload_n 1, 1) := by decide +kernel
theorem dX1_two_39 : decode cX1_two 39 = .ok (.lload 5, 2) := by decide +kernel
theorem dX1_two_41 : decode cX1_two 41 = .ok (.ldc2_w 35, 3) := by decide +kernel
theorem dX1_two_44 : decode cX1_two 44 = .ok (.lxor, 1) := by decide +kernel
theorem dX1_two_45 : decode cX1_two 45 = .ok (.land, 1) := by decide +kernel
theorem dX1_two_46 : decode cX1_two 46 = .ok (.invokevirtual 37, 3) := by decide +kernel
theorem dX1_two_49 : decode cX1_two 49 = .ok (.iadd, 1) := by decide +kernel
theorem dX1_two_50 : decode cX1_two 50 = .ok (.istore 7, 2) := by decide +kernel
theorem dX1_two_52 : decode cX1_two 52 = .ok (.iload 7, 2) := by decide +kernel
theorem dX1_two_54 : decode cX1_two 54 = .ok (.iload_n 3, 1) := by decide +kernel
theorem dX1_two_55 : decode cX1_two 55 = .ok (.if_icmp .ge 6, 3) := by decide +kernel
theorem dX1_two_58 : decode cX1_two 58 = .ok (.iload 7, 2) := by decide +kernel
theorem dX1_two_60 : decode cX1_two 60 = .ok (.istore_n 3, 1) := by decide +kernel
theorem dX1_two_61 : decode cX1_two 61 = .ok (.iinc 4 1, 3) := by decide +kernel
theorem dX1_two_64 : decode cX1_two 64 = .ok (.goto (-55), 3) := by decide +kernel
theorem dX1_two_67 : decode cX1_two 67 = .ok (.iload_n 3, 1) := by decide +kernel
theorem dX1_two_68 : decode cX1_two 68 = .ok (.ireturn, 1) := by decide +kernel
abbrev cX1_price : ByteArray := prog_3_method_15_code
def yX1_price : MethodName := ⟨RX1, "price", "(II)I"⟩
theorem dX1_price_0 : decode cX1_price 0 = .ok (.iload_n 2, 1) := by decide +kernel
theorem dX1_price_1 : decode cX1_price 1 = .ok (.iconst 0, 1) := by decide +kernel
theorem dX1_price_2 : decode cX1_price 2 = .ok (.bipush 20, 2) := by decide +kernel
theorem dX1_price_4 : decode cX1_price 4 = .ok (.invokestatic 59, 3) := by decide +kernel
theorem dX1_price_7 : decode cX1_price 7 = .ok (.istore_n 3, 1) := by decide +kernel
theorem dX1_price_8 : decode cX1_price 8 = .ok (.aload_n 0, 1) := by decide +kernel
theorem dX1_price_9 : decode cX1_price 9 = .ok (.iconst 1, 1) := by decide +kernel
theorem dX1_price_10 : decode cX1_price 10 = .ok (.iload_n 3, 1) := by decide +kernel
theorem dX1_price_11 : decode cX1_price 11 = .ok (.invokevirtual 55, 3) := by decide +kernel
theorem dX1_price_14 : decode cX1_price 14 = .ok (.iload_n 1, 1) := by decide +kernel
theorem dX1_price_15 : decode cX1_price 15 = .ok (.iconst 0, 1) := by decide +kernel
theorem dX1_price_16 : decode cX1_price 16 = .ok (.iconst 3, 1) := by decide +kernel
theorem dX1_price_17 : decode cX1_price 17 = .ok (.invokestatic 59, 3) := by decide +kernel
theorem dX1_price_20 : decode cX1_price 20 = .ok (.istore 4, 2) := by decide +kernel
theorem dX1_price_22 : decode cX1_price 22 = .ok (.aload_n 0, 1) := by decide +kernel
theorem dX1_price_23 : decode cX1_price 23 = .ok (.iload 4, 2) := by decide +kernel
theorem dX1_price_25 : decode cX1_price 25 = .ok (.invokevirtual 63, 3) := by decide +kernel
theorem dX1_price_28 : decode cX1_price 28 = .ok (.ireturn, 1) := by decide +kernel
abbrev cX1_question : ByteArray := prog_3_method_16_code
def yX1_question : MethodName := ⟨RX1, "question", "(II)I"⟩
theorem dX1_question_0 : decode cX1_question 0 = .ok (.iload_n 2, 1) := by decide +kernel
theorem dX1_question_1 : decode cX1_question 1 = .ok (.iconst 0, 1) := by decide +kernel
theorem dX1_question_2 : decode cX1_question 2 = .ok (.bipush 20, 2) := by decide +kernel
theorem dX1_question_4 : decode cX1_question 4 = .ok (.invokestatic 59, 3) := by decide +kernel
theorem dX1_question_7 : decode cX1_question 7 = .ok (.istore_n 3, 1) := by decide +kernel
theorem dX1_question_8 : decode cX1_question 8 = .ok (.aload_n 0, 1) := by decide +kernel
theorem dX1_question_9 : decode cX1_question 9 = .ok (.iconst 1, 1) := by decide +kernel
theorem dX1_question_10 : decode cX1_question 10 = .ok (.iload_n 3, 1) := by decide +kernel
theorem dX1_question_11 : decode cX1_question 11 = .ok (.invokevirtual 55, 3) := by decide +kernel
theorem dX1_question_14 : decode cX1_question 14 = .ok (.iload_n 1, 1) := by decide +kernel
theorem dX1_question_15 : decode cX1_question 15 = .ok (.iconst 1, 1) := by decide +kernel
theorem dX1_question_16 : decode cX1_question 16 = .ok (.iconst 3, 1) := by decide +kernel
theorem dX1_question_17 : decode cX1_question 17 = .ok (.invokestatic 59, 3) := by decide +kernel
theorem dX1_question_20 : decode cX1_question 20 = .ok (.istore 4, 2) := by decide +kernel
theorem dX1_question_22 : decode cX1_question 22 = .ok (.iconst 0, 1) := by decide +kernel
theorem dX1_question_23 : decode cX1_question 23 = .ok (.istore 5, 2) := by decide +kernel
theorem dX1_question_25 : decode cX1_question 25 = .ok (.iconst 1, 1) := by decide +kernel
theorem dX1_question_26 : decode cX1_question 26 = .ok (.istore 6, 2) := by decide +kernel
theorem dX1_question_28 : decode cX1_question 28 = .ok (.iload 6, 2) := by decide +kernel
theorem dX1_question_30 : decode cX1_question 30 = .ok (.bipush 6, 2) := by decide +kernel
theorem dX1_question_32 : decode cX1_question 32 = .ok (.if_icmp .ge 32, 3) := by decide +kernel
theorem dX1_question_35 : decode cX1_question 35 = .ok (.aload_n 0, 1) := by decide +kernel
theorem dX1_question_36 : decode cX1_question 36 = .ok (.iload 4, 2) := by decide +kernel
theorem dX1_question_38 : decode cX1_question 38 = .ok (.iload 6, 2) := by decide +kernel
theorem dX1_question_40 : decode cX1_question 40 = .ok (.invokevirtual 51, 3) := by decide +kernel
theorem dX1_question_43 : decode cX1_question 43 = .ok (.aload_n 0, 1) := by decide +kernel
theorem dX1_question_44 : decode cX1_question 44 = .ok (.iload 4, 2) := by decide +kernel
theorem dX1_question_46 : decode cX1_question 46 = .ok (.iload 5, 2) := by decide +kernel
theorem dX1_question_48 : decode cX1_question 48 = .ok (.invokevirtual 51, 3) := by decide +kernel
theorem dX1_question_51 : decode cX1_question 51 = .ok (.if_icmp .ge 7, 3) := by decide +kernel
theorem dX1_question_54 : decode cX1_question 54 = .ok (.iload 6, 2) := by decide +kernel
theorem dX1_question_56 : decode cX1_question 56 = .ok (.istore 5, 2) := by decide +kernel
theorem dX1_question_58 : decode cX1_question 58 = .ok (.iinc 6 1, 3) := by decide +kernel
theorem dX1_question_61 : decode cX1_question 61 = .ok (.goto (-33), 3) := by decide +kernel
theorem dX1_question_64 : decode cX1_question 64 = .ok (.iload 5, 2) := by decide +kernel
theorem dX1_question_66 : decode cX1_question 66 = .ok (.ireturn, 1) := by decide +kernel
abbrev cX1_leaves : ByteArray := prog_3_method_17_code
def yX1_leaves : MethodName := ⟨RX1, "leaves", "(I)I"⟩
theorem dX1_leaves_0 : decode cX1_leaves 0 = .ok (.aload_n 0, 1) := by decide +kernel
theorem dX1_leaves_1 : decode cX1_leaves 1 = .ok (.bipush 100, 2) := by decide +kernel
theorem dX1_leaves_3 : decode cX1_leaves 3 = .ok (.iconst 1, 1) := by decide +kernel
theorem dX1_leaves_4 : decode cX1_leaves 4 = .ok (.invokevirtual 55, 3) := by decide +kernel
theorem dX1_leaves_7 : decode cX1_leaves 7 = .ok (.iload_n 1, 1) := by decide +kernel
theorem dX1_leaves_8 : decode cX1_leaves 8 = .ok (.iconst 0, 1) := by decide +kernel
theorem dX1_leaves_9 : decode cX1_leaves 9 = .ok (.iconst 3, 1) := by decide +kernel
theorem dX1_leaves_10 : decode cX1_leaves 10 = .ok (.invokestatic 59, 3) := by decide +kernel
theorem dX1_leaves_13 : decode cX1_leaves 13 = .ok (.istore_n 2, 1) := by decide +kernel
theorem dX1_leaves_14 : decode cX1_leaves 14 = .ok (.aload_n 0, 1) := by decide +kernel
theorem dX1_leaves_15 : decode cX1_leaves 15 = .ok (.iload_n 2, 1) := by decide +kernel
theorem dX1_leaves_16 : decode cX1_leaves 16 = .ok (.invokevirtual 63, 3) := by decide +kernel
theorem dX1_leaves_19 : decode cX1_leaves 19 = .ok (.bipush 100, 2) := by decide +kernel
theorem dX1_leaves_21 : decode cX1_leaves 21 = .ok (.irem, 1) := by decide +kernel
theorem dX1_leaves_22 : decode cX1_leaves 22 = .ok (.iconst 1, 1) := by decide +kernel
theorem dX1_leaves_23 : decode cX1_leaves 23 = .ok (.iadd, 1) := by decide +kernel
theorem dX1_leaves_24 : decode cX1_leaves 24 = .ok (.ireturn, 1) := by decide +kernel
abbrev cX1_mistakesBy : ByteArray := prog_3_method_18_code
def yX1_mistakesBy : MethodName := ⟨RX1, "mistakesBy", "(II)I"⟩
theorem dX1_mistakesBy_0 : decode cX1_mistakesBy 0 = .ok (.iload_n 2, 1) := by decide +kernel
theorem dX1_mistakesBy_1 : decode cX1_mistakesBy 1 = .ok (.ifCond .lt 8, 3) := by decide +kernel
theorem dX1_mistakesBy_4 : decode cX1_mistakesBy 4 = .ok (.iload_n 2, 1) := by decide +kernel
theorem dX1_mistakesBy_5 : decode cX1_mistakesBy 5 = .ok (.iconst 5, 1) := by decide +kernel
theorem dX1_mistakesBy_6 : decode cX1_mistakesBy 6 = .ok (.if_icmp .le 5, 3) := by decide +kernel
theorem dX1_mistakesBy_9 : decode cX1_mistakesBy 9 = .ok (.iconst (-1), 1) := by decide +kernel
theorem dX1_mistakesBy_10 : decode cX1_mistakesBy 10 = .ok (.ireturn, 1) := by decide +kernel
theorem dX1_mistakesBy_11 : decode cX1_mistakesBy 11 = .ok (.aload_n 0, 1) := by decide +kernel
theorem dX1_mistakesBy_12 : decode cX1_mistakesBy 12 = .ok (.iconst 1, 1) := by decide +kernel
theorem dX1_mistakesBy_13 : decode cX1_mistakesBy 13 = .ok (.iconst 0, 1) := by decide +kernel
theorem dX1_mistakesBy_14 : decode cX1_mistakesBy 14 = .ok (.invokevirtual 55, 3) := by decide +kernel
theorem dX1_mistakesBy_17 : decode cX1_mistakesBy 17 = .ok (.iload_n 1, 1) := by decide +kernel
theorem dX1_mistakesBy_18 : decode cX1_mistakesBy 18 = .ok (.iconst 1, 1) := by decide +kernel
theorem dX1_mistakesBy_19 : decode cX1_mistakesBy 19 = .ok (.iconst 3, 1) := by decide +kernel
theorem dX1_mistakesBy_20 : decode cX1_mistakesBy 20 = .ok (.invokestatic 59, 3) := by decide +kernel
theorem dX1_mistakesBy_23 : decode cX1_mistakesBy 23 = .ok (.istore_n 3, 1) := by decide +kernel
theorem dX1_mistakesBy_24 : decode cX1_mistakesBy 24 = .ok (.aload_n 0, 1) := by decide +kernel
theorem dX1_mistakesBy_25 : decode cX1_mistakesBy 25 = .ok (.iload_n 3, 1) := by decide +kernel
theorem dX1_mistakesBy_26 : decode cX1_mistakesBy 26 = .ok (.iload_n 2, 1) := by decide +kernel
theorem dX1_mistakesBy_27 : decode cX1_mistakesBy 27 = .ok (.invokevirtual 51, 3) := by decide +kernel
theorem dX1_mistakesBy_30 : decode cX1_mistakesBy 30 = .ok (.ireturn, 1) := by decide +kernel
abbrev cX1_doubtful : ByteArray := prog_3_method_19_code
def yX1_doubtful : MethodName := ⟨RX1, "doubtful", "()I"⟩
theorem dX1_doubtful_0 : decode cX1_doubtful 0 = .ok (.iconst 0, 1) := by decide +kernel
theorem dX1_doubtful_1 : decode cX1_doubtful 1 = .ok (.istore_n 1, 1) := by decide +kernel
theorem dX1_doubtful_2 : decode cX1_doubtful 2 = .ok (.iconst 0, 1) := by decide +kernel
theorem dX1_doubtful_3 : decode cX1_doubtful 3 = .ok (.istore_n 2, 1) := by decide +kernel
theorem dX1_doubtful_4 : decode cX1_doubtful 4 = .ok (.iload_n 2, 1) := by decide +kernel
theorem dX1_doubtful_5 : decode cX1_doubtful 5 = .ok (.aload_n 0, 1) := by decide +kernel
theorem dX1_doubtful_6 : decode cX1_doubtful 6 = .ok (.getfield 17, 3) := by decide +kernel
theorem dX1_doubtful_9 : decode cX1_doubtful 9 = .ok (.if_icmp .ge 70, 3) := by decide +kernel
theorem dX1_doubtful_12 : decode cX1_doubtful 12 = .ok (.iconst 0, 1) := by decide +kernel
theorem dX1_doubtful_13 : decode cX1_doubtful 13 = .ok (.istore_n 3, 1) := by decide +kernel
theorem dX1_doubtful_14 : decode cX1_doubtful 14 = .ok (.iconst 0, 1) := by decide +kernel
theorem dX1_doubtful_15 : decode cX1_doubtful 15 = .ok (.istore 4, 2) := by decide +kernel
theorem dX1_doubtful_17 : decode cX1_doubtful 17 = .ok (.iload 4, 2) := by decide +kernel
theorem dX1_doubtful_19 : decode cX1_doubtful 19 = .ok (.aload_n 0, 1) := by decide +kernel
theorem dX1_doubtful_20 : decode cX1_doubtful 20 = .ok (.getfield 17, 3) := by decide +kernel
theorem dX1_doubtful_23 : decode cX1_doubtful 23 = .ok (.if_icmp .ge 43, 3) := by decide +kernel
theorem dX1_doubtful_26 : decode cX1_doubtful 26 = .ok (.aload_n 0, 1) := by decide +kernel
theorem dX1_doubtful_27 : decode cX1_doubtful 27 = .ok (.getfield 7, 3) := by decide +kernel
theorem dX1_doubtful_30 : decode cX1_doubtful 30 = .ok (.iload_n 2, 1) := by decide +kernel
theorem dX1_doubtful_31 : decode cX1_doubtful 31 = .ok (.iaload, 1) := by decide +kernel
theorem dX1_doubtful_32 : decode cX1_doubtful 32 = .ok (.aload_n 0, 1) := by decide +kernel
theorem dX1_doubtful_33 : decode cX1_doubtful 33 = .ok (.getfield 7, 3) := by decide +kernel
theorem dX1_doubtful_36 : decode cX1_doubtful 36 = .ok (.iload 4, 2) := by decide +kernel
theorem dX1_doubtful_38 : decode cX1_doubtful 38 = .ok (.iaload, 1) := by decide +kernel
theorem dX1_doubtful_39 : decode cX1_doubtful 39 = .ok (.if_icmp .ne 21, 3) := by decide +kernel
theorem dX1_doubtful_42 : decode cX1_doubtful 42 = .ok (.aload_n 0, 1) := by decide +kernel
theorem dX1_doubtful_43 : decode cX1_doubtful 43 = .ok (.getfield 13, 3) := by decide +kernel
theorem dX1_doubtful_46 : decode cX1_doubtful 46 = .ok (.iload_n 2, 1) := by decide +kernel
theorem dX1_doubtful_47 : decode cX1_doubtful 47 = .ok (.baload, 1) := by decide +kernel
theorem dX1_doubtful_48 : decode cX1_doubtful 48 = .ok (.aload_n 0, 1) := by decide +kernel
theorem dX1_doubtful_49 : decode cX1_doubtful 49 = .ok (.getfield 13, 3) := by decide +kernel
theorem dX1_doubtful_52 : decode cX1_doubtful 52 = .ok (.iload 4, 2) := by decide +kernel
theorem dX1_doubtful_54 : decode cX1_doubtful 54 = .ok (.baload, 1) := by decide +kernel
theorem dX1_doubtful_55 : decode cX1_doubtful 55 = .ok (.if_icmp .eq 5, 3) := by decide +kernel
theorem dX1_doubtful_58 : decode cX1_doubtful 58 = .ok (.iconst 1, 1) := by decide +kernel
theorem dX1_doubtful_59 : decode cX1_doubtful 59 = .ok (.istore_n 3, 1) := by decide +kernel
theorem dX1_doubtful_60 : decode cX1_doubtful 60 = .ok (.iinc 4 1, 3) := by decide +kernel
theorem dX1_doubtful_63 : decode cX1_doubtful 63 = .ok (.goto (-46), 3) := by decide +kernel
theorem dX1_doubtful_66 : decode cX1_doubtful 66 = .ok (.iload_n 3, 1) := by decide +kernel
theorem dX1_doubtful_67 : decode cX1_doubtful 67 = .ok (.ifCond .eq 6, 3) := by decide +kernel
theorem dX1_doubtful_70 : decode cX1_doubtful 70 = .ok (.iinc 1 1, 3) := by decide +kernel
theorem dX1_doubtful_73 : decode cX1_doubtful 73 = .ok (.iinc 2 1, 3) := by decide +kernel
theorem dX1_doubtful_76 : decode cX1_doubtful 76 = .ok (.goto (-72), 3) := by decide +kernel
theorem dX1_doubtful_79 : decode cX1_doubtful 79 = .ok (.iload_n 1, 1) := by decide +kernel
theorem dX1_doubtful_80 : decode cX1_doubtful 80 = .ok (.ireturn, 1) := by decide +kernel
theorem q15 : (Jvm.Cond.initialized "BestTreeModel") ∈ lw_all := lw_g (lw_at lw_m0 2 rfl) rfl
theorem q108 : (Jvm.Cond.instantiable "BestTreeModel" (5 : Nat)) ∈ lw_all := lw_g (lw_at lw_m0 95 rfl) rfl
theorem q110 : (Jvm.Cond.instanceMethod ({ cls := "BestTreeModel", name := "<init>", desc := "()V" } : Jvm.MethodName)) ∈ lw_all := lw_g (lw_at lw_m0 97 rfl) rfl
theorem q111 : (Jvm.Cond.code ({ cls := "BestTreeModel", name := "<init>", desc := "()V" } : Jvm.MethodName) prog_3_method_1_code (1 : Nat) (Option.none : Option Jvm.ClassFile.FieldType)) ∈ lw_all := lw_g (lw_at lw_m0 98 rfl) rfl
theorem q112 : (Jvm.Cond.methodLink "BestTreeModel" (1 : Nat) ({ cls := "java/lang/Object", name := "<init>", desc := "()V" } : Jvm.MethodName)) ∈ lw_all := lw_g (lw_at lw_m0 99 rfl) rfl
theorem q113 : (Jvm.Cond.fieldLink "BestTreeModel" (17 : Nat) "BestTreeModel" "held" "I") ∈ lw_all := lw_g (lw_at lw_m0 100 rfl) rfl
theorem q114 : (Jvm.Cond.fieldLink "BestTreeModel" (7 : Nat) "BestTreeModel" "features" "[I") ∈ lw_all := lw_g (lw_at lw_m0 101 rfl) rfl
theorem q115 : (Jvm.Cond.fieldLink "BestTreeModel" (13 : Nat) "BestTreeModel" "goods" "[Z") ∈ lw_all := lw_g (lw_at lw_m0 102 rfl) rfl
theorem q116 : (Jvm.Cond.fieldLink "BestTreeModel" (21 : Nat) "BestTreeModel" "mistake" "I") ∈ lw_all := lw_g (lw_at lw_m0 103 rfl) rfl
theorem q117 : (Jvm.Cond.fieldLink "BestTreeModel" (32 : Nat) "BestTreeModel" "asking" "I") ∈ lw_all := lw_g (lw_at lw_m0 104 rfl) rfl
theorem q118 : (Jvm.Cond.lays "BestTreeModel" "BestTreeModel" "held" "I") ∈ lw_all := lw_g (lw_at lw_m0 105 rfl) rfl
theorem q119 : (Jvm.Cond.soleField "BestTreeModel" "held") ∈ lw_all := lw_g (lw_at lw_m0 106 rfl) rfl
theorem q120 : (Jvm.Cond.laysFinal "BestTreeModel" "BestTreeModel" "features" "[I") ∈ lw_all := lw_g (lw_at lw_m0 107 rfl) rfl
theorem q121 : (Jvm.Cond.soleField "BestTreeModel" "features") ∈ lw_all := lw_g (lw_at lw_m0 108 rfl) rfl
theorem q122 : (Jvm.Cond.laysFinal "BestTreeModel" "BestTreeModel" "goods" "[Z") ∈ lw_all := lw_g (lw_at lw_m0 109 rfl) rfl
theorem q123 : (Jvm.Cond.soleField "BestTreeModel" "goods") ∈ lw_all := lw_g (lw_at lw_m0 110 rfl) rfl
theorem q124 : (Jvm.Cond.lays "BestTreeModel" "BestTreeModel" "mistake" "I") ∈ lw_all := lw_g (lw_at lw_m0 111 rfl) rfl
theorem q125 : (Jvm.Cond.soleField "BestTreeModel" "mistake") ∈ lw_all := lw_g (lw_at lw_m0 112 rfl) rfl
theorem q126 : (Jvm.Cond.lays "BestTreeModel" "BestTreeModel" "asking" "I") ∈ lw_all := lw_g (lw_at lw_m0 113 rfl) rfl
theorem q127 : (Jvm.Cond.soleField "BestTreeModel" "asking") ∈ lw_all := lw_g (lw_at lw_m0 114 rfl) rfl
theorem q128 : (Jvm.Cond.superclass "BestTreeModel" "java/lang/Object") ∈ lw_all := lw_g (lw_at lw_m0 115 rfl) rfl
theorem q130 : (Jvm.Cond.instanceMethod ({ cls := "BestTreeModel", name := "add", desc := "(IZ)I" } : Jvm.MethodName)) ∈ lw_all := lw_g (lw_at lw_m0 117 rfl) rfl
theorem q131 : (Jvm.Cond.selects "BestTreeModel" ({ cls := "BestTreeModel", name := "add", desc := "(IZ)I" } : Jvm.MethodName) ({ cls := "BestTreeModel", name := "add", desc := "(IZ)I" } : Jvm.MethodName)) ∈ lw_all := lw_g (lw_at lw_m0 118 rfl) rfl
theorem q132 : (Jvm.Cond.code ({ cls := "BestTreeModel", name := "add", desc := "(IZ)I" } : Jvm.MethodName) prog_3_method_2_code (3 : Nat) (Option.some Jvm.ClassFile.FieldType.int)) ∈ lw_all := lw_g (lw_at lw_m0 119 rfl) rfl
theorem q134 : (Jvm.Cond.instanceMethod ({ cls := "BestTreeModel", name := "drop", desc := "(I)I" } : Jvm.MethodName)) ∈ lw_all := lw_g (lw_at lw_m0 121 rfl) rfl
theorem q135 : (Jvm.Cond.selects "BestTreeModel" ({ cls := "BestTreeModel", name := "drop", desc := "(I)I" } : Jvm.MethodName) ({ cls := "BestTreeModel", name := "drop", desc := "(I)I" } : Jvm.MethodName)) ∈ lw_all := lw_g (lw_at lw_m0 122 rfl) rfl
theorem q136 : (Jvm.Cond.code ({ cls := "BestTreeModel", name := "drop", desc := "(I)I" } : Jvm.MethodName) prog_3_method_3_code (3 : Nat) (Option.some Jvm.ClassFile.FieldType.int)) ∈ lw_all := lw_g (lw_at lw_m0 123 rfl) rfl
theorem q138 : (Jvm.Cond.instanceMethod ({ cls := "BestTreeModel", name := "mistakes", desc := "(I)I" } : Jvm.MethodName)) ∈ lw_all := lw_g (lw_at lw_m0 125 rfl) rfl
theorem q139 : (Jvm.Cond.selects "BestTreeModel" ({ cls := "BestTreeModel", name := "mistakes", desc := "(I)I" } : Jvm.MethodName) ({ cls := "BestTreeModel", name := "mistakes", desc := "(I)I" } : Jvm.MethodName)) ∈ lw_all := lw_g (lw_at lw_m0 126 rfl) rfl
theorem q140 : (Jvm.Cond.code ({ cls := "BestTreeModel", name := "mistakes", desc := "(I)I" } : Jvm.MethodName) prog_3_method_14_code (3 : Nat) (Option.some Jvm.ClassFile.FieldType.int)) ∈ lw_all := lw_g (lw_at lw_m0 127 rfl) rfl
theorem q141 : (Jvm.Cond.methodLink "BestTreeModel" (55 : Nat) ({ cls := "BestTreeModel", name := "weigh", desc := "(II)V" } : Jvm.MethodName)) ∈ lw_all := lw_g (lw_at lw_m0 128 rfl) rfl
theorem q142 : (Jvm.Cond.privateMethod ({ cls := "BestTreeModel", name := "weigh", desc := "(II)V" } : Jvm.MethodName)) ∈ lw_tbl := lw_at lw_m0 129 rfl
theorem q143 : (Jvm.Cond.instanceMethod ({ cls := "BestTreeModel", name := "weigh", desc := "(II)V" } : Jvm.MethodName)) ∈ lw_all := lw_g (lw_at lw_m0 130 rfl) rfl
theorem q144 : (Jvm.Cond.code ({ cls := "BestTreeModel", name := "weigh", desc := "(II)V" } : Jvm.MethodName) prog_3_method_13_code (3 : Nat) (Option.none : Option Jvm.ClassFile.FieldType)) ∈ lw_all := lw_g (lw_at lw_m0 131 rfl) rfl
theorem q145 : (Jvm.Cond.methodLink "BestTreeModel" (59 : Nat) ({ cls := "BestTreeModel", name := "within", desc := "(III)I" } : Jvm.MethodName)) ∈ lw_all := lw_g (lw_at lw_m0 132 rfl) rfl
theorem q146 : (Jvm.Cond.static ({ cls := "BestTreeModel", name := "within", desc := "(III)I" } : Jvm.MethodName)) ∈ lw_all := lw_g (lw_at lw_m0 133 rfl) rfl
theorem q147 : (Jvm.Cond.code ({ cls := "BestTreeModel", name := "within", desc := "(III)I" } : Jvm.MethodName) prog_3_method_12_code (3 : Nat) (Option.some Jvm.ClassFile.FieldType.int)) ∈ lw_all := lw_g (lw_at lw_m0 134 rfl) rfl
theorem q148 : (Jvm.Cond.methodLink "BestTreeModel" (63 : Nat) ({ cls := "BestTreeModel", name := "cheapest", desc := "(I)I" } : Jvm.MethodName)) ∈ lw_all := lw_g (lw_at lw_m0 135 rfl) rfl
theorem q149 : (Jvm.Cond.privateMethod ({ cls := "BestTreeModel", name := "cheapest", desc := "(I)I" } : Jvm.MethodName)) ∈ lw_tbl := lw_at lw_m0 136 rfl
theorem q150 : (Jvm.Cond.instanceMethod ({ cls := "BestTreeModel", name := "cheapest", desc := "(I)I" } : Jvm.MethodName)) ∈ lw_all := lw_g (lw_at lw_m0 137 rfl) rfl
theorem q151 : (Jvm.Cond.code ({ cls := "BestTreeModel", name := "cheapest", desc := "(I)I" } : Jvm.MethodName) prog_3_method_11_code (7 : Nat) (Option.some Jvm.ClassFile.FieldType.int)) ∈ lw_all := lw_g (lw_at lw_m0 138 rfl) rfl
theorem q152 : (Jvm.Cond.methodLink "BestTreeModel" (43 : Nat) ({ cls := "BestTreeModel", name := "all", desc := "()J" } : Jvm.MethodName)) ∈ lw_all := lw_g (lw_at lw_m0 139 rfl) rfl
theorem q153 : (Jvm.Cond.privateMethod ({ cls := "BestTreeModel", name := "all", desc := "()J" } : Jvm.MethodName)) ∈ lw_tbl := lw_at lw_m0 140 rfl
theorem q154 : (Jvm.Cond.instanceMethod ({ cls := "BestTreeModel", name := "all", desc := "()J" } : Jvm.MethodName)) ∈ lw_all := lw_g (lw_at lw_m0 141 rfl) rfl
theorem q155 : (Jvm.Cond.code ({ cls := "BestTreeModel", name := "all", desc := "()J" } : Jvm.MethodName) prog_3_method_4_code (1 : Nat) (Option.some Jvm.ClassFile.FieldType.long)) ∈ lw_all := lw_g (lw_at lw_m0 142 rfl) rfl
theorem q156 : (Jvm.Cond.methodLink "BestTreeModel" (24 : Nat) ({ cls := "BestTreeModel", name := "leaf", desc := "(J)I" } : Jvm.MethodName)) ∈ lw_all := lw_g (lw_at lw_m0 143 rfl) rfl
theorem q157 : (Jvm.Cond.privateMethod ({ cls := "BestTreeModel", name := "leaf", desc := "(J)I" } : Jvm.MethodName)) ∈ lw_tbl := lw_at lw_m0 144 rfl
theorem q158 : (Jvm.Cond.instanceMethod ({ cls := "BestTreeModel", name := "leaf", desc := "(J)I" } : Jvm.MethodName)) ∈ lw_all := lw_g (lw_at lw_m0 145 rfl) rfl
theorem q159 : (Jvm.Cond.code ({ cls := "BestTreeModel", name := "leaf", desc := "(J)I" } : Jvm.MethodName) prog_3_method_6_code (6 : Nat) (Option.some Jvm.ClassFile.FieldType.int)) ∈ lw_all := lw_g (lw_at lw_m0 146 rfl) rfl
theorem q160 : (Jvm.Cond.methodLink "BestTreeModel" (51 : Nat) ({ cls := "BestTreeModel", name := "by", desc := "(II)I" } : Jvm.MethodName)) ∈ lw_all := lw_g (lw_at lw_m0 147 rfl) rfl
theorem q161 : (Jvm.Cond.privateMethod ({ cls := "BestTreeModel", name := "by", desc := "(II)I" } : Jvm.MethodName)) ∈ lw_tbl := lw_at lw_m0 148 rfl
theorem q162 : (Jvm.Cond.instanceMethod ({ cls := "BestTreeModel", name := "by", desc := "(II)I" } : Jvm.MethodName)) ∈ lw_all := lw_g (lw_at lw_m0 149 rfl) rfl
theorem q163 : (Jvm.Cond.code ({ cls := "BestTreeModel", name := "by", desc := "(II)I" } : Jvm.MethodName) prog_3_method_10_code (7 : Nat) (Option.some Jvm.ClassFile.FieldType.int)) ∈ lw_all := lw_g (lw_at lw_m0 150 rfl) rfl
theorem q164 : (Jvm.Cond.methodLink "BestTreeModel" (28 : Nat) ({ cls := "BestTreeModel", name := "part", desc := "(JIZ)J" } : Jvm.MethodName)) ∈ lw_all := lw_g (lw_at lw_m0 151 rfl) rfl
theorem q165 : (Jvm.Cond.privateMethod ({ cls := "BestTreeModel", name := "part", desc := "(JIZ)J" } : Jvm.MethodName)) ∈ lw_tbl := lw_at lw_m0 152 rfl
theorem q166 : (Jvm.Cond.instanceMethod ({ cls := "BestTreeModel", name := "part", desc := "(JIZ)J" } : Jvm.MethodName)) ∈ lw_all := lw_g (lw_at lw_m0 153 rfl) rfl
theorem q167 : (Jvm.Cond.code ({ cls := "BestTreeModel", name := "part", desc := "(JIZ)J" } : Jvm.MethodName) prog_3_method_5_code (8 : Nat) (Option.some Jvm.ClassFile.FieldType.long)) ∈ lw_all := lw_g (lw_at lw_m0 154 rfl) rfl
theorem q168 : (Jvm.Cond.methodLink "BestTreeModel" (47 : Nat) ({ cls := "BestTreeModel", name := "least", desc := "(JI)I" } : Jvm.MethodName)) ∈ lw_all := lw_g (lw_at lw_m0 155 rfl) rfl
theorem q169 : (Jvm.Cond.privateMethod ({ cls := "BestTreeModel", name := "least", desc := "(JI)I" } : Jvm.MethodName)) ∈ lw_tbl := lw_at lw_m0 156 rfl
theorem q170 : (Jvm.Cond.instanceMethod ({ cls := "BestTreeModel", name := "least", desc := "(JI)I" } : Jvm.MethodName)) ∈ lw_all := lw_g (lw_at lw_m0 157 rfl) rfl
theorem q171 : (Jvm.Cond.code ({ cls := "BestTreeModel", name := "least", desc := "(JI)I" } : Jvm.MethodName) prog_3_method_9_code (4 : Nat) (Option.some Jvm.ClassFile.FieldType.int)) ∈ lw_all := lw_g (lw_at lw_m0 158 rfl) rfl
theorem q172 : (Jvm.Cond.methodLink "BestTreeModel" (37 : Nat) ({ cls := "BestTreeModel", name := "one", desc := "(J)I" } : Jvm.MethodName)) ∈ lw_all := lw_g (lw_at lw_m0 159 rfl) rfl
theorem q173 : (Jvm.Cond.privateMethod ({ cls := "BestTreeModel", name := "one", desc := "(J)I" } : Jvm.MethodName)) ∈ lw_tbl := lw_at lw_m0 160 rfl
theorem q174 : (Jvm.Cond.instanceMethod ({ cls := "BestTreeModel", name := "one", desc := "(J)I" } : Jvm.MethodName)) ∈ lw_all := lw_g (lw_at lw_m0 161 rfl) rfl
theorem q175 : (Jvm.Cond.code ({ cls := "BestTreeModel", name := "one", desc := "(J)I" } : Jvm.MethodName) prog_3_method_7_code (8 : Nat) (Option.some Jvm.ClassFile.FieldType.int)) ∈ lw_all := lw_g (lw_at lw_m0 162 rfl) rfl
theorem q176 : (Jvm.Cond.constantLong "BestTreeModel" (35 : Nat) (-1 : Int64)) ∈ lw_all := lw_g (lw_at lw_m0 163 rfl) rfl
theorem q177 : (Jvm.Cond.methodLink "BestTreeModel" (40 : Nat) ({ cls := "BestTreeModel", name := "two", desc := "(J)I" } : Jvm.MethodName)) ∈ lw_all := lw_g (lw_at lw_m0 164 rfl) rfl
theorem q178 : (Jvm.Cond.privateMethod ({ cls := "BestTreeModel", name := "two", desc := "(J)I" } : Jvm.MethodName)) ∈ lw_tbl := lw_at lw_m0 165 rfl
theorem q179 : (Jvm.Cond.instanceMethod ({ cls := "BestTreeModel", name := "two", desc := "(J)I" } : Jvm.MethodName)) ∈ lw_all := lw_g (lw_at lw_m0 166 rfl) rfl
theorem q180 : (Jvm.Cond.code ({ cls := "BestTreeModel", name := "two", desc := "(J)I" } : Jvm.MethodName) prog_3_method_8_code (8 : Nat) (Option.some Jvm.ClassFile.FieldType.int)) ∈ lw_all := lw_g (lw_at lw_m0 167 rfl) rfl
theorem q182 : (Jvm.Cond.instanceMethod ({ cls := "BestTreeModel", name := "price", desc := "(II)I" } : Jvm.MethodName)) ∈ lw_all := lw_g (lw_at lw_m0 169 rfl) rfl
theorem q183 : (Jvm.Cond.selects "BestTreeModel" ({ cls := "BestTreeModel", name := "price", desc := "(II)I" } : Jvm.MethodName) ({ cls := "BestTreeModel", name := "price", desc := "(II)I" } : Jvm.MethodName)) ∈ lw_all := lw_g (lw_at lw_m0 170 rfl) rfl
theorem q184 : (Jvm.Cond.code ({ cls := "BestTreeModel", name := "price", desc := "(II)I" } : Jvm.MethodName) prog_3_method_15_code (5 : Nat) (Option.some Jvm.ClassFile.FieldType.int)) ∈ lw_all := lw_g (lw_at lw_m0 171 rfl) rfl
theorem q186 : (Jvm.Cond.instanceMethod ({ cls := "BestTreeModel", name := "question", desc := "(II)I" } : Jvm.MethodName)) ∈ lw_all := lw_g (lw_at lw_m0 173 rfl) rfl
theorem q187 : (Jvm.Cond.selects "BestTreeModel" ({ cls := "BestTreeModel", name := "question", desc := "(II)I" } : Jvm.MethodName) ({ cls := "BestTreeModel", name := "question", desc := "(II)I" } : Jvm.MethodName)) ∈ lw_all := lw_g (lw_at lw_m0 174 rfl) rfl
theorem q188 : (Jvm.Cond.code ({ cls := "BestTreeModel", name := "question", desc := "(II)I" } : Jvm.MethodName) prog_3_method_16_code (7 : Nat) (Option.some Jvm.ClassFile.FieldType.int)) ∈ lw_all := lw_g (lw_at lw_m0 175 rfl) rfl
theorem q190 : (Jvm.Cond.instanceMethod ({ cls := "BestTreeModel", name := "leaves", desc := "(I)I" } : Jvm.MethodName)) ∈ lw_all := lw_g (lw_at lw_m0 177 rfl) rfl
theorem q191 : (Jvm.Cond.selects "BestTreeModel" ({ cls := "BestTreeModel", name := "leaves", desc := "(I)I" } : Jvm.MethodName) ({ cls := "BestTreeModel", name := "leaves", desc := "(I)I" } : Jvm.MethodName)) ∈ lw_all := lw_g (lw_at lw_m0 178 rfl) rfl
theorem q192 : (Jvm.Cond.code ({ cls := "BestTreeModel", name := "leaves", desc := "(I)I" } : Jvm.MethodName) prog_3_method_17_code (3 : Nat) (Option.some Jvm.ClassFile.FieldType.int)) ∈ lw_all := lw_g (lw_at lw_m0 179 rfl) rfl
theorem q194 : (Jvm.Cond.instanceMethod ({ cls := "BestTreeModel", name := "mistakesBy", desc := "(II)I" } : Jvm.MethodName)) ∈ lw_all := lw_g (lw_at lw_m0 181 rfl) rfl
theorem q195 : (Jvm.Cond.selects "BestTreeModel" ({ cls := "BestTreeModel", name := "mistakesBy", desc := "(II)I" } : Jvm.MethodName) ({ cls := "BestTreeModel", name := "mistakesBy", desc := "(II)I" } : Jvm.MethodName)) ∈ lw_all := lw_g (lw_at lw_m0 182 rfl) rfl
theorem q196 : (Jvm.Cond.code ({ cls := "BestTreeModel", name := "mistakesBy", desc := "(II)I" } : Jvm.MethodName) prog_3_method_18_code (4 : Nat) (Option.some Jvm.ClassFile.FieldType.int)) ∈ lw_all := lw_g (lw_at lw_m0 183 rfl) rfl
theorem q198 : (Jvm.Cond.instanceMethod ({ cls := "BestTreeModel", name := "doubtful", desc := "()I" } : Jvm.MethodName)) ∈ lw_all := lw_g (lw_at lw_m0 185 rfl) rfl
theorem q199 : (Jvm.Cond.selects "BestTreeModel" ({ cls := "BestTreeModel", name := "doubtful", desc := "()I" } : Jvm.MethodName) ({ cls := "BestTreeModel", name := "doubtful", desc := "()I" } : Jvm.MethodName)) ∈ lw_all := lw_g (lw_at lw_m0 186 rfl) rfl
theorem q200 : (Jvm.Cond.code ({ cls := "BestTreeModel", name := "doubtful", desc := "()I" } : Jvm.MethodName) prog_3_method_19_code (5 : Nat) (Option.some Jvm.ClassFile.FieldType.int)) ∈ lw_all := lw_g (lw_at lw_m0 187 rfl) rfl
theorem in_X1 : ∀ w ∈ wsX10, w ∈ lw_all := lw_in wsX10 [118, 120, 122, 124, 126] (by decide +kernel) (by decide +kernel)
end
section
/-! the law's own entry -/
set_option maxRecDepth 100000
abbrev cL_law : ByteArray := code
theorem dL_law_0 : decode cL_law 0 = .ok (.new 7, 3) := by decide +kernel
theorem dL_law_3 : decode cL_law 3 = .ok (.dup, 1) := by decide +kernel
theorem dL_law_4 : decode cL_law 4 = .ok (.invokespecial 9, 3) := by decide +kernel
theorem dL_law_7 : decode cL_law 7 = .ok (.astore_n 1, 1) := by decide +kernel
theorem dL_law_8 : decode cL_law 8 = .ok (.new 10, 3) := by decide +kernel
theorem dL_law_11 : decode cL_law 11 = .ok (.dup, 1) := by decide +kernel
theorem dL_law_12 : decode cL_law 12 = .ok (.invokespecial 12, 3) := by decide +kernel
theorem dL_law_15 : decode cL_law 15 = .ok (.astore_n 2, 1) := by decide +kernel
theorem dL_law_16 : decode cL_law 16 = .ok (.iconst 0, 1) := by decide +kernel
theorem dL_law_17 : decode cL_law 17 = .ok (.istore_n 3, 1) := by decide +kernel
theorem dL_law_18 : decode cL_law 18 = .ok (.iload_n 3, 1) := by decide +kernel
theorem dL_law_19 : decode cL_law 19 = .ok (.aload_n 0, 1) := by decide +kernel
theorem dL_law_20 : decode cL_law 20 = .ok (.arraylength, 1) := by decide +kernel
theorem dL_law_21 : decode cL_law 21 = .ok (.iconst 3, 1) := by decide +kernel
theorem dL_law_22 : decode cL_law 22 = .ok (.isub, 1) := by decide +kernel
theorem dL_law_23 : decode cL_law 23 = .ok (.if_icmp .gt 293, 3) := by decide +kernel
theorem dL_law_26 : decode cL_law 26 = .ok (.aload_n 0, 1) := by decide +kernel
theorem dL_law_27 : decode cL_law 27 = .ok (.iload_n 3, 1) := by decide +kernel
theorem dL_law_28 : decode cL_law 28 = .ok (.iaload, 1) := by decide +kernel
theorem dL_law_29 : decode cL_law 29 = .ok (.bipush 7, 2) := by decide +kernel
theorem dL_law_31 : decode cL_law 31 = .ok (.iand, 1) := by decide +kernel
theorem dL_law_32 : decode cL_law 32 = .ok (.tableswitch 278 0 7 #[48, 97, 120, 143, 176, 209, 232, 265], 48) := by decide +kernel
theorem dL_law_80 : decode cL_law 80 = .ok (.aload_n 1, 1) := by decide +kernel
theorem dL_law_81 : decode cL_law 81 = .ok (.aload_n 0, 1) := by decide +kernel
theorem dL_law_82 : decode cL_law 82 = .ok (.iload_n 3, 1) := by decide +kernel
theorem dL_law_83 : decode cL_law 83 = .ok (.iconst 1, 1) := by decide +kernel
theorem dL_law_84 : decode cL_law 84 = .ok (.iadd, 1) := by decide +kernel
theorem dL_law_85 : decode cL_law 85 = .ok (.iaload, 1) := by decide +kernel
theorem dL_law_86 : decode cL_law 86 = .ok (.aload_n 0, 1) := by decide +kernel
theorem dL_law_87 : decode cL_law 87 = .ok (.iload_n 3, 1) := by decide +kernel
theorem dL_law_88 : decode cL_law 88 = .ok (.iconst 2, 1) := by decide +kernel
theorem dL_law_89 : decode cL_law 89 = .ok (.iadd, 1) := by decide +kernel
theorem dL_law_90 : decode cL_law 90 = .ok (.iaload, 1) := by decide +kernel
theorem dL_law_91 : decode cL_law 91 = .ok (.ifCond .eq 7, 3) := by decide +kernel
theorem dL_law_94 : decode cL_law 94 = .ok (.iconst 1, 1) := by decide +kernel
theorem dL_law_95 : decode cL_law 95 = .ok (.goto 4, 3) := by decide +kernel
theorem dL_law_98 : decode cL_law 98 = .ok (.iconst 0, 1) := by decide +kernel
theorem dL_law_99 : decode cL_law 99 = .ok (.invokevirtual 13, 3) := by decide +kernel
theorem dL_law_102 : decode cL_law 102 = .ok (.aload_n 2, 1) := by decide +kernel
theorem dL_law_103 : decode cL_law 103 = .ok (.aload_n 0, 1) := by decide +kernel
theorem dL_law_104 : decode cL_law 104 = .ok (.iload_n 3, 1) := by decide +kernel
theorem dL_law_105 : decode cL_law 105 = .ok (.iconst 1, 1) := by decide +kernel
theorem dL_law_106 : decode cL_law 106 = .ok (.iadd, 1) := by decide +kernel
theorem dL_law_107 : decode cL_law 107 = .ok (.iaload, 1) := by decide +kernel
theorem dL_law_108 : decode cL_law 108 = .ok (.aload_n 0, 1) := by decide +kernel
theorem dL_law_109 : decode cL_law 109 = .ok (.iload_n 3, 1) := by decide +kernel
theorem dL_law_110 : decode cL_law 110 = .ok (.iconst 2, 1) := by decide +kernel
theorem dL_law_111 : decode cL_law 111 = .ok (.iadd, 1) := by decide +kernel
theorem dL_law_112 : decode cL_law 112 = .ok (.iaload, 1) := by decide +kernel
theorem dL_law_113 : decode cL_law 113 = .ok (.ifCond .eq 7, 3) := by decide +kernel
theorem dL_law_116 : decode cL_law 116 = .ok (.iconst 1, 1) := by decide +kernel
theorem dL_law_117 : decode cL_law 117 = .ok (.goto 4, 3) := by decide +kernel
theorem dL_law_120 : decode cL_law 120 = .ok (.iconst 0, 1) := by decide +kernel
theorem dL_law_121 : decode cL_law 121 = .ok (.invokevirtual 17, 3) := by decide +kernel
theorem dL_law_124 : decode cL_law 124 = .ok (.if_icmp .eq 186, 3) := by decide +kernel
theorem dL_law_127 : decode cL_law 127 = .ok (.iconst 0, 1) := by decide +kernel
theorem dL_law_128 : decode cL_law 128 = .ok (.ireturn, 1) := by decide +kernel
theorem dL_law_129 : decode cL_law 129 = .ok (.aload_n 1, 1) := by decide +kernel
theorem dL_law_130 : decode cL_law 130 = .ok (.aload_n 0, 1) := by decide +kernel
theorem dL_law_131 : decode cL_law 131 = .ok (.iload_n 3, 1) := by decide +kernel
theorem dL_law_132 : decode cL_law 132 = .ok (.iconst 1, 1) := by decide +kernel
theorem dL_law_133 : decode cL_law 133 = .ok (.iadd, 1) := by decide +kernel
theorem dL_law_134 : decode cL_law 134 = .ok (.iaload, 1) := by decide +kernel
theorem dL_law_135 : decode cL_law 135 = .ok (.invokevirtual 18, 3) := by decide +kernel
theorem dL_law_138 : decode cL_law 138 = .ok (.aload_n 2, 1) := by decide +kernel
theorem dL_law_139 : decode cL_law 139 = .ok (.aload_n 0, 1) := by decide +kernel
theorem dL_law_140 : decode cL_law 140 = .ok (.iload_n 3, 1) := by decide +kernel
theorem dL_law_141 : decode cL_law 141 = .ok (.iconst 1, 1) := by decide +kernel
theorem dL_law_142 : decode cL_law 142 = .ok (.iadd, 1) := by decide +kernel
theorem dL_law_143 : decode cL_law 143 = .ok (.iaload, 1) := by decide +kernel
theorem dL_law_144 : decode cL_law 144 = .ok (.invokevirtual 22, 3) := by decide +kernel
theorem dL_law_147 : decode cL_law 147 = .ok (.if_icmp .eq 163, 3) := by decide +kernel
theorem dL_law_150 : decode cL_law 150 = .ok (.iconst 0, 1) := by decide +kernel
theorem dL_law_151 : decode cL_law 151 = .ok (.ireturn, 1) := by decide +kernel
theorem dL_law_152 : decode cL_law 152 = .ok (.aload_n 1, 1) := by decide +kernel
theorem dL_law_153 : decode cL_law 153 = .ok (.aload_n 0, 1) := by decide +kernel
theorem dL_law_154 : decode cL_law 154 = .ok (.iload_n 3, 1) := by decide +kernel
theorem dL_law_155 : decode cL_law 155 = .ok (.iconst 1, 1) := by decide +kernel
theorem dL_law_156 : decode cL_law 156 = .ok (.iadd, 1) := by decide +kernel
theorem dL_law_157 : decode cL_law 157 = .ok (.iaload, 1) := by decide +kernel
theorem dL_law_158 : decode cL_law 158 = .ok (.invokevirtual 23, 3) := by decide +kernel
theorem dL_law_161 : decode cL_law 161 = .ok (.aload_n 2, 1) := by decide +kernel
theorem dL_law_162 : decode cL_law 162 = .ok (.aload_n 0, 1) := by decide +kernel
theorem dL_law_163 : decode cL_law 163 = .ok (.iload_n 3, 1) := by decide +kernel
theorem dL_law_164 : decode cL_law 164 = .ok (.iconst 1, 1) := by decide +kernel
theorem dL_law_165 : decode cL_law 165 = .ok (.iadd, 1) := by decide +kernel
theorem dL_law_166 : decode cL_law 166 = .ok (.iaload, 1) := by decide +kernel
theorem dL_law_167 : decode cL_law 167 = .ok (.invokevirtual 26, 3) := by decide +kernel
theorem dL_law_170 : decode cL_law 170 = .ok (.if_icmp .eq 140, 3) := by decide +kernel
theorem dL_law_173 : decode cL_law 173 = .ok (.iconst 0, 1) := by decide +kernel
theorem dL_law_174 : decode cL_law 174 = .ok (.ireturn, 1) := by decide +kernel
theorem dL_law_175 : decode cL_law 175 = .ok (.aload_n 1, 1) := by decide +kernel
theorem dL_law_176 : decode cL_law 176 = .ok (.aload_n 0, 1) := by decide +kernel
theorem dL_law_177 : decode cL_law 177 = .ok (.iload_n 3, 1) := by decide +kernel
theorem dL_law_178 : decode cL_law 178 = .ok (.iconst 1, 1) := by decide +kernel
theorem dL_law_179 : decode cL_law 179 = .ok (.iadd, 1) := by decide +kernel
theorem dL_law_180 : decode cL_law 180 = .ok (.iaload, 1) := by decide +kernel
theorem dL_law_181 : decode cL_law 181 = .ok (.aload_n 0, 1) := by decide +kernel
theorem dL_law_182 : decode cL_law 182 = .ok (.iload_n 3, 1) := by decide +kernel
theorem dL_law_183 : decode cL_law 183 = .ok (.iconst 2, 1) := by decide +kernel
theorem dL_law_184 : decode cL_law 184 = .ok (.iadd, 1) := by decide +kernel
theorem dL_law_185 : decode cL_law 185 = .ok (.iaload, 1) := by decide +kernel
theorem dL_law_186 : decode cL_law 186 = .ok (.invokevirtual 27, 3) := by decide +kernel
theorem dL_law_189 : decode cL_law 189 = .ok (.aload_n 2, 1) := by decide +kernel
theorem dL_law_190 : decode cL_law 190 = .ok (.aload_n 0, 1) := by decide +kernel
theorem dL_law_191 : decode cL_law 191 = .ok (.iload_n 3, 1) := by decide +kernel
theorem dL_law_192 : decode cL_law 192 = .ok (.iconst 1, 1) := by decide +kernel
theorem dL_law_193 : decode cL_law 193 = .ok (.iadd, 1) := by decide +kernel
theorem dL_law_194 : decode cL_law 194 = .ok (.iaload, 1) := by decide +kernel
theorem dL_law_195 : decode cL_law 195 = .ok (.aload_n 0, 1) := by decide +kernel
theorem dL_law_196 : decode cL_law 196 = .ok (.iload_n 3, 1) := by decide +kernel
theorem dL_law_197 : decode cL_law 197 = .ok (.iconst 2, 1) := by decide +kernel
theorem dL_law_198 : decode cL_law 198 = .ok (.iadd, 1) := by decide +kernel
theorem dL_law_199 : decode cL_law 199 = .ok (.iaload, 1) := by decide +kernel
theorem dL_law_200 : decode cL_law 200 = .ok (.invokevirtual 31, 3) := by decide +kernel
theorem dL_law_203 : decode cL_law 203 = .ok (.if_icmp .eq 107, 3) := by decide +kernel
theorem dL_law_206 : decode cL_law 206 = .ok (.iconst 0, 1) := by decide +kernel
theorem dL_law_207 : decode cL_law 207 = .ok (.ireturn, 1) := by decide +kernel
theorem dL_law_208 : decode cL_law 208 = .ok (.aload_n 1, 1) := by decide +kernel
theorem dL_law_209 : decode cL_law 209 = .ok (.aload_n 0, 1) := by decide +kernel
theorem dL_law_210 : decode cL_law 210 = .ok (.iload_n 3, 1) := by decide +kernel
theorem dL_law_211 : decode cL_law 211 = .ok (.iconst 1, 1) := by decide +kernel
theorem dL_law_212 : decode cL_law 212 = .ok (.iadd, 1) := by decide +kernel
theorem dL_law_213 : decode cL_law 213 = .ok (.iaload, 1) := by decide +kernel
theorem dL_law_214 : decode cL_law 214 = .ok (.aload_n 0, 1) := by decide +kernel
theorem dL_law_215 : decode cL_law 215 = .ok (.iload_n 3, 1) := by decide +kernel
theorem dL_law_216 : decode cL_law 216 = .ok (.iconst 2, 1) := by decide +kernel
theorem dL_law_217 : decode cL_law 217 = .ok (.iadd, 1) := by decide +kernel
theorem dL_law_218 : decode cL_law 218 = .ok (.iaload, 1) := by decide +kernel
theorem dL_law_219 : decode cL_law 219 = .ok (.invokevirtual 32, 3) := by decide +kernel
theorem dL_law_222 : decode cL_law 222 = .ok (.aload_n 2, 1) := by decide +kernel
theorem dL_law_223 : decode cL_law 223 = .ok (.aload_n 0, 1) := by decide +kernel
theorem dL_law_224 : decode cL_law 224 = .ok (.iload_n 3, 1) := by decide +kernel
theorem dL_law_225 : decode cL_law 225 = .ok (.iconst 1, 1) := by decide +kernel
theorem dL_law_226 : decode cL_law 226 = .ok (.iadd, 1) := by decide +kernel
theorem dL_law_227 : decode cL_law 227 = .ok (.iaload, 1) := by decide +kernel
theorem dL_law_228 : decode cL_law 228 = .ok (.aload_n 0, 1) := by decide +kernel
theorem dL_law_229 : decode cL_law 229 = .ok (.iload_n 3, 1) := by decide +kernel
theorem dL_law_230 : decode cL_law 230 = .ok (.iconst 2, 1) := by decide +kernel
theorem dL_law_231 : decode cL_law 231 = .ok (.iadd, 1) := by decide +kernel
theorem dL_law_232 : decode cL_law 232 = .ok (.iaload, 1) := by decide +kernel
theorem dL_law_233 : decode cL_law 233 = .ok (.invokevirtual 35, 3) := by decide +kernel
theorem dL_law_236 : decode cL_law 236 = .ok (.if_icmp .eq 74, 3) := by decide +kernel
theorem dL_law_239 : decode cL_law 239 = .ok (.iconst 0, 1) := by decide +kernel
theorem dL_law_240 : decode cL_law 240 = .ok (.ireturn, 1) := by decide +kernel
theorem dL_law_241 : decode cL_law 241 = .ok (.aload_n 1, 1) := by decide +kernel
theorem dL_law_242 : decode cL_law 242 = .ok (.aload_n 0, 1) := by decide +kernel
theorem dL_law_243 : decode cL_law 243 = .ok (.iload_n 3, 1) := by decide +kernel
theorem dL_law_244 : decode cL_law 244 = .ok (.iconst 1, 1) := by decide +kernel
theorem dL_law_245 : decode cL_law 245 = .ok (.iadd, 1) := by decide +kernel
theorem dL_law_246 : decode cL_law 246 = .ok (.iaload, 1) := by decide +kernel
theorem dL_law_247 : decode cL_law 247 = .ok (.invokevirtual 36, 3) := by decide +kernel
theorem dL_law_250 : decode cL_law 250 = .ok (.aload_n 2, 1) := by decide +kernel
theorem dL_law_251 : decode cL_law 251 = .ok (.aload_n 0, 1) := by decide +kernel
theorem dL_law_252 : decode cL_law 252 = .ok (.iload_n 3, 1) := by decide +kernel
theorem dL_law_253 : decode cL_law 253 = .ok (.iconst 1, 1) := by decide +kernel
theorem dL_law_254 : decode cL_law 254 = .ok (.iadd, 1) := by decide +kernel
theorem dL_law_255 : decode cL_law 255 = .ok (.iaload, 1) := by decide +kernel
theorem dL_law_256 : decode cL_law 256 = .ok (.invokevirtual 39, 3) := by decide +kernel
theorem dL_law_259 : decode cL_law 259 = .ok (.if_icmp .eq 51, 3) := by decide +kernel
theorem dL_law_262 : decode cL_law 262 = .ok (.iconst 0, 1) := by decide +kernel
theorem dL_law_263 : decode cL_law 263 = .ok (.ireturn, 1) := by decide +kernel
theorem dL_law_264 : decode cL_law 264 = .ok (.aload_n 1, 1) := by decide +kernel
theorem dL_law_265 : decode cL_law 265 = .ok (.aload_n 0, 1) := by decide +kernel
theorem dL_law_266 : decode cL_law 266 = .ok (.iload_n 3, 1) := by decide +kernel
theorem dL_law_267 : decode cL_law 267 = .ok (.iconst 1, 1) := by decide +kernel
theorem dL_law_268 : decode cL_law 268 = .ok (.iadd, 1) := by decide +kernel
theorem dL_law_269 : decode cL_law 269 = .ok (.iaload, 1) := by decide +kernel
theorem dL_law_270 : decode cL_law 270 = .ok (.aload_n 0, 1) := by decide +kernel
theorem dL_law_271 : decode cL_law 271 = .ok (.iload_n 3, 1) := by decide +kernel
theorem dL_law_272 : decode cL_law 272 = .ok (.iconst 2, 1) := by decide +kernel
theorem dL_law_273 : decode cL_law 273 = .ok (.iadd, 1) := by decide +kernel
theorem dL_law_274 : decode cL_law 274 = .ok (.iaload, 1) := by decide +kernel
theorem dL_law_275 : decode cL_law 275 = .ok (.invokevirtual 40, 3) := by decide +kernel
theorem dL_law_278 : decode cL_law 278 = .ok (.aload_n 2, 1) := by decide +kernel
theorem dL_law_279 : decode cL_law 279 = .ok (.aload_n 0, 1) := by decide +kernel
theorem dL_law_280 : decode cL_law 280 = .ok (.iload_n 3, 1) := by decide +kernel
theorem dL_law_281 : decode cL_law 281 = .ok (.iconst 1, 1) := by decide +kernel
theorem dL_law_282 : decode cL_law 282 = .ok (.iadd, 1) := by decide +kernel
theorem dL_law_283 : decode cL_law 283 = .ok (.iaload, 1) := by decide +kernel
theorem dL_law_284 : decode cL_law 284 = .ok (.aload_n 0, 1) := by decide +kernel
theorem dL_law_285 : decode cL_law 285 = .ok (.iload_n 3, 1) := by decide +kernel
theorem dL_law_286 : decode cL_law 286 = .ok (.iconst 2, 1) := by decide +kernel
theorem dL_law_287 : decode cL_law 287 = .ok (.iadd, 1) := by decide +kernel
theorem dL_law_288 : decode cL_law 288 = .ok (.iaload, 1) := by decide +kernel
theorem dL_law_289 : decode cL_law 289 = .ok (.invokevirtual 43, 3) := by decide +kernel
theorem dL_law_292 : decode cL_law 292 = .ok (.if_icmp .eq 18, 3) := by decide +kernel
theorem dL_law_295 : decode cL_law 295 = .ok (.iconst 0, 1) := by decide +kernel
theorem dL_law_296 : decode cL_law 296 = .ok (.ireturn, 1) := by decide +kernel
theorem dL_law_297 : decode cL_law 297 = .ok (.aload_n 1, 1) := by decide +kernel
theorem dL_law_298 : decode cL_law 298 = .ok (.invokevirtual 44, 3) := by decide +kernel
theorem dL_law_301 : decode cL_law 301 = .ok (.aload_n 2, 1) := by decide +kernel
theorem dL_law_302 : decode cL_law 302 = .ok (.invokevirtual 48, 3) := by decide +kernel
theorem dL_law_305 : decode cL_law 305 = .ok (.if_icmp .eq 5, 3) := by decide +kernel
theorem dL_law_308 : decode cL_law 308 = .ok (.iconst 0, 1) := by decide +kernel
theorem dL_law_309 : decode cL_law 309 = .ok (.ireturn, 1) := by decide +kernel
theorem dL_law_310 : decode cL_law 310 = .ok (.iinc 3 3, 3) := by decide +kernel
theorem dL_law_313 : decode cL_law 313 = .ok (.goto (-295), 3) := by decide +kernel
theorem dL_law_316 : decode cL_law 316 = .ok (.iconst 1, 1) := by decide +kernel
theorem dL_law_317 : decode cL_law 317 = .ok (.ireturn, 1) := by decide +kernel
end
section
/-! BITS: a set of samples as the bits of a long; one bit of an int; clamps (rows on shifts after kit/laws/BITS.to-paste) -/
def lb_ (w : Int64) (k : Nat) : Bool := w.toBitVec.getLsbD k
def ib_ (fe : Nat → Int32) (k f : Nat) : Bool := (fe k).toBitVec.getLsbD f
def gb_ (go : Nat → Int32) (k : Nat) : Bool := decide (¬ go k = 0)
theorem lb_and (x y : Int64) (k : Nat) : lb_ (x &&& y) k = (lb_ x k && lb_ y k) := by unfold lb_; rw [Int64.toBitVec_and, BitVec.getLsbD_and]
theorem lb_or (x y : Int64) (k : Nat) : lb_ (x ||| y) k = (lb_ x k || lb_ y k) := by unfold lb_; rw [Int64.toBitVec_or, BitVec.getLsbD_or]
theorem lb_not (x : Int64) {k : Nat} (hk : k < 64) : lb_ (x ^^^ (-1)) k = !lb_ x k := by
  unfold lb_
  have ha : (-1 : Int64).toBitVec = BitVec.allOnes 64 := by decide
  rw [Int64.toBitVec_xor, ha, BitVec.getLsbD_xor, BitVec.getLsbD_allOnes, decide_eq_true hk, Bool.xor_true]
theorem lb_zero (k : Nat) : lb_ 0 k = false := BitVec.getLsbD_zero
theorem lb_m1 : ∀ k, k < 64 → lb_ (-1) k = true := by decide +kernel
theorem sh_64 : ∀ i, i < 64 → (((nI i).toInt64 &&& 63).toBitVec.smod 64).toNat = i := by decide +kernel
theorem sh_u64 : ∀ i, i < 64 → (((nI i).toInt64.toUInt64 &&& Int64.toUInt64 63).toBitVec % 64).toNat = i := by decide +kernel
theorem sh_one : ∀ i, i < 64 → ((1 : Int64) <<< ((nI i).toInt64 &&& 63)).toBitVec = BitVec.twoPow 64 i := by decide +kernel
theorem sh_32 : ∀ n, n < 32 → ((nI n &&& 31).toBitVec.smod 32).toNat = n := by decide +kernel
theorem sh_u32 : ∀ n, n < 32 → (((nI n).toUInt32 &&& Int32.toUInt32 31).toBitVec % 32).toNat = n := by decide +kernel
theorem lb_shl {i : Nat} (k : Nat) (hi : i < 64) : lb_ ((1 : Int64) <<< ((nI i).toInt64 &&& 63)) k = decide (i = k) := by
  unfold lb_
  rw [sh_one i hi, BitVec.getLsbD_twoPow, decide_eq_true hi, Bool.true_and]
theorem bi_one (x : Int32) : x &&& nI 1 = nI (if x.toBitVec.getLsbD 0 then 1 else 0) := by
  apply Int32.toBitVec_inj.1
  rw [Int32.toBitVec_and]
  show x.toBitVec &&& 1#32 = _
  rw [BitVec.and_one_eq_setWidth_ofBool_getLsbD]
  cases x.toBitVec.getLsbD 0 <;> decide
theorem bl_one (x : Int64) : x &&& 1 = if lb_ x 0 then 1 else 0 := by
  unfold lb_
  apply Int64.toBitVec_inj.1
  rw [Int64.toBitVec_and]
  show x.toBitVec &&& 1#64 = _
  rw [BitVec.and_one_eq_setWidth_ofBool_getLsbD]
  cases x.toBitVec.getLsbD 0 <;> decide
/-- (int) (word >>> k) & 1 -/
theorem bi_word (w : Int64) {k : Nat} (hk : k < 64) : ((w.toUInt64 >>> ((nI k).toInt64.toUInt64 &&& Int64.toUInt64 63)).toInt64).toInt32 &&& nI 1 = nI (if lb_ w k then 1 else 0) := by
  rw [bi_one, Int64.toBitVec_toInt32, BitVec.getLsbD_signExtend]
  have e : ((w.toUInt64 >>> ((nI k).toInt64.toUInt64 &&& Int64.toUInt64 63)).toInt64).toBitVec.getLsbD 0 = lb_ w k := by
    show (w.toUInt64 >>> ((nI k).toInt64.toUInt64 &&& Int64.toUInt64 63)).toBitVec.getLsbD 0 = w.toUInt64.toBitVec.getLsbD k
    rw [UInt64.toBitVec_shiftRight]
    show (w.toUInt64.toBitVec >>> (((nI k).toInt64.toUInt64 &&& Int64.toUInt64 63).toBitVec % 64).toNat).getLsbD 0 = _
    rw [sh_u64 k hk, BitVec.getLsbD_ushiftRight, Nat.add_zero]
  rw [e, if_pos (show 0 < 64 by decide), decide_eq_true (show 0 < 32 by decide), Bool.true_and]
/-- x >>> f & 1 -/
theorem bi_ushr (x : Int32) {f : Nat} (hf : f < 32) : (x.toUInt32 >>> ((nI f).toUInt32 &&& Int32.toUInt32 31)).toInt32 &&& nI 1 = nI (if x.toBitVec.getLsbD f then 1 else 0) := by
  rw [bi_one]
  have e : ((x.toUInt32 >>> ((nI f).toUInt32 &&& Int32.toUInt32 31)).toInt32).toBitVec.getLsbD 0 = x.toBitVec.getLsbD f := by
    show (x.toUInt32 >>> ((nI f).toUInt32 &&& Int32.toUInt32 31)).toBitVec.getLsbD 0 = x.toUInt32.toBitVec.getLsbD f
    rw [UInt32.toBitVec_shiftRight]
    show (x.toUInt32.toBitVec >>> (((nI f).toUInt32 &&& Int32.toUInt32 31).toBitVec % 32).toNat).getLsbD 0 = _
    rw [sh_u32 f hf, BitVec.getLsbD_ushiftRight, Nat.add_zero]
  rw [e]
/-- x >> f & 1 -/
theorem bi_sshr (x : Int32) {f : Nat} (hf : f < 32) : (x >>> (nI f &&& 31)) &&& nI 1 = nI (if x.toBitVec.getLsbD f then 1 else 0) := by
  rw [bi_one]
  have e : (x >>> (nI f &&& 31)).toBitVec.getLsbD 0 = x.toBitVec.getLsbD f := by
    rw [Int32.toBitVec_shiftRight]
    show (x.toBitVec.sshiftRight ((nI f &&& 31).toBitVec.smod 32).toNat).getLsbD 0 = _
    rw [sh_32 f hf, BitVec.getLsbD_sshiftRight]
    simp [hf]
  rw [e]
/-- (set >> i & 1) == 1 -/
theorem bl_cmp (x : Int64) {i : Nat} (hi : i < 64) : lg_cmp ((x >>> ((nI i).toInt64 &&& 63)) &&& 1) 1 = 0 ↔ lb_ x i = true := by
  rw [lg_cmp_eq, bl_one]
  have e : lb_ (x >>> ((nI i).toInt64 &&& 63)) 0 = lb_ x i := by
    unfold lb_
    rw [Int64.toBitVec_shiftRight]
    show (x.toBitVec.sshiftRight (((nI i).toInt64 &&& 63).toBitVec.smod 64).toNat).getLsbD 0 = _
    rw [sh_64 i hi, BitVec.getLsbD_sshiftRight]
    simp [hi]
  rw [e]
  cases lb_ x i <;> decide
/-- (1L << n) - 1 -/
theorem lb_all : ∀ n, n < 49 → ∀ k, k < n → lb_ (((1 : Int64) <<< ((nI n).toInt64 &&& 63)) - 1) k = true := by decide +kernel
/-- a clamp: low, high -/
def cl_ (lo hi : Nat) (x : Int32) : Nat := if x < nI lo then lo else if nI hi < x then hi else x.toNatClampNeg
theorem cl_lo {lo hi : Nat} {x : Int32} (h : x < nI lo) : cl_ lo hi x = lo := by unfold cl_; rw [if_pos h]
theorem cl_hi {lo hi : Nat} {x : Int32} (h1 : ¬ x < nI lo) (h2 : nI hi < x) : cl_ lo hi x = hi := by unfold cl_; rw [if_neg h1, if_pos h2]
theorem cl_nn {lo : Nat} {x : Int32} (hl : lo < 2 ^ 31) (h : ¬ x < nI lo) : ¬ x < 0 := by
  intro h0
  rw [Int32.lt_iff_toInt_lt] at h h0
  rw [nI_toInt hl] at h
  have : (0 : Int32).toInt = 0 := by decide
  omega
theorem cl_mid {lo hi : Nat} {x : Int32} (hl : lo < 2 ^ 31) (h1 : ¬ x < nI lo) (h2 : ¬ nI hi < x) : x = nI (cl_ lo hi x) := by
  unfold cl_
  rw [if_neg h1, if_neg h2]
  obtain ⟨j, hj, rfl⟩ := nI_of (cl_nn hl h1)
  rw [nI_clamp hj]
theorem cl_in {lo hi : Nat} (x : Int32) (hlh : lo ≤ hi) (hh : hi < 2 ^ 31) : lo ≤ cl_ lo hi x ∧ cl_ lo hi x ≤ hi := by
  by_cases h1 : x < nI lo
  · rw [cl_lo h1]
    omega
  · by_cases h2 : nI hi < x
    · rw [cl_hi h1 h2]
      omega
    · have e := cl_mid (by omega) h1 h2
      obtain ⟨j, hj, hx⟩ := nI_of (cl_nn (by omega) h1)
      have e2 : cl_ lo hi x = j := by
        unfold cl_
        rw [if_neg h1, if_neg h2, hx, nI_clamp hj]
      rw [e2]
      rw [hx] at h1 h2
      rw [nI_ltI hj (by omega)] at h1
      rw [nI_ltI hh hj] at h2
      omega
/-- booleans -/
theorem bo_nar {x : Int32} (h : x = 0 ∨ x = 1) : vp_nar .boolean x = x := by
  rcases h with rfl | rfl <;> rfl
theorem gb_eq {go : Nat → Int32} (h : ∀ k, go k = 0 ∨ go k = 1) (i j : Nat) : go i = go j ↔ gb_ go i = gb_ go j := by
  unfold gb_
  rcases h i with e | e <;> rcases h j with e2 | e2 <;> rw [e, e2] <;> decide
theorem fe_six : ∀ x, x < 64 → ∀ y, y < 64 → (∀ f, f < 6 → x.testBit f = y.testBit f) → x = y := by decide +kernel
theorem fe_bit (x f : Nat) (hf : f < 32) : (nI x).toBitVec.getLsbD f = x.testBit f := by
  show (BitVec.ofNat 32 x).getLsbD f = _
  rw [BitVec.getLsbD_ofNat, decide_eq_true hf, Bool.true_and]
theorem fe_eq {fe : Nat → Int32} (h : ∀ k, ∃ x, x < 64 ∧ fe k = nI x) (i j : Nat) : fe i = fe j ↔ ∀ f, f < 6 → ib_ fe j f = ib_ fe i f := by
  constructor
  · intro e f _
    unfold ib_
    rw [e]
  · intro hb
    obtain ⟨x, hx, ex⟩ := h i
    obtain ⟨y, hy, ey⟩ := h j
    have : x = y := fe_six x hx y hy (fun f hf => by
      have := hb f hf
      unfold ib_ at this
      rw [ex, ey, fe_bit x f (by omega), fe_bit y f (by omega)] at this
      exact this.symm)
    rw [ex, ey, this]
/-- what is dropped out of a row -/
def dr_ (f : Nat → Int32) (j m : Nat) : Nat → Int32 := fun i => if j ≤ i ∧ i < m then f (i + 1) else f i
theorem dr_0 (f : Nat → Int32) (j : Nat) : dr_ f j j = f := by
  funext i
  unfold dr_
  rw [if_neg (by omega)]
theorem dr_s (f : Nat → Int32) {j m : Nat} (h : j ≤ m) : upd (dr_ f j m) m (f (m + 1)) = dr_ f j (m + 1) := by
  funext i
  unfold upd dr_
  by_cases e : i = m
  · subst e
    rw [if_pos rfl, if_pos (by omega)]
  · rw [if_neg e]
    by_cases h2 : j ≤ i ∧ i < m
    · rw [if_pos h2, if_pos (by omega)]
    · rw [if_neg h2, if_neg (by omega)]
theorem dr_n (f : Nat → Int32) (j m : Nat) : dr_ f j m (m + 1) = f (m + 1) := by
  unfold dr_
  rw [if_neg (by omega)]
theorem dr_p {P : Int32 → Prop} {f : Nat → Int32} (h : ∀ k, P (f k)) (j m k : Nat) : P (dr_ f j m k) := by
  unfold dr_
  split
  · exact h _
  · exact h _
theorem up_p {P : Int32 → Prop} {f : Nat → Int32} (h : ∀ k, P (f k)) (m : Nat) {x : Int32} (hx : P x) (k : Nat) : P (upd f m x k) := by
  unfold upd
  split
  · exact hx
  · exact h _
theorem dg_lt : ∀ f, f < 6 → ∀ ans, ans < 729 → pu_dg ans f = 0 → ans + 2 * 3 ^ f < 729 := by decide +kernel
/-- the class's counts stand -/
def ct_ok (N : Nat) (fe go gl bl : Nat → Int32) : Prop := ∀ ans, ans < 729 → gl ans = nI (pu_ct (fun k => pu_L (ib_ fe) ans k && gb_ go k) N) ∧ bl ans = nI (pu_ct (fun k => pu_L (ib_ fe) ans k && !gb_ go k) N)
/-- the class's least sums stand, on the level d -/
def be_ok (N w q : Nat) (fe go be : Nat → Int32) (d : Nat) : Prop := ∀ ans, ans < 729 → be (729 * d + ans) = nI (pu_A N w q (ib_ fe) (gb_ go) d ans)
def po_ok (po : Nat → Int32) : Prop := ∀ f, f < 7 → po f = nI (3 ^ f)
end
section
/-! ROWS: the worlds of BestTree and BestTreeModel, their fields and arrays by Nat index, calls -/
abbrev vwCl : List vw_C := [(RX0, TX0, 9), (RX1, TX1, 5)]
/-- BestTree at a 0, its arrays at a 1 .. a 7 -/
def bw_ (a : Nat → Nat) (d : Nat → ClassId) (n cnt : Int32) (fe go gl bl : Nat → Int32) (sy : Nat → Int64) (be po : Nat → Int32) : va_W := [(a 0, .inr (0, [.int n, .ref (a 1), .ref (a 2), .int cnt, .ref (a 3), .ref (a 4), .ref (a 5), .ref (a 6), .ref (a 7)])), (a 1, .inl (d 1, 48, .inl fe)), (a 2, .inl (d 2, 48, .inl go)), (a 3, .inl (d 3, 729, .inl gl)), (a 4, .inl (d 4, 729, .inl bl)), (a 5, .inl (d 5, 6, .inr (.inl sy))), (a 6, .inl (d 6, 2916, .inl be)), (a 7, .inl (d 7, 7, .inl po))]
def bt_ (d : Nat → ClassId) : List (ClassId × FieldType) := [(d 1, .int), (d 2, .boolean), (d 3, .int), (d 4, .int), (d 5, .long), (d 6, .int), (d 7, .int)]
/-- BestTreeModel at a 0, its arrays at a 1, a 2 -/
def mw_ (a : Nat → Nat) (d : Nat → ClassId) (n : Int32) (fe go : Nat → Int32) (mi ak : Int32) : va_W := [(a 0, .inr (1, [.int n, .ref (a 1), .ref (a 2), .int mi, .int ak])), (a 1, .inl (d 1, 48, .inl fe)), (a 2, .inl (d 2, 48, .inl go))]
def mt_ (d : Nat → ClassId) : List (ClassId × FieldType) := [(d 1, .int), (d 2, .boolean)]
/-- k addresses, apart, in A -/
def ap_ (a : Nat → Nat) (k : Nat) (A : Nat → Prop) : Prop := (∀ i j, i < k → j < k → a i = a j → i = j) ∧ ∀ i, i < k → A (a i)
def ad_ (a : Nat → Nat) (k : Nat) : Nat → Prop := fun q => ∃ i, i < k ∧ q = a i
theorem ap_self {a : Nat → Nat} {k : Nat} {A : Nat → Prop} (h : ap_ a k A) : ap_ a k (ad_ a k) := ⟨h.1, fun i hi => ⟨i, hi, rfl⟩⟩
theorem ap_in {a : Nat → Nat} {k : Nat} {A : Nat → Prop} (h : ap_ a k A) : ∀ q, ad_ a k q → A q := fun q ⟨i, hi, e⟩ => by rw [e]; exact h.2 i hi
theorem ap_D {a : Nat → Nat} {k : Nat} {A : Nat → Prop} {ws : va_W} (h : ap_ a k A) (e : ws.map (fun q => q.1) = (List.range k).map a) : va_D A ws := by
  have key : ∀ (i : Nat) (q : Nat × va_E), ws[i]? = some q → i < k ∧ q.1 = a i := by
    intro i q hq
    have h1 : (ws.map (fun q => q.1))[i]? = some q.1 := by rw [List.getElem?_map, hq]; rfl
    rw [e, List.getElem?_map] at h1
    by_cases hi : i < k
    · rw [List.getElem?_range hi] at h1
      exact ⟨hi, (Option.some.inj h1).symm⟩
    · rw [List.getElem?_eq_none (by rw [List.length_range]; omega)] at h1
      cases h1
  exact ⟨fun i j x y hx hy hxy => h.1 i j (key i x hx).1 (key j y hy).1 (by rw [← (key i x hx).2, ← (key j y hy).2]; exact hxy), fun i q hq => by rw [(key i q hq).2]; exact h.2 i (key i q hq).1⟩
def BW (D : va_G) (A : Nat → Prop) (H0 : Heap) (a : Nat → Nat) (d : Nat → ClassId) (n cnt : Int32) (fe go gl bl : Nat → Int32) (sy : Nat → Int64) (be po : Nat → Int32) (H : Heap) (locs : List Loc) : Prop := va_P D vwCl (bw_ a d n cnt fe go gl bl sy be po) H ∧ va_S A H0 H locs
def MW (D : va_G) (A : Nat → Prop) (H0 : Heap) (a : Nat → Nat) (d : Nat → ClassId) (n : Int32) (fe go : Nat → Int32) (mi ak : Int32) (H : Heap) (locs : List Loc) : Prop := va_P D vwCl (mw_ a d n fe go mi ak) H ∧ va_S A H0 H locs
theorem bw_D {a : Nat → Nat} {A : Nat → Prop} (h : ap_ a 8 A) (d : Nat → ClassId) (n cnt : Int32) (fe go gl bl : Nat → Int32) (sy : Nat → Int64) (be po : Nat → Int32) : va_D A (bw_ a d n cnt fe go gl bl sy be po) := ap_D h rfl
theorem mw_D {a : Nat → Nat} {A : Nat → Prop} (h : ap_ a 3 A) (d : Nat → ClassId) (n : Int32) (fe go : Nat → Int32) (mi ak : Int32) : va_D A (mw_ a d n fe go mi ak) := ap_D h rfl
theorem bl_w {D : va_G} {cl : List vw_C} {tys : List (ClassId × FieldType)} {ws : va_W} {av : List Value} : FrameBlind (va_Pc av (fun U => va_P D cl ws U.heap ∧ va_K D cl tys U)) := fun a U g mk q => ⟨q.1, q.2.1, va_K.moved (u := U) (U := U.calling g mk a) (Vm.Alike.refl U.vm) q.2.2⟩
/-- a contract's opening -/
theorem me_of {l : Launch} {y : MethodName} {cc : ByteArray} {maxL : Nat} {ret : Option FieldType} {rm : Room} {av : List Value} {PB : State → Prop} {Qc : Array Value → State → Outcome → State → Prop} {mc ms : Nat} {free : Addr → Prop} (hy : plainName y.cls = true) (hn : (lg_sl av).length ≤ maxL)
    (body : ∀ (p : Program) (e : Env) (s : State) (m : MethodId) (below : List Frame) (meth : Method) (c : Code), CallFix p m c cc maxL s av.toArray lw_all y.cls → meth.sig.returnType = ret → meth.locks = false → meth.name = y.name → PB s → ∀ ls : Array Slot, lv_has ls maxL (lv_args 0 av) → W p l e rm s m av.toArray below meth c s.heap [] 0 0 (MQ below Qc av.toArray s mc ms free) (F0 m 0 ls [])) : Met l y (ws_ y cc maxL ret) rm (va_Pc av PB) Qc mc ms free := by
  refine Met.ofW (cc := cc) (maxL := maxL) (ret := ret) hy rfl ?_
  intro p e s m args below meth c s₁ B hml hv
  obtain ⟨rfl, hv⟩ := hv
  have hts := atoms_spec (ws := ws_ y cc maxL ret) B.pre
  rw [lg_entry_eq]
  exact body p e s m below meth c ⟨B.exec, B.bytes, hml, findClass_of_methodNamed B.named, fun w h => hts w (List.mem_cons_of_mem _ h)⟩ B.returns B.notSynchronized (name_of_methodNamed B.named B.method).1 hv _ (lv_entry av hn)
section RW
variable {p : Program} {l : Launch} {e : Env} {R : Room} {s : State} {m : MethodId} {args : Array Value} {below : List Frame} {meth : Method} {c : Code} {H : Heap} {locs : List Loc} {cells slots : Nat} {Q : State → Prop}
variable {cc : ByteArray} {nL pc : Nat} {ls : Array Slot} {rest : List Value} {own : String} {D : va_G} {A : Nat → Prop} {H0 : Heap} {a : Nat → Nat} {d : Nat → ClassId} {n cnt mi ak : Int32} {fe go gl bl : Nat → Int32} {sy : Nat → Int64} {be po : Nat → Int32}
theorem rw_i {x v : Int32} (h : x = v) (k : W p l e R s m args below meth c H locs cells slots Q (F0 m pc ls (.int v :: rest))) : W p l e R s m args below meth c H locs cells slots Q (F0 m pc ls (.int x :: rest)) := by subst h; exact k
theorem rw_l {x v : Int64} (h : x = v) (k : W p l e R s m args below meth c H locs cells slots Q (F0 m pc ls (.long v :: rest))) : W p l e R s m args below meth c H locs cells slots Q (F0 m pc ls (.long x :: rest)) := by subst h; exact k
theorem nb_ge (hx : p.tables.exec = Jvm.exec) (hb : c.code = cc) {off : Int} {tgt : Nat} (hdg : decode cc pc = .ok (.if_icmp .ge off, 3)) (ht : (pc : Int) + off = (tgt : Int)) (i j : Nat) (hi : i < 2 ^ 31) (hj : j < 2 ^ 31) (kt : j ≤ i → W p l e R s m args below meth c H locs cells slots Q (F0 m tgt ls rest)) (kf : i < j → W p l e R s m args below meth c H locs cells slots Q (F0 m (pc + 3) ls rest)) : W p l e R s m args below meth c H locs cells slots Q (F0 m pc ls (.int (nI j) :: .int (nI i) :: rest)) := lv_icmp_ge hx hb hdg ht (fun h => kt ((nI_leI hj hi).mp h)) (fun h => kf (Nat.not_le.mp fun q => h ((nI_leI hj hi).mpr q)))
theorem nb_lt (hx : p.tables.exec = Jvm.exec) (hb : c.code = cc) {off : Int} {tgt : Nat} (hdg : decode cc pc = .ok (.if_icmp .lt off, 3)) (ht : (pc : Int) + off = (tgt : Int)) (i j : Nat) (hi : i < 2 ^ 31) (hj : j < 2 ^ 31) (kt : i < j → W p l e R s m args below meth c H locs cells slots Q (F0 m tgt ls rest)) (kf : j ≤ i → W p l e R s m args below meth c H locs cells slots Q (F0 m (pc + 3) ls rest)) : W p l e R s m args below meth c H locs cells slots Q (F0 m pc ls (.int (nI j) :: .int (nI i) :: rest)) := lv_icmp_lt hx hb hdg ht (fun h => kt ((nI_ltI hi hj).mp h)) (fun h => kf (Nat.not_lt.mp fun q => h ((nI_ltI hi hj).mpr q)))
theorem nb_gt (hx : p.tables.exec = Jvm.exec) (hb : c.code = cc) {off : Int} {tgt : Nat} (hdg : decode cc pc = .ok (.if_icmp .gt off, 3)) (ht : (pc : Int) + off = (tgt : Int)) (i j : Nat) (hi : i < 2 ^ 31) (hj : j < 2 ^ 31) (kt : j < i → W p l e R s m args below meth c H locs cells slots Q (F0 m tgt ls rest)) (kf : i ≤ j → W p l e R s m args below meth c H locs cells slots Q (F0 m (pc + 3) ls rest)) : W p l e R s m args below meth c H locs cells slots Q (F0 m pc ls (.int (nI j) :: .int (nI i) :: rest)) := lv_icmp_gt hx hb hdg ht (fun h => kt ((nI_ltI hj hi).mp h)) (fun h => kf (Nat.not_lt.mp fun q => h ((nI_ltI hj hi).mpr q)))
theorem nb_ne (hx : p.tables.exec = Jvm.exec) (hb : c.code = cc) {off : Int} {tgt : Nat} (hdg : decode cc pc = .ok (.if_icmp .ne off, 3)) (ht : (pc : Int) + off = (tgt : Int)) (i j : Nat) (hi : i < 2 ^ 31) (hj : j < 2 ^ 31) (kt : i ≠ j → W p l e R s m args below meth c H locs cells slots Q (F0 m tgt ls rest)) (kf : i = j → W p l e R s m args below meth c H locs cells slots Q (F0 m (pc + 3) ls rest)) : W p l e R s m args below meth c H locs cells slots Q (F0 m pc ls (.int (nI j) :: .int (nI i) :: rest)) := lv_icmp_ne hx hb hdg ht (fun h => kt (fun q => h (by rw [q]))) (fun h => kf ((nI_eq hi hj).mp h))
theorem nb_ne0 (hx : p.tables.exec = Jvm.exec) (hb : c.code = cc) {off : Int} {tgt : Nat} (hdg : decode cc pc = .ok (.ifCond .ne off, 3)) (ht : (pc : Int) + off = (tgt : Int)) (i : Nat) (hi : i < 2 ^ 31) (kt : i ≠ 0 → W p l e R s m args below meth c H locs cells slots Q (F0 m tgt ls rest)) (kf : i = 0 → W p l e R s m args below meth c H locs cells slots Q (F0 m (pc + 3) ls rest)) : W p l e R s m args below meth c H locs cells slots Q (F0 m pc ls (.int (nI i) :: rest)) := lv_if_ne hx hb hdg ht (fun h => kt (fun q => h (by rw [q]; exact nI_0))) (fun h => kf ((nI_eq hi (by decide)).mp (h.trans nI_0.symm)))
theorem nb_eq0 (hx : p.tables.exec = Jvm.exec) (hb : c.code = cc) {off : Int} {tgt : Nat} (hdg : decode cc pc = .ok (.ifCond .eq off, 3)) (ht : (pc : Int) + off = (tgt : Int)) (i : Nat) (hi : i < 2 ^ 31) (kt : i = 0 → W p l e R s m args below meth c H locs cells slots Q (F0 m tgt ls rest)) (kf : i ≠ 0 → W p l e R s m args below meth c H locs cells slots Q (F0 m (pc + 3) ls rest)) : W p l e R s m args below meth c H locs cells slots Q (F0 m pc ls (.int (nI i) :: rest)) := lv_if_eq hx hb hdg ht (fun h => kt ((nI_eq hi (by decide)).mp (h.trans nI_0.symm))) (fun h => kf (fun q => h (by rw [q]; exact nI_0)))
theorem nb_le0 (hx : p.tables.exec = Jvm.exec) (hb : c.code = cc) {off : Int} {tgt : Nat} (hdg : decode cc pc = .ok (.ifCond .le off, 3)) (ht : (pc : Int) + off = (tgt : Int)) (i : Nat) (hi : i < 2 ^ 31) (kt : i = 0 → W p l e R s m args below meth c H locs cells slots Q (F0 m tgt ls rest)) (kf : 0 < i → W p l e R s m args below meth c H locs cells slots Q (F0 m (pc + 3) ls rest)) : W p l e R s m args below meth c H locs cells slots Q (F0 m pc ls (.int (nI i) :: rest)) := lv_if_le hx hb hdg ht (fun h => kt (by rw [← nI_0, nI_leI hi (by decide)] at h; omega)) (fun h => kf (by rw [← nI_0, nI_leI hi (by decide)] at h; omega))
/-- getfield samples -/
theorem bg_0 (S : CallFix p m c cc nL s args lw_all RX0) (hK : va_K D vwCl (bt_ d) s) (hP : va_P D vwCl (bw_ a d n cnt fe go gl bl sy be po) H) (hdg : decode cc pc = .ok (.getfield 33, 3)) (kk : W p l e R s m args below meth c H locs cells slots Q (F0 m (pc + 3) ls (.int n :: rest))) : W p l e R s m args below meth c H locs cells slots Q (F0 m pc ls (.ref (a 0) :: rest)) :=
  va_get (D := D) (ci := 0) (v := .int n) (C := RX0) (T := TX0) (N := 9) S.1 S.2.1 S.2.2.2.2 in_X0 S.2.2.2.1 hK hP 0 rfl rfl 0 (by decide) (S.2.2.2.2 _ q24) (fun _ h9 => h9) rfl hdg kk
/-- getfield features -/
theorem bg_1 (S : CallFix p m c cc nL s args lw_all RX0) (hK : va_K D vwCl (bt_ d) s) (hP : va_P D vwCl (bw_ a d n cnt fe go gl bl sy be po) H) (hdg : decode cc pc = .ok (.getfield 7, 3)) (kk : W p l e R s m args below meth c H locs cells slots Q (F0 m (pc + 3) ls (.ref (a 1) :: rest))) : W p l e R s m args below meth c H locs cells slots Q (F0 m pc ls (.ref (a 0) :: rest)) :=
  va_get (D := D) (ci := 0) (v := .ref (a 1)) (C := RX0) (T := TX0) (N := 9) S.1 S.2.1 S.2.2.2.2 in_X0 S.2.2.2.1 hK hP 0 rfl rfl 1 (by decide) (S.2.2.2.2 _ q25) (fun _ h9 => h9) rfl hdg kk
/-- getfield good -/
theorem bg_2 (S : CallFix p m c cc nL s args lw_all RX0) (hK : va_K D vwCl (bt_ d) s) (hP : va_P D vwCl (bw_ a d n cnt fe go gl bl sy be po) H) (hdg : decode cc pc = .ok (.getfield 13, 3)) (kk : W p l e R s m args below meth c H locs cells slots Q (F0 m (pc + 3) ls (.ref (a 2) :: rest))) : W p l e R s m args below meth c H locs cells slots Q (F0 m pc ls (.ref (a 0) :: rest)) :=
  va_get (D := D) (ci := 0) (v := .ref (a 2)) (C := RX0) (T := TX0) (N := 9) S.1 S.2.1 S.2.2.2.2 in_X0 S.2.2.2.1 hK hP 0 rfl rfl 2 (by decide) (S.2.2.2.2 _ q26) (fun _ h9 => h9) rfl hdg kk
/-- getfield counted -/
theorem bg_3 (S : CallFix p m c cc nL s args lw_all RX0) (hK : va_K D vwCl (bt_ d) s) (hP : va_P D vwCl (bw_ a d n cnt fe go gl bl sy be po) H) (hdg : decode cc pc = .ok (.getfield 37, 3)) (kk : W p l e R s m args below meth c H locs cells slots Q (F0 m (pc + 3) ls (.int cnt :: rest))) : W p l e R s m args below meth c H locs cells slots Q (F0 m pc ls (.ref (a 0) :: rest)) :=
  va_get (D := D) (ci := 0) (v := .int cnt) (C := RX0) (T := TX0) (N := 9) S.1 S.2.1 S.2.2.2.2 in_X0 S.2.2.2.1 hK hP 0 rfl rfl 3 (by decide) (S.2.2.2.2 _ q27) (fun _ h9 => h9) rfl hdg kk
/-- getfield goodLeft -/
theorem bg_4 (S : CallFix p m c cc nL s args lw_all RX0) (hK : va_K D vwCl (bt_ d) s) (hP : va_P D vwCl (bw_ a d n cnt fe go gl bl sy be po) H) (hdg : decode cc pc = .ok (.getfield 17, 3)) (kk : W p l e R s m args below meth c H locs cells slots Q (F0 m (pc + 3) ls (.ref (a 3) :: rest))) : W p l e R s m args below meth c H locs cells slots Q (F0 m pc ls (.ref (a 0) :: rest)) :=
  va_get (D := D) (ci := 0) (v := .ref (a 3)) (C := RX0) (T := TX0) (N := 9) S.1 S.2.1 S.2.2.2.2 in_X0 S.2.2.2.1 hK hP 0 rfl rfl 4 (by decide) (S.2.2.2.2 _ q28) (fun _ h9 => h9) rfl hdg kk
/-- getfield badLeft -/
theorem bg_5 (S : CallFix p m c cc nL s args lw_all RX0) (hK : va_K D vwCl (bt_ d) s) (hP : va_P D vwCl (bw_ a d n cnt fe go gl bl sy be po) H) (hdg : decode cc pc = .ok (.getfield 20, 3)) (kk : W p l e R s m args below meth c H locs cells slots Q (F0 m (pc + 3) ls (.ref (a 4) :: rest))) : W p l e R s m args below meth c H locs cells slots Q (F0 m pc ls (.ref (a 0) :: rest)) :=
  va_get (D := D) (ci := 0) (v := .ref (a 4)) (C := RX0) (T := TX0) (N := 9) S.1 S.2.1 S.2.2.2.2 in_X0 S.2.2.2.1 hK hP 0 rfl rfl 5 (by decide) (S.2.2.2.2 _ q29) (fun _ h9 => h9) rfl hdg kk
/-- getfield saysYes -/
theorem bg_6 (S : CallFix p m c cc nL s args lw_all RX0) (hK : va_K D vwCl (bt_ d) s) (hP : va_P D vwCl (bw_ a d n cnt fe go gl bl sy be po) H) (hdg : decode cc pc = .ok (.getfield 23, 3)) (kk : W p l e R s m args below meth c H locs cells slots Q (F0 m (pc + 3) ls (.ref (a 5) :: rest))) : W p l e R s m args below meth c H locs cells slots Q (F0 m pc ls (.ref (a 0) :: rest)) :=
  va_get (D := D) (ci := 0) (v := .ref (a 5)) (C := RX0) (T := TX0) (N := 9) S.1 S.2.1 S.2.2.2.2 in_X0 S.2.2.2.1 hK hP 0 rfl rfl 6 (by decide) (S.2.2.2.2 _ q30) (fun _ h9 => h9) rfl hdg kk
/-- getfield best -/
theorem bg_7 (S : CallFix p m c cc nL s args lw_all RX0) (hK : va_K D vwCl (bt_ d) s) (hP : va_P D vwCl (bw_ a d n cnt fe go gl bl sy be po) H) (hdg : decode cc pc = .ok (.getfield 27, 3)) (kk : W p l e R s m args below meth c H locs cells slots Q (F0 m (pc + 3) ls (.ref (a 6) :: rest))) : W p l e R s m args below meth c H locs cells slots Q (F0 m pc ls (.ref (a 0) :: rest)) :=
  va_get (D := D) (ci := 0) (v := .ref (a 6)) (C := RX0) (T := TX0) (N := 9) S.1 S.2.1 S.2.2.2.2 in_X0 S.2.2.2.1 hK hP 0 rfl rfl 7 (by decide) (S.2.2.2.2 _ q31) (fun _ h9 => h9) rfl hdg kk
/-- getfield power -/
theorem bg_8 (S : CallFix p m c cc nL s args lw_all RX0) (hK : va_K D vwCl (bt_ d) s) (hP : va_P D vwCl (bw_ a d n cnt fe go gl bl sy be po) H) (hdg : decode cc pc = .ok (.getfield 30, 3)) (kk : W p l e R s m args below meth c H locs cells slots Q (F0 m (pc + 3) ls (.ref (a 7) :: rest))) : W p l e R s m args below meth c H locs cells slots Q (F0 m pc ls (.ref (a 0) :: rest)) :=
  va_get (D := D) (ci := 0) (v := .ref (a 7)) (C := RX0) (T := TX0) (N := 9) S.1 S.2.1 S.2.2.2.2 in_X0 S.2.2.2.1 hK hP 0 rfl rfl 8 (by decide) (S.2.2.2.2 _ q32) (fun _ h9 => h9) rfl hdg kk
/-- getfield held -/
theorem mg_0 (S : CallFix p m c cc nL s args lw_all RX1) (hK : va_K D vwCl (mt_ d) s) (hP : va_P D vwCl (mw_ a d n fe go mi ak) H) (hdg : decode cc pc = .ok (.getfield 17, 3)) (kk : W p l e R s m args below meth c H locs cells slots Q (F0 m (pc + 3) ls (.int n :: rest))) : W p l e R s m args below meth c H locs cells slots Q (F0 m pc ls (.ref (a 0) :: rest)) :=
  va_get (D := D) (ci := 1) (v := .int n) (C := RX1) (T := TX1) (N := 5) S.1 S.2.1 S.2.2.2.2 in_X1 S.2.2.2.1 hK hP 0 rfl rfl 0 (by decide) (S.2.2.2.2 _ q113) (fun _ h9 => h9) rfl hdg kk
/-- getfield features -/
theorem mg_1 (S : CallFix p m c cc nL s args lw_all RX1) (hK : va_K D vwCl (mt_ d) s) (hP : va_P D vwCl (mw_ a d n fe go mi ak) H) (hdg : decode cc pc = .ok (.getfield 7, 3)) (kk : W p l e R s m args below meth c H locs cells slots Q (F0 m (pc + 3) ls (.ref (a 1) :: rest))) : W p l e R s m args below meth c H locs cells slots Q (F0 m pc ls (.ref (a 0) :: rest)) :=
  va_get (D := D) (ci := 1) (v := .ref (a 1)) (C := RX1) (T := TX1) (N := 5) S.1 S.2.1 S.2.2.2.2 in_X1 S.2.2.2.1 hK hP 0 rfl rfl 1 (by decide) (S.2.2.2.2 _ q114) (fun _ h9 => h9) rfl hdg kk
/-- getfield goods -/
theorem mg_2 (S : CallFix p m c cc nL s args lw_all RX1) (hK : va_K D vwCl (mt_ d) s) (hP : va_P D vwCl (mw_ a d n fe go mi ak) H) (hdg : decode cc pc = .ok (.getfield 13, 3)) (kk : W p l e R s m args below meth c H locs cells slots Q (F0 m (pc + 3) ls (.ref (a 2) :: rest))) : W p l e R s m args below meth c H locs cells slots Q (F0 m pc ls (.ref (a 0) :: rest)) :=
  va_get (D := D) (ci := 1) (v := .ref (a 2)) (C := RX1) (T := TX1) (N := 5) S.1 S.2.1 S.2.2.2.2 in_X1 S.2.2.2.1 hK hP 0 rfl rfl 2 (by decide) (S.2.2.2.2 _ q115) (fun _ h9 => h9) rfl hdg kk
/-- getfield mistake -/
theorem mg_3 (S : CallFix p m c cc nL s args lw_all RX1) (hK : va_K D vwCl (mt_ d) s) (hP : va_P D vwCl (mw_ a d n fe go mi ak) H) (hdg : decode cc pc = .ok (.getfield 21, 3)) (kk : W p l e R s m args below meth c H locs cells slots Q (F0 m (pc + 3) ls (.int mi :: rest))) : W p l e R s m args below meth c H locs cells slots Q (F0 m pc ls (.ref (a 0) :: rest)) :=
  va_get (D := D) (ci := 1) (v := .int mi) (C := RX1) (T := TX1) (N := 5) S.1 S.2.1 S.2.2.2.2 in_X1 S.2.2.2.1 hK hP 0 rfl rfl 3 (by decide) (S.2.2.2.2 _ q116) (fun _ h9 => h9) rfl hdg kk
/-- getfield asking -/
theorem mg_4 (S : CallFix p m c cc nL s args lw_all RX1) (hK : va_K D vwCl (mt_ d) s) (hP : va_P D vwCl (mw_ a d n fe go mi ak) H) (hdg : decode cc pc = .ok (.getfield 32, 3)) (kk : W p l e R s m args below meth c H locs cells slots Q (F0 m (pc + 3) ls (.int ak :: rest))) : W p l e R s m args below meth c H locs cells slots Q (F0 m pc ls (.ref (a 0) :: rest)) :=
  va_get (D := D) (ci := 1) (v := .int ak) (C := RX1) (T := TX1) (N := 5) S.1 S.2.1 S.2.2.2.2 in_X1 S.2.2.2.1 hK hP 0 rfl rfl 4 (by decide) (S.2.2.2.2 _ q117) (fun _ h9 => h9) rfl hdg kk
theorem bp_0 (S : CallFix p m c cc nL s args lw_all RX0) (hK : va_K D vwCl (bt_ d) s) (ha : ap_ a 8 A) (hW : BW D A H0 a d n cnt fe go gl bl sy be po H locs) {x : Int32} (hdg : decode cc pc = .ok (.putfield 33, 3)) (kk : ∀ (H1 : Heap) (locs1 : List Loc), BW D A H0 a d x cnt fe go gl bl sy be po H1 locs1 → W p l e R s m args below meth c H1 locs1 cells slots Q (F0 m (pc + 3) ls rest)) : W p l e R s m args below meth c H locs cells slots Q (F0 m pc ls (.int x :: .ref (a 0) :: rest)) := by
  refine va_put (D := D) (ci := 0) (v := .int x) (ty := .int) (C := RX0) (T := TX0) (N := 9) S.1 S.2.1 S.2.2.2.2 in_X0 tyX0 tyX0_ok nmX0 S.2.2.2.1 hK hW.1 (bw_D ha d n cnt fe go gl bl sy be po) hW.2 0 rfl rfl 0 (by decide) (S.2.2.2.2 _ q24) (fun _ h9 => h9) rfl (by decide +kernel) rfl rfl (Nat.le_of_ble_eq_true rfl) hdg (fun H1 locs1 hP hD hS => ?_)
  exact kk H1 locs1 ⟨hP, hS⟩
theorem bp_3 (S : CallFix p m c cc nL s args lw_all RX0) (hK : va_K D vwCl (bt_ d) s) (ha : ap_ a 8 A) (hW : BW D A H0 a d n cnt fe go gl bl sy be po H locs) {x : Int32} (hnx : narrow .boolean (.int x) = .int x) (hfx : fits .boolean (.int x) = true) (hdg : decode cc pc = .ok (.putfield 37, 3)) (kk : ∀ (H1 : Heap) (locs1 : List Loc), BW D A H0 a d n x fe go gl bl sy be po H1 locs1 → W p l e R s m args below meth c H1 locs1 cells slots Q (F0 m (pc + 3) ls rest)) : W p l e R s m args below meth c H locs cells slots Q (F0 m pc ls (.int x :: .ref (a 0) :: rest)) := by
  refine va_put (D := D) (ci := 0) (v := .int x) (ty := .boolean) (C := RX0) (T := TX0) (N := 9) S.1 S.2.1 S.2.2.2.2 in_X0 tyX0 tyX0_ok nmX0 S.2.2.2.1 hK hW.1 (bw_D ha d n cnt fe go gl bl sy be po) hW.2 0 rfl rfl 3 (by decide) (S.2.2.2.2 _ q27) (fun _ h9 => h9) rfl (by decide +kernel) hnx hfx (Nat.le_of_ble_eq_true rfl) hdg (fun H1 locs1 hP hD hS => ?_)
  exact kk H1 locs1 ⟨hP, hS⟩
theorem mp_0 (S : CallFix p m c cc nL s args lw_all RX1) (hK : va_K D vwCl (mt_ d) s) (ha : ap_ a 3 A) (hW : MW D A H0 a d n fe go mi ak H locs) {x : Int32} (hdg : decode cc pc = .ok (.putfield 17, 3)) (kk : ∀ (H1 : Heap) (locs1 : List Loc), MW D A H0 a d x fe go mi ak H1 locs1 → W p l e R s m args below meth c H1 locs1 cells slots Q (F0 m (pc + 3) ls rest)) : W p l e R s m args below meth c H locs cells slots Q (F0 m pc ls (.int x :: .ref (a 0) :: rest)) := by
  refine va_put (D := D) (ci := 1) (v := .int x) (ty := .int) (C := RX1) (T := TX1) (N := 5) S.1 S.2.1 S.2.2.2.2 in_X1 tyX1 tyX1_ok nmX1 S.2.2.2.1 hK hW.1 (mw_D ha d n fe go mi ak) hW.2 0 rfl rfl 0 (by decide) (S.2.2.2.2 _ q113) (fun _ h9 => h9) rfl (by decide +kernel) rfl rfl (Nat.le_of_ble_eq_true rfl) hdg (fun H1 locs1 hP hD hS => ?_)
  exact kk H1 locs1 ⟨hP, hS⟩
theorem mp_3 (S : CallFix p m c cc nL s args lw_all RX1) (hK : va_K D vwCl (mt_ d) s) (ha : ap_ a 3 A) (hW : MW D A H0 a d n fe go mi ak H locs) {x : Int32} (hdg : decode cc pc = .ok (.putfield 21, 3)) (kk : ∀ (H1 : Heap) (locs1 : List Loc), MW D A H0 a d n fe go x ak H1 locs1 → W p l e R s m args below meth c H1 locs1 cells slots Q (F0 m (pc + 3) ls rest)) : W p l e R s m args below meth c H locs cells slots Q (F0 m pc ls (.int x :: .ref (a 0) :: rest)) := by
  refine va_put (D := D) (ci := 1) (v := .int x) (ty := .int) (C := RX1) (T := TX1) (N := 5) S.1 S.2.1 S.2.2.2.2 in_X1 tyX1 tyX1_ok nmX1 S.2.2.2.1 hK hW.1 (mw_D ha d n fe go mi ak) hW.2 0 rfl rfl 3 (by decide) (S.2.2.2.2 _ q116) (fun _ h9 => h9) rfl (by decide +kernel) rfl rfl (Nat.le_of_ble_eq_true rfl) hdg (fun H1 locs1 hP hD hS => ?_)
  exact kk H1 locs1 ⟨hP, hS⟩
theorem mp_4 (S : CallFix p m c cc nL s args lw_all RX1) (hK : va_K D vwCl (mt_ d) s) (ha : ap_ a 3 A) (hW : MW D A H0 a d n fe go mi ak H locs) {x : Int32} (hdg : decode cc pc = .ok (.putfield 32, 3)) (kk : ∀ (H1 : Heap) (locs1 : List Loc), MW D A H0 a d n fe go mi x H1 locs1 → W p l e R s m args below meth c H1 locs1 cells slots Q (F0 m (pc + 3) ls rest)) : W p l e R s m args below meth c H locs cells slots Q (F0 m pc ls (.int x :: .ref (a 0) :: rest)) := by
  refine va_put (D := D) (ci := 1) (v := .int x) (ty := .int) (C := RX1) (T := TX1) (N := 5) S.1 S.2.1 S.2.2.2.2 in_X1 tyX1 tyX1_ok nmX1 S.2.2.2.1 hK hW.1 (mw_D ha d n fe go mi ak) hW.2 0 rfl rfl 4 (by decide) (S.2.2.2.2 _ q117) (fun _ h9 => h9) rfl (by decide +kernel) rfl rfl (Nat.le_of_ble_eq_true rfl) hdg (fun H1 locs1 hP hD hS => ?_)
  exact kk H1 locs1 ⟨hP, hS⟩
theorem bl_1 (S : CallFix p m c cc nL s args lw_all own) (hK : va_K D vwCl (bt_ d) s) (hP : va_P D vwCl (bw_ a d n cnt fe go gl bl sy be po) H) (i : Nat) (hi : i < 48) (hdg : decode cc pc = .ok (.iaload, 1)) (kk : W p l e R s m args below meth c H locs cells slots Q (F0 m (pc + 1) ls (.int (fe i) :: rest))) : W p l e R s m args below meth c H locs cells slots Q (F0 m pc ls (.int (nI i) :: .ref (a 1) :: rest)) := by
  refine va_iald S.1 S.2.1 hK hP 1 0 rfl rfl (vp_in_nI hi (by decide)) hdg ?_
  rw [nI_clamp (Nat.lt_trans hi (by decide))]
  exact kk
theorem bs_1 (S : CallFix p m c cc nL s args lw_all own) (hK : va_K D vwCl (bt_ d) s) (ha : ap_ a 8 A) (hW : BW D A H0 a d n cnt fe go gl bl sy be po H locs) (i : Nat) (hi : i < 48) {x : Int32} (hdg : decode cc pc = .ok (.iastore, 1)) (kk : ∀ (H1 : Heap) (locs1 : List Loc), BW D A H0 a d n cnt (upd fe i x) go gl bl sy be po H1 locs1 → W p l e R s m args below meth c H1 locs1 cells slots Q (F0 m (pc + 1) ls rest)) : W p l e R s m args below meth c H locs cells slots Q (F0 m pc ls (.int x :: .int (nI i) :: .ref (a 1) :: rest)) := by
  refine va_iast S.1 S.2.1 hK hW.1 (bw_D ha d n cnt fe go gl bl sy be po) hW.2 1 0 rfl rfl (vp_in_nI hi (by decide)) hdg (fun H1 locs1 hP hD hS => ?_)
  rw [nI_clamp (Nat.lt_trans hi (by decide))] at hP
  exact kk H1 locs1 ⟨hP, hS⟩
theorem bl_2 (S : CallFix p m c cc nL s args lw_all own) (hK : va_K D vwCl (bt_ d) s) (hP : va_P D vwCl (bw_ a d n cnt fe go gl bl sy be po) H) (i : Nat) (hi : i < 48) (hdg : decode cc pc = .ok (.baload, 1)) (kk : W p l e R s m args below meth c H locs cells slots Q (F0 m (pc + 1) ls (.int (go i) :: rest))) : W p l e R s m args below meth c H locs cells slots Q (F0 m pc ls (.int (nI i) :: .ref (a 2) :: rest)) := by
  refine va_zald S.1 S.2.1 hK hP 2 1 rfl rfl (vp_in_nI hi (by decide)) hdg ?_
  rw [nI_clamp (Nat.lt_trans hi (by decide))]
  exact kk
theorem bs_2 (S : CallFix p m c cc nL s args lw_all own) (hK : va_K D vwCl (bt_ d) s) (ha : ap_ a 8 A) (hW : BW D A H0 a d n cnt fe go gl bl sy be po H locs) (i : Nat) (hi : i < 48) {x : Int32} (hz : x = 0 ∨ x = 1) (hdg : decode cc pc = .ok (.bastore, 1)) (kk : ∀ (H1 : Heap) (locs1 : List Loc), BW D A H0 a d n cnt fe (upd go i x) gl bl sy be po H1 locs1 → W p l e R s m args below meth c H1 locs1 cells slots Q (F0 m (pc + 1) ls rest)) : W p l e R s m args below meth c H locs cells slots Q (F0 m pc ls (.int x :: .int (nI i) :: .ref (a 2) :: rest)) := by
  refine va_zast S.1 S.2.1 hK hW.1 (bw_D ha d n cnt fe go gl bl sy be po) hW.2 2 1 rfl rfl (vp_in_nI hi (by decide)) hdg (fun H1 locs1 hP hD hS => ?_)
  rw [nI_clamp (Nat.lt_trans hi (by decide)), bo_nar hz] at hP
  exact kk H1 locs1 ⟨hP, hS⟩
theorem bl_3 (S : CallFix p m c cc nL s args lw_all own) (hK : va_K D vwCl (bt_ d) s) (hP : va_P D vwCl (bw_ a d n cnt fe go gl bl sy be po) H) (i : Nat) (hi : i < 729) (hdg : decode cc pc = .ok (.iaload, 1)) (kk : W p l e R s m args below meth c H locs cells slots Q (F0 m (pc + 1) ls (.int (gl i) :: rest))) : W p l e R s m args below meth c H locs cells slots Q (F0 m pc ls (.int (nI i) :: .ref (a 3) :: rest)) := by
  refine va_iald S.1 S.2.1 hK hP 3 2 rfl rfl (vp_in_nI hi (by decide)) hdg ?_
  rw [nI_clamp (Nat.lt_trans hi (by decide))]
  exact kk
theorem bs_3 (S : CallFix p m c cc nL s args lw_all own) (hK : va_K D vwCl (bt_ d) s) (ha : ap_ a 8 A) (hW : BW D A H0 a d n cnt fe go gl bl sy be po H locs) (i : Nat) (hi : i < 729) {x : Int32} (hdg : decode cc pc = .ok (.iastore, 1)) (kk : ∀ (H1 : Heap) (locs1 : List Loc), BW D A H0 a d n cnt fe go (upd gl i x) bl sy be po H1 locs1 → W p l e R s m args below meth c H1 locs1 cells slots Q (F0 m (pc + 1) ls rest)) : W p l e R s m args below meth c H locs cells slots Q (F0 m pc ls (.int x :: .int (nI i) :: .ref (a 3) :: rest)) := by
  refine va_iast S.1 S.2.1 hK hW.1 (bw_D ha d n cnt fe go gl bl sy be po) hW.2 3 2 rfl rfl (vp_in_nI hi (by decide)) hdg (fun H1 locs1 hP hD hS => ?_)
  rw [nI_clamp (Nat.lt_trans hi (by decide))] at hP
  exact kk H1 locs1 ⟨hP, hS⟩
theorem bl_4 (S : CallFix p m c cc nL s args lw_all own) (hK : va_K D vwCl (bt_ d) s) (hP : va_P D vwCl (bw_ a d n cnt fe go gl bl sy be po) H) (i : Nat) (hi : i < 729) (hdg : decode cc pc = .ok (.iaload, 1)) (kk : W p l e R s m args below meth c H locs cells slots Q (F0 m (pc + 1) ls (.int (bl i) :: rest))) : W p l e R s m args below meth c H locs cells slots Q (F0 m pc ls (.int (nI i) :: .ref (a 4) :: rest)) := by
  refine va_iald S.1 S.2.1 hK hP 4 3 rfl rfl (vp_in_nI hi (by decide)) hdg ?_
  rw [nI_clamp (Nat.lt_trans hi (by decide))]
  exact kk
theorem bs_4 (S : CallFix p m c cc nL s args lw_all own) (hK : va_K D vwCl (bt_ d) s) (ha : ap_ a 8 A) (hW : BW D A H0 a d n cnt fe go gl bl sy be po H locs) (i : Nat) (hi : i < 729) {x : Int32} (hdg : decode cc pc = .ok (.iastore, 1)) (kk : ∀ (H1 : Heap) (locs1 : List Loc), BW D A H0 a d n cnt fe go gl (upd bl i x) sy be po H1 locs1 → W p l e R s m args below meth c H1 locs1 cells slots Q (F0 m (pc + 1) ls rest)) : W p l e R s m args below meth c H locs cells slots Q (F0 m pc ls (.int x :: .int (nI i) :: .ref (a 4) :: rest)) := by
  refine va_iast S.1 S.2.1 hK hW.1 (bw_D ha d n cnt fe go gl bl sy be po) hW.2 4 3 rfl rfl (vp_in_nI hi (by decide)) hdg (fun H1 locs1 hP hD hS => ?_)
  rw [nI_clamp (Nat.lt_trans hi (by decide))] at hP
  exact kk H1 locs1 ⟨hP, hS⟩
theorem bl_5 (S : CallFix p m c cc nL s args lw_all own) (hK : va_K D vwCl (bt_ d) s) (hP : va_P D vwCl (bw_ a d n cnt fe go gl bl sy be po) H) (i : Nat) (hi : i < 6) (hdg : decode cc pc = .ok (.laload, 1)) (kk : W p l e R s m args below meth c H locs cells slots Q (F0 m (pc + 1) ls (.long (sy i) :: rest))) : W p l e R s m args below meth c H locs cells slots Q (F0 m pc ls (.int (nI i) :: .ref (a 5) :: rest)) := by
  refine va_lald S.1 S.2.1 hK hP 5 4 rfl rfl (vp_in_nI hi (by decide)) hdg ?_
  rw [nI_clamp (Nat.lt_trans hi (by decide))]
  exact kk
theorem bs_5 (S : CallFix p m c cc nL s args lw_all own) (hK : va_K D vwCl (bt_ d) s) (ha : ap_ a 8 A) (hW : BW D A H0 a d n cnt fe go gl bl sy be po H locs) (i : Nat) (hi : i < 6) {x : Int64} (hdg : decode cc pc = .ok (.lastore, 1)) (kk : ∀ (H1 : Heap) (locs1 : List Loc), BW D A H0 a d n cnt fe go gl bl (vp_updL sy i x) be po H1 locs1 → W p l e R s m args below meth c H1 locs1 cells slots Q (F0 m (pc + 1) ls rest)) : W p l e R s m args below meth c H locs cells slots Q (F0 m pc ls (.long x :: .int (nI i) :: .ref (a 5) :: rest)) := by
  refine va_last S.1 S.2.1 hK hW.1 (bw_D ha d n cnt fe go gl bl sy be po) hW.2 5 4 rfl rfl (vp_in_nI hi (by decide)) hdg (fun H1 locs1 hP hD hS => ?_)
  rw [nI_clamp (Nat.lt_trans hi (by decide))] at hP
  exact kk H1 locs1 ⟨hP, hS⟩
theorem bl_6 (S : CallFix p m c cc nL s args lw_all own) (hK : va_K D vwCl (bt_ d) s) (hP : va_P D vwCl (bw_ a d n cnt fe go gl bl sy be po) H) (i : Nat) (hi : i < 2916) (hdg : decode cc pc = .ok (.iaload, 1)) (kk : W p l e R s m args below meth c H locs cells slots Q (F0 m (pc + 1) ls (.int (be i) :: rest))) : W p l e R s m args below meth c H locs cells slots Q (F0 m pc ls (.int (nI i) :: .ref (a 6) :: rest)) := by
  refine va_iald S.1 S.2.1 hK hP 6 5 rfl rfl (vp_in_nI hi (by decide)) hdg ?_
  rw [nI_clamp (Nat.lt_trans hi (by decide))]
  exact kk
theorem bs_6 (S : CallFix p m c cc nL s args lw_all own) (hK : va_K D vwCl (bt_ d) s) (ha : ap_ a 8 A) (hW : BW D A H0 a d n cnt fe go gl bl sy be po H locs) (i : Nat) (hi : i < 2916) {x : Int32} (hdg : decode cc pc = .ok (.iastore, 1)) (kk : ∀ (H1 : Heap) (locs1 : List Loc), BW D A H0 a d n cnt fe go gl bl sy (upd be i x) po H1 locs1 → W p l e R s m args below meth c H1 locs1 cells slots Q (F0 m (pc + 1) ls rest)) : W p l e R s m args below meth c H locs cells slots Q (F0 m pc ls (.int x :: .int (nI i) :: .ref (a 6) :: rest)) := by
  refine va_iast S.1 S.2.1 hK hW.1 (bw_D ha d n cnt fe go gl bl sy be po) hW.2 6 5 rfl rfl (vp_in_nI hi (by decide)) hdg (fun H1 locs1 hP hD hS => ?_)
  rw [nI_clamp (Nat.lt_trans hi (by decide))] at hP
  exact kk H1 locs1 ⟨hP, hS⟩
theorem bl_7 (S : CallFix p m c cc nL s args lw_all own) (hK : va_K D vwCl (bt_ d) s) (hP : va_P D vwCl (bw_ a d n cnt fe go gl bl sy be po) H) (i : Nat) (hi : i < 7) (hdg : decode cc pc = .ok (.iaload, 1)) (kk : W p l e R s m args below meth c H locs cells slots Q (F0 m (pc + 1) ls (.int (po i) :: rest))) : W p l e R s m args below meth c H locs cells slots Q (F0 m pc ls (.int (nI i) :: .ref (a 7) :: rest)) := by
  refine va_iald S.1 S.2.1 hK hP 7 6 rfl rfl (vp_in_nI hi (by decide)) hdg ?_
  rw [nI_clamp (Nat.lt_trans hi (by decide))]
  exact kk
theorem bs_7 (S : CallFix p m c cc nL s args lw_all own) (hK : va_K D vwCl (bt_ d) s) (ha : ap_ a 8 A) (hW : BW D A H0 a d n cnt fe go gl bl sy be po H locs) (i : Nat) (hi : i < 7) {x : Int32} (hdg : decode cc pc = .ok (.iastore, 1)) (kk : ∀ (H1 : Heap) (locs1 : List Loc), BW D A H0 a d n cnt fe go gl bl sy be (upd po i x) H1 locs1 → W p l e R s m args below meth c H1 locs1 cells slots Q (F0 m (pc + 1) ls rest)) : W p l e R s m args below meth c H locs cells slots Q (F0 m pc ls (.int x :: .int (nI i) :: .ref (a 7) :: rest)) := by
  refine va_iast S.1 S.2.1 hK hW.1 (bw_D ha d n cnt fe go gl bl sy be po) hW.2 7 6 rfl rfl (vp_in_nI hi (by decide)) hdg (fun H1 locs1 hP hD hS => ?_)
  rw [nI_clamp (Nat.lt_trans hi (by decide))] at hP
  exact kk H1 locs1 ⟨hP, hS⟩
theorem ml_1 (S : CallFix p m c cc nL s args lw_all own) (hK : va_K D vwCl (mt_ d) s) (hP : va_P D vwCl (mw_ a d n fe go mi ak) H) (i : Nat) (hi : i < 48) (hdg : decode cc pc = .ok (.iaload, 1)) (kk : W p l e R s m args below meth c H locs cells slots Q (F0 m (pc + 1) ls (.int (fe i) :: rest))) : W p l e R s m args below meth c H locs cells slots Q (F0 m pc ls (.int (nI i) :: .ref (a 1) :: rest)) := by
  refine va_iald S.1 S.2.1 hK hP 1 0 rfl rfl (vp_in_nI hi (by decide)) hdg ?_
  rw [nI_clamp (Nat.lt_trans hi (by decide))]
  exact kk
theorem ms_1 (S : CallFix p m c cc nL s args lw_all own) (hK : va_K D vwCl (mt_ d) s) (ha : ap_ a 3 A) (hW : MW D A H0 a d n fe go mi ak H locs) (i : Nat) (hi : i < 48) {x : Int32} (hdg : decode cc pc = .ok (.iastore, 1)) (kk : ∀ (H1 : Heap) (locs1 : List Loc), MW D A H0 a d n (upd fe i x) go mi ak H1 locs1 → W p l e R s m args below meth c H1 locs1 cells slots Q (F0 m (pc + 1) ls rest)) : W p l e R s m args below meth c H locs cells slots Q (F0 m pc ls (.int x :: .int (nI i) :: .ref (a 1) :: rest)) := by
  refine va_iast S.1 S.2.1 hK hW.1 (mw_D ha d n fe go mi ak) hW.2 1 0 rfl rfl (vp_in_nI hi (by decide)) hdg (fun H1 locs1 hP hD hS => ?_)
  rw [nI_clamp (Nat.lt_trans hi (by decide))] at hP
  exact kk H1 locs1 ⟨hP, hS⟩
theorem ml_2 (S : CallFix p m c cc nL s args lw_all own) (hK : va_K D vwCl (mt_ d) s) (hP : va_P D vwCl (mw_ a d n fe go mi ak) H) (i : Nat) (hi : i < 48) (hdg : decode cc pc = .ok (.baload, 1)) (kk : W p l e R s m args below meth c H locs cells slots Q (F0 m (pc + 1) ls (.int (go i) :: rest))) : W p l e R s m args below meth c H locs cells slots Q (F0 m pc ls (.int (nI i) :: .ref (a 2) :: rest)) := by
  refine va_zald S.1 S.2.1 hK hP 2 1 rfl rfl (vp_in_nI hi (by decide)) hdg ?_
  rw [nI_clamp (Nat.lt_trans hi (by decide))]
  exact kk
theorem ms_2 (S : CallFix p m c cc nL s args lw_all own) (hK : va_K D vwCl (mt_ d) s) (ha : ap_ a 3 A) (hW : MW D A H0 a d n fe go mi ak H locs) (i : Nat) (hi : i < 48) {x : Int32} (hz : x = 0 ∨ x = 1) (hdg : decode cc pc = .ok (.bastore, 1)) (kk : ∀ (H1 : Heap) (locs1 : List Loc), MW D A H0 a d n fe (upd go i x) mi ak H1 locs1 → W p l e R s m args below meth c H1 locs1 cells slots Q (F0 m (pc + 1) ls rest)) : W p l e R s m args below meth c H locs cells slots Q (F0 m pc ls (.int x :: .int (nI i) :: .ref (a 2) :: rest)) := by
  refine va_zast S.1 S.2.1 hK hW.1 (mw_D ha d n fe go mi ak) hW.2 2 1 rfl rfl (vp_in_nI hi (by decide)) hdg (fun H1 locs1 hP hD hS => ?_)
  rw [nI_clamp (Nat.lt_trans hi (by decide)), bo_nar hz] at hP
  exact kk H1 locs1 ⟨hP, hS⟩
/-- a call that reads alone -/
theorem cv_i {y : MethodName} {bytes : ByteArray} {maxL nn index : Nat} {ret : Option FieldType} {rm : Room} {ws : va_W} {tys : List (ClassId × FieldType)} {b ci : Nat} {As st0 fs : List Value} {C : String} {T : u_T} {N : Nat} {post : Int32 → Prop} (S : CallFix p m c cc nL s args lw_all own) (hM : Met l y (ws_ y bytes maxL ret) rm (va_Pc (.ref b :: As) (fun U => va_P D vwCl ws U.heap ∧ va_K D vwCl tys U)) (va_Qi (fun r (_ : Unit) => post r) (fun _ _ => True) (fun _ => False)) 0 0 (fun _ => False)) (cw : CallW R s args own C index y bytes maxL ret (ws_ y bytes maxL ret) rm 0 0 nn) (hK : va_K D vwCl tys s) (hP : va_P D vwCl ws H) (hS : va_S A H0 H locs) (he : ws[0]? = some (b, .inr (ci, fs))) (hc : vwCl[ci]? = some (C, T, N)) (hn : As.length = nn) (hst : st0 = As.reverse ++ .ref b :: rest) (hsz : ls.size = nL) (hrest : (rest.map fun v => v.category).sum ≤ 8) (hdg : decode cc pc = .ok (.invokevirtual index, 3)) (hf : cells ≤ R.cells ∧ slots ≤ R.slots) (kk : ∀ (r : Int32) (H1 : Heap) (locs1 : List Loc), post r → va_P D vwCl ws H1 → (∀ q, q < H.size → H1[q]? = H[q]?) → va_S A H0 H1 locs1 → W p l e R s m args below meth c H1 locs1 cells slots Q (F0 m (pc + 3) ls (.int r :: rest))) : W p l e R s m args below meth c H locs cells slots Q (F0 m pc ls st0) := by
  subst hst
  refine va_calli (va_runV (As := As) (rest := rest) S hM cw ⟨bl_w, va_recv hK hP hc he, fun U hU hW => ⟨rfl, by rw [hU]; exact hP, va_K.moved hW.alike hK⟩⟩ rfl hn hsz rfl (lv_room hrest) hdg hf) hS (fun _ _ h => h.elim) (fun _ h => h.elim) (fun r u t H1 locs1 ht hvm hp hB hz hk hS => ?_)
  exact kk r H1 locs1 hp (hP.kept (fun k q hq => hk q.1 ((hP k q hq).lt) (fun h => h))) (fun q hq => hk q hq (fun h => h)) hS
/-- a call that reads alone -/
theorem cv_l {y : MethodName} {bytes : ByteArray} {maxL nn index : Nat} {ret : Option FieldType} {rm : Room} {ws : va_W} {tys : List (ClassId × FieldType)} {b ci : Nat} {As st0 fs : List Value} {C : String} {T : u_T} {N : Nat} {post : Int64 → Prop} (S : CallFix p m c cc nL s args lw_all own) (hM : Met l y (ws_ y bytes maxL ret) rm (va_Pc (.ref b :: As) (fun U => va_P D vwCl ws U.heap ∧ va_K D vwCl tys U)) (va_Ql (fun r (_ : Unit) => post r) (fun _ _ => True) (fun _ => False)) 0 0 (fun _ => False)) (cw : CallW R s args own C index y bytes maxL ret (ws_ y bytes maxL ret) rm 0 0 nn) (hK : va_K D vwCl tys s) (hP : va_P D vwCl ws H) (hS : va_S A H0 H locs) (he : ws[0]? = some (b, .inr (ci, fs))) (hc : vwCl[ci]? = some (C, T, N)) (hn : As.length = nn) (hst : st0 = As.reverse ++ .ref b :: rest) (hsz : ls.size = nL) (hrest : (rest.map fun v => v.category).sum ≤ 8) (hdg : decode cc pc = .ok (.invokevirtual index, 3)) (hf : cells ≤ R.cells ∧ slots ≤ R.slots) (kk : ∀ (r : Int64) (H1 : Heap) (locs1 : List Loc), post r → va_P D vwCl ws H1 → (∀ q, q < H.size → H1[q]? = H[q]?) → va_S A H0 H1 locs1 → W p l e R s m args below meth c H1 locs1 cells slots Q (F0 m (pc + 3) ls (.long r :: rest))) : W p l e R s m args below meth c H locs cells slots Q (F0 m pc ls st0) := by
  subst hst
  refine va_calll (va_runV (As := As) (rest := rest) S hM cw ⟨bl_w, va_recv hK hP hc he, fun U hU hW => ⟨rfl, by rw [hU]; exact hP, va_K.moved hW.alike hK⟩⟩ rfl hn hsz rfl (lv_room hrest) hdg hf) hS (fun _ _ h => h.elim) (fun _ h => h.elim) (fun r u t H1 locs1 ht hvm hp hB hz hk hS => ?_)
  exact kk r H1 locs1 hp (hP.kept (fun k q hq => hk q.1 ((hP k q hq).lt) (fun h => h))) (fun q hq => hk q hq (fun h => h)) hS
/-- a call that writes; the world behind it is wf u -/
theorem cv_v {y : MethodName} {bytes : ByteArray} {maxL nn index : Nat} {ret : Option FieldType} {rm : Room} {ws : va_W} {tys : List (ClassId × FieldType)} {b ci : Nat} {As st0 fs : List Value} {C : String} {T : u_T} {N : Nat} {X : Type} {wf : X → va_W} {post : X → Prop} {A1 : Nat → Prop} (S : CallFix p m c cc nL s args lw_all own) (hM : Met l y (ws_ y bytes maxL ret) rm (va_Pc (.ref b :: As) (fun U => va_P D vwCl ws U.heap ∧ va_K D vwCl tys U)) (va_Qv post (fun (u : X) t => va_P D vwCl (wf u) t.heap) A1) 0 0 A1) (cw : CallW R s args own C index y bytes maxL ret (ws_ y bytes maxL ret) rm 0 0 nn) (hK : va_K D vwCl tys s) (hP : va_P D vwCl ws H) (hS : va_S A H0 H locs) (he : ws[0]? = some (b, .inr (ci, fs))) (hc : vwCl[ci]? = some (C, T, N)) (hn : As.length = nn) (hst : st0 = As.reverse ++ .ref b :: rest) (hsz : ls.size = nL) (hrest : (rest.map fun v => v.category).sum ≤ 8) (hdg : decode cc pc = .ok (.invokevirtual index, 3)) (hf : cells ≤ R.cells ∧ slots ≤ R.slots) (hA : ∀ q, A1 q → A q) (kk : ∀ (u : X) (H1 : Heap) (locs1 : List Loc), post u → va_P D vwCl (wf u) H1 → (∀ q, q < H.size → ¬ A1 q → H1[q]? = H[q]?) → va_S A H0 H1 locs1 → W p l e R s m args below meth c H1 locs1 cells slots Q (F0 m (pc + 3) ls rest)) : W p l e R s m args below meth c H locs cells slots Q (F0 m pc ls st0) := by
  subst hst
  refine va_callv (va_runV (As := As) (rest := rest) S hM cw ⟨bl_w, va_recv hK hP hc he, fun U hU hW => ⟨rfl, by rw [hU]; exact hP, va_K.moved hW.alike hK⟩⟩ rfl hn hsz rfl (lv_room hrest) hdg hf) hS (fun q _ h => hA q h) hA (fun u t H1 locs1 ht hvm hp hB hz hk hS => ?_)
  exact kk u H1 locs1 hp (by rw [← ht]; exact hB) hk hS
theorem cv_w {y : MethodName} {bytes : ByteArray} {maxL nn index : Nat} {ret : Option FieldType} {rm : Room} {ws : va_W} {tys : List (ClassId × FieldType)} {b ci : Nat} {As st0 fs : List Value} {C : String} {T : u_T} {N : Nat} {X : Type} {wf : X → va_W} {post : Int32 → X → Prop} {A1 : Nat → Prop} (S : CallFix p m c cc nL s args lw_all own) (hM : Met l y (ws_ y bytes maxL ret) rm (va_Pc (.ref b :: As) (fun U => va_P D vwCl ws U.heap ∧ va_K D vwCl tys U)) (va_Qi post (fun (u : X) t => va_P D vwCl (wf u) t.heap) A1) 0 0 A1) (cw : CallW R s args own C index y bytes maxL ret (ws_ y bytes maxL ret) rm 0 0 nn) (hK : va_K D vwCl tys s) (hP : va_P D vwCl ws H) (hS : va_S A H0 H locs) (he : ws[0]? = some (b, .inr (ci, fs))) (hc : vwCl[ci]? = some (C, T, N)) (hn : As.length = nn) (hst : st0 = As.reverse ++ .ref b :: rest) (hsz : ls.size = nL) (hrest : (rest.map fun v => v.category).sum ≤ 8) (hdg : decode cc pc = .ok (.invokevirtual index, 3)) (hf : cells ≤ R.cells ∧ slots ≤ R.slots) (hA : ∀ q, A1 q → A q) (kk : ∀ (r : Int32) (u : X) (H1 : Heap) (locs1 : List Loc), post r u → va_P D vwCl (wf u) H1 → (∀ q, q < H.size → ¬ A1 q → H1[q]? = H[q]?) → va_S A H0 H1 locs1 → W p l e R s m args below meth c H1 locs1 cells slots Q (F0 m (pc + 3) ls (.int r :: rest))) : W p l e R s m args below meth c H locs cells slots Q (F0 m pc ls st0) := by
  subst hst
  refine va_calli (va_runV (As := As) (rest := rest) S hM cw ⟨bl_w, va_recv hK hP hc he, fun U hU hW => ⟨rfl, by rw [hU]; exact hP, va_K.moved hW.alike hK⟩⟩ rfl hn hsz rfl (lv_room hrest) hdg hf) hS (fun q _ h => hA q h) hA (fun r u t H1 locs1 ht hvm hp hB hz hk hS => ?_)
  exact kk r u H1 locs1 hp (by rw [← ht]; exact hB) hk hS
/-- a static call that reads nothing -/
theorem cs_i {y : MethodName} {bytes : ByteArray} {maxL nn index : Nat} {ret : Option FieldType} {rm : Room} {As st0 : List Value} {ws : va_W} {post : Int32 → Prop} (S : CallFix p m c cc nL s args lw_all own) (hM : Met l y (ws_ y bytes maxL ret) rm (va_Pc As (fun _ => True)) (va_Qi (fun r (_ : Unit) => post r) (fun _ _ => True) (fun _ => False)) 0 0 (fun _ => False)) (cw : CallB R s args own index y bytes maxL ret (ws_ y bytes maxL ret) rm 0 0 nn ∧ (Cond.static y).before args s = true) (hP : va_P D vwCl ws H) (hS : va_S A H0 H locs) (hn : As.length = nn) (hst : st0 = As.reverse ++ rest) (hsz : ls.size = nL) (hrest : (rest.map fun v => v.category).sum ≤ 8) (hdg : decode cc pc = .ok (.invokestatic index, 3)) (hf : cells ≤ R.cells ∧ slots ≤ R.slots) (kk : ∀ (r : Int32) (H1 : Heap) (locs1 : List Loc), post r → va_P D vwCl ws H1 → (∀ q, q < H.size → H1[q]? = H[q]?) → va_S A H0 H1 locs1 → W p l e R s m args below meth c H1 locs1 cells slots Q (F0 m (pc + 3) ls (.int r :: rest))) : W p l e R s m args below meth c H locs cells slots Q (F0 m pc ls st0) := by
  subst hst
  refine va_calli (va_runS (As := As) (rest := rest) S hM cw ⟨fun a U g mk q => ⟨q.1, trivial⟩, fun U hU hW => ⟨rfl, trivial⟩⟩ rfl hn hsz rfl (lv_room hrest) hdg hf) hS (fun _ _ h => h.elim) (fun _ h => h.elim) (fun r u t H1 locs1 ht hvm hp hB hz hk hS => ?_)
  exact kk r H1 locs1 hp (hP.kept (fun k q hq => hk q.1 ((hP k q hq).lt) (fun h => h))) (fun q hq => hk q hq (fun h => h)) hS
theorem to_ht {cl : List vw_C} {ws : va_W} {t : State} (ht : t.heap = H) (h : va_P D cl ws H) : va_P D cl ws t.heap := by rw [ht]; exact h
end RW
end
section
/-! BestTree: ones, divided, leastAt -/
section B1
variable {p : Program} {l : Launch} {e : Env} {R : Room} {s : State} {m : MethodId} {args : Array Value} {below : List Frame} {meth : Method} {c : Code} {H : Heap} {locs : List Loc} {Q : State → Prop}
variable {cc : ByteArray} {nL pc : Nat} {ls : Array Slot} {rest : List Value} {D : va_G} {A : Nat → Prop} {H0 : Heap} {a : Nat → Nat} {d : Nat → ClassId} {n cnt mi ak : Int32} {fe go gl bl : Nat → Int32} {sy : Nat → Int64} {be po : Nat → Int32}
set_option maxHeartbeats 4000000 in
set_option maxRecDepth 100000 in
theorem ones_lp (S : CallFix p m c cX0_ones 4 s args lw_all RX0) (w : Int64) (K : ∀ ls : Array Slot, lv_has ls 4 [(2, .int (nI (pu_ct (lb_ w) 48)))] → W p l e R s m args below meth c H locs 0 0 Q (F0 m 25 ls [])) : ∀ (k i : Nat), i ≤ 48 → 48 < i + k → ∀ ls : Array Slot, lv_has ls 4 [(0, .long w), (2, .int (nI (pu_ct (lb_ w) i))), (3, .int (nI i))] → W p l e R s m args below meth c H locs 0 0 Q (F0 m 4 ls []) := by
  have hx := S.1
  have hb := S.2.1
  intro k
  induction k with
  | zero =>
    intro i h1 h2
    exact absurd h2 (by omega)
  | succ k ih =>
    intro i h1 h2 ls hl
    refine lv_iload_n hx hb dX0_ones_4 rfl (lv_at hl 2 rfl) ?_
    refine lv_bipush (v := nI 48) hx hb dX0_ones_5 (by decide) ?_
    refine nb_ge (tgt := 25) hx hb dX0_ones_7 (by decide) i 48 (by omega) (by omega) (fun h => ?_) (fun h => ?_)
    · obtain rfl : i = 48 := by omega
      exact K ls (lv_sub hl [1] rfl)
    · refine lv_iload_n hx hb dX0_ones_10 rfl (lv_at hl 1 rfl) ?_
      refine lv_lload_n hx hb dX0_ones_11 rfl (lv_at hl 0 rfl) ?_
      refine lv_iload_n hx hb dX0_ones_12 rfl (lv_at hl 2 rfl) ?_
      refine lv_lushr (v := ((w).toUInt64 >>> ((nI i).toInt64.toUInt64 &&& Int64.toUInt64 63)).toInt64) hx hb dX0_ones_13 rfl ?_
      refine lv_l2i (v := (((w).toUInt64 >>> ((nI i).toInt64.toUInt64 &&& Int64.toUInt64 63)).toInt64).toInt32) hx hb dX0_ones_14 rfl ?_
      refine lv_iconst (v := nI 1) hx hb dX0_ones_15 (by decide) ?_
      refine lv_iand hx hb dX0_ones_16 ?_
      refine rw_i (v := nI (if lb_ w i then 1 else 0)) (bi_word w (by omega)) ?_
      refine lv_iadd hx hb dX0_ones_17 ?_
      refine rw_i (v := nI ((pu_ct (lb_ w) i) + (if lb_ w i then 1 else 0))) (nI_add (pu_ct (lb_ w) i) (if lb_ w i then 1 else 0)) ?_
      refine rw_i (v := nI (pu_ct (lb_ w) (i + 1))) (congrArg nI (pu_ct_s (lb_ w) i).symm) ?_
      refine lv_istore_n (lv' := [(2, .int (nI (pu_ct (lb_ w) (i + 1)))), (0, .long w), (3, .int (nI i))]) hx hb dX0_ones_18 rfl hl (by decide) rfl (fun ls hl => ?_)
      refine lv_iinc (v := nI (i + 1)) (lv' := [(3, .int (nI (i + 1))), (2, .int (nI (pu_ct (lb_ w) (i + 1)))), (0, .long w)]) hx hb dX0_ones_19 hl (k := 2) rfl (nI_1 i) (by decide) rfl (fun ls hl => ?_)
      refine lv_goto (tgt := 4) hx hb dX0_ones_22 (by decide) ?_
      exact ih (i + 1) (by omega) (by omega) ls (lv_sub hl [2, 1, 0] rfl)
set_option maxHeartbeats 4000000 in
set_option maxRecDepth 100000 in
theorem met_ones (l : Launch) (w : Int64) : Met l yX0_ones (ws_ yX0_ones cX0_ones 4 (some .int)) { frames := 0, cells := 0, slots := 0, locals := 0 } (va_Pc [.long w] (fun _ => True)) (va_Qi (fun r (_ : Unit) => r = nI (pu_ct (lb_ w) 48)) (fun _ _ => True) (fun _ => False)) 0 0 (fun _ => False) := by
  refine me_of (by decide) (Nat.le_of_ble_eq_true rfl) (fun p e s m below meth c S hr hlk hnm hv ls hl => ?_)
  have S : CallFix p m c cX0_ones 4 s _ lw_all RX0 := S
  have hx := S.1
  have hb := S.2.1
  have hl : lv_has ls 4 [(0, .long w)] := hl
  have hS0 : va_S (fun _ => False) s.heap s.heap [] := va_S.rf
  refine lv_iconst (v := nI 0) hx hb dX0_ones_0 (by decide) ?_
  refine lv_istore_n (lv' := [(2, .int (nI 0)), (0, .long w)]) hx hb dX0_ones_1 rfl hl (by decide) rfl (fun ls hl => ?_)
  refine lv_iconst (v := nI 0) hx hb dX0_ones_2 (by decide) ?_
  refine lv_istore_n (lv' := [(3, .int (nI 0)), (2, .int (nI 0)), (0, .long w)]) hx hb dX0_ones_3 rfl hl (by decide) rfl (fun ls hl => ?_)
  refine ones_lp S w (fun ls hl => ?_) 49 0 (by omega) (by omega) ls (lv_sub hl [2, 1, 0] rfl)
  refine lv_iload_n hx hb dX0_ones_25 rfl (lv_at hl 0 rfl) ?_
  exact W.iret hx hb hr (fun t ht hW => ⟨⟨_, (), rfl, rfl, trivial⟩, hS0.F ht⟩) hS0.2.2 dX0_ones_26
theorem cl_ones {ws : va_W} (S : CallFix p m c cc nL s args lw_all RX0) (hR : 1 ≤ R.frames ∧ 23 ≤ R.locals) (hP : va_P D vwCl ws H) (hS : va_S A H0 H locs) (w : Int64) (hsz : ls.size = nL) (hrest : (rest.map fun v => v.category).sum ≤ 8) (hdg : decode cc pc = .ok (.invokestatic 54, 3)) (kk : ∀ (H : Heap) (locs : List Loc), va_P D vwCl ws H → va_S A H0 H locs → W p l e R s m args below meth c H locs 0 0 Q (F0 m (pc + 3) ls (.int (nI (pu_ct (lb_ w) 48)) :: rest))) : W p l e R s m args below meth c H locs 0 0 Q (F0 m pc ls (.long w :: rest)) :=
  cs_i (As := [.long w]) (rest := rest) S (met_ones l w) (va_cwS 1 S.2.2.2.2 (lw_S q76 q77 q14 q78) rfl rfl rfl (by decide +kernel) ⟨hR.1, hR.2⟩) hP hS rfl rfl hsz hrest hdg ⟨Nat.zero_le _, Nat.zero_le _⟩ (fun r H1 locs1 hp hP hk hS => by rw [hp]; exact kk H1 locs1 hP hS)
set_option maxHeartbeats 4000000 in
set_option maxRecDepth 100000 in
theorem met_divided (l : Launch) (D : va_G) (a : Nat → Nat) (d : Nat → ClassId) (n cnt : Int32) (fe go gl bl : Nat → Int32) (sy : Nat → Int64) (be po : Nat → Int32) (dd ans f t : Nat) (h1 : 1 ≤ dd) (hf : f < 7) (hpt : po f = nI t) (hb2 : 729 * (dd - 1) + ans + 2 * t < 2916) : Met l yX0_divided (ws_ yX0_divided cX0_divided 5 (some .int)) { frames := 0, cells := 0, slots := 0, locals := 0 } (va_Pc [.ref (a 0), .int (nI dd), .int (nI ans), .int (nI f)] (fun U => va_P D vwCl (bw_ a d n cnt fe go gl bl sy be po) U.heap ∧ va_K D vwCl (bt_ d) U)) (va_Qi (fun r (_ : Unit) => r = be (729 * (dd - 1) + (ans + t)) + be (729 * (dd - 1) + (ans + 2 * t))) (fun _ _ => True) (fun _ => False)) 0 0 (fun _ => False) := by
  refine me_of (by decide) (Nat.le_of_ble_eq_true rfl) (fun p e s m below meth c S hr hlk hnm hv ls hl => ?_)
  have S : CallFix p m c cX0_divided 5 s _ lw_all RX0 := S
  have hx := S.1
  have hb := S.2.1
  have hl : lv_has ls 5 [(0, .ref (a 0)), (1, .int (nI dd)), (2, .int (nI ans)), (3, .int (nI f))] := hl
  have hK := hv.2
  have hW : BW D (fun _ => False) s.heap a d n cnt fe go gl bl sy be po s.heap [] := ⟨hv.1, va_S.rf⟩
  refine lv_sipush (v := nI 729) hx hb dX0_divided_0 (by decide) ?_
  refine lv_iload_n hx hb dX0_divided_3 rfl (lv_at hl 1 rfl) ?_
  refine lv_iconst (v := nI 1) hx hb dX0_divided_4 (by decide) ?_
  refine lv_isub hx hb dX0_divided_5 ?_
  refine rw_i (v := nI (dd - 1)) (pk_sub (by omega)) ?_
  refine lv_imul hx hb dX0_divided_6 ?_
  refine rw_i (v := nI (729 * (dd - 1))) (pk_mul 729 (dd - 1)) ?_
  refine lv_iload_n hx hb dX0_divided_7 rfl (lv_at hl 2 rfl) ?_
  refine lv_iadd hx hb dX0_divided_8 ?_
  refine rw_i (v := nI ((729 * (dd - 1)) + ans)) (nI_add (729 * (dd - 1)) ans) ?_
  refine lv_istore (lv' := [(4, .int (nI ((729 * (dd - 1)) + ans))), (0, .ref (a 0)), (1, .int (nI dd)), (2, .int (nI ans)), (3, .int (nI f))]) hx hb dX0_divided_9 hl (by decide) rfl (fun ls hl => ?_)
  refine lv_aload_n hx hb dX0_divided_11 rfl (lv_at hl 1 rfl) ?_
  refine bg_7 S hK hW.1 dX0_divided_12 ?_
  refine lv_iload hx hb dX0_divided_15 (lv_at hl 0 rfl) ?_
  refine lv_aload_n hx hb dX0_divided_17 rfl (lv_at hl 1 rfl) ?_
  refine bg_8 S hK hW.1 dX0_divided_18 ?_
  refine lv_iload_n hx hb dX0_divided_21 rfl (lv_at hl 4 rfl) ?_
  refine bl_7 S hK hW.1 f (by omega) dX0_divided_22 ?_
  refine rw_i (v := nI t) (hpt) ?_
  refine lv_iadd hx hb dX0_divided_23 ?_
  refine rw_i (v := nI (((729 * (dd - 1)) + ans) + t)) (nI_add ((729 * (dd - 1)) + ans) t) ?_
  refine bl_6 S hK hW.1 (((729 * (dd - 1)) + ans) + t) (by omega) dX0_divided_24 ?_
  refine lv_aload_n hx hb dX0_divided_25 rfl (lv_at hl 1 rfl) ?_
  refine bg_7 S hK hW.1 dX0_divided_26 ?_
  refine lv_iload hx hb dX0_divided_29 (lv_at hl 0 rfl) ?_
  refine lv_iconst (v := nI 2) hx hb dX0_divided_31 (by decide) ?_
  refine lv_aload_n hx hb dX0_divided_32 rfl (lv_at hl 1 rfl) ?_
  refine bg_8 S hK hW.1 dX0_divided_33 ?_
  refine lv_iload_n hx hb dX0_divided_36 rfl (lv_at hl 4 rfl) ?_
  refine bl_7 S hK hW.1 f (by omega) dX0_divided_37 ?_
  refine rw_i (v := nI t) (hpt) ?_
  refine lv_imul hx hb dX0_divided_38 ?_
  refine rw_i (v := nI (2 * t)) (pk_mul 2 t) ?_
  refine lv_iadd hx hb dX0_divided_39 ?_
  refine rw_i (v := nI (((729 * (dd - 1)) + ans) + (2 * t))) (nI_add ((729 * (dd - 1)) + ans) (2 * t)) ?_
  refine bl_6 S hK hW.1 (((729 * (dd - 1)) + ans) + (2 * t)) (by omega) dX0_divided_40 ?_
  refine lv_iadd hx hb dX0_divided_41 ?_
  exact W.iret hx hb hr (fun t ht hW2 => ⟨⟨_, (), rfl, by rw [Nat.add_assoc, Nat.add_assoc], trivial⟩, hW.2.F ht⟩) hW.2.2.2 dX0_divided_42
theorem cl_divided (S : CallFix p m c cc nL s args lw_all RX0) (hR : 1 ≤ R.frames ∧ 24 ≤ R.locals) (hK : va_K D vwCl (bt_ d) s) (hW : BW D A H0 a d n cnt fe go gl bl sy be po H locs) (dd ans f t : Nat) (h1 : 1 ≤ dd) (hf : f < 7) (hpt : po f = nI t) (hb2 : 729 * (dd - 1) + ans + 2 * t < 2916) (hsz : ls.size = nL) (hrest : (rest.map fun v => v.category).sum ≤ 8) (hdg : decode cc pc = .ok (.invokevirtual 45, 3)) (kk : ∀ (H : Heap) (locs : List Loc), BW D A H0 a d n cnt fe go gl bl sy be po H locs → W p l e R s m args below meth c H locs 0 0 Q (F0 m (pc + 3) ls (.int (be (729 * (dd - 1) + (ans + t)) + be (729 * (dd - 1) + (ans + 2 * t))) :: rest))) : W p l e R s m args below meth c H locs 0 0 Q (F0 m pc ls (.int (nI f) :: .int (nI ans) :: .int (nI dd) :: .ref (a 0) :: rest)) :=
  cv_i (As := [.int (nI dd), .int (nI ans), .int (nI f)]) (rest := rest) S (met_divided l D a d n cnt fe go gl bl sy be po dd ans f t h1 hf hpt hb2) (cwV 3 S.2.2.2.2 (lw_V q83 q85 qs3 q14 q86) rfl rfl rfl (by decide +kernel) ⟨hR.1, hR.2⟩) hK hW.1 hW.2 rfl rfl rfl rfl hsz hrest hdg ⟨Nat.zero_le _, Nat.zero_le _⟩ (fun r H1 locs1 hp hP hk hS => by rw [hp]; exact kk H1 locs1 ⟨hP, hS⟩)
/-- the least over the first f questions -/
def la_ (N w q : Nat) (fe go : Nat → Int32) (dd ans f : Nat) : Nat := pu_cf (fun f => pu_dg ans f == 0) (fun f => pu_Di N w q (ib_ fe) (gb_ go) dd ans f + q) (pu_A N w q (ib_ fe) (gb_ go) 0 ans) f
theorem la_6 (N w q : Nat) (fe go : Nat → Int32) (dd ans : Nat) : la_ N w q fe go dd ans 6 = pu_A N w q (ib_ fe) (gb_ go) (dd + 1) ans := rfl
theorem la_le (N w q : Nat) (fe go : Nat → Int32) (dd ans f : Nat) : la_ N w q fe go dd ans f ≤ w * N := Nat.le_trans (pu_cf_le _ _ _ _) (pu_A_le _ _ _ _ _ _ _)
theorem la_no {N w q : Nat} {fe go : Nat → Int32} {dd ans f : Nat} (h : pu_dg ans f ≠ 0) : la_ N w q fe go dd ans (f + 1) = la_ N w q fe go dd ans f := by
  unfold la_
  rw [pu_cf_s, if_neg (by simpa using h)]
theorem la_yes {N w q : Nat} {fe go : Nat → Int32} {dd ans f : Nat} (h : pu_dg ans f = 0) : la_ N w q fe go dd ans (f + 1) = if pu_Di N w q (ib_ fe) (gb_ go) dd ans f + q < la_ N w q fe go dd ans f then pu_Di N w q (ib_ fe) (gb_ go) dd ans f + q else la_ N w q fe go dd ans f := by
  unfold la_
  rw [pu_cf_s, if_pos (by simpa using h)]
set_option maxHeartbeats 4000000 in
set_option maxRecDepth 100000 in
theorem leastAt_lp (S : CallFix p m c cX0_leastAt 7 s args lw_all RX0) (hR : 1 ≤ R.frames ∧ 24 ≤ R.locals) (hK : va_K D vwCl (bt_ d) s) (N w q dd ans : Nat) (h1 : 1 ≤ dd) (h3 : dd ≤ 3) (han : ans < 729) (hpo : po_ok po) (hd : be_ok N w q fe go be (dd - 1)) (hN : N ≤ 48) (hw : w ≤ 100) (hq : q ≤ 20) (K : ∀ (H : Heap) (locs : List Loc) (ls : Array Slot), BW D A H0 a d n cnt fe go gl bl sy be po H locs → lv_has ls 7 [(4, .int (nI (la_ N w q fe go (dd - 1) ans 6)))] → W p l e R s m args below meth c H locs 0 0 Q (F0 m 66 ls [])) : ∀ (k f : Nat), f ≤ 6 → 6 < f + k → ∀ (H : Heap) (locs : List Loc) (ls : Array Slot), BW D A H0 a d n cnt fe go gl bl sy be po H locs → lv_has ls 7 [(0, .ref (a 0)), (1, .int (nI dd)), (2, .int (nI ans)), (3, .int (nI q)), (4, .int (nI (la_ N w q fe go (dd - 1) ans f))), (5, .int (nI f))] → W p l e R s m args below meth c H locs 0 0 Q (F0 m 11 ls []) := by
  have hx := S.1
  have hb := S.2.1
  have hwN : w * N ≤ 100 * 48 := Nat.mul_le_mul hw hN
  intro k
  induction k with
  | zero =>
    intro f g1 g2
    exact absurd g2 (by omega)
  | succ k ih =>
    intro f g1 g2 H locs ls hW hl
    refine lv_iload hx hb dX0_leastAt_11 (lv_at hl 5 rfl) ?_
    refine lv_bipush (v := nI 6) hx hb dX0_leastAt_13 (by decide) ?_
    refine nb_ge (tgt := 66) hx hb dX0_leastAt_15 (by decide) f 6 (by omega) (by omega) (fun h => ?_) (fun h => ?_)
    · obtain rfl : f = 6 := by omega
      exact K H locs ls hW (lv_sub hl [4] rfl)
    · refine lv_iload_n hx hb dX0_leastAt_18 rfl (lv_at hl 2 rfl) ?_
      have hp0 : 0 < 3 ^ f := Nat.pow_pos (by omega)
      have hp6 : 3 ^ f ≤ 3 ^ 6 := Nat.pow_le_pow_right (by omega) (by omega)
      refine lv_aload_n hx hb dX0_leastAt_19 rfl (lv_at hl 0 rfl) ?_
      refine bg_8 S hK hW.1 dX0_leastAt_20 ?_
      refine lv_iload hx hb dX0_leastAt_23 (lv_at hl 5 rfl) ?_
      refine bl_7 S hK hW.1 f (by omega) dX0_leastAt_25 ?_
      refine rw_i (v := nI (3 ^ f)) (hpo f (by omega)) ?_
      refine lv_idiv hx hb dX0_leastAt_26 (nI_ne0 hp0 (by omega)) ?_
      refine rw_i (v := nI (ans / 3 ^ f)) (pk_div (by omega) hp0 (by omega)) ?_
      refine lv_iconst (v := nI 3) hx hb dX0_leastAt_27 (by decide) ?_
      refine lv_irem hx hb dX0_leastAt_28 (by decide) ?_
      have hdv : ans / 3 ^ f ≤ ans := Nat.div_le_self _ _
      refine rw_i (v := nI (pu_dg ans f)) (show nI (ans / 3 ^ f) - nI (ans / 3 ^ f) / nI 3 * nI 3 = nI (pu_dg ans f) from pk_rem (by omega) (by omega) (by omega)) ?_
      have hdg3 : pu_dg ans f < 3 := Nat.mod_lt _ (by omega)
      refine nb_ne0 (tgt := 60) hx hb dX0_leastAt_29 (by decide) (pu_dg ans f) (by omega) (fun g0 => ?_) (fun g0 => ?_)
      · refine lv_iinc (v := nI (f + 1)) (lv' := [(5, .int (nI (f + 1))), (0, .ref (a 0)), (1, .int (nI dd)), (2, .int (nI ans)), (3, .int (nI q)), (4, .int (nI (la_ N w q fe go (dd - 1) ans f)))]) hx hb dX0_leastAt_60 hl (k := 5) rfl (nI_1 f) (by decide) rfl (fun ls hl => ?_)
        refine lv_goto (tgt := 11) hx hb dX0_leastAt_63 (by decide) ?_
        exact ih (f + 1) (by omega) (by omega) H locs ls hW (by rw [la_no g0]; exact lv_sub hl [1, 2, 3, 4, 5, 0] rfl)
      · have hlt := dg_lt f (by omega) ans han g0
        have e1 := hd (ans + 3 ^ f) (by omega)
        have e2 := hd (ans + 2 * 3 ^ f) hlt
        have b1 := pu_A_le N w q (ib_ fe) (gb_ go) (dd - 1) (ans + 3 ^ f)
        have b2 := pu_A_le N w q (ib_ fe) (gb_ go) (dd - 1) (ans + 2 * 3 ^ f)
        have bD : pu_Di N w q (ib_ fe) (gb_ go) (dd - 1) ans f ≤ 9600 := by unfold pu_Di; omega
        have bL := la_le N w q fe go (dd - 1) ans f
        have bd : 729 * (dd - 1) ≤ 729 * 2 := Nat.mul_le_mul_left 729 (by omega)
        refine lv_aload_n hx hb dX0_leastAt_32 rfl (lv_at hl 0 rfl) ?_
        refine lv_iload_n hx hb dX0_leastAt_33 rfl (lv_at hl 1 rfl) ?_
        refine lv_iload_n hx hb dX0_leastAt_34 rfl (lv_at hl 2 rfl) ?_
        refine lv_iload hx hb dX0_leastAt_35 (lv_at hl 5 rfl) ?_
        refine cl_divided S hR hK hW dd ans f (3 ^ f) h1 (by omega) (hpo f (by omega)) (by omega) hl.1 (Nat.zero_le 8) dX0_leastAt_37 (fun H locs hW => ?_)
        refine rw_i (v := nI (pu_Di N w q (ib_ fe) (gb_ go) (dd - 1) ans f)) (by rw [e1, e2, nI_add]; rfl) ?_
        refine lv_iload_n hx hb dX0_leastAt_40 rfl (lv_at hl 3 rfl) ?_
        refine lv_iadd hx hb dX0_leastAt_41 ?_
        refine rw_i (v := nI ((pu_Di N w q (ib_ fe) (gb_ go) (dd - 1) ans f) + q)) (nI_add (pu_Di N w q (ib_ fe) (gb_ go) (dd - 1) ans f) q) ?_
        refine lv_istore (lv' := [(6, .int (nI ((pu_Di N w q (ib_ fe) (gb_ go) (dd - 1) ans f) + q))), (0, .ref (a 0)), (1, .int (nI dd)), (2, .int (nI ans)), (3, .int (nI q)), (4, .int (nI (la_ N w q fe go (dd - 1) ans f))), (5, .int (nI f))]) hx hb dX0_leastAt_42 hl (by decide) rfl (fun ls hl => ?_)
        refine lv_iload hx hb dX0_leastAt_44 (lv_at hl 0 rfl) ?_
        refine lv_iload hx hb dX0_leastAt_46 (lv_at hl 5 rfl) ?_
        refine nb_ge (tgt := 56) hx hb dX0_leastAt_48 (by decide) ((pu_Di N w q (ib_ fe) (gb_ go) (dd - 1) ans f) + q) (la_ N w q fe go (dd - 1) ans f) (by omega) (by omega) (fun g4 => ?_) (fun g4 => ?_)
        · refine lv_iload hx hb dX0_leastAt_56 (lv_at hl 5 rfl) ?_
          refine lv_istore (lv' := [(4, .int (nI (la_ N w q fe go (dd - 1) ans f))), (6, .int (nI ((pu_Di N w q (ib_ fe) (gb_ go) (dd - 1) ans f) + q))), (0, .ref (a 0)), (1, .int (nI dd)), (2, .int (nI ans)), (3, .int (nI q)), (5, .int (nI f))]) hx hb dX0_leastAt_58 hl (by decide) rfl (fun ls hl => ?_)
          refine lv_iinc (v := nI (f + 1)) (lv' := [(5, .int (nI (f + 1))), (4, .int (nI (la_ N w q fe go (dd - 1) ans f))), (6, .int (nI ((pu_Di N w q (ib_ fe) (gb_ go) (dd - 1) ans f) + q))), (0, .ref (a 0)), (1, .int (nI dd)), (2, .int (nI ans)), (3, .int (nI q))]) hx hb dX0_leastAt_60 hl (k := 6) rfl (nI_1 f) (by decide) rfl (fun ls hl => ?_)
          refine lv_goto (tgt := 11) hx hb dX0_leastAt_63 (by decide) ?_
          exact ih (f + 1) (by omega) (by omega) H locs ls hW (by rw [la_yes g0, if_neg (by omega)]; exact lv_sub hl [3, 4, 5, 6, 1, 0] rfl)
        · refine lv_iload hx hb dX0_leastAt_51 (lv_at hl 0 rfl) ?_
          refine lv_goto (tgt := 58) hx hb dX0_leastAt_53 (by decide) ?_
          refine lv_istore (lv' := [(4, .int (nI ((pu_Di N w q (ib_ fe) (gb_ go) (dd - 1) ans f) + q))), (6, .int (nI ((pu_Di N w q (ib_ fe) (gb_ go) (dd - 1) ans f) + q))), (0, .ref (a 0)), (1, .int (nI dd)), (2, .int (nI ans)), (3, .int (nI q)), (5, .int (nI f))]) hx hb dX0_leastAt_58 hl (by decide) rfl (fun ls hl => ?_)
          refine lv_iinc (v := nI (f + 1)) (lv' := [(5, .int (nI (f + 1))), (4, .int (nI ((pu_Di N w q (ib_ fe) (gb_ go) (dd - 1) ans f) + q))), (6, .int (nI ((pu_Di N w q (ib_ fe) (gb_ go) (dd - 1) ans f) + q))), (0, .ref (a 0)), (1, .int (nI dd)), (2, .int (nI ans)), (3, .int (nI q))]) hx hb dX0_leastAt_60 hl (k := 6) rfl (nI_1 f) (by decide) rfl (fun ls hl => ?_)
          refine lv_goto (tgt := 11) hx hb dX0_leastAt_63 (by decide) ?_
          exact ih (f + 1) (by omega) (by omega) H locs ls hW (by rw [la_yes g0, if_pos (by omega)]; exact lv_sub hl [3, 4, 5, 6, 1, 0] rfl)
set_option maxHeartbeats 4000000 in
set_option maxRecDepth 100000 in
theorem met_leastAt (l : Launch) (D : va_G) (a : Nat → Nat) (d : Nat → ClassId) (n cnt : Int32) (fe go gl bl : Nat → Int32) (sy : Nat → Int64) (be po : Nat → Int32) (N w q dd ans : Nat) (h1 : 1 ≤ dd) (h3 : dd ≤ 3) (han : ans < 729) (hpo : po_ok po) (hd0 : be_ok N w q fe go be 0) (hd : be_ok N w q fe go be (dd - 1)) (hN : N ≤ 48) (hw : w ≤ 100) (hq : q ≤ 20) : Met l yX0_leastAt (ws_ yX0_leastAt cX0_leastAt 7 (some .int)) { frames := 1, cells := 0, slots := 0, locals := 24 } (va_Pc [.ref (a 0), .int (nI dd), .int (nI ans), .int (nI q)] (fun U => va_P D vwCl (bw_ a d n cnt fe go gl bl sy be po) U.heap ∧ va_K D vwCl (bt_ d) U)) (va_Qi (fun r (_ : Unit) => r = nI (pu_A N w q (ib_ fe) (gb_ go) dd ans)) (fun _ _ => True) (fun _ => False)) 0 0 (fun _ => False) := by
  refine me_of (by decide) (Nat.le_of_ble_eq_true rfl) (fun p e s m below meth c S hr hlk hnm hv ls hl => ?_)
  have S : CallFix p m c cX0_leastAt 7 s _ lw_all RX0 := S
  have hx := S.1
  have hb := S.2.1
  have hl : lv_has ls 7 [(0, .ref (a 0)), (1, .int (nI dd)), (2, .int (nI ans)), (3, .int (nI q))] := hl
  have hK := hv.2
  have hW : BW D (fun _ => False) s.heap a d n cnt fe go gl bl sy be po s.heap [] := ⟨hv.1, va_S.rf⟩
  refine lv_aload_n hx hb dX0_leastAt_0 rfl (lv_at hl 0 rfl) ?_
  refine bg_7 S hK hW.1 dX0_leastAt_1 ?_
  refine lv_iload_n hx hb dX0_leastAt_4 rfl (lv_at hl 2 rfl) ?_
  refine bl_6 S hK hW.1 ans (by omega) dX0_leastAt_5 ?_
  refine rw_i (v := nI (la_ N w q fe go (dd - 1) ans 0)) (show be ans = nI (la_ N w q fe go (dd - 1) ans 0) from (by have h := hd0 ans han; rw [Nat.mul_zero, Nat.zero_add] at h; exact h)) ?_
  refine lv_istore (lv' := [(4, .int (nI (la_ N w q fe go (dd - 1) ans 0))), (0, .ref (a 0)), (1, .int (nI dd)), (2, .int (nI ans)), (3, .int (nI q))]) hx hb dX0_leastAt_6 hl (by decide) rfl (fun ls hl => ?_)
  refine lv_iconst (v := nI 0) hx hb dX0_leastAt_8 (by decide) ?_
  refine lv_istore (lv' := [(5, .int (nI 0)), (4, .int (nI (la_ N w q fe go (dd - 1) ans 0))), (0, .ref (a 0)), (1, .int (nI dd)), (2, .int (nI ans)), (3, .int (nI q))]) hx hb dX0_leastAt_9 hl (by decide) rfl (fun ls hl => ?_)
  refine leastAt_lp S ⟨Nat.le_refl 1, Nat.le_refl 24⟩ hK N w q dd ans h1 h3 han hpo hd hN hw hq (fun H locs ls hW hl => ?_) 7 0 (by omega) (by omega) _ _ ls hW (lv_sub hl [2, 3, 4, 5, 1, 0] rfl)
  refine lv_iload hx hb dX0_leastAt_66 (lv_at hl 0 rfl) ?_
  exact W.iret hx hb hr (fun t ht hW2 => ⟨⟨_, (), rfl, by rw [la_6, Nat.sub_add_cancel h1], trivial⟩, hW.2.F ht⟩) hW.2.2.2 dX0_leastAt_68
theorem cl_leastAt (S : CallFix p m c cc nL s args lw_all RX0) (hR : 2 ≤ R.frames ∧ 50 ≤ R.locals) (hK : va_K D vwCl (bt_ d) s) (hW : BW D A H0 a d n cnt fe go gl bl sy be po H locs) (N w q dd ans : Nat) (h1 : 1 ≤ dd) (h3 : dd ≤ 3) (han : ans < 729) (hpo : po_ok po) (hd0 : be_ok N w q fe go be 0) (hd : be_ok N w q fe go be (dd - 1)) (hN : N ≤ 48) (hw : w ≤ 100) (hq : q ≤ 20) (hsz : ls.size = nL) (hrest : (rest.map fun v => v.category).sum ≤ 8) (hdg : decode cc pc = .ok (.invokevirtual 58, 3)) (kk : ∀ (H : Heap) (locs : List Loc), BW D A H0 a d n cnt fe go gl bl sy be po H locs → W p l e R s m args below meth c H locs 0 0 Q (F0 m (pc + 3) ls (.int (nI (pu_A N w q (ib_ fe) (gb_ go) dd ans)) :: rest))) : W p l e R s m args below meth c H locs 0 0 Q (F0 m pc ls (.int (nI q) :: .int (nI ans) :: .int (nI dd) :: .ref (a 0) :: rest)) :=
  cv_i (As := [.int (nI dd), .int (nI ans), .int (nI q)]) (rest := rest) S (met_leastAt l D a d n cnt fe go gl bl sy be po N w q dd ans h1 h3 han hpo hd0 hd hN hw hq) (cwV 3 S.2.2.2.2 (lw_V q79 q81 qs2 q14 q82) rfl rfl rfl (by decide +kernel) ⟨hR.1, hR.2⟩) hK hW.1 hW.2 rfl rfl rfl rfl hsz hrest hdg ⟨Nat.zero_le _, Nat.zero_le _⟩ (fun r H1 locs1 hp hP hk hS => by rw [hp]; exact kk H1 locs1 ⟨hP, hS⟩)
end B1
end
section
/-! BestTree: count -/
section B2
variable {p : Program} {l : Launch} {e : Env} {R : Room} {s : State} {m : MethodId} {args : Array Value} {below : List Frame} {meth : Method} {c : Code} {H : Heap} {locs : List Loc} {Q : State → Prop}
variable {cc : ByteArray} {nL pc : Nat} {ls : Array Slot} {rest : List Value} {D : va_G} {A : Nat → Prop} {H0 : Heap} {a : Nat → Nat} {d : Nat → ClassId} {n cnt mi ak : Int32} {fe go gl bl : Nat → Int32} {sy : Nat → Int64} {be po : Nat → Int32}
theorem ct_step {N f ans : Nat} {B : Nat → Nat → Bool} {left mask : Int64} (h : ∀ j, j < 64 → lb_ left j = (decide (j < N) && pu_Lq B ans j f)) (hm : ∀ j, j < 64 → j < N → lb_ mask j = pu_ok (pu_dg ans f) (B j f)) : ∀ j, j < 64 → lb_ (left &&& mask) j = (decide (j < N) && pu_Lq B ans j (f + 1)) := by
  intro j hj
  rw [lb_and, h j hj, pu_Lq_s]
  by_cases hn : j < N
  · rw [hm j hj hn, decide_eq_true hn, Bool.true_and, Bool.true_and]
  · rw [decide_eq_false hn, Bool.false_and, Bool.false_and, Bool.false_and]
theorem ct_fin {N : Nat} (hN : N ≤ 48) {P : Nat → Bool} {w : Int64} (h : ∀ j, j < 64 → lb_ w j = (decide (j < N) && P j)) : pu_ct (lb_ w) 48 = pu_ct P N := by
  rw [pu_ct_tail (n := N) hN (fun k h1 h2 => by rw [h k (by omega), decide_eq_false (by omega)]; rfl)]
  exact pu_ct_congr (fun k hk => by rw [h k (by omega), decide_eq_true hk, Bool.true_and])
theorem ct_g {N : Nat} {P G : Nat → Bool} {x y : Int64} (h1 : ∀ j, j < 64 → lb_ x j = (decide (j < N) && P j)) (h2 : ∀ j, j < 64 → lb_ y j = (decide (j < N) && G j)) : ∀ j, j < 64 → lb_ (x &&& y) j = (decide (j < N) && (P j && G j)) := by
  intro j hj
  rw [lb_and, h1 j hj, h2 j hj]
  cases decide (j < N) <;> simp
theorem ct_b {N : Nat} {P G : Nat → Bool} {x y : Int64} (h1 : ∀ j, j < 64 → lb_ x j = (decide (j < N) && P j)) (h2 : ∀ j, j < 64 → lb_ y j = (decide (j < N) && G j)) : ∀ j, j < 64 → lb_ (x &&& (y ^^^ (-1))) j = (decide (j < N) && (P j && !G j)) := by
  intro j hj
  rw [lb_and, lb_not y hj, h1 j hj, h2 j hj]
  cases decide (j < N) <;> simp
/-- one more sample in a set -/
theorem ct_more {k : Nat} {P : Nat → Bool} {x y : Int64} (h1 : ∀ j, j < 64 → lb_ x j = (decide (j < k) && P j)) (h2 : ∀ j, j < 64 → lb_ y j = (decide (k = j) && P j)) : ∀ j, j < 64 → lb_ (x ||| y) j = (decide (j < k + 1) && P j) := by
  intro j hj
  rw [lb_or, h1 j hj, h2 j hj]
  by_cases e : j < k
  · rw [decide_eq_true e, decide_eq_false (show ¬ k = j by omega), decide_eq_true (show j < k + 1 by omega)]
    simp
  · by_cases e2 : k = j
    · rw [decide_eq_false e, decide_eq_true e2, decide_eq_true (show j < k + 1 by omega)]
      simp
    · rw [decide_eq_false e, decide_eq_false e2, decide_eq_false (show ¬ j < k + 1 by omega)]
      simp
theorem ct_bit {k : Nat} (hk : k < 64) {P : Nat → Bool} (hp : P k = true) : ∀ j, j < 64 → lb_ ((1 : Int64) <<< ((nI k).toInt64 &&& 63)) j = (decide (k = j) && P j) := by
  intro j _
  rw [lb_shl j hk]
  by_cases e : k = j
  · rw [← e, hp, Bool.and_true]
  · rw [decide_eq_false e, Bool.false_and]
theorem ct_nob {k : Nat} {P : Nat → Bool} (hp : P k = false) : ∀ j, j < 64 → lb_ 0 j = (decide (k = j) && P j) := by
  intro j _
  rw [lb_zero]
  by_cases e : k = j
  · rw [← e, hp, Bool.and_false]
  · rw [decide_eq_false e, Bool.false_and]
/-- the sets of those that say yes: of the first k samples, the first f questions one sample ahead -/
def sy_ok (fe : Nat → Int32) (sy : Nat → Int64) (k f : Nat) : Prop := ∀ g, g < 6 → ∀ j, j < 64 → lb_ (sy g) j = (decide (j < (if g < f then k + 1 else k)) && ib_ fe j g)
theorem sy_0 {fe : Nat → Int32} {sy : Nat → Int64} (h : ∀ g, g < 6 → sy g = 0) : sy_ok fe sy 0 0 := by
  intro g hg j hj
  rw [h g hg, lb_zero, if_neg (by omega), decide_eq_false (by omega), Bool.false_and]
theorem sy_6 {fe : Nat → Int32} {sy : Nat → Int64} {k : Nat} (h : sy_ok fe sy k 6) : sy_ok fe sy (k + 1) 0 := by
  intro g hg j hj
  rw [h g hg j hj, if_pos hg, if_neg (by omega)]
theorem sy_s {fe : Nat → Int32} {sy : Nat → Int64} {k f : Nat} (h : sy_ok fe sy k f) (hf : f < 6) {x : Int64} (hx : ∀ j, j < 64 → lb_ x j = (decide (k = j) && ib_ fe j f)) : sy_ok fe (vp_updL sy f (sy f ||| x)) k (f + 1) := by
  intro g hg j hj
  by_cases e : g = f
  · subst e
    rw [pk_uLs, if_pos (by omega)]
    exact ct_more (P := fun j => ib_ fe j g) (fun j hj => by rw [h g hg j hj, if_neg (by omega)]) hx j hj
  · rw [pk_uLn e, h g hg j hj]
    by_cases e2 : g < f
    · rw [if_pos e2, if_pos (by omega)]
    · rw [if_neg e2, if_neg (by omega)]
set_option maxHeartbeats 4000000 in
set_option maxRecDepth 100000 in
theorem count_l1 (S : CallFix p m c cX0_count 10 s args lw_all RX0) (hK : va_K D vwCl (bt_ d) s) (ha : ap_ a 8 A) (K : ∀ (H : Heap) (locs : List Loc) (ls : Array Slot) (sy : Nat → Int64), BW D A H0 a d n cnt fe go gl bl sy be po H locs → (∀ g, g < 6 → sy g = 0) → lv_has ls 10 [(0, .ref (a 0)), (1, .long 0), (3, .long 0)] → W p l e R s m args below meth c H locs 0 0 Q (F0 m 41 ls [])) : ∀ (k f : Nat), f ≤ 6 → 6 < f + k → ∀ (H : Heap) (locs : List Loc) (ls : Array Slot) (sy : Nat → Int64), BW D A H0 a d n cnt fe go gl bl sy be po H locs → (∀ g, g < f → sy g = 0) → lv_has ls 10 [(0, .ref (a 0)), (1, .long 0), (3, .long 0), (5, .int (nI f))] → W p l e R s m args below meth c H locs 0 0 Q (F0 m 20 ls []) := by
  have hx := S.1
  have hb := S.2.1
  intro k
  induction k with
  | zero =>
    intro f g1 g2
    exact absurd g2 (by omega)
  | succ k ih =>
    intro f g1 g2 H locs ls sy hW hs hl
    refine lv_iload hx hb dX0_count_20 (lv_at hl 3 rfl) ?_
    refine lv_bipush (v := nI 6) hx hb dX0_count_22 (by decide) ?_
    refine nb_ge (tgt := 41) hx hb dX0_count_24 (by decide) f 6 (by omega) (by omega) (fun h => ?_) (fun h => ?_)
    · obtain rfl : f = 6 := by omega
      exact K H locs ls sy hW hs (lv_sub hl [0, 1, 2] rfl)
    · refine lv_aload_n hx hb dX0_count_27 rfl (lv_at hl 0 rfl) ?_
      refine bg_6 S hK hW.1 dX0_count_28 ?_
      refine lv_iload hx hb dX0_count_31 (lv_at hl 3 rfl) ?_
      refine lv_lconst (v := 0) hx hb dX0_count_33 (by decide) ?_
      refine bs_5 S hK ha hW f (by omega) dX0_count_34 (fun H locs hW => ?_)
      refine lv_iinc (v := nI (f + 1)) (lv' := [(5, .int (nI (f + 1))), (0, .ref (a 0)), (1, .long 0), (3, .long 0)]) hx hb dX0_count_35 hl (k := 3) rfl (nI_1 f) (by decide) rfl (fun ls hl => ?_)
      refine lv_goto (tgt := 20) hx hb dX0_count_38 (by decide) ?_
      refine ih (f + 1) (by omega) (by omega) H locs ls _ hW (fun g hg => ?_) (lv_sub hl [1, 2, 3, 0] rfl)
      by_cases e : g = f
      · rw [e]
        exact pk_uLs
      · rw [pk_uLn e]
        exact hs g (by omega)
set_option maxHeartbeats 4000000 in
set_option maxRecDepth 100000 in
theorem count_l2i (S : CallFix p m c cX0_count 10 s args lw_all RX0) (hK : va_K D vwCl (bt_ d) s) (ha : ap_ a 8 A) (g1 al : Int64) (i : Nat) (hi : i < 48) (K : ∀ (H : Heap) (locs : List Loc) (ls : Array Slot) (sy : Nat → Int64), BW D A H0 a d n cnt fe go gl bl sy be po H locs → sy_ok fe sy i 6 → lv_has ls 10 [(0, .ref (a 0)), (1, .long g1), (3, .long al), (5, .int (nI i))] → W p l e R s m args below meth c H locs 0 0 Q (F0 m 130 ls [])) : ∀ (k f : Nat), f ≤ 6 → 6 < f + k → ∀ (H : Heap) (locs : List Loc) (ls : Array Slot) (sy : Nat → Int64), BW D A H0 a d n cnt fe go gl bl sy be po H locs → sy_ok fe sy i f → lv_has ls 10 [(0, .ref (a 0)), (1, .long g1), (3, .long al), (5, .int (nI i)), (6, .int (nI f))] → W p l e R s m args below meth c H locs 0 0 Q (F0 m 84 ls []) := by
  have hx := S.1
  have hb := S.2.1
  intro k
  induction k with
  | zero =>
    intro f g1 g2
    exact absurd g2 (by omega)
  | succ k ih =>
    intro f q1 q2 H locs ls sy hW hs hl
    refine lv_iload hx hb dX0_count_84 (lv_at hl 4 rfl) ?_
    refine lv_bipush (v := nI 6) hx hb dX0_count_86 (by decide) ?_
    refine nb_ge (tgt := 130) hx hb dX0_count_88 (by decide) f 6 (by omega) (by omega) (fun h => ?_) (fun h => ?_)
    · obtain rfl : f = 6 := by omega
      exact K H locs ls sy hW hs (lv_sub hl [0, 1, 2, 3] rfl)
    · have T : ∀ x : Int64, (∀ j, j < 64 → lb_ x j = (decide (i = j) && ib_ fe j f)) → W p l e R s m args below meth c H locs 0 0 Q (F0 m 122 ls [.long x, .long (sy f), .int (nI f), .ref (a 5)]) := by
        intro x hxb
        refine lv_lor hx hb dX0_count_122 ?_
        refine bs_5 S hK ha hW f (by omega) dX0_count_123 (fun H locs hW => ?_)
        refine lv_iinc (v := nI (f + 1)) (lv' := [(6, .int (nI (f + 1))), (0, .ref (a 0)), (1, .long g1), (3, .long al), (5, .int (nI i))]) hx hb dX0_count_124 hl (k := 4) rfl (nI_1 f) (by decide) rfl (fun ls hl => ?_)
        refine lv_goto (tgt := 84) hx hb dX0_count_127 (by decide) ?_
        exact ih (f + 1) (by omega) (by omega) H locs ls _ hW (sy_s hs (by omega) hxb) (lv_sub hl [1, 2, 3, 4, 0] rfl)
      refine lv_aload_n hx hb dX0_count_91 rfl (lv_at hl 0 rfl) ?_
      refine bg_6 S hK hW.1 dX0_count_92 ?_
      refine lv_iload hx hb dX0_count_95 (lv_at hl 4 rfl) ?_
      refine lv_dup2_11 hx hb dX0_count_97 rfl rfl ?_
      refine bl_5 S hK hW.1 f (by omega) dX0_count_98 ?_
      refine lv_aload_n hx hb dX0_count_99 rfl (lv_at hl 0 rfl) ?_
      refine bg_1 S hK hW.1 dX0_count_100 ?_
      refine lv_iload hx hb dX0_count_103 (lv_at hl 3 rfl) ?_
      refine bl_1 S hK hW.1 i (by omega) dX0_count_105 ?_
      refine lv_iload hx hb dX0_count_106 (lv_at hl 4 rfl) ?_
      refine lv_iushr (v := ((fe i).toUInt32 >>> ((nI f).toUInt32 &&& Int32.toUInt32 31)).toInt32) hx hb dX0_count_108 rfl ?_
      refine lv_iconst (v := nI 1) hx hb dX0_count_109 (by decide) ?_
      refine lv_iand hx hb dX0_count_110 ?_
      refine rw_i (v := nI (if ib_ fe i f then 1 else 0)) (bi_ushr (fe i) (by omega)) ?_
      refine lv_if_eq (tgt := 121) hx hb dX0_count_111 (by decide) (fun hc => ?_) (fun hc => ?_)
      · have hif : ib_ fe i f = false := by
          cases h9 : ib_ fe i f
          · rfl
          · rw [h9] at hc
            exact absurd hc (by decide)
        refine lv_lconst (v := 0) hx hb dX0_count_121 (by decide) ?_
        exact T 0 (ct_nob (P := fun j => ib_ fe j f) hif)
      · have hif : ib_ fe i f = true := by
          cases h9 : ib_ fe i f
          · rw [h9] at hc
            exact absurd rfl hc
          · rfl
        refine lv_lconst (v := 1) hx hb dX0_count_114 (by decide) ?_
        refine lv_iload hx hb dX0_count_115 (lv_at hl 3 rfl) ?_
        refine lv_lshl (v := (1 : Int64) <<< ((nI i).toInt64 &&& 63)) hx hb dX0_count_117 rfl ?_
        refine lv_goto (tgt := 122) hx hb dX0_count_118 (by decide) ?_
        exact T _ (ct_bit (by omega) (P := fun j => ib_ fe j f) hif)
set_option maxHeartbeats 4000000 in
set_option maxRecDepth 100000 in
theorem count_l2 (N : Nat) (hN : N ≤ 48) (S : CallFix p m c cX0_count 10 s args lw_all RX0) (hK : va_K D vwCl (bt_ d) s) (ha : ap_ a 8 A) (K : ∀ (H : Heap) (locs : List Loc) (ls : Array Slot) (sy : Nat → Int64) (g1 al : Int64), BW D A H0 a d (nI N) cnt fe go gl bl sy be po H locs → sy_ok fe sy N 0 → (∀ j, j < 64 → lb_ g1 j = (decide (j < N) && gb_ go j)) → (∀ j, j < 64 → lb_ al j = (decide (j < N) && true)) → lv_has ls 10 [(0, .ref (a 0)), (1, .long g1), (3, .long al)] → W p l e R s m args below meth c H locs 0 0 Q (F0 m 136 ls [])) : ∀ (k i : Nat), i ≤ N → N < i + k → ∀ (H : Heap) (locs : List Loc) (ls : Array Slot) (sy : Nat → Int64) (g1 al : Int64), BW D A H0 a d (nI N) cnt fe go gl bl sy be po H locs → sy_ok fe sy i 0 → (∀ j, j < 64 → lb_ g1 j = (decide (j < i) && gb_ go j)) → (∀ j, j < 64 → lb_ al j = (decide (j < i) && true)) → lv_has ls 10 [(0, .ref (a 0)), (1, .long g1), (3, .long al), (5, .int (nI i))] → W p l e R s m args below meth c H locs 0 0 Q (F0 m 44 ls []) := by
  have hx := S.1
  have hb := S.2.1
  intro k
  induction k with
  | zero =>
    intro i g1 g2
    exact absurd g2 (by omega)
  | succ k ih =>
    intro i q1 q2 H locs ls sy g1 al hW hs hg hal hl
    refine lv_iload hx hb dX0_count_44 (lv_at hl 3 rfl) ?_
    refine lv_aload_n hx hb dX0_count_46 rfl (lv_at hl 0 rfl) ?_
    refine bg_0 S hK hW.1 dX0_count_47 ?_
    refine nb_ge (tgt := 136) hx hb dX0_count_50 (by decide) i N (by omega) (by omega) (fun h => ?_) (fun h => ?_)
    · obtain rfl : i = N := by omega
      exact K H locs ls sy g1 al hW hs hg hal (lv_sub hl [0, 1, 2] rfl)
    · refine lv_lload_n hx hb dX0_count_53 rfl (lv_at hl 2 rfl) ?_
      refine lv_lconst (v := 1) hx hb dX0_count_54 (by decide) ?_
      refine lv_iload hx hb dX0_count_55 (lv_at hl 3 rfl) ?_
      refine lv_lshl (v := (1 : Int64) <<< ((nI i).toInt64 &&& 63)) hx hb dX0_count_57 rfl ?_
      refine lv_lor hx hb dX0_count_58 ?_
      refine lv_lstore_n (lv' := [(3, .long (al ||| ((1 : Int64) <<< ((nI i).toInt64 &&& 63)))), (0, .ref (a 0)), (1, .long g1), (5, .int (nI i))]) hx hb dX0_count_59 rfl hl (by decide) rfl (fun ls hl => ?_)
      have hal2 := ct_more hal (ct_bit (k := i) (by omega) (P := fun _ => true) rfl)
      generalize hal0 : al ||| ((1 : Int64) <<< ((nI i).toInt64 &&& 63)) = al2 at hal2 hl
      have T : ∀ x : Int64, (∀ j, j < 64 → lb_ x j = (decide (i = j) && gb_ go j)) → W p l e R s m args below meth c H locs 0 0 Q (F0 m 79 ls [.long x, .long g1]) := by
        intro x hxb
        refine lv_lor hx hb dX0_count_79 ?_
        refine lv_lstore_n (lv' := [(1, .long (g1 ||| x)), (3, .long al2), (0, .ref (a 0)), (5, .int (nI i))]) hx hb dX0_count_80 rfl hl (by decide) rfl (fun ls hl => ?_)
        have hg2 := ct_more hg hxb
        generalize hg0 : g1 ||| x = g2 at hg2 hl
        refine lv_iconst (v := nI 0) hx hb dX0_count_81 (by decide) ?_
        refine lv_istore (lv' := [(6, .int (nI 0)), (1, .long g2), (3, .long al2), (0, .ref (a 0)), (5, .int (nI i))]) hx hb dX0_count_82 hl (by decide) rfl (fun ls hl => ?_)
        refine count_l2i S hK ha g2 al2 i (by omega) (fun H locs ls sy hW hs hl => ?_) 7 0 (by omega) (by omega) H locs ls sy hW (fun g hg j hj => by rw [hs g hg j hj]) (lv_sub hl [3, 1, 2, 4, 0] rfl)
        refine lv_iinc (v := nI (i + 1)) (lv' := [(5, .int (nI (i + 1))), (0, .ref (a 0)), (1, .long g2), (3, .long al2)]) hx hb dX0_count_130 hl (k := 3) rfl (nI_1 i) (by decide) rfl (fun ls hl => ?_)
        refine lv_goto (tgt := 44) hx hb dX0_count_133 (by decide) ?_
        exact ih (i + 1) (by omega) (by omega) H locs ls sy g2 al2 hW (sy_6 hs) hg2 hal2 (lv_sub hl [1, 2, 3, 0] rfl)
      refine lv_lload_n hx hb dX0_count_60 rfl (lv_at hl 2 rfl) ?_
      refine lv_aload_n hx hb dX0_count_61 rfl (lv_at hl 1 rfl) ?_
      refine bg_2 S hK hW.1 dX0_count_62 ?_
      refine lv_iload hx hb dX0_count_65 (lv_at hl 3 rfl) ?_
      refine bl_2 S hK hW.1 i (by omega) dX0_count_67 ?_
      refine lv_if_eq (tgt := 78) hx hb dX0_count_68 (by decide) (fun hc => ?_) (fun hc => ?_)
      · refine lv_lconst (v := 0) hx hb dX0_count_78 (by decide) ?_
        exact T 0 (ct_nob (P := gb_ go) (decide_eq_false (fun h9 => h9 hc)))
      · refine lv_lconst (v := 1) hx hb dX0_count_71 (by decide) ?_
        refine lv_iload hx hb dX0_count_72 (lv_at hl 3 rfl) ?_
        refine lv_lshl (v := (1 : Int64) <<< ((nI i).toInt64 &&& 63)) hx hb dX0_count_74 rfl ?_
        refine lv_goto (tgt := 79) hx hb dX0_count_75 (by decide) ?_
        exact T _ (ct_bit (by omega) (P := gb_ go) (decide_eq_true hc))
set_option maxHeartbeats 4000000 in
set_option maxRecDepth 100000 in
theorem count_l3i (N : Nat) (hN : N ≤ 48) (S : CallFix p m c cX0_count 10 s args lw_all RX0) (hK : va_K D vwCl (bt_ d) s) (g1 al : Int64) (ans : Nat) (han : ans < 729) (hpo : po_ok po) (hW : BW D A H0 a d (nI N) cnt fe go gl bl sy be po H locs) (hs : sy_ok fe sy N 0) (K : ∀ (ls : Array Slot) (left : Int64), (∀ j, j < 64 → lb_ left j = (decide (j < N) && pu_L (ib_ fe) ans j)) → lv_has ls 10 [(0, .ref (a 0)), (1, .long g1), (3, .long al), (5, .int (nI ans)), (6, .long left)] → W p l e R s m args below meth c H locs 0 0 Q (F0 m 223 ls [])) : ∀ (k f : Nat), f ≤ 6 → 6 < f + k → ∀ (ls : Array Slot) (left : Int64), (∀ j, j < 64 → lb_ left j = (decide (j < N) && pu_Lq (ib_ fe) ans j f)) → lv_has ls 10 [(0, .ref (a 0)), (1, .long g1), (3, .long al), (5, .int (nI ans)), (6, .long left), (8, .int (nI f))] → W p l e R s m args below meth c H locs 0 0 Q (F0 m 153 ls []) := by
  have hx := S.1
  have hb := S.2.1
  intro k
  induction k with
  | zero =>
    intro f g1 g2
    exact absurd g2 (by omega)
  | succ k ih =>
    intro f q1 q2 ls left hlf hl
    refine lv_iload hx hb dX0_count_153 (lv_at hl 5 rfl) ?_
    refine lv_bipush (v := nI 6) hx hb dX0_count_155 (by decide) ?_
    refine nb_ge (tgt := 223) hx hb dX0_count_157 (by decide) f 6 (by omega) (by omega) (fun h => ?_) (fun h => ?_)
    · obtain rfl : f = 6 := by omega
      exact K ls left hlf (lv_sub hl [0, 1, 2, 3, 4] rfl)
    · refine lv_iload hx hb dX0_count_160 (lv_at hl 3 rfl) ?_
      have hp0 : 0 < 3 ^ f := Nat.pow_pos (by omega)
      have hp6 : 3 ^ f ≤ 3 ^ 6 := Nat.pow_le_pow_right (by omega) (by omega)
      refine lv_aload_n hx hb dX0_count_162 rfl (lv_at hl 0 rfl) ?_
      refine bg_8 S hK hW.1 dX0_count_163 ?_
      refine lv_iload hx hb dX0_count_166 (lv_at hl 5 rfl) ?_
      refine bl_7 S hK hW.1 f (by omega) dX0_count_168 ?_
      refine rw_i (v := nI (3 ^ f)) (hpo f (by omega)) ?_
      refine lv_idiv hx hb dX0_count_169 (nI_ne0 hp0 (by omega)) ?_
      refine rw_i (v := nI (ans / 3 ^ f)) (pk_div (by omega) hp0 (by omega)) ?_
      refine lv_iconst (v := nI 3) hx hb dX0_count_170 (by decide) ?_
      refine lv_irem hx hb dX0_count_171 (by decide) ?_
      have hdv : ans / 3 ^ f ≤ ans := Nat.div_le_self _ _
      refine rw_i (v := nI (pu_dg ans f)) (show nI (ans / 3 ^ f) - nI (ans / 3 ^ f) / nI 3 * nI 3 = nI (pu_dg ans f) from pk_rem (by omega) (by omega) (by omega)) ?_
      have hdg3 : pu_dg ans f < 3 := Nat.mod_lt _ (by omega)
      refine lv_istore (lv' := [(9, .int (nI (pu_dg ans f))), (0, .ref (a 0)), (1, .long g1), (3, .long al), (5, .int (nI ans)), (6, .long left), (8, .int (nI f))]) hx hb dX0_count_172 hl (by decide) rfl (fun ls hl => ?_)
      have T : ∀ mask : Int64, (∀ j, j < 64 → j < N → lb_ mask j = pu_ok (pu_dg ans f) (ib_ fe j f)) → W p l e R s m args below meth c H locs 0 0 Q (F0 m 214 ls [.long mask, .long left]) := by
        intro mask hm
        refine lv_land hx hb dX0_count_214 ?_
        refine lv_lstore (lv' := [(6, .long (left &&& mask)), (9, .int (nI (pu_dg ans f))), (0, .ref (a 0)), (1, .long g1), (3, .long al), (5, .int (nI ans)), (8, .int (nI f))]) hx hb dX0_count_215 hl (by decide) rfl (fun ls hl => ?_)
        refine lv_iinc (v := nI (f + 1)) (lv' := [(8, .int (nI (f + 1))), (6, .long (left &&& mask)), (9, .int (nI (pu_dg ans f))), (0, .ref (a 0)), (1, .long g1), (3, .long al), (5, .int (nI ans))]) hx hb dX0_count_217 hl (k := 6) rfl (nI_1 f) (by decide) rfl (fun ls hl => ?_)
        refine lv_goto (tgt := 153) hx hb dX0_count_220 (by decide) ?_
        exact ih (f + 1) (by omega) (by omega) ls _ (ct_step hlf hm) (lv_sub hl [3, 4, 5, 6, 1, 0] rfl)
      refine lv_lload hx hb dX0_count_174 (lv_at hl 5 rfl) ?_
      refine lv_iload hx hb dX0_count_176 (lv_at hl 0 rfl) ?_
      refine nb_ne0 (tgt := 187) hx hb dX0_count_178 (by decide) (pu_dg ans f) (by omega) (fun c0 => ?_) (fun c0 => ?_)
      · refine lv_iload hx hb dX0_count_187 (lv_at hl 0 rfl) ?_
        refine lv_iconst (v := nI 1) hx hb dX0_count_189 (by decide) ?_
        refine nb_ne (tgt := 207) hx hb dX0_count_190 (by decide) (pu_dg ans f) 1 (by omega) (by omega) (fun c1 => ?_) (fun c1 => ?_)
        · refine lv_aload_n hx hb dX0_count_207 rfl (lv_at hl 1 rfl) ?_
          refine bg_6 S hK hW.1 dX0_count_208 ?_
          refine lv_iload hx hb dX0_count_211 (lv_at hl 6 rfl) ?_
          refine bl_5 S hK hW.1 f (by omega) dX0_count_213 ?_
          refine T _ (fun j hj hn => ?_)
          rw [hs f (by omega) j hj, if_neg (by omega), decide_eq_true hn, show pu_dg ans f = 2 by omega]
          rfl
        · refine lv_aload_n hx hb dX0_count_193 rfl (lv_at hl 1 rfl) ?_
          refine bg_6 S hK hW.1 dX0_count_194 ?_
          refine lv_iload hx hb dX0_count_197 (lv_at hl 6 rfl) ?_
          refine bl_5 S hK hW.1 f (by omega) dX0_count_199 ?_
          refine lv_ldc2 (v := -1) hx hb S.2.2.2.1 (S.2.2.2.2 _ q75) dX0_count_200 ?_
          refine lv_lxor hx hb dX0_count_203 ?_
          refine lv_goto (tgt := 214) hx hb dX0_count_204 (by decide) ?_
          refine T _ (fun j hj hn => ?_)
          rw [lb_not _ hj, hs f (by omega) j hj, if_neg (by omega), decide_eq_true hn, c1]
          rfl
      · refine lv_ldc2 (v := -1) hx hb S.2.2.2.1 (S.2.2.2.2 _ q75) dX0_count_181 ?_
        refine lv_goto (tgt := 214) hx hb dX0_count_184 (by decide) ?_
        refine T _ (fun j hj hn => ?_)
        rw [lb_m1 j hj, c0]
        rfl
/-- the counts stand for the answers below ans -/
def ct_to (N : Nat) (fe go gl bl : Nat → Int32) (m : Nat) : Prop := ∀ ans, ans < m → gl ans = nI (pu_ct (fun k => pu_L (ib_ fe) ans k && gb_ go k) N) ∧ bl ans = nI (pu_ct (fun k => pu_L (ib_ fe) ans k && !gb_ go k) N)
theorem ct_to_s {N : Nat} {fe go gl bl : Nat → Int32} {m : Nat} (h : ct_to N fe go gl bl m) : ct_to N fe go (upd gl m (nI (pu_ct (fun k => pu_L (ib_ fe) m k && gb_ go k) N))) (upd bl m (nI (pu_ct (fun k => pu_L (ib_ fe) m k && !gb_ go k) N))) (m + 1) := by
  intro ans h2
  by_cases e : ans = m
  · subst e
    exact ⟨pk_us, pk_us⟩
  · rw [pk_un e, pk_un e]
    exact h ans (by omega)
set_option maxHeartbeats 4000000 in
set_option maxRecDepth 100000 in
theorem count_l3 (N : Nat) (hN : N ≤ 48) (S : CallFix p m c cX0_count 10 s args lw_all RX0) (hR : 1 ≤ R.frames ∧ 23 ≤ R.locals) (hK : va_K D vwCl (bt_ d) s) (ha : ap_ a 8 A) (g1 al : Int64) (hpo : po_ok po) (hs : sy_ok fe sy N 0) (hg : ∀ j, j < 64 → lb_ g1 j = (decide (j < N) && gb_ go j)) (hal : ∀ j, j < 64 → lb_ al j = (decide (j < N) && true)) (K : ∀ (H : Heap) (locs : List Loc) (ls : Array Slot) (gl bl : Nat → Int32), BW D A H0 a d (nI N) cnt fe go gl bl sy be po H locs → ct_ok N fe go gl bl → W p l e R s m args below meth c H locs 0 0 Q (F0 m 261 ls [])) : ∀ (k ans : Nat), ans ≤ 729 → 729 < ans + k → ∀ (H : Heap) (locs : List Loc) (ls : Array Slot) (gl bl : Nat → Int32), BW D A H0 a d (nI N) cnt fe go gl bl sy be po H locs → ct_to N fe go gl bl ans → lv_has ls 10 [(0, .ref (a 0)), (1, .long g1), (3, .long al), (5, .int (nI ans))] → W p l e R s m args below meth c H locs 0 0 Q (F0 m 139 ls []) := by
  have hx := S.1
  have hb := S.2.1
  intro k
  induction k with
  | zero =>
    intro ans g1 g2
    exact absurd g2 (by omega)
  | succ k ih =>
    intro ans q1 q2 H locs ls gl bl hW hc hl
    refine lv_iload hx hb dX0_count_139 (lv_at hl 3 rfl) ?_
    refine lv_sipush (v := nI 729) hx hb dX0_count_141 (by decide) ?_
    refine nb_ge (tgt := 261) hx hb dX0_count_144 (by decide) ans 729 (by omega) (by omega) (fun h => ?_) (fun h => ?_)
    · obtain rfl : ans = 729 := by omega
      exact K H locs ls gl bl hW hc
    · refine lv_lload_n hx hb dX0_count_147 rfl (lv_at hl 2 rfl) ?_
      refine lv_lstore (lv' := [(6, .long al), (0, .ref (a 0)), (1, .long g1), (3, .long al), (5, .int (nI ans))]) hx hb dX0_count_148 hl (by decide) rfl (fun ls hl => ?_)
      refine lv_iconst (v := nI 0) hx hb dX0_count_150 (by decide) ?_
      refine lv_istore (lv' := [(8, .int (nI 0)), (6, .long al), (0, .ref (a 0)), (1, .long g1), (3, .long al), (5, .int (nI ans))]) hx hb dX0_count_151 hl (by decide) rfl (fun ls hl => ?_)
      refine count_l3i N hN S hK g1 al ans (by omega) hpo hW hs (fun ls left hlf hl => ?_) 7 0 (by omega) (by omega) ls al hal (lv_sub hl [2, 3, 4, 5, 1, 0] rfl)
      refine lv_aload_n hx hb dX0_count_223 rfl (lv_at hl 0 rfl) ?_
      refine bg_4 S hK hW.1 dX0_count_224 ?_
      refine lv_iload hx hb dX0_count_227 (lv_at hl 3 rfl) ?_
      refine lv_lload hx hb dX0_count_229 (lv_at hl 4 rfl) ?_
      refine lv_lload_n hx hb dX0_count_231 rfl (lv_at hl 1 rfl) ?_
      refine lv_land hx hb dX0_count_232 ?_
      refine cl_ones S hR hW.1 hW.2 (left &&& g1) hl.1 (Nat.le_of_ble_eq_true rfl) dX0_count_233 (fun H locs hP hS => ?_)
      have hW : BW D A H0 a d (nI N) cnt fe go gl bl sy be po H locs := ⟨hP, hS⟩
      refine rw_i (v := nI (pu_ct (fun k => pu_L (ib_ fe) ans k && gb_ go k) N)) (congrArg nI (ct_fin hN (ct_g hlf hg))) ?_
      refine bs_3 S hK ha hW ans (by omega) dX0_count_236 (fun H locs hW => ?_)
      refine lv_aload_n hx hb dX0_count_237 rfl (lv_at hl 0 rfl) ?_
      refine bg_5 S hK hW.1 dX0_count_238 ?_
      refine lv_iload hx hb dX0_count_241 (lv_at hl 3 rfl) ?_
      refine lv_lload hx hb dX0_count_243 (lv_at hl 4 rfl) ?_
      refine lv_lload_n hx hb dX0_count_245 rfl (lv_at hl 1 rfl) ?_
      refine lv_ldc2 (v := -1) hx hb S.2.2.2.1 (S.2.2.2.2 _ q75) dX0_count_246 ?_
      refine lv_lxor hx hb dX0_count_249 ?_
      refine lv_land hx hb dX0_count_250 ?_
      refine cl_ones S hR hW.1 hW.2 (left &&& (g1 ^^^ (-1))) hl.1 (Nat.le_of_ble_eq_true rfl) dX0_count_251 (fun H locs hP hS => ?_)
      have hW : BW D A H0 a d (nI N) cnt fe go (upd gl ans (nI (pu_ct (fun k => pu_L (ib_ fe) ans k && gb_ go k) N))) bl sy be po H locs := ⟨hP, hS⟩
      refine rw_i (v := nI (pu_ct (fun k => pu_L (ib_ fe) ans k && !gb_ go k) N)) (congrArg nI (ct_fin hN (ct_b hlf hg))) ?_
      refine bs_4 S hK ha hW ans (by omega) dX0_count_254 (fun H locs hW => ?_)
      refine lv_iinc (v := nI (ans + 1)) (lv' := [(5, .int (nI (ans + 1))), (0, .ref (a 0)), (1, .long g1), (3, .long al), (6, .long left)]) hx hb dX0_count_255 hl (k := 3) rfl (nI_1 ans) (by decide) rfl (fun ls hl => ?_)
      refine lv_goto (tgt := 139) hx hb dX0_count_258 (by decide) ?_
      exact ih (ans + 1) (by omega) (by omega) H locs ls _ _ hW (ct_to_s hc) (lv_sub hl [1, 2, 3, 0] rfl)
abbrev CU : Type := Int32 × (Nat → Int32) × (Nat → Int32) × (Nat → Int64)
set_option maxHeartbeats 4000000 in
set_option maxRecDepth 100000 in
theorem met_count (l : Launch) (D : va_G) (a : Nat → Nat) (d : Nat → ClassId) (N : Nat) (cnt : Int32) (fe go gl bl : Nat → Int32) (sy : Nat → Int64) (be po : Nat → Int32) (hap : ap_ a 8 (fun _ => True)) (hN : N ≤ 48) (hpo : po_ok po) (hct : ¬ cnt = 0 → ct_ok N fe go gl bl) : Met l yX0_count (ws_ yX0_count cX0_count 10 none) { frames := 1, cells := 0, slots := 0, locals := 23 } (va_Pc [.ref (a 0)] (fun U => va_P D vwCl (bw_ a d (nI N) cnt fe go gl bl sy be po) U.heap ∧ va_K D vwCl (bt_ d) U)) (va_Qv (fun u : CU => ¬ u.1 = 0 ∧ ct_ok N fe go u.2.1 u.2.2.1) (fun (u : CU) t => va_P D vwCl (bw_ a d (nI N) u.1 fe go u.2.1 u.2.2.1 u.2.2.2 be po) t.heap) (ad_ a 8)) 0 0 (ad_ a 8) := by
  refine me_of (by decide) (Nat.le_of_ble_eq_true rfl) (fun p e s m below meth c S hr hlk hnm hv ls hl => ?_)
  have S : CallFix p m c cX0_count 10 s _ lw_all RX0 := S
  have hx := S.1
  have hb := S.2.1
  have hl : lv_has ls 10 [(0, .ref (a 0))] := hl
  have hK := hv.2
  have ha := ap_self hap
  have hW : BW D (ad_ a 8) s.heap a d (nI N) cnt fe go gl bl sy be po s.heap [] := ⟨hv.1, va_S.rf⟩
  refine lv_aload_n hx hb dX0_count_0 rfl (lv_at hl 0 rfl) ?_
  refine bg_3 S hK hW.1 dX0_count_1 ?_
  refine lv_if_eq (tgt := 8) hx hb dX0_count_4 (by decide) (fun hc => ?_) (fun hc => ?_)
  · refine lv_aload_n hx hb dX0_count_8 rfl (lv_at hl 0 rfl) ?_
    refine lv_iconst (v := nI 1) hx hb dX0_count_9 (by decide) ?_
    refine bp_3 S hK ha hW rfl rfl dX0_count_10 (fun H locs hW => ?_)
    refine lv_lconst (v := 0) hx hb dX0_count_13 (by decide) ?_
    refine lv_lstore_n (lv' := [(1, .long 0), (0, .ref (a 0))]) hx hb dX0_count_14 rfl hl (by decide) rfl (fun ls hl => ?_)
    refine lv_lconst (v := 0) hx hb dX0_count_15 (by decide) ?_
    refine lv_lstore_n (lv' := [(3, .long 0), (1, .long 0), (0, .ref (a 0))]) hx hb dX0_count_16 rfl hl (by decide) rfl (fun ls hl => ?_)
    refine lv_iconst (v := nI 0) hx hb dX0_count_17 (by decide) ?_
    refine lv_istore (lv' := [(5, .int (nI 0)), (3, .long 0), (1, .long 0), (0, .ref (a 0))]) hx hb dX0_count_18 hl (by decide) rfl (fun ls hl => ?_)
    refine count_l1 S hK ha (fun H locs ls sy hW hs hl => ?_) 7 0 (by omega) (by omega) _ _ ls sy hW (fun g hg => absurd hg (by omega)) (lv_sub hl [3, 2, 1, 0] rfl)
    refine lv_iconst (v := nI 0) hx hb dX0_count_41 (by decide) ?_
    refine lv_istore (lv' := [(5, .int (nI 0)), (0, .ref (a 0)), (1, .long 0), (3, .long 0)]) hx hb dX0_count_42 hl (by decide) rfl (fun ls hl => ?_)
    refine count_l2 N hN S hK ha (fun H locs ls sy g1 al hW hs hg hal hl => ?_) (N + 1) 0 (by omega) (by omega) H locs ls sy 0 0 hW (sy_0 hs) (fun j hj => by rw [lb_zero, decide_eq_false (by omega), Bool.false_and]) (fun j hj => by rw [lb_zero, decide_eq_false (by omega), Bool.false_and]) (lv_sub hl [1, 2, 3, 0] rfl)
    refine lv_iconst (v := nI 0) hx hb dX0_count_136 (by decide) ?_
    refine lv_istore (lv' := [(5, .int (nI 0)), (0, .ref (a 0)), (1, .long g1), (3, .long al)]) hx hb dX0_count_137 hl (by decide) rfl (fun ls hl => ?_)
    refine count_l3 N hN S ⟨Nat.le_refl 1, Nat.le_refl 23⟩ hK ha g1 al hpo hs hg hal (fun H locs ls gl bl hW hc => ?_) 730 0 (by omega) (by omega) H locs ls gl bl hW (fun x hx => absurd hx (by omega)) (lv_sub hl [1, 2, 3, 0] rfl)
    exact W.vret hx hb hr (fun t ht hW2 => ⟨⟨(nI 1, gl, bl, sy), rfl, ⟨show ¬ nI 1 = 0 by decide, hc⟩, to_ht ht hW.1⟩, hW.2.F ht⟩) hW.2.2.2 dX0_count_261
  · exact W.vret hx hb hr (fun t ht hW2 => ⟨⟨(cnt, gl, bl, sy), rfl, ⟨hc, hct hc⟩, to_ht ht hW.1⟩, hW.2.F ht⟩) hW.2.2.2 dX0_count_7
theorem cl_count (S : CallFix p m c cc nL s args lw_all RX0) (hR : 2 ≤ R.frames ∧ 52 ≤ R.locals) (hK : va_K D vwCl (bt_ d) s) (N : Nat) (hap : ap_ a 8 A) (hN : N ≤ 48) (hpo : po_ok po) (hct : ¬ cnt = 0 → ct_ok N fe go gl bl) (hW : BW D A H0 a d (nI N) cnt fe go gl bl sy be po H locs) (hsz : ls.size = nL) (hrest : (rest.map fun v => v.category).sum ≤ 8) (hdg : decode cc pc = .ok (.invokevirtual 49, 3)) (kk : ∀ (H : Heap) (locs : List Loc) (cnt : Int32) (gl bl : Nat → Int32) (sy : Nat → Int64), BW D A H0 a d (nI N) cnt fe go gl bl sy be po H locs → ¬ cnt = 0 → ct_ok N fe go gl bl → W p l e R s m args below meth c H locs 0 0 Q (F0 m (pc + 3) ls rest)) : W p l e R s m args below meth c H locs 0 0 Q (F0 m pc ls (.ref (a 0) :: rest)) :=
  cv_v (As := []) (rest := rest) (wf := fun u : CU => bw_ a d (nI N) u.1 fe go u.2.1 u.2.2.1 u.2.2.2 be po) S (met_count l D a d N cnt fe go gl bl sy be po ⟨hap.1, fun _ _ => trivial⟩ hN hpo hct) (cwV 0 S.2.2.2.2 (lw_V q71 q73 qs1 q14 q74) rfl rfl rfl (by decide +kernel) ⟨hR.1, hR.2⟩) hK hW.1 hW.2 rfl rfl rfl rfl hsz hrest hdg ⟨Nat.zero_le _, Nat.zero_le _⟩ (ap_in hap) (fun u H1 locs1 hp hP hk hS => kk H1 locs1 u.1 u.2.1 u.2.2.1 u.2.2.2 ⟨hP, hS⟩ hp.1 hp.2)
end B2
end
section
/-! BestTree: workOut, mistakes, price, question, leaves, mistakesBy, doubtful -/
section B3
variable {p : Program} {l : Launch} {e : Env} {R : Room} {s : State} {m : MethodId} {args : Array Value} {below : List Frame} {meth : Method} {c : Code} {H : Heap} {locs : List Loc} {Q : State → Prop}
variable {cc : ByteArray} {nL pc : Nat} {ls : Array Slot} {rest : List Value} {D : va_G} {A : Nat → Prop} {H0 : Heap} {a : Nat → Nat} {d : Nat → ClassId} {n cnt mi ak : Int32} {fe go gl bl : Nat → Int32} {sy : Nat → Int64} {be po : Nat → Int32}
theorem cq_lo {lo hi : Nat} {x : Int32} (h : ¬ nI lo ≤ x) : nI lo = nI (cl_ lo hi x) := by rw [cl_lo (Int32.not_le.mp h)]
theorem cq_hi {lo hi : Nat} {x : Int32} (h1 : nI lo ≤ x) (h2 : ¬ x ≤ nI hi) : nI hi = nI (cl_ lo hi x) := by rw [cl_hi (Int32.not_lt.mpr h1) (Int32.not_le.mp h2)]
theorem cq_mid {lo hi : Nat} {x : Int32} (hl : lo < 2 ^ 31) (h1 : nI lo ≤ x) (h2 : x ≤ nI hi) : x = nI (cl_ lo hi x) := cl_mid hl (Int32.not_lt.mpr h1) (Int32.not_lt.mpr h2)
abbrev WU : Type := Int32 × (Nat → Int32) × (Nat → Int32) × (Nat → Int64) × (Nat → Int32)
def be_to (N w q : Nat) (fe go be : Nat → Int32) (d m : Nat) : Prop := ∀ ans, ans < m → be (729 * d + ans) = nI (pu_A N w q (ib_ fe) (gb_ go) d ans)
theorem be_to_s {N w q : Nat} {fe go be : Nat → Int32} {d m : Nat} (h : be_to N w q fe go be d m) : be_to N w q fe go (upd be (729 * d + m) (nI (pu_A N w q (ib_ fe) (gb_ go) d m))) d (m + 1) := by
  intro ans h2
  by_cases e : ans = m
  · rw [e]
    exact pk_us
  · rw [pk_un (by omega)]
    exact h ans (by omega)
theorem be_ok_s {N w q : Nat} {fe go be : Nat → Int32} {d m dd : Nat} (hd : dd < d) (x : Int32) (h : be_ok N w q fe go be dd) : be_ok N w q fe go (upd be (729 * d + m) x) dd := by
  intro ans h2
  have : 729 * (dd + 1) ≤ 729 * d := Nat.mul_le_mul_left 729 hd
  rw [pk_un (by omega)]
  exact h ans h2
theorem lf_A0 {N w q : Nat} {fe go : Nat → Int32} {i : Nat} : w * pu_mi (pu_ct (fun k => pu_L (ib_ fe) i k && gb_ go k) N) (pu_ct (fun k => pu_L (ib_ fe) i k && !gb_ go k) N) = pu_A N w q (ib_ fe) (gb_ go) 0 i := rfl
set_option maxHeartbeats 4000000 in
set_option maxRecDepth 100000 in
theorem workOut_l1 (N w q : Nat) (hN : N ≤ 48) (S : CallFix p m c cX0_workOut 6 s args lw_all RX0) (hK : va_K D vwCl (bt_ d) s) (ha : ap_ a 8 A) (hct : ct_ok N fe go gl bl) (K : ∀ (H : Heap) (locs : List Loc) (ls : Array Slot) (be : Nat → Int32), BW D A H0 a d (nI N) cnt fe go gl bl sy be po H locs → be_ok N w q fe go be 0 → lv_has ls 6 [(0, .ref (a 0)), (1, .int (nI w)), (2, .int (nI q))] → W p l e R s m args below meth c H locs 0 0 Q (F0 m 57 ls [])) : ∀ (k i : Nat), i ≤ 729 → 729 < i + k → ∀ (H : Heap) (locs : List Loc) (ls : Array Slot) (be : Nat → Int32), BW D A H0 a d (nI N) cnt fe go gl bl sy be po H locs → be_to N w q fe go be 0 i → lv_has ls 6 [(0, .ref (a 0)), (1, .int (nI w)), (2, .int (nI q)), (3, .int (nI i))] → W p l e R s m args below meth c H locs 0 0 Q (F0 m 6 ls []) := by
  have hx := S.1
  have hb := S.2.1
  intro k
  induction k with
  | zero =>
    intro i g1 g2
    exact absurd g2 (by omega)
  | succ k ih =>
    intro i q1 q2 H locs ls be hW hbe hl
    refine lv_iload_n hx hb dX0_workOut_6 rfl (lv_at hl 3 rfl) ?_
    refine lv_sipush (v := nI 729) hx hb dX0_workOut_7 (by decide) ?_
    refine nb_ge (tgt := 57) hx hb dX0_workOut_10 (by decide) i 729 (by omega) (by omega) (fun h => ?_) (fun h => ?_)
    · obtain rfl : i = 729 := by omega
      exact K H locs ls be hW hbe (lv_sub hl [0, 1, 2] rfl)
    · have hci := hct i (by omega)
      have hcg := pu_ct_le (fun k => pu_L (ib_ fe) i k && gb_ go k) N
      have hcb := pu_ct_le (fun k => pu_L (ib_ fe) i k && !gb_ go k) N
      have hfin := lf_A0 (N := N) (w := w) (q := q) (fe := fe) (go := go) (i := i)
      generalize pu_ct (fun k => pu_L (ib_ fe) i k && gb_ go k) N = g at hci hcg hfin
      generalize pu_ct (fun k => pu_L (ib_ fe) i k && !gb_ go k) N = b at hci hcb hfin
      refine lv_aload_n hx hb dX0_workOut_13 rfl (lv_at hl 0 rfl) ?_
      refine bg_4 S hK hW.1 dX0_workOut_14 ?_
      refine lv_iload_n hx hb dX0_workOut_17 rfl (lv_at hl 3 rfl) ?_
      refine bl_3 S hK hW.1 i (by omega) dX0_workOut_18 ?_
      refine rw_i (v := nI g) (hci.1) ?_
      refine lv_istore (lv' := [(4, .int (nI g)), (0, .ref (a 0)), (1, .int (nI w)), (2, .int (nI q)), (3, .int (nI i))]) hx hb dX0_workOut_19 hl (by decide) rfl (fun ls hl => ?_)
      refine lv_aload_n hx hb dX0_workOut_21 rfl (lv_at hl 1 rfl) ?_
      refine bg_5 S hK hW.1 dX0_workOut_22 ?_
      refine lv_iload_n hx hb dX0_workOut_25 rfl (lv_at hl 4 rfl) ?_
      refine bl_4 S hK hW.1 i (by omega) dX0_workOut_26 ?_
      refine rw_i (v := nI b) (hci.2) ?_
      refine lv_istore (lv' := [(5, .int (nI b)), (4, .int (nI g)), (0, .ref (a 0)), (1, .int (nI w)), (2, .int (nI q)), (3, .int (nI i))]) hx hb dX0_workOut_27 hl (by decide) rfl (fun ls hl => ?_)
      have T : W p l e R s m args below meth c H locs 0 0 Q (F0 m 49 ls [.int (nI (pu_mi g b)), .int (nI w), .int (nI i), .ref (a 6)]) := by
        refine lv_imul hx hb dX0_workOut_49 ?_
        refine rw_i (v := nI (w * (pu_mi g b))) (pk_mul w (pu_mi g b)) ?_
        refine rw_i (v := nI (pu_A N w q (ib_ fe) (gb_ go) 0 i)) (congrArg nI hfin) ?_
        refine bs_6 S hK ha hW i (by omega) dX0_workOut_50 (fun H locs hW => ?_)
        refine lv_iinc (v := nI (i + 1)) (lv' := [(3, .int (nI (i + 1))), (5, .int (nI b)), (4, .int (nI g)), (0, .ref (a 0)), (1, .int (nI w)), (2, .int (nI q))]) hx hb dX0_workOut_51 hl (k := 5) rfl (nI_1 i) (by decide) rfl (fun ls hl => ?_)
        refine lv_goto (tgt := 6) hx hb dX0_workOut_54 (by decide) ?_
        refine ih (i + 1) (by omega) (by omega) H locs ls _ hW ?_ (lv_sub hl [3, 4, 5, 0] rfl)
        have h9 := be_to_s hbe
        rw [Nat.mul_zero, Nat.zero_add] at h9
        exact h9
      refine lv_aload_n hx hb dX0_workOut_29 rfl (lv_at hl 2 rfl) ?_
      refine bg_7 S hK hW.1 dX0_workOut_30 ?_
      refine lv_iload_n hx hb dX0_workOut_33 rfl (lv_at hl 5 rfl) ?_
      refine lv_iload_n hx hb dX0_workOut_34 rfl (lv_at hl 3 rfl) ?_
      refine lv_iload hx hb dX0_workOut_35 (lv_at hl 1 rfl) ?_
      refine lv_iload hx hb dX0_workOut_37 (lv_at hl 0 rfl) ?_
      refine nb_ge (tgt := 47) hx hb dX0_workOut_39 (by decide) g b (by omega) (by omega) (fun c1 => ?_) (fun c1 => ?_)
      · refine lv_iload hx hb dX0_workOut_47 (lv_at hl 0 rfl) ?_
        refine rw_i (v := nI (pu_mi g b)) (by unfold pu_mi; rw [if_neg (by omega)]) ?_
        exact T
      · refine lv_iload hx hb dX0_workOut_42 (lv_at hl 1 rfl) ?_
        refine lv_goto (tgt := 49) hx hb dX0_workOut_44 (by decide) ?_
        refine rw_i (v := nI (pu_mi g b)) (by unfold pu_mi; rw [if_pos c1]) ?_
        exact T
set_option maxHeartbeats 4000000 in
set_option maxRecDepth 100000 in
theorem workOut_l2i (N w q dd : Nat) (h1 : 1 ≤ dd) (h3 : dd ≤ 3) (hN : N ≤ 48) (hw : w ≤ 100) (hq : q ≤ 20) (hpo : po_ok po) (S : CallFix p m c cX0_workOut 6 s args lw_all RX0) (hR : 2 ≤ R.frames ∧ 50 ≤ R.locals) (hK : va_K D vwCl (bt_ d) s) (ha : ap_ a 8 A) (K : ∀ (H : Heap) (locs : List Loc) (ls : Array Slot) (be : Nat → Int32), BW D A H0 a d (nI N) cnt fe go gl bl sy be po H locs → (∀ x, x < dd → be_ok N w q fe go be x) → be_ok N w q fe go be dd → lv_has ls 6 [(0, .ref (a 0)), (1, .int (nI w)), (2, .int (nI q)), (3, .int (nI dd))] → W p l e R s m args below meth c H locs 0 0 Q (F0 m 102 ls [])) : ∀ (k i : Nat), i ≤ 729 → 729 < i + k → ∀ (H : Heap) (locs : List Loc) (ls : Array Slot) (be : Nat → Int32), BW D A H0 a d (nI N) cnt fe go gl bl sy be po H locs → (∀ x, x < dd → be_ok N w q fe go be x) → be_to N w q fe go be dd i → lv_has ls 6 [(0, .ref (a 0)), (1, .int (nI w)), (2, .int (nI q)), (3, .int (nI dd)), (4, .int (nI i))] → W p l e R s m args below meth c H locs 0 0 Q (F0 m 67 ls []) := by
  have hx := S.1
  have hb := S.2.1
  intro k
  induction k with
  | zero =>
    intro i g1 g2
    exact absurd g2 (by omega)
  | succ k ih =>
    intro i q1 q2 H locs ls be hW hlo hbe hl
    refine lv_iload hx hb dX0_workOut_67 (lv_at hl 4 rfl) ?_
    refine lv_sipush (v := nI 729) hx hb dX0_workOut_69 (by decide) ?_
    refine nb_ge (tgt := 102) hx hb dX0_workOut_72 (by decide) i 729 (by omega) (by omega) (fun h => ?_) (fun h => ?_)
    · obtain rfl : i = 729 := by omega
      exact K H locs ls be hW hlo hbe (lv_sub hl [0, 1, 2, 3] rfl)
    · have hmm : 729 * dd ≤ 729 * 3 := Nat.mul_le_mul_left 729 h3
      refine lv_aload_n hx hb dX0_workOut_75 rfl (lv_at hl 0 rfl) ?_
      refine bg_7 S hK hW.1 dX0_workOut_76 ?_
      refine lv_sipush (v := nI 729) hx hb dX0_workOut_79 (by decide) ?_
      refine lv_iload_n hx hb dX0_workOut_82 rfl (lv_at hl 3 rfl) ?_
      refine lv_imul hx hb dX0_workOut_83 ?_
      refine rw_i (v := nI (729 * dd)) (pk_mul 729 dd) ?_
      refine lv_iload hx hb dX0_workOut_84 (lv_at hl 4 rfl) ?_
      refine lv_iadd hx hb dX0_workOut_86 ?_
      refine rw_i (v := nI ((729 * dd) + i)) (nI_add (729 * dd) i) ?_
      refine lv_aload_n hx hb dX0_workOut_87 rfl (lv_at hl 0 rfl) ?_
      refine lv_iload_n hx hb dX0_workOut_88 rfl (lv_at hl 3 rfl) ?_
      refine lv_iload hx hb dX0_workOut_89 (lv_at hl 4 rfl) ?_
      refine lv_iload_n hx hb dX0_workOut_91 rfl (lv_at hl 2 rfl) ?_
      refine cl_leastAt S hR hK hW N w q dd i h1 h3 (by omega) hpo (hlo 0 (by omega)) (hlo (dd - 1) (by omega)) hN hw hq hl.1 (Nat.le_of_ble_eq_true rfl) dX0_workOut_92 (fun H locs hW => ?_)
      refine bs_6 S hK ha hW ((729 * dd) + i) (by omega) dX0_workOut_95 (fun H locs hW => ?_)
      refine lv_iinc (v := nI (i + 1)) (lv' := [(4, .int (nI (i + 1))), (0, .ref (a 0)), (1, .int (nI w)), (2, .int (nI q)), (3, .int (nI dd))]) hx hb dX0_workOut_96 hl (k := 4) rfl (nI_1 i) (by decide) rfl (fun ls hl => ?_)
      refine lv_goto (tgt := 67) hx hb dX0_workOut_99 (by decide) ?_
      exact ih (i + 1) (by omega) (by omega) H locs ls _ hW (fun x hx2 => be_ok_s hx2 _ (hlo x hx2)) (be_to_s hbe) (lv_sub hl [1, 2, 3, 4, 0] rfl)
set_option maxHeartbeats 4000000 in
set_option maxRecDepth 100000 in
theorem workOut_l2 (N w q : Nat) (hN : N ≤ 48) (hw : w ≤ 100) (hq : q ≤ 20) (hpo : po_ok po) (S : CallFix p m c cX0_workOut 6 s args lw_all RX0) (hR : 2 ≤ R.frames ∧ 50 ≤ R.locals) (hK : va_K D vwCl (bt_ d) s) (ha : ap_ a 8 A) (K : ∀ (H : Heap) (locs : List Loc) (ls : Array Slot) (be : Nat → Int32), BW D A H0 a d (nI N) cnt fe go gl bl sy be po H locs → (∀ x, x < 4 → be_ok N w q fe go be x) → W p l e R s m args below meth c H locs 0 0 Q (F0 m 108 ls [])) : ∀ (k dd : Nat), (1 ≤ dd ∧ dd ≤ 4) → 4 < dd + k → ∀ (H : Heap) (locs : List Loc) (ls : Array Slot) (be : Nat → Int32), BW D A H0 a d (nI N) cnt fe go gl bl sy be po H locs → (∀ x, x < dd → be_ok N w q fe go be x) → lv_has ls 6 [(0, .ref (a 0)), (1, .int (nI w)), (2, .int (nI q)), (3, .int (nI dd))] → W p l e R s m args below meth c H locs 0 0 Q (F0 m 59 ls []) := by
  have hx := S.1
  have hb := S.2.1
  intro k
  induction k with
  | zero =>
    intro dd g1 g2
    exact absurd g2 (by omega)
  | succ k ih =>
    intro dd q1 q2 H locs ls be hW hlo hl
    refine lv_iload_n hx hb dX0_workOut_59 rfl (lv_at hl 3 rfl) ?_
    refine lv_iconst (v := nI 4) hx hb dX0_workOut_60 (by decide) ?_
    refine nb_ge (tgt := 108) hx hb dX0_workOut_61 (by decide) dd 4 (by omega) (by omega) (fun h => ?_) (fun h => ?_)
    · obtain rfl : dd = 4 := by omega
      exact K H locs ls be hW hlo
    · refine lv_iconst (v := nI 0) hx hb dX0_workOut_64 (by decide) ?_
      refine lv_istore (lv' := [(4, .int (nI 0)), (0, .ref (a 0)), (1, .int (nI w)), (2, .int (nI q)), (3, .int (nI dd))]) hx hb dX0_workOut_65 hl (by decide) rfl (fun ls hl => ?_)
      refine workOut_l2i N w q dd (by omega) (by omega) hN hw hq hpo S hR hK ha (fun H locs ls be hW hlo hbe hl => ?_) 730 0 (by omega) (by omega) H locs ls be hW hlo (fun x hx2 => absurd hx2 (by omega)) (lv_sub hl [1, 2, 3, 4, 0] rfl)
      refine lv_iinc (v := nI (dd + 1)) (lv' := [(3, .int (nI (dd + 1))), (0, .ref (a 0)), (1, .int (nI w)), (2, .int (nI q))]) hx hb dX0_workOut_102 hl (k := 3) rfl (nI_1 dd) (by decide) rfl (fun ls hl => ?_)
      refine lv_goto (tgt := 59) hx hb dX0_workOut_105 (by decide) ?_
      refine ih (dd + 1) (by omega) (by omega) H locs ls be hW (fun x hx2 => ?_) (lv_sub hl [1, 2, 3, 0] rfl)
      by_cases e : x = dd
      · rw [e]
        exact hbe
      · exact hlo x (by omega)
set_option maxHeartbeats 4000000 in
set_option maxRecDepth 100000 in
theorem met_workOut (l : Launch) (D : va_G) (a : Nat → Nat) (d : Nat → ClassId) (N : Nat) (cnt : Int32) (fe go gl bl : Nat → Int32) (sy : Nat → Int64) (be po : Nat → Int32) (hap : ap_ a 8 (fun _ => True)) (hN : N ≤ 48) (hpo : po_ok po) (hct : ¬ cnt = 0 → ct_ok N fe go gl bl) (w q : Nat) (hw : w ≤ 100) (hq : q ≤ 20) : Met l yX0_workOut (ws_ yX0_workOut cX0_workOut 6 none) { frames := 2, cells := 0, slots := 0, locals := 52 } (va_Pc [.ref (a 0), .int (nI w), .int (nI q)] (fun U => va_P D vwCl (bw_ a d (nI N) cnt fe go gl bl sy be po) U.heap ∧ va_K D vwCl (bt_ d) U)) (va_Qv (fun u : WU => ¬ u.1 = 0 ∧ ct_ok N fe go u.2.1 u.2.2.1 ∧ ∀ x, x < 4 → be_ok N w q fe go u.2.2.2.2 x) (fun (u : WU) t => va_P D vwCl (bw_ a d (nI N) u.1 fe go u.2.1 u.2.2.1 u.2.2.2.1 u.2.2.2.2 po) t.heap) (ad_ a 8)) 0 0 (ad_ a 8) := by
  refine me_of (by decide) (Nat.le_of_ble_eq_true rfl) (fun p e s m below meth c S hr hlk hnm hv ls hl => ?_)
  have S : CallFix p m c cX0_workOut 6 s _ lw_all RX0 := S
  have hx := S.1
  have hb := S.2.1
  have hl : lv_has ls 6 [(0, .ref (a 0)), (1, .int (nI w)), (2, .int (nI q))] := hl
  have hK := hv.2
  have ha := ap_self hap
  have hW : BW D (ad_ a 8) s.heap a d (nI N) cnt fe go gl bl sy be po s.heap [] := ⟨hv.1, va_S.rf⟩
  refine lv_aload_n hx hb dX0_workOut_0 rfl (lv_at hl 0 rfl) ?_
  refine cl_count S ⟨Nat.le_refl 2, Nat.le_refl 52⟩ hK N ha hN hpo hct hW hl.1 (Nat.zero_le 8) dX0_workOut_1 (fun H locs cnt gl bl sy hW hc0 hct => ?_)
  refine lv_iconst (v := nI 0) hx hb dX0_workOut_4 (by decide) ?_
  refine lv_istore_n (lv' := [(3, .int (nI 0)), (0, .ref (a 0)), (1, .int (nI w)), (2, .int (nI q))]) hx hb dX0_workOut_5 rfl hl (by decide) rfl (fun ls hl => ?_)
  refine workOut_l1 N w q hN S hK ha hct (fun H locs ls be hW hb0 hl => ?_) 730 0 (by omega) (by omega) H locs ls be hW (fun x hx2 => absurd hx2 (by omega)) (lv_sub hl [1, 2, 3, 0] rfl)
  refine lv_iconst (v := nI 1) hx hb dX0_workOut_57 (by decide) ?_
  refine lv_istore_n (lv' := [(3, .int (nI 1)), (0, .ref (a 0)), (1, .int (nI w)), (2, .int (nI q))]) hx hb dX0_workOut_58 rfl hl (by decide) rfl (fun ls hl => ?_)
  refine workOut_l2 N w q hN hw hq hpo S ⟨Nat.le_refl 2, Nat.le_of_ble_eq_true rfl⟩ hK ha (fun H locs ls be hW hlo => ?_) 4 1 (by omega) (by omega) H locs ls be hW (fun x hx2 => by rw [show x = 0 by omega]; exact hb0) (lv_sub hl [1, 2, 3, 0] rfl)
  exact W.vret hx hb hr (fun t ht hW2 => ⟨⟨(cnt, gl, bl, sy, be), rfl, ⟨hc0, hct, hlo⟩, to_ht ht hW.1⟩, hW.2.F ht⟩) hW.2.2.2 dX0_workOut_108
theorem cl_workOut (S : CallFix p m c cc nL s args lw_all RX0) (hR : 3 ≤ R.frames ∧ 77 ≤ R.locals) (hK : va_K D vwCl (bt_ d) s) (N : Nat) (hap : ap_ a 8 A) (hN : N ≤ 48) (hpo : po_ok po) (hct : ¬ cnt = 0 → ct_ok N fe go gl bl) (hW : BW D A H0 a d (nI N) cnt fe go gl bl sy be po H locs) (w q : Nat) (hw : w ≤ 100) (hq : q ≤ 20) (hsz : ls.size = nL) (hrest : (rest.map fun v => v.category).sum ≤ 8) (hdg : decode cc pc = .ok (.invokevirtual 41, 3)) (kk : ∀ (H : Heap) (locs : List Loc) (cnt : Int32) (gl bl : Nat → Int32) (sy : Nat → Int64) (be : Nat → Int32), BW D A H0 a d (nI N) cnt fe go gl bl sy be po H locs → ¬ cnt = 0 → ct_ok N fe go gl bl → (∀ x, x < 4 → be_ok N w q fe go be x) → W p l e R s m args below meth c H locs 0 0 Q (F0 m (pc + 3) ls rest)) : W p l e R s m args below meth c H locs 0 0 Q (F0 m pc ls (.int (nI q) :: .int (nI w) :: .ref (a 0) :: rest)) :=
  cv_v (As := [.int (nI w), .int (nI q)]) (rest := rest) (wf := fun u : WU => bw_ a d (nI N) u.1 fe go u.2.1 u.2.2.1 u.2.2.2.1 u.2.2.2.2 po) S (met_workOut l D a d N cnt fe go gl bl sy be po ⟨hap.1, fun _ _ => trivial⟩ hN hpo hct w q hw hq) (cwV 2 S.2.2.2.2 (lw_V q67 q69 qs0 q14 q70) rfl rfl rfl (by decide +kernel) ⟨hR.1, hR.2⟩) hK hW.1 hW.2 rfl rfl rfl rfl hsz hrest hdg ⟨Nat.zero_le _, Nat.zero_le _⟩ (ap_in hap) (fun u H1 locs1 hp hP hk hS => kk H1 locs1 u.1 u.2.1 u.2.2.1 u.2.2.2.1 u.2.2.2.2 ⟨hP, hS⟩ hp.1 hp.2.1 hp.2.2)
end B3
end
section
/-! BestTree: mistakes, price, question, leaves, mistakesBy, doubtful -/
section B4
variable {p : Program} {l : Launch} {e : Env} {R : Room} {s : State} {m : MethodId} {args : Array Value} {below : List Frame} {meth : Method} {c : Code} {H : Heap} {locs : List Loc} {Q : State → Prop}
variable {cc : ByteArray} {nL pc : Nat} {ls : Array Slot} {rest : List Value} {D : va_G} {A : Nat → Prop} {H0 : Heap} {a : Nat → Nat} {d : Nat → ClassId} {n cnt mi ak : Int32} {fe go gl bl : Nat → Int32} {sy : Nat → Int64} {be po : Nat → Int32}
set_option maxHeartbeats 4000000 in
set_option maxRecDepth 100000 in
theorem met_mistakes (l : Launch) (D : va_G) (a : Nat → Nat) (d : Nat → ClassId) (N : Nat) (cnt : Int32) (fe go gl bl : Nat → Int32) (sy : Nat → Int64) (be po : Nat → Int32) (hap : ap_ a 8 (fun _ => True)) (hN : N ≤ 48) (hpo : po_ok po) (hct : ¬ cnt = 0 → ct_ok N fe go gl bl) (x : Int32) : Met l yX0_mistakes (ws_ yX0_mistakes cX0_mistakes 3 (some .int)) { frames := 3, cells := 0, slots := 0, locals := 77 } (va_Pc [.ref (a 0), .int x] (fun U => va_P D vwCl (bw_ a d (nI N) cnt fe go gl bl sy be po) U.heap ∧ va_K D vwCl (bt_ d) U)) (va_Qi (fun r (u : WU) => r = nI (pu_A N 1 0 (ib_ fe) (gb_ go) (cl_ 0 3 x) 0) ∧ (¬ u.1 = 0 → ct_ok N fe go u.2.1 u.2.2.1)) (fun (u : WU) t => va_P D vwCl (bw_ a d (nI N) u.1 fe go u.2.1 u.2.2.1 u.2.2.2.1 u.2.2.2.2 po) t.heap) (ad_ a 8)) 0 0 (ad_ a 8) := by
  refine me_of (by decide) (Nat.le_of_ble_eq_true rfl) (fun p e s m below meth c S hr hlk hnm hv ls hl => ?_)
  have S : CallFix p m c cX0_mistakes 3 s _ lw_all RX0 := S
  have hx := S.1
  have hb := S.2.1
  have hl : lv_has ls 3 [(0, .ref (a 0)), (1, .int x)] := hl
  have hK := hv.2
  have ha := ap_self hap
  have hW : BW D (ad_ a 8) s.heap a d (nI N) cnt fe go gl bl sy be po s.heap [] := ⟨hv.1, va_S.rf⟩
  have hcl := cl_in x (show 0 ≤ 3 by decide) (by decide)
  have T : W p l e { frames := 3, cells := 0, slots := 0, locals := 77 } s m [.ref (a 0), .int x].toArray below meth c s.heap [] 0 0 (MQ below (va_Qi (fun r (u : WU) => r = nI (pu_A N 1 0 (ib_ fe) (gb_ go) (cl_ 0 3 x) 0) ∧ (¬ u.1 = 0 → ct_ok N fe go u.2.1 u.2.2.1)) (fun (u : WU) t => va_P D vwCl (bw_ a d (nI N) u.1 fe go u.2.1 u.2.2.1 u.2.2.2.1 u.2.2.2.2 po) t.heap) (ad_ a 8)) [.ref (a 0), .int x].toArray s 0 0 (ad_ a 8)) (F0 m 18 ls [.int (nI (cl_ 0 3 x))]) := by
    refine lv_istore_n (lv' := [(2, .int (nI (cl_ 0 3 x))), (0, .ref (a 0)), (1, .int x)]) hx hb dX0_mistakes_18 rfl hl (by decide) rfl (fun ls hl => ?_)
    refine lv_aload_n hx hb dX0_mistakes_19 rfl (lv_at hl 1 rfl) ?_
    refine lv_iconst (v := nI 1) hx hb dX0_mistakes_20 (by decide) ?_
    refine lv_iconst (v := nI 0) hx hb dX0_mistakes_21 (by decide) ?_
    refine cl_workOut S ⟨Nat.le_refl 3, Nat.le_refl 77⟩ hK N ha hN hpo hct hW 1 0 (by decide) (by decide) hl.1 (Nat.zero_le 8) dX0_mistakes_22 (fun H locs cnt gl bl sy be hW hc0 hct hbe => ?_)
    have hmm : 729 * cl_ 0 3 x ≤ 729 * 3 := Nat.mul_le_mul_left 729 hcl.2
    refine lv_aload_n hx hb dX0_mistakes_25 rfl (lv_at hl 1 rfl) ?_
    refine bg_7 S hK hW.1 dX0_mistakes_26 ?_
    refine lv_sipush (v := nI 729) hx hb dX0_mistakes_29 (by decide) ?_
    refine lv_iload_n hx hb dX0_mistakes_32 rfl (lv_at hl 0 rfl) ?_
    refine lv_imul hx hb dX0_mistakes_33 ?_
    refine rw_i (v := nI (729 * (cl_ 0 3 x))) (pk_mul 729 (cl_ 0 3 x)) ?_
    refine bl_6 S hK hW.1 (729 * (cl_ 0 3 x)) (by omega) dX0_mistakes_34 ?_
    refine rw_i (v := nI (pu_A N 1 0 (ib_ fe) (gb_ go) (cl_ 0 3 x) 0)) (hbe (cl_ 0 3 x) (by omega) 0 (by decide)) ?_
    exact W.iret hx hb hr (fun t ht hW2 => ⟨⟨_, (cnt, gl, bl, sy, be), rfl, ⟨rfl, fun _ => hct⟩, to_ht ht hW.1⟩, hW.2.F ht⟩) hW.2.2.2 dX0_mistakes_35
  refine lv_iload_n hx hb dX0_mistakes_0 rfl (lv_at hl 1 rfl) ?_
  refine lv_if_ge (tgt := 8) hx hb dX0_mistakes_1 (by decide) (fun c1 => ?_) (fun c1 => ?_)
  · refine lv_iload_n hx hb dX0_mistakes_8 rfl (lv_at hl 1 rfl) ?_
    refine lv_iconst (v := nI 3) hx hb dX0_mistakes_9 (by decide) ?_
    refine lv_icmp_le (tgt := 17) hx hb dX0_mistakes_10 (by decide) (fun c2 => ?_) (fun c2 => ?_)
    · refine lv_iload_n hx hb dX0_mistakes_17 rfl (lv_at hl 1 rfl) ?_
      refine rw_i (v := nI (cl_ 0 3 x)) (cq_mid (by decide) c1 c2) ?_
      exact T
    · refine lv_iconst (v := nI 3) hx hb dX0_mistakes_13 (by decide) ?_
      refine lv_goto (tgt := 18) hx hb dX0_mistakes_14 (by decide) ?_
      refine rw_i (v := nI (cl_ 0 3 x)) (cq_hi c1 c2) ?_
      exact T
  · refine lv_iconst (v := nI 0) hx hb dX0_mistakes_4 (by decide) ?_
    refine lv_goto (tgt := 18) hx hb dX0_mistakes_5 (by decide) ?_
    refine rw_i (v := nI (cl_ 0 3 x)) (cq_lo c1) ?_
    exact T
set_option maxHeartbeats 4000000 in
set_option maxRecDepth 100000 in
theorem met_price (l : Launch) (D : va_G) (a : Nat → Nat) (d : Nat → ClassId) (N : Nat) (cnt : Int32) (fe go gl bl : Nat → Int32) (sy : Nat → Int64) (be po : Nat → Int32) (hap : ap_ a 8 (fun _ => True)) (hN : N ≤ 48) (hpo : po_ok po) (hct : ¬ cnt = 0 → ct_ok N fe go gl bl) (x y : Int32) : Met l yX0_price (ws_ yX0_price cX0_price 5 (some .int)) { frames := 3, cells := 0, slots := 0, locals := 77 } (va_Pc [.ref (a 0), .int x, .int y] (fun U => va_P D vwCl (bw_ a d (nI N) cnt fe go gl bl sy be po) U.heap ∧ va_K D vwCl (bt_ d) U)) (va_Qi (fun r (u : WU) => r = nI (pu_A N 1 (cl_ 0 20 y) (ib_ fe) (gb_ go) (cl_ 0 3 x) 0) ∧ (¬ u.1 = 0 → ct_ok N fe go u.2.1 u.2.2.1)) (fun (u : WU) t => va_P D vwCl (bw_ a d (nI N) u.1 fe go u.2.1 u.2.2.1 u.2.2.2.1 u.2.2.2.2 po) t.heap) (ad_ a 8)) 0 0 (ad_ a 8) := by
  refine me_of (by decide) (Nat.le_of_ble_eq_true rfl) (fun p e s m below meth c S hr hlk hnm hv ls hl => ?_)
  have S : CallFix p m c cX0_price 5 s _ lw_all RX0 := S
  have hx := S.1
  have hb := S.2.1
  have hl : lv_has ls 5 [(0, .ref (a 0)), (1, .int x), (2, .int y)] := hl
  have hK := hv.2
  have ha := ap_self hap
  have hW : BW D (ad_ a 8) s.heap a d (nI N) cnt fe go gl bl sy be po s.heap [] := ⟨hv.1, va_S.rf⟩
  have hcl := cl_in x (show 0 ≤ 3 by decide) (by decide)
  have hcy := cl_in y (show 0 ≤ 20 by decide) (by decide)
  have T : W p l e { frames := 3, cells := 0, slots := 0, locals := 77 } s m [.ref (a 0), .int x, .int y].toArray below meth c s.heap [] 0 0 (MQ below (va_Qi (fun r (u : WU) => r = nI (pu_A N 1 (cl_ 0 20 y) (ib_ fe) (gb_ go) (cl_ 0 3 x) 0) ∧ (¬ u.1 = 0 → ct_ok N fe go u.2.1 u.2.2.1)) (fun (u : WU) t => va_P D vwCl (bw_ a d (nI N) u.1 fe go u.2.1 u.2.2.1 u.2.2.2.1 u.2.2.2.2 po) t.heap) (ad_ a 8)) [.ref (a 0), .int x, .int y].toArray s 0 0 (ad_ a 8)) (F0 m 18 ls [.int (nI (cl_ 0 3 x))]) := by
    refine lv_istore_n (lv' := [(3, .int (nI (cl_ 0 3 x))), (0, .ref (a 0)), (1, .int x), (2, .int y)]) hx hb dX0_price_18 rfl hl (by decide) rfl (fun ls hl => ?_)
    have T : W p l e { frames := 3, cells := 0, slots := 0, locals := 77 } s m [.ref (a 0), .int x, .int y].toArray below meth c s.heap [] 0 0 (MQ below (va_Qi (fun r (u : WU) => r = nI (pu_A N 1 (cl_ 0 20 y) (ib_ fe) (gb_ go) (cl_ 0 3 x) 0) ∧ (¬ u.1 = 0 → ct_ok N fe go u.2.1 u.2.2.1)) (fun (u : WU) t => va_P D vwCl (bw_ a d (nI N) u.1 fe go u.2.1 u.2.2.1 u.2.2.2.1 u.2.2.2.2 po) t.heap) (ad_ a 8)) [.ref (a 0), .int x, .int y].toArray s 0 0 (ad_ a 8)) (F0 m 39 ls [.int (nI (cl_ 0 20 y))]) := by
      refine lv_istore (lv' := [(4, .int (nI (cl_ 0 20 y))), (3, .int (nI (cl_ 0 3 x))), (0, .ref (a 0)), (1, .int x), (2, .int y)]) hx hb dX0_price_39 hl (by decide) rfl (fun ls hl => ?_)
      refine lv_aload_n hx hb dX0_price_41 rfl (lv_at hl 2 rfl) ?_
      refine lv_iconst (v := nI 1) hx hb dX0_price_42 (by decide) ?_
      refine lv_iload hx hb dX0_price_43 (lv_at hl 0 rfl) ?_
      refine cl_workOut S ⟨Nat.le_refl 3, Nat.le_refl 77⟩ hK N ha hN hpo hct hW 1 (cl_ 0 20 y) (by decide) hcy.2 hl.1 (Nat.zero_le 8) dX0_price_45 (fun H locs cnt gl bl sy be hW hc0 hct hbe => ?_)
      have hmm : 729 * cl_ 0 3 x ≤ 729 * 3 := Nat.mul_le_mul_left 729 hcl.2
      refine lv_aload_n hx hb dX0_price_48 rfl (lv_at hl 2 rfl) ?_
      refine bg_7 S hK hW.1 dX0_price_49 ?_
      refine lv_sipush (v := nI 729) hx hb dX0_price_52 (by decide) ?_
      refine lv_iload_n hx hb dX0_price_55 rfl (lv_at hl 1 rfl) ?_
      refine lv_imul hx hb dX0_price_56 ?_
      refine rw_i (v := nI (729 * (cl_ 0 3 x))) (pk_mul 729 (cl_ 0 3 x)) ?_
      refine bl_6 S hK hW.1 (729 * (cl_ 0 3 x)) (by omega) dX0_price_57 ?_
      refine rw_i (v := nI (pu_A N 1 (cl_ 0 20 y) (ib_ fe) (gb_ go) (cl_ 0 3 x) 0)) (hbe (cl_ 0 3 x) (by omega) 0 (by decide)) ?_
      exact W.iret hx hb hr (fun t ht hW2 => ⟨⟨_, (cnt, gl, bl, sy, be), rfl, ⟨rfl, fun _ => hct⟩, to_ht ht hW.1⟩, hW.2.F ht⟩) hW.2.2.2 dX0_price_58
    refine lv_iload_n hx hb dX0_price_19 rfl (lv_at hl 3 rfl) ?_
    refine lv_if_ge (tgt := 27) hx hb dX0_price_20 (by decide) (fun c1 => ?_) (fun c1 => ?_)
    · refine lv_iload_n hx hb dX0_price_27 rfl (lv_at hl 3 rfl) ?_
      refine lv_bipush (v := nI 20) hx hb dX0_price_28 (by decide) ?_
      refine lv_icmp_le (tgt := 38) hx hb dX0_price_30 (by decide) (fun c2 => ?_) (fun c2 => ?_)
      · refine lv_iload_n hx hb dX0_price_38 rfl (lv_at hl 3 rfl) ?_
        refine rw_i (v := nI (cl_ 0 20 y)) (cq_mid (by decide) c1 c2) ?_
        exact T
      · refine lv_bipush (v := nI 20) hx hb dX0_price_33 (by decide) ?_
        refine lv_goto (tgt := 39) hx hb dX0_price_35 (by decide) ?_
        refine rw_i (v := nI (cl_ 0 20 y)) (cq_hi c1 c2) ?_
        exact T
    · refine lv_iconst (v := nI 0) hx hb dX0_price_23 (by decide) ?_
      refine lv_goto (tgt := 39) hx hb dX0_price_24 (by decide) ?_
      refine rw_i (v := nI (cl_ 0 20 y)) (cq_lo c1) ?_
      exact T
  refine lv_iload_n hx hb dX0_price_0 rfl (lv_at hl 1 rfl) ?_
  refine lv_if_ge (tgt := 8) hx hb dX0_price_1 (by decide) (fun c1 => ?_) (fun c1 => ?_)
  · refine lv_iload_n hx hb dX0_price_8 rfl (lv_at hl 1 rfl) ?_
    refine lv_iconst (v := nI 3) hx hb dX0_price_9 (by decide) ?_
    refine lv_icmp_le (tgt := 17) hx hb dX0_price_10 (by decide) (fun c2 => ?_) (fun c2 => ?_)
    · refine lv_iload_n hx hb dX0_price_17 rfl (lv_at hl 1 rfl) ?_
      refine rw_i (v := nI (cl_ 0 3 x)) (cq_mid (by decide) c1 c2) ?_
      exact T
    · refine lv_iconst (v := nI 3) hx hb dX0_price_13 (by decide) ?_
      refine lv_goto (tgt := 18) hx hb dX0_price_14 (by decide) ?_
      refine rw_i (v := nI (cl_ 0 3 x)) (cq_hi c1 c2) ?_
      exact T
  · refine lv_iconst (v := nI 0) hx hb dX0_price_4 (by decide) ?_
    refine lv_goto (tgt := 18) hx hb dX0_price_5 (by decide) ?_
    refine rw_i (v := nI (cl_ 0 3 x)) (cq_lo c1) ?_
    exact T
set_option maxHeartbeats 4000000 in
set_option maxRecDepth 100000 in
theorem met_leaves (l : Launch) (D : va_G) (a : Nat → Nat) (d : Nat → ClassId) (N : Nat) (cnt : Int32) (fe go gl bl : Nat → Int32) (sy : Nat → Int64) (be po : Nat → Int32) (hap : ap_ a 8 (fun _ => True)) (hN : N ≤ 48) (hpo : po_ok po) (hct : ¬ cnt = 0 → ct_ok N fe go gl bl) (x : Int32) : Met l yX0_leaves (ws_ yX0_leaves cX0_leaves 3 (some .int)) { frames := 3, cells := 0, slots := 0, locals := 77 } (va_Pc [.ref (a 0), .int x] (fun U => va_P D vwCl (bw_ a d (nI N) cnt fe go gl bl sy be po) U.heap ∧ va_K D vwCl (bt_ d) U)) (va_Qi (fun r (u : WU) => r = nI (pu_A N 64 1 (ib_ fe) (gb_ go) (cl_ 0 3 x) 0 % 64 + 1) ∧ (¬ u.1 = 0 → ct_ok N fe go u.2.1 u.2.2.1)) (fun (u : WU) t => va_P D vwCl (bw_ a d (nI N) u.1 fe go u.2.1 u.2.2.1 u.2.2.2.1 u.2.2.2.2 po) t.heap) (ad_ a 8)) 0 0 (ad_ a 8) := by
  refine me_of (by decide) (Nat.le_of_ble_eq_true rfl) (fun p e s m below meth c S hr hlk hnm hv ls hl => ?_)
  have S : CallFix p m c cX0_leaves 3 s _ lw_all RX0 := S
  have hx := S.1
  have hb := S.2.1
  have hl : lv_has ls 3 [(0, .ref (a 0)), (1, .int x)] := hl
  have hK := hv.2
  have ha := ap_self hap
  have hW : BW D (ad_ a 8) s.heap a d (nI N) cnt fe go gl bl sy be po s.heap [] := ⟨hv.1, va_S.rf⟩
  have hcl := cl_in x (show 0 ≤ 3 by decide) (by decide)
  have T : W p l e { frames := 3, cells := 0, slots := 0, locals := 77 } s m [.ref (a 0), .int x].toArray below meth c s.heap [] 0 0 (MQ below (va_Qi (fun r (u : WU) => r = nI (pu_A N 64 1 (ib_ fe) (gb_ go) (cl_ 0 3 x) 0 % 64 + 1) ∧ (¬ u.1 = 0 → ct_ok N fe go u.2.1 u.2.2.1)) (fun (u : WU) t => va_P D vwCl (bw_ a d (nI N) u.1 fe go u.2.1 u.2.2.1 u.2.2.2.1 u.2.2.2.2 po) t.heap) (ad_ a 8)) [.ref (a 0), .int x].toArray s 0 0 (ad_ a 8)) (F0 m 18 ls [.int (nI (cl_ 0 3 x))]) := by
    refine lv_istore_n (lv' := [(2, .int (nI (cl_ 0 3 x))), (0, .ref (a 0)), (1, .int x)]) hx hb dX0_leaves_18 rfl hl (by decide) rfl (fun ls hl => ?_)
    refine lv_aload_n hx hb dX0_leaves_19 rfl (lv_at hl 1 rfl) ?_
    refine lv_bipush (v := nI 64) hx hb dX0_leaves_20 (by decide) ?_
    refine lv_iconst (v := nI 1) hx hb dX0_leaves_22 (by decide) ?_
    refine cl_workOut S ⟨Nat.le_refl 3, Nat.le_refl 77⟩ hK N ha hN hpo hct hW 64 1 (by decide) (by decide) hl.1 (Nat.zero_le 8) dX0_leaves_23 (fun H locs cnt gl bl sy be hW hc0 hct hbe => ?_)
    have hmm : 729 * cl_ 0 3 x ≤ 729 * 3 := Nat.mul_le_mul_left 729 hcl.2
    have hA := pu_A_le N 64 1 (ib_ fe) (gb_ go) (cl_ 0 3 x) 0
    refine lv_aload_n hx hb dX0_leaves_26 rfl (lv_at hl 1 rfl) ?_
    refine bg_7 S hK hW.1 dX0_leaves_27 ?_
    refine lv_sipush (v := nI 729) hx hb dX0_leaves_30 (by decide) ?_
    refine lv_iload_n hx hb dX0_leaves_33 rfl (lv_at hl 0 rfl) ?_
    refine lv_imul hx hb dX0_leaves_34 ?_
    refine rw_i (v := nI (729 * (cl_ 0 3 x))) (pk_mul 729 (cl_ 0 3 x)) ?_
    refine bl_6 S hK hW.1 (729 * (cl_ 0 3 x)) (by omega) dX0_leaves_35 ?_
    refine rw_i (v := nI (pu_A N 64 1 (ib_ fe) (gb_ go) (cl_ 0 3 x) 0)) (hbe (cl_ 0 3 x) (by omega) 0 (by decide)) ?_
    refine lv_bipush (v := nI 64) hx hb dX0_leaves_36 (by decide) ?_
    refine lv_irem hx hb dX0_leaves_38 (by decide) ?_
    refine rw_i (v := nI (pu_A N 64 1 (ib_ fe) (gb_ go) (cl_ 0 3 x) 0 % 64)) (pk_rem (by omega) (by omega) (by omega)) ?_
    refine lv_iconst (v := nI 1) hx hb dX0_leaves_39 (by decide) ?_
    refine lv_iadd hx hb dX0_leaves_40 ?_
    refine rw_i (v := nI ((pu_A N 64 1 (ib_ fe) (gb_ go) (cl_ 0 3 x) 0 % 64) + 1)) (nI_add (pu_A N 64 1 (ib_ fe) (gb_ go) (cl_ 0 3 x) 0 % 64) 1) ?_
    exact W.iret hx hb hr (fun t ht hW2 => ⟨⟨_, (cnt, gl, bl, sy, be), rfl, ⟨rfl, fun _ => hct⟩, to_ht ht hW.1⟩, hW.2.F ht⟩) hW.2.2.2 dX0_leaves_41
  refine lv_iload_n hx hb dX0_leaves_0 rfl (lv_at hl 1 rfl) ?_
  refine lv_if_ge (tgt := 8) hx hb dX0_leaves_1 (by decide) (fun c1 => ?_) (fun c1 => ?_)
  · refine lv_iload_n hx hb dX0_leaves_8 rfl (lv_at hl 1 rfl) ?_
    refine lv_iconst (v := nI 3) hx hb dX0_leaves_9 (by decide) ?_
    refine lv_icmp_le (tgt := 17) hx hb dX0_leaves_10 (by decide) (fun c2 => ?_) (fun c2 => ?_)
    · refine lv_iload_n hx hb dX0_leaves_17 rfl (lv_at hl 1 rfl) ?_
      refine rw_i (v := nI (cl_ 0 3 x)) (cq_mid (by decide) c1 c2) ?_
      exact T
    · refine lv_iconst (v := nI 3) hx hb dX0_leaves_13 (by decide) ?_
      refine lv_goto (tgt := 18) hx hb dX0_leaves_14 (by decide) ?_
      refine rw_i (v := nI (cl_ 0 3 x)) (cq_hi c1 c2) ?_
      exact T
  · refine lv_iconst (v := nI 0) hx hb dX0_leaves_4 (by decide) ?_
    refine lv_goto (tgt := 18) hx hb dX0_leaves_5 (by decide) ?_
    refine rw_i (v := nI (cl_ 0 3 x)) (cq_lo c1) ?_
    exact T
theorem di_root {N w q : Nat} {fe go be : Nat → Int32} {dd f : Nat} (hf : f < 6) (hbe : be_ok N w q fe go be dd) : be (729 * dd + (0 + 3 ^ f)) + be (729 * dd + (0 + 2 * 3 ^ f)) = nI (pu_Di N w q (ib_ fe) (gb_ go) dd 0 f) := by
  have hlt := dg_lt f hf 0 (by decide) (pu_dg_0 f)
  have h2 := hbe (0 + 2 * 3 ^ f) (by omega)
  have h1 := hbe (0 + 3 ^ f) (by omega)
  rw [h1, h2, nI_add]
  rfl
theorem di_lt {N w q : Nat} {B : Nat → Nat → Bool} {G : Nat → Bool} {dd ans f : Nat} (hN : N ≤ 48) (hw : w ≤ 100) : pu_Di N w q B G dd ans f ≤ 9600 := by
  have hwN : w * N ≤ 100 * 48 := Nat.mul_le_mul hw hN
  have b1 := pu_A_le N w q B G dd (ans + 3 ^ f)
  have b2 := pu_A_le N w q B G dd (ans + 2 * 3 ^ f)
  unfold pu_Di
  omega
set_option maxHeartbeats 4000000 in
set_option maxRecDepth 100000 in
theorem met_mistakesBy (l : Launch) (D : va_G) (a : Nat → Nat) (d : Nat → ClassId) (N : Nat) (cnt : Int32) (fe go gl bl : Nat → Int32) (sy : Nat → Int64) (be po : Nat → Int32) (hap : ap_ a 8 (fun _ => True)) (hN : N ≤ 48) (hpo : po_ok po) (hct : ¬ cnt = 0 → ct_ok N fe go gl bl) (x y : Int32) : Met l yX0_mistakesBy (ws_ yX0_mistakesBy cX0_mistakesBy 4 (some .int)) { frames := 3, cells := 0, slots := 0, locals := 77 } (va_Pc [.ref (a 0), .int x, .int y] (fun U => va_P D vwCl (bw_ a d (nI N) cnt fe go gl bl sy be po) U.heap ∧ va_K D vwCl (bt_ d) U)) (va_Qi (fun r (u : WU) => ((∃ f, f < 6 ∧ y = nI f ∧ r = nI (pu_Di N 1 0 (ib_ fe) (gb_ go) (cl_ 1 3 x - 1) 0 f)) ∨ ((∀ f, f < 6 → y ≠ nI f) ∧ r = -1)) ∧ (¬ u.1 = 0 → ct_ok N fe go u.2.1 u.2.2.1)) (fun (u : WU) t => va_P D vwCl (bw_ a d (nI N) u.1 fe go u.2.1 u.2.2.1 u.2.2.2.1 u.2.2.2.2 po) t.heap) (ad_ a 8)) 0 0 (ad_ a 8) := by
  refine me_of (by decide) (Nat.le_of_ble_eq_true rfl) (fun p e s m below meth c S hr hlk hnm hv ls hl => ?_)
  have S : CallFix p m c cX0_mistakesBy 4 s _ lw_all RX0 := S
  have hx := S.1
  have hb := S.2.1
  have hl : lv_has ls 4 [(0, .ref (a 0)), (1, .int x), (2, .int y)] := hl
  have hK := hv.2
  have ha := ap_self hap
  have hW : BW D (ad_ a 8) s.heap a d (nI N) cnt fe go gl bl sy be po s.heap [] := ⟨hv.1, va_S.rf⟩
  have hcl := cl_in x (show 1 ≤ 3 by decide) (by decide)
  refine lv_iload_n hx hb dX0_mistakesBy_0 rfl (lv_at hl 2 rfl) ?_
  refine lv_if_lt (tgt := 9) hx hb dX0_mistakesBy_1 (by decide) (fun c1 => ?_) (fun c1 => ?_)
  · refine lv_iconst (v := -1) hx hb dX0_mistakesBy_9 (by decide) ?_
    exact W.iret hx hb hr (fun t ht hW2 => ⟨⟨_, (cnt, gl, bl, sy, be), rfl, ⟨Or.inr ⟨fun f hf e => nI_pos (n := f) (by omega) (by rw [← e]; exact c1), rfl⟩, hct⟩, to_ht ht hW.1⟩, hW.2.F ht⟩) hW.2.2.2 dX0_mistakesBy_10
  · obtain ⟨f, hf, hy⟩ := nI_of c1
    refine lv_iload_n hx hb dX0_mistakesBy_4 rfl (lv_at hl 2 rfl) ?_
    refine lv_iconst (v := nI 5) hx hb dX0_mistakesBy_5 (by decide) ?_
    refine lv_icmp_le (tgt := 11) hx hb dX0_mistakesBy_6 (by decide) (fun c2 => ?_) (fun c2 => ?_)
    · have hf6 : f < 6 := by
        rw [hy, nI_leI hf (by decide)] at c2
        omega
      have hmm : 729 * (cl_ 1 3 x - 1) ≤ 729 * 2 := Nat.mul_le_mul_left 729 (by omega)
      have hbd : ∀ f, f < 6 → 729 * (cl_ 1 3 x - 1) + 0 + 2 * 3 ^ f < 2916 := by
        intro f hf
        have hp6 : 3 ^ f ≤ 3 ^ 5 := Nat.pow_le_pow_right (by omega) (by omega)
        omega
      have T : W p l e { frames := 3, cells := 0, slots := 0, locals := 77 } s m [.ref (a 0), .int x, .int y].toArray below meth c s.heap [] 0 0 (MQ below (va_Qi (fun r (u : WU) => ((∃ f, f < 6 ∧ y = nI f ∧ r = nI (pu_Di N 1 0 (ib_ fe) (gb_ go) (cl_ 1 3 x - 1) 0 f)) ∨ ((∀ f, f < 6 → y ≠ nI f) ∧ r = -1)) ∧ (¬ u.1 = 0 → ct_ok N fe go u.2.1 u.2.2.1)) (fun (u : WU) t => va_P D vwCl (bw_ a d (nI N) u.1 fe go u.2.1 u.2.2.1 u.2.2.2.1 u.2.2.2.2 po) t.heap) (ad_ a 8)) [.ref (a 0), .int x, .int y].toArray s 0 0 (ad_ a 8)) (F0 m 30 ls [.int (nI (cl_ 1 3 x))]) := by
        refine lv_istore_n (lv' := [(3, .int (nI (cl_ 1 3 x))), (0, .ref (a 0)), (1, .int x), (2, .int y)]) hx hb dX0_mistakesBy_30 rfl hl (by decide) rfl (fun ls hl => ?_)
        refine lv_aload_n hx hb dX0_mistakesBy_31 rfl (lv_at hl 1 rfl) ?_
        refine lv_iconst (v := nI 1) hx hb dX0_mistakesBy_32 (by decide) ?_
        refine lv_iconst (v := nI 0) hx hb dX0_mistakesBy_33 (by decide) ?_
        refine cl_workOut S ⟨Nat.le_refl 3, Nat.le_refl 77⟩ hK N ha hN hpo hct hW 1 0 (by decide) (by decide) hl.1 (Nat.zero_le 8) dX0_mistakesBy_34 (fun H locs cnt gl bl sy be hW hc0 hct hbe => ?_)
        refine lv_aload_n hx hb dX0_mistakesBy_37 rfl (lv_at hl 1 rfl) ?_
        refine lv_iload_n hx hb dX0_mistakesBy_38 rfl (lv_at hl 0 rfl) ?_
        refine lv_iconst (v := nI 0) hx hb dX0_mistakesBy_39 (by decide) ?_
        refine lv_iload_n hx hb dX0_mistakesBy_40 rfl (lv_at hl 3 rfl) ?_
        refine rw_i (v := nI f) (hy) ?_
        refine cl_divided S ⟨Nat.le_of_ble_eq_true rfl, Nat.le_of_ble_eq_true rfl⟩ hK hW (cl_ 1 3 x) 0 f (3 ^ f) hcl.1 (by omega) (hpo f (by omega)) (hbd f (by omega)) hl.1 (Nat.zero_le 8) dX0_mistakesBy_41 (fun H locs hW => ?_)
        refine rw_i (v := nI (pu_Di N 1 0 (ib_ fe) (gb_ go) (cl_ 1 3 x - 1) 0 f)) (di_root hf6 (hbe _ (by omega))) ?_
        exact W.iret hx hb hr (fun t ht hW2 => ⟨⟨_, (cnt, gl, bl, sy, be), rfl, ⟨Or.inl ⟨f, hf6, hy, rfl⟩, fun _ => hct⟩, to_ht ht hW.1⟩, hW.2.F ht⟩) hW.2.2.2 dX0_mistakesBy_44
      refine lv_iload_n hx hb dX0_mistakesBy_11 rfl (lv_at hl 1 rfl) ?_
      refine lv_iconst (v := nI 1) hx hb dX0_mistakesBy_12 (by decide) ?_
      refine lv_icmp_ge (tgt := 20) hx hb dX0_mistakesBy_13 (by decide) (fun c1 => ?_) (fun c1 => ?_)
      · refine lv_iload_n hx hb dX0_mistakesBy_20 rfl (lv_at hl 1 rfl) ?_
        refine lv_iconst (v := nI 3) hx hb dX0_mistakesBy_21 (by decide) ?_
        refine lv_icmp_le (tgt := 29) hx hb dX0_mistakesBy_22 (by decide) (fun c2 => ?_) (fun c2 => ?_)
        · refine lv_iload_n hx hb dX0_mistakesBy_29 rfl (lv_at hl 1 rfl) ?_
          refine rw_i (v := nI (cl_ 1 3 x)) (cq_mid (by decide) c1 c2) ?_
          exact T
        · refine lv_iconst (v := nI 3) hx hb dX0_mistakesBy_25 (by decide) ?_
          refine lv_goto (tgt := 30) hx hb dX0_mistakesBy_26 (by decide) ?_
          refine rw_i (v := nI (cl_ 1 3 x)) (cq_hi c1 c2) ?_
          exact T
      · refine lv_iconst (v := nI 1) hx hb dX0_mistakesBy_16 (by decide) ?_
        refine lv_goto (tgt := 30) hx hb dX0_mistakesBy_17 (by decide) ?_
        refine rw_i (v := nI (cl_ 1 3 x)) (cq_lo c1) ?_
        exact T
    · refine lv_iconst (v := -1) hx hb dX0_mistakesBy_9 (by decide) ?_
      exact W.iret hx hb hr (fun t ht hW2 => ⟨⟨_, (cnt, gl, bl, sy, be), rfl, ⟨Or.inr ⟨fun g hg e => c2 (by rw [e]; exact nI_le (by omega) (by decide)), rfl⟩, hct⟩, to_ht ht hW.1⟩, hW.2.F ht⟩) hW.2.2.2 dX0_mistakesBy_10
set_option maxHeartbeats 4000000 in
set_option maxRecDepth 100000 in
theorem question_lp (N : Nat) (x y : Int32) (hN : N ≤ 48) (hpo : po_ok po) (S : CallFix p m c cX0_question 7 s args lw_all RX0) (hR : 1 ≤ R.frames ∧ 24 ≤ R.locals) (hK : va_K D vwCl (bt_ d) s) (hbe : ∀ z, z < 4 → be_ok N 1 (cl_ 0 20 y) fe go be z) (K : ∀ (H : Heap) (locs : List Loc) (ls : Array Slot), BW D A H0 a d (nI N) cnt fe go gl bl sy be po H locs → lv_has ls 7 [(5, .int (nI (pu_ar (fun f => pu_Di N 1 (cl_ 0 20 y) (ib_ fe) (gb_ go) (cl_ 1 3 x - 1) 0 f) 5)))] → W p l e R s m args below meth c H locs 0 0 Q (F0 m 96 ls [])) : ∀ (k j : Nat), j ≤ 5 → 5 < j + k → ∀ (H : Heap) (locs : List Loc) (ls : Array Slot), BW D A H0 a d (nI N) cnt fe go gl bl sy be po H locs → lv_has ls 7 [(0, .ref (a 0)), (3, .int (nI (cl_ 1 3 x))), (5, .int (nI (pu_ar (fun f => pu_Di N 1 (cl_ 0 20 y) (ib_ fe) (gb_ go) (cl_ 1 3 x - 1) 0 f) j))), (6, .int (nI (j + 1)))] → W p l e R s m args below meth c H locs 0 0 Q (F0 m 55 ls []) := by
  have hcl := cl_in x (show 1 ≤ 3 by decide) (by decide)
  have hmm : 729 * (cl_ 1 3 x - 1) ≤ 729 * 2 := Nat.mul_le_mul_left 729 (by omega)
  have hbd : ∀ f, f < 6 → 729 * (cl_ 1 3 x - 1) + 0 + 2 * 3 ^ f < 2916 := by
    intro f hf
    have hp6 : 3 ^ f ≤ 3 ^ 5 := Nat.pow_le_pow_right (by omega) (by omega)
    omega
  have hx := S.1
  have hb := S.2.1
  intro k
  induction k with
  | zero =>
    intro j g1 g2
    exact absurd g2 (by omega)
  | succ k ih =>
    intro j q1 q2 H locs ls hW hl
    refine lv_iload hx hb dX0_question_55 (lv_at hl 3 rfl) ?_
    refine lv_bipush (v := nI 6) hx hb dX0_question_57 (by decide) ?_
    refine nb_ge (tgt := 96) hx hb dX0_question_59 (by decide) (j + 1) 6 (by omega) (by omega) (fun h => ?_) (fun h => ?_)
    · obtain rfl : j = 5 := by omega
      exact K H locs ls hW (lv_sub hl [2] rfl)
    · have hal := pu_ar_le (fun f => pu_Di N 1 (cl_ 0 20 y) (ib_ fe) (gb_ go) (cl_ 1 3 x - 1) 0 f) j
      refine lv_aload_n hx hb dX0_question_62 rfl (lv_at hl 0 rfl) ?_
      refine lv_iload_n hx hb dX0_question_63 rfl (lv_at hl 1 rfl) ?_
      refine lv_iconst (v := nI 0) hx hb dX0_question_64 (by decide) ?_
      refine lv_iload hx hb dX0_question_65 (lv_at hl 3 rfl) ?_
      refine cl_divided S hR hK hW (cl_ 1 3 x) 0 (j + 1) (3 ^ (j + 1)) hcl.1 (by omega) (hpo (j + 1) (by omega)) (hbd (j + 1) (by omega)) hl.1 (Nat.zero_le 8) dX0_question_67 (fun H locs hW => ?_)
      refine rw_i (v := nI ((fun f => pu_Di N 1 (cl_ 0 20 y) (ib_ fe) (gb_ go) (cl_ 1 3 x - 1) 0 f) (j + 1))) (di_root (by omega) (hbe _ (by omega))) ?_
      refine lv_aload_n hx hb dX0_question_70 rfl (lv_at hl 0 rfl) ?_
      refine lv_iload_n hx hb dX0_question_71 rfl (lv_at hl 1 rfl) ?_
      refine lv_iconst (v := nI 0) hx hb dX0_question_72 (by decide) ?_
      refine lv_iload hx hb dX0_question_73 (lv_at hl 2 rfl) ?_
      refine cl_divided S hR hK hW (cl_ 1 3 x) 0 (pu_ar (fun f => pu_Di N 1 (cl_ 0 20 y) (ib_ fe) (gb_ go) (cl_ 1 3 x - 1) 0 f) j) (3 ^ (pu_ar (fun f => pu_Di N 1 (cl_ 0 20 y) (ib_ fe) (gb_ go) (cl_ 1 3 x - 1) 0 f) j)) hcl.1 (by omega) (hpo (pu_ar (fun f => pu_Di N 1 (cl_ 0 20 y) (ib_ fe) (gb_ go) (cl_ 1 3 x - 1) 0 f) j) (by omega)) (hbd (pu_ar (fun f => pu_Di N 1 (cl_ 0 20 y) (ib_ fe) (gb_ go) (cl_ 1 3 x - 1) 0 f) j) (by omega)) hl.1 (Nat.le_of_ble_eq_true rfl) dX0_question_75 (fun H locs hW => ?_)
      refine rw_i (v := nI ((fun f => pu_Di N 1 (cl_ 0 20 y) (ib_ fe) (gb_ go) (cl_ 1 3 x - 1) 0 f) (pu_ar (fun f => pu_Di N 1 (cl_ 0 20 y) (ib_ fe) (gb_ go) (cl_ 1 3 x - 1) 0 f) j))) (di_root (by omega) (hbe _ (by omega))) ?_
      have d1 : (fun f => pu_Di N 1 (cl_ 0 20 y) (ib_ fe) (gb_ go) (cl_ 1 3 x - 1) 0 f) (j + 1) ≤ 9600 := di_lt hN (by decide)
      have d2 : (fun f => pu_Di N 1 (cl_ 0 20 y) (ib_ fe) (gb_ go) (cl_ 1 3 x - 1) 0 f) (pu_ar (fun f => pu_Di N 1 (cl_ 0 20 y) (ib_ fe) (gb_ go) (cl_ 1 3 x - 1) 0 f) j) ≤ 9600 := di_lt hN (by decide)
      have hs := pu_ar_s (fun f => pu_Di N 1 (cl_ 0 20 y) (ib_ fe) (gb_ go) (cl_ 1 3 x - 1) 0 f) j
      refine nb_ge (tgt := 86) hx hb dX0_question_78 (by decide) ((fun f => pu_Di N 1 (cl_ 0 20 y) (ib_ fe) (gb_ go) (cl_ 1 3 x - 1) 0 f) (j + 1)) ((fun f => pu_Di N 1 (cl_ 0 20 y) (ib_ fe) (gb_ go) (cl_ 1 3 x - 1) 0 f) (pu_ar (fun f => pu_Di N 1 (cl_ 0 20 y) (ib_ fe) (gb_ go) (cl_ 1 3 x - 1) 0 f) j)) (by omega) (by omega) (fun c1 => ?_) (fun c1 => ?_)
      · refine lv_iload hx hb dX0_question_86 (lv_at hl 2 rfl) ?_
        refine lv_istore (lv' := [(5, .int (nI (pu_ar (fun f => pu_Di N 1 (cl_ 0 20 y) (ib_ fe) (gb_ go) (cl_ 1 3 x - 1) 0 f) j))), (0, .ref (a 0)), (3, .int (nI (cl_ 1 3 x))), (6, .int (nI (j + 1)))]) hx hb dX0_question_88 hl (by decide) rfl (fun ls hl => ?_)
        refine lv_iinc (v := nI (j + 1 + 1)) (lv' := [(6, .int (nI (j + 1 + 1))), (5, .int (nI (pu_ar (fun f => pu_Di N 1 (cl_ 0 20 y) (ib_ fe) (gb_ go) (cl_ 1 3 x - 1) 0 f) j))), (0, .ref (a 0)), (3, .int (nI (cl_ 1 3 x)))]) hx hb dX0_question_90 hl (k := 3) rfl (nI_1 (j + 1)) (by decide) rfl (fun ls hl => ?_)
        refine lv_goto (tgt := 55) hx hb dX0_question_93 (by decide) ?_
        exact ih (j + 1) (by omega) (by omega) H locs ls hW (by rw [hs, if_neg (Nat.not_lt.mpr c1)]; exact lv_sub hl [2, 3, 1, 0] rfl)
      · refine lv_iload hx hb dX0_question_81 (lv_at hl 3 rfl) ?_
        refine lv_goto (tgt := 88) hx hb dX0_question_83 (by decide) ?_
        refine lv_istore (lv' := [(5, .int (nI (j + 1))), (0, .ref (a 0)), (3, .int (nI (cl_ 1 3 x))), (6, .int (nI (j + 1)))]) hx hb dX0_question_88 hl (by decide) rfl (fun ls hl => ?_)
        refine lv_iinc (v := nI (j + 1 + 1)) (lv' := [(6, .int (nI (j + 1 + 1))), (5, .int (nI (j + 1))), (0, .ref (a 0)), (3, .int (nI (cl_ 1 3 x)))]) hx hb dX0_question_90 hl (k := 3) rfl (nI_1 (j + 1)) (by decide) rfl (fun ls hl => ?_)
        refine lv_goto (tgt := 55) hx hb dX0_question_93 (by decide) ?_
        exact ih (j + 1) (by omega) (by omega) H locs ls hW (by rw [hs, if_pos c1]; exact lv_sub hl [2, 3, 1, 0] rfl)
set_option maxHeartbeats 4000000 in
set_option maxRecDepth 100000 in
theorem met_question (l : Launch) (D : va_G) (a : Nat → Nat) (d : Nat → ClassId) (N : Nat) (cnt : Int32) (fe go gl bl : Nat → Int32) (sy : Nat → Int64) (be po : Nat → Int32) (hap : ap_ a 8 (fun _ => True)) (hN : N ≤ 48) (hpo : po_ok po) (hct : ¬ cnt = 0 → ct_ok N fe go gl bl) (x y : Int32) : Met l yX0_question (ws_ yX0_question cX0_question 7 (some .int)) { frames := 3, cells := 0, slots := 0, locals := 77 } (va_Pc [.ref (a 0), .int x, .int y] (fun U => va_P D vwCl (bw_ a d (nI N) cnt fe go gl bl sy be po) U.heap ∧ va_K D vwCl (bt_ d) U)) (va_Qi (fun r (u : WU) => r = nI (pu_ar (fun f => pu_Di N 1 (cl_ 0 20 y) (ib_ fe) (gb_ go) (cl_ 1 3 x - 1) 0 f) 5) ∧ (¬ u.1 = 0 → ct_ok N fe go u.2.1 u.2.2.1)) (fun (u : WU) t => va_P D vwCl (bw_ a d (nI N) u.1 fe go u.2.1 u.2.2.1 u.2.2.2.1 u.2.2.2.2 po) t.heap) (ad_ a 8)) 0 0 (ad_ a 8) := by
  refine me_of (by decide) (Nat.le_of_ble_eq_true rfl) (fun p e s m below meth c S hr hlk hnm hv ls hl => ?_)
  have S : CallFix p m c cX0_question 7 s _ lw_all RX0 := S
  have hx := S.1
  have hb := S.2.1
  have hl : lv_has ls 7 [(0, .ref (a 0)), (1, .int x), (2, .int y)] := hl
  have hK := hv.2
  have ha := ap_self hap
  have hW : BW D (ad_ a 8) s.heap a d (nI N) cnt fe go gl bl sy be po s.heap [] := ⟨hv.1, va_S.rf⟩
  have hcl := cl_in x (show 1 ≤ 3 by decide) (by decide)
  have hcy := cl_in y (show 0 ≤ 20 by decide) (by decide)
  have T : W p l e { frames := 3, cells := 0, slots := 0, locals := 77 } s m [.ref (a 0), .int x, .int y].toArray below meth c s.heap [] 0 0 (MQ below (va_Qi (fun r (u : WU) => r = nI (pu_ar (fun f => pu_Di N 1 (cl_ 0 20 y) (ib_ fe) (gb_ go) (cl_ 1 3 x - 1) 0 f) 5) ∧ (¬ u.1 = 0 → ct_ok N fe go u.2.1 u.2.2.1)) (fun (u : WU) t => va_P D vwCl (bw_ a d (nI N) u.1 fe go u.2.1 u.2.2.1 u.2.2.2.1 u.2.2.2.2 po) t.heap) (ad_ a 8)) [.ref (a 0), .int x, .int y].toArray s 0 0 (ad_ a 8)) (F0 m 19 ls [.int (nI (cl_ 1 3 x))]) := by
    refine lv_istore_n (lv' := [(3, .int (nI (cl_ 1 3 x))), (0, .ref (a 0)), (1, .int x), (2, .int y)]) hx hb dX0_question_19 rfl hl (by decide) rfl (fun ls hl => ?_)
    have T : W p l e { frames := 3, cells := 0, slots := 0, locals := 77 } s m [.ref (a 0), .int x, .int y].toArray below meth c s.heap [] 0 0 (MQ below (va_Qi (fun r (u : WU) => r = nI (pu_ar (fun f => pu_Di N 1 (cl_ 0 20 y) (ib_ fe) (gb_ go) (cl_ 1 3 x - 1) 0 f) 5) ∧ (¬ u.1 = 0 → ct_ok N fe go u.2.1 u.2.2.1)) (fun (u : WU) t => va_P D vwCl (bw_ a d (nI N) u.1 fe go u.2.1 u.2.2.1 u.2.2.2.1 u.2.2.2.2 po) t.heap) (ad_ a 8)) [.ref (a 0), .int x, .int y].toArray s 0 0 (ad_ a 8)) (F0 m 40 ls [.int (nI (cl_ 0 20 y))]) := by
      refine lv_istore (lv' := [(4, .int (nI (cl_ 0 20 y))), (3, .int (nI (cl_ 1 3 x))), (0, .ref (a 0)), (1, .int x), (2, .int y)]) hx hb dX0_question_40 hl (by decide) rfl (fun ls hl => ?_)
      refine lv_aload_n hx hb dX0_question_42 rfl (lv_at hl 2 rfl) ?_
      refine lv_iconst (v := nI 1) hx hb dX0_question_43 (by decide) ?_
      refine lv_iload hx hb dX0_question_44 (lv_at hl 0 rfl) ?_
      refine cl_workOut S ⟨Nat.le_refl 3, Nat.le_refl 77⟩ hK N ha hN hpo hct hW 1 (cl_ 0 20 y) (by decide) hcy.2 hl.1 (Nat.zero_le 8) dX0_question_46 (fun H locs cnt gl bl sy be hW hc0 hct hbe => ?_)
      refine lv_iconst (v := nI 0) hx hb dX0_question_49 (by decide) ?_
      refine lv_istore (lv' := [(5, .int (nI 0)), (4, .int (nI (cl_ 0 20 y))), (3, .int (nI (cl_ 1 3 x))), (0, .ref (a 0)), (1, .int x), (2, .int y)]) hx hb dX0_question_50 hl (by decide) rfl (fun ls hl => ?_)
      refine lv_iconst (v := nI 1) hx hb dX0_question_52 (by decide) ?_
      refine lv_istore (lv' := [(6, .int (nI 1)), (5, .int (nI 0)), (4, .int (nI (cl_ 0 20 y))), (3, .int (nI (cl_ 1 3 x))), (0, .ref (a 0)), (1, .int x), (2, .int y)]) hx hb dX0_question_53 hl (by decide) rfl (fun ls hl => ?_)
      refine question_lp N x y hN hpo S ⟨Nat.le_of_ble_eq_true rfl, Nat.le_of_ble_eq_true rfl⟩ hK hbe (fun H locs ls hW hl => ?_) 6 0 (by omega) (by omega) H locs ls hW (lv_sub hl [4, 3, 1, 0] rfl)
      refine lv_iload hx hb dX0_question_96 (lv_at hl 0 rfl) ?_
      exact W.iret hx hb hr (fun t ht hW2 => ⟨⟨_, (cnt, gl, bl, sy, be), rfl, ⟨rfl, fun _ => hct⟩, to_ht ht hW.1⟩, hW.2.F ht⟩) hW.2.2.2 dX0_question_98
    refine lv_iload_n hx hb dX0_question_20 rfl (lv_at hl 3 rfl) ?_
    refine lv_if_ge (tgt := 28) hx hb dX0_question_21 (by decide) (fun c1 => ?_) (fun c1 => ?_)
    · refine lv_iload_n hx hb dX0_question_28 rfl (lv_at hl 3 rfl) ?_
      refine lv_bipush (v := nI 20) hx hb dX0_question_29 (by decide) ?_
      refine lv_icmp_le (tgt := 39) hx hb dX0_question_31 (by decide) (fun c2 => ?_) (fun c2 => ?_)
      · refine lv_iload_n hx hb dX0_question_39 rfl (lv_at hl 3 rfl) ?_
        refine rw_i (v := nI (cl_ 0 20 y)) (cq_mid (by decide) c1 c2) ?_
        exact T
      · refine lv_bipush (v := nI 20) hx hb dX0_question_34 (by decide) ?_
        refine lv_goto (tgt := 40) hx hb dX0_question_36 (by decide) ?_
        refine rw_i (v := nI (cl_ 0 20 y)) (cq_hi c1 c2) ?_
        exact T
    · refine lv_iconst (v := nI 0) hx hb dX0_question_24 (by decide) ?_
      refine lv_goto (tgt := 40) hx hb dX0_question_25 (by decide) ?_
      refine rw_i (v := nI (cl_ 0 20 y)) (cq_lo c1) ?_
      exact T
  refine lv_iload_n hx hb dX0_question_0 rfl (lv_at hl 1 rfl) ?_
  refine lv_iconst (v := nI 1) hx hb dX0_question_1 (by decide) ?_
  refine lv_icmp_ge (tgt := 9) hx hb dX0_question_2 (by decide) (fun c1 => ?_) (fun c1 => ?_)
  · refine lv_iload_n hx hb dX0_question_9 rfl (lv_at hl 1 rfl) ?_
    refine lv_iconst (v := nI 3) hx hb dX0_question_10 (by decide) ?_
    refine lv_icmp_le (tgt := 18) hx hb dX0_question_11 (by decide) (fun c2 => ?_) (fun c2 => ?_)
    · refine lv_iload_n hx hb dX0_question_18 rfl (lv_at hl 1 rfl) ?_
      refine rw_i (v := nI (cl_ 1 3 x)) (cq_mid (by decide) c1 c2) ?_
      exact T
    · refine lv_iconst (v := nI 3) hx hb dX0_question_14 (by decide) ?_
      refine lv_goto (tgt := 19) hx hb dX0_question_15 (by decide) ?_
      refine rw_i (v := nI (cl_ 1 3 x)) (cq_hi c1 c2) ?_
      exact T
  · refine lv_iconst (v := nI 1) hx hb dX0_question_5 (by decide) ?_
    refine lv_goto (tgt := 19) hx hb dX0_question_6 (by decide) ?_
    refine rw_i (v := nI (cl_ 1 3 x)) (cq_lo c1) ?_
    exact T
set_option maxHeartbeats 4000000 in
set_option maxRecDepth 100000 in
theorem doubtful_li (N r i : Nat) (hi : i < 48) (hpo : po_ok po) (S : CallFix p m c cX0_doubtful 5 s args lw_all RX0) (hK : va_K D vwCl (bt_ d) s) (hW : BW D A H0 a d (nI N) cnt fe go gl bl sy be po H locs) (K : ∀ ls : Array Slot, lv_has ls 5 [(0, .ref (a 0)), (1, .int (nI r)), (2, .int (nI i)), (3, .int (nI (pu_fa (ib_ fe) i 6)))] → W p l e R s m args below meth c H locs 0 0 Q (F0 m 58 ls [])) : ∀ (k f : Nat), f ≤ 6 → 6 < f + k → ∀ ls : Array Slot, lv_has ls 5 [(0, .ref (a 0)), (1, .int (nI r)), (2, .int (nI i)), (3, .int (nI (pu_fa (ib_ fe) i f))), (4, .int (nI f))] → W p l e R s m args below meth c H locs 0 0 Q (F0 m 21 ls []) := by
  have hx := S.1
  have hb := S.2.1
  intro k
  induction k with
  | zero =>
    intro f g1 g2
    exact absurd g2 (by omega)
  | succ k ih =>
    intro f q1 q2 ls hl
    refine lv_iload hx hb dX0_doubtful_21 (lv_at hl 4 rfl) ?_
    refine lv_bipush (v := nI 6) hx hb dX0_doubtful_23 (by decide) ?_
    refine nb_ge (tgt := 58) hx hb dX0_doubtful_25 (by decide) f 6 (by omega) (by omega) (fun h => ?_) (fun h => ?_)
    · obtain rfl : f = 6 := by omega
      exact K ls (lv_sub hl [0, 1, 2, 3] rfl)
    · refine lv_iload_n hx hb dX0_doubtful_28 rfl (lv_at hl 3 rfl) ?_
      refine lv_aload_n hx hb dX0_doubtful_29 rfl (lv_at hl 0 rfl) ?_
      refine bg_8 S hK hW.1 dX0_doubtful_30 ?_
      refine lv_iload hx hb dX0_doubtful_33 (lv_at hl 4 rfl) ?_
      refine bl_7 S hK hW.1 f (by omega) dX0_doubtful_35 ?_
      refine rw_i (v := nI (3 ^ f)) (hpo f (by omega)) ?_
      refine lv_iconst (v := nI 1) hx hb dX0_doubtful_36 (by decide) ?_
      refine lv_aload_n hx hb dX0_doubtful_37 rfl (lv_at hl 0 rfl) ?_
      refine bg_1 S hK hW.1 dX0_doubtful_38 ?_
      refine lv_iload_n hx hb dX0_doubtful_41 rfl (lv_at hl 2 rfl) ?_
      refine bl_1 S hK hW.1 i (by omega) dX0_doubtful_42 ?_
      refine lv_iload hx hb dX0_doubtful_43 (lv_at hl 4 rfl) ?_
      refine lv_iushr (v := ((fe i).toUInt32 >>> ((nI f).toUInt32 &&& Int32.toUInt32 31)).toInt32) hx hb dX0_doubtful_45 rfl ?_
      refine lv_iconst (v := nI 1) hx hb dX0_doubtful_46 (by decide) ?_
      refine lv_iand hx hb dX0_doubtful_47 ?_
      refine rw_i (v := nI (if ib_ fe i f then 1 else 0)) (bi_ushr (fe i) (by omega)) ?_
      refine lv_iadd hx hb dX0_doubtful_48 ?_
      refine rw_i (v := nI (1 + (if ib_ fe i f then 1 else 0))) (nI_add 1 (if ib_ fe i f then 1 else 0)) ?_
      refine lv_imul hx hb dX0_doubtful_49 ?_
      refine rw_i (v := nI ((3 ^ f) * (1 + (if ib_ fe i f then 1 else 0)))) (pk_mul (3 ^ f) (1 + (if ib_ fe i f then 1 else 0))) ?_
      refine lv_iadd hx hb dX0_doubtful_50 ?_
      refine rw_i (v := nI ((pu_fa (ib_ fe) i f) + ((3 ^ f) * (1 + (if ib_ fe i f then 1 else 0))))) (nI_add (pu_fa (ib_ fe) i f) ((3 ^ f) * (1 + (if ib_ fe i f then 1 else 0)))) ?_
      refine rw_i (v := nI (pu_fa (ib_ fe) i (f + 1))) (congrArg nI (pu_fa_s (ib_ fe) i f).symm) ?_
      refine lv_istore_n (lv' := [(3, .int (nI (pu_fa (ib_ fe) i (f + 1)))), (0, .ref (a 0)), (1, .int (nI r)), (2, .int (nI i)), (4, .int (nI f))]) hx hb dX0_doubtful_51 rfl hl (by decide) rfl (fun ls hl => ?_)
      refine lv_iinc (v := nI (f + 1)) (lv' := [(4, .int (nI (f + 1))), (3, .int (nI (pu_fa (ib_ fe) i (f + 1)))), (0, .ref (a 0)), (1, .int (nI r)), (2, .int (nI i))]) hx hb dX0_doubtful_52 hl (k := 4) rfl (nI_1 f) (by decide) rfl (fun ls hl => ?_)
      refine lv_goto (tgt := 21) hx hb dX0_doubtful_55 (by decide) ?_
      exact ih (f + 1) (by omega) (by omega) ls (lv_sub hl [2, 3, 4, 1, 0] rfl)
set_option maxHeartbeats 4000000 in
set_option maxRecDepth 100000 in
theorem doubtful_lp (N : Nat) (hN : N ≤ 48) (hpo : po_ok po) (hct : ct_ok N fe go gl bl) (S : CallFix p m c cX0_doubtful 5 s args lw_all RX0) (hK : va_K D vwCl (bt_ d) s) (hW : BW D A H0 a d (nI N) cnt fe go gl bl sy be po H locs) (K : ∀ ls : Array Slot, lv_has ls 5 [(1, .int (nI (pu_ct (pu_dC N (ib_ fe) (gb_ go)) N)))] → W p l e R s m args below meth c H locs 0 0 Q (F0 m 99 ls [])) : ∀ (k i : Nat), i ≤ N → N < i + k → ∀ ls : Array Slot, lv_has ls 5 [(0, .ref (a 0)), (1, .int (nI (pu_ct (pu_dC N (ib_ fe) (gb_ go)) i))), (2, .int (nI i))] → W p l e R s m args below meth c H locs 0 0 Q (F0 m 8 ls []) := by
  have hx := S.1
  have hb := S.2.1
  intro k
  induction k with
  | zero =>
    intro i g1 g2
    exact absurd g2 (by omega)
  | succ k ih =>
    intro i q1 q2 ls hl
    refine lv_iload_n hx hb dX0_doubtful_8 rfl (lv_at hl 2 rfl) ?_
    refine lv_aload_n hx hb dX0_doubtful_9 rfl (lv_at hl 0 rfl) ?_
    refine bg_0 S hK hW.1 dX0_doubtful_10 ?_
    refine nb_ge (tgt := 99) hx hb dX0_doubtful_13 (by decide) i N (by omega) (by omega) (fun h => ?_) (fun h => ?_)
    · obtain rfl : i = N := by omega
      exact K ls (lv_sub hl [1] rfl)
    · refine lv_iconst (v := nI 0) hx hb dX0_doubtful_16 (by decide) ?_
      refine lv_istore_n (lv' := [(3, .int (nI 0)), (0, .ref (a 0)), (1, .int (nI (pu_ct (pu_dC N (ib_ fe) (gb_ go)) i))), (2, .int (nI i))]) hx hb dX0_doubtful_17 rfl hl (by decide) rfl (fun ls hl => ?_)
      refine lv_iconst (v := nI 0) hx hb dX0_doubtful_18 (by decide) ?_
      refine lv_istore (lv' := [(4, .int (nI 0)), (3, .int (nI 0)), (0, .ref (a 0)), (1, .int (nI (pu_ct (pu_dC N (ib_ fe) (gb_ go)) i))), (2, .int (nI i))]) hx hb dX0_doubtful_19 hl (by decide) rfl (fun ls hl => ?_)
      refine doubtful_li N (pu_ct (pu_dC N (ib_ fe) (gb_ go)) i) i (by omega) hpo S hK hW (fun ls hl => ?_) 7 0 (by omega) (by omega) ls (lv_sub hl [2, 3, 4, 1, 0] rfl)
      have hfa : pu_fa (ib_ fe) i 6 < 729 := pu_fa_lt (ib_ fe) i 6
      have hci := hct (pu_fa (ib_ fe) i 6) hfa
      have T2 : ∀ z : Nat, z = (if pu_dC N (ib_ fe) (gb_ go) i then 1 else 0) → W p l e R s m args below meth c H locs 0 0 Q (F0 m 91 ls [.int (nI z), .int (nI (pu_ct (pu_dC N (ib_ fe) (gb_ go)) i))]) := by
        intro z hz
        refine lv_iadd hx hb dX0_doubtful_91 ?_
        refine rw_i (v := nI ((pu_ct (pu_dC N (ib_ fe) (gb_ go)) i) + z)) (nI_add (pu_ct (pu_dC N (ib_ fe) (gb_ go)) i) z) ?_
        refine rw_i (v := nI (pu_ct (pu_dC N (ib_ fe) (gb_ go)) (i + 1))) (by rw [pu_ct_s, hz]) ?_
        refine lv_istore_n (lv' := [(1, .int (nI (pu_ct (pu_dC N (ib_ fe) (gb_ go)) (i + 1)))), (0, .ref (a 0)), (2, .int (nI i)), (3, .int (nI (pu_fa (ib_ fe) i 6)))]) hx hb dX0_doubtful_92 rfl hl (by decide) rfl (fun ls hl => ?_)
        refine lv_iinc (v := nI (i + 1)) (lv' := [(2, .int (nI (i + 1))), (1, .int (nI (pu_ct (pu_dC N (ib_ fe) (gb_ go)) (i + 1)))), (0, .ref (a 0)), (3, .int (nI (pu_fa (ib_ fe) i 6)))]) hx hb dX0_doubtful_93 hl (k := 2) rfl (nI_1 i) (by decide) rfl (fun ls hl => ?_)
        refine lv_goto (tgt := 8) hx hb dX0_doubtful_96 (by decide) ?_
        exact ih (i + 1) (by omega) (by omega) ls (lv_sub hl [2, 1, 0] rfl)
      have T1 : ∀ z : Nat, z ≤ N → decide (0 < z) = pu_dC N (ib_ fe) (gb_ go) i → W p l e R s m args below meth c H locs 0 0 Q (F0 m 83 ls [.int (nI z), .int (nI (pu_ct (pu_dC N (ib_ fe) (gb_ go)) i))]) := by
        intro z hzN hz
        refine nb_le0 (tgt := 90) hx hb dX0_doubtful_83 (by decide) z (by omega) (fun c1 => ?_) (fun c1 => ?_)
        · refine lv_iconst (v := nI 0) hx hb dX0_doubtful_90 (by decide) ?_
          exact T2 0 (by rw [← hz, c1]; rfl)
        · refine lv_iconst (v := nI 1) hx hb dX0_doubtful_86 (by decide) ?_
          refine lv_goto (tgt := 91) hx hb dX0_doubtful_87 (by decide) ?_
          exact T2 1 (by rw [← hz, decide_eq_true c1]; rfl)
      refine lv_iload_n hx hb dX0_doubtful_58 rfl (lv_at hl 1 rfl) ?_
      refine lv_aload_n hx hb dX0_doubtful_59 rfl (lv_at hl 0 rfl) ?_
      refine bg_2 S hK hW.1 dX0_doubtful_60 ?_
      refine lv_iload_n hx hb dX0_doubtful_63 rfl (lv_at hl 2 rfl) ?_
      refine bl_2 S hK hW.1 i (by omega) dX0_doubtful_64 ?_
      refine lv_if_eq (tgt := 77) hx hb dX0_doubtful_65 (by decide) (fun hc => ?_) (fun hc => ?_)
      · refine lv_aload_n hx hb dX0_doubtful_77 rfl (lv_at hl 0 rfl) ?_
        refine bg_4 S hK hW.1 dX0_doubtful_78 ?_
        refine lv_iload_n hx hb dX0_doubtful_81 rfl (lv_at hl 3 rfl) ?_
        refine bl_3 S hK hW.1 (pu_fa (ib_ fe) i 6) (by omega) dX0_doubtful_82 ?_
        refine rw_i (v := nI (pu_ct (fun k => pu_L (ib_ fe) (pu_fa (ib_ fe) i 6) k && gb_ go k) N)) (hci.1) ?_
        refine T1 _ (pu_ct_le _ N) ?_
        unfold pu_dC
        rw [if_neg (by unfold gb_; simp [hc])]
      · refine lv_aload_n hx hb dX0_doubtful_68 rfl (lv_at hl 0 rfl) ?_
        refine bg_5 S hK hW.1 dX0_doubtful_69 ?_
        refine lv_iload_n hx hb dX0_doubtful_72 rfl (lv_at hl 3 rfl) ?_
        refine bl_4 S hK hW.1 (pu_fa (ib_ fe) i 6) (by omega) dX0_doubtful_73 ?_
        refine lv_goto (tgt := 83) hx hb dX0_doubtful_74 (by decide) ?_
        refine rw_i (v := nI (pu_ct (fun k => pu_L (ib_ fe) (pu_fa (ib_ fe) i 6) k && !gb_ go k) N)) (hci.2) ?_
        refine T1 _ (pu_ct_le _ N) ?_
        unfold pu_dC
        rw [if_pos (by unfold gb_; simp [hc])]
set_option maxHeartbeats 4000000 in
set_option maxRecDepth 100000 in
theorem met_doubtful (l : Launch) (D : va_G) (a : Nat → Nat) (d : Nat → ClassId) (N : Nat) (cnt : Int32) (fe go gl bl : Nat → Int32) (sy : Nat → Int64) (be po : Nat → Int32) (hap : ap_ a 8 (fun _ => True)) (hN : N ≤ 48) (hpo : po_ok po) (hct : ¬ cnt = 0 → ct_ok N fe go gl bl) : Met l yX0_doubtful (ws_ yX0_doubtful cX0_doubtful 5 (some .int)) { frames := 3, cells := 0, slots := 0, locals := 77 } (va_Pc [.ref (a 0)] (fun U => va_P D vwCl (bw_ a d (nI N) cnt fe go gl bl sy be po) U.heap ∧ va_K D vwCl (bt_ d) U)) (va_Qi (fun r (u : WU) => r = nI (pu_ct (pu_dC N (ib_ fe) (gb_ go)) N) ∧ (¬ u.1 = 0 → ct_ok N fe go u.2.1 u.2.2.1)) (fun (u : WU) t => va_P D vwCl (bw_ a d (nI N) u.1 fe go u.2.1 u.2.2.1 u.2.2.2.1 u.2.2.2.2 po) t.heap) (ad_ a 8)) 0 0 (ad_ a 8) := by
  refine me_of (by decide) (Nat.le_of_ble_eq_true rfl) (fun p e s m below meth c S hr hlk hnm hv ls hl => ?_)
  have S : CallFix p m c cX0_doubtful 5 s _ lw_all RX0 := S
  have hx := S.1
  have hb := S.2.1
  have hl : lv_has ls 5 [(0, .ref (a 0))] := hl
  have hK := hv.2
  have ha := ap_self hap
  have hW : BW D (ad_ a 8) s.heap a d (nI N) cnt fe go gl bl sy be po s.heap [] := ⟨hv.1, va_S.rf⟩
  refine lv_aload_n hx hb dX0_doubtful_0 rfl (lv_at hl 0 rfl) ?_
  refine cl_count S ⟨Nat.le_of_ble_eq_true rfl, Nat.le_of_ble_eq_true rfl⟩ hK N ha hN hpo hct hW hl.1 (Nat.zero_le 8) dX0_doubtful_1 (fun H locs cnt gl bl sy hW hc0 hct => ?_)
  refine lv_iconst (v := nI 0) hx hb dX0_doubtful_4 (by decide) ?_
  refine lv_istore_n (lv' := [(1, .int (nI 0)), (0, .ref (a 0))]) hx hb dX0_doubtful_5 rfl hl (by decide) rfl (fun ls hl => ?_)
  refine lv_iconst (v := nI 0) hx hb dX0_doubtful_6 (by decide) ?_
  refine lv_istore_n (lv' := [(2, .int (nI 0)), (1, .int (nI 0)), (0, .ref (a 0))]) hx hb dX0_doubtful_7 rfl hl (by decide) rfl (fun ls hl => ?_)
  refine doubtful_lp N hN hpo hct S hK hW (fun ls hl => ?_) (N + 1) 0 (by omega) (by omega) ls (lv_sub hl [2, 1, 0] rfl)
  refine lv_iload_n hx hb dX0_doubtful_99 rfl (lv_at hl 0 rfl) ?_
  exact W.iret hx hb hr (fun t ht hW2 => ⟨⟨_, (cnt, gl, bl, sy, be), rfl, ⟨rfl, fun _ => hct⟩, to_ht ht hW.1⟩, hW.2.F ht⟩) hW.2.2.2 dX0_doubtful_100
end B4
end
section
/-! BestTree: add, drop, its constructor -/
section B5
variable {p : Program} {l : Launch} {e : Env} {R : Room} {s : State} {m : MethodId} {args : Array Value} {below : List Frame} {meth : Method} {c : Code} {H : Heap} {locs : List Loc} {Q : State → Prop}
variable {cc : ByteArray} {nL pc : Nat} {ls : Array Slot} {rest : List Value} {D : va_G} {A : Nat → Prop} {H0 : Heap} {a : Nat → Nat} {d : Nat → ClassId} {n cnt mi ak : Int32} {fe go gl bl : Nat → Int32} {sy : Nat → Int64} {be po : Nat → Int32}
variable {cells slots : Nat}
abbrev AU : Type := Int32 × Int32 × (Nat → Int32) × (Nat → Int32)
set_option maxHeartbeats 4000000 in
set_option maxRecDepth 100000 in
theorem met_add (l : Launch) (D : va_G) (a : Nat → Nat) (d : Nat → ClassId) (N : Nat) (cnt : Int32) (fe go gl bl : Nat → Int32) (sy : Nat → Int64) (be po : Nat → Int32) (hap : ap_ a 8 (fun _ => True)) (hN : N ≤ 48) (x b : Int32) (hb01 : b = 0 ∨ b = 1) : Met l yX0_add (ws_ yX0_add cX0_add 3 (some .int)) { frames := 0, cells := 0, slots := 0, locals := 0 } (va_Pc [.ref (a 0), .int x, .int b] (fun U => va_P D vwCl (bw_ a d (nI N) cnt fe go gl bl sy be po) U.heap ∧ va_K D vwCl (bt_ d) U)) (va_Qi (fun r (u : AU) => (N < 48 ∧ r = nI (N + 1) ∧ u = (nI (N + 1), nI 0, upd fe N (x &&& (nI 63)), upd go N b)) ∨ (48 ≤ N ∧ r = -1 ∧ u = (nI N, cnt, fe, go))) (fun (u : AU) t => va_P D vwCl (bw_ a d u.1 u.2.1 u.2.2.1 u.2.2.2 gl bl sy be po) t.heap) (ad_ a 8)) 0 0 (ad_ a 8) := by
  refine me_of (by decide) (Nat.le_of_ble_eq_true rfl) (fun p e s m below meth c S hr hlk hnm hv ls hl => ?_)
  have S : CallFix p m c cX0_add 3 s _ lw_all RX0 := S
  have hx := S.1
  have hb := S.2.1
  have hl : lv_has ls 3 [(0, .ref (a 0)), (1, .int x), (2, .int b)] := hl
  have hK := hv.2
  have ha := ap_self hap
  have hW : BW D (ad_ a 8) s.heap a d (nI N) cnt fe go gl bl sy be po s.heap [] := ⟨hv.1, va_S.rf⟩
  refine lv_aload_n hx hb dX0_add_0 rfl (lv_at hl 0 rfl) ?_
  refine bg_0 S hK hW.1 dX0_add_1 ?_
  refine lv_bipush (v := nI 48) hx hb dX0_add_4 (by decide) ?_
  refine nb_lt (tgt := 11) hx hb dX0_add_6 (by decide) N 48 (by omega) (by omega) (fun c1 => ?_) (fun c1 => ?_)
  · refine lv_aload_n hx hb dX0_add_11 rfl (lv_at hl 0 rfl) ?_
    refine bg_1 S hK hW.1 dX0_add_12 ?_
    refine lv_aload_n hx hb dX0_add_15 rfl (lv_at hl 0 rfl) ?_
    refine bg_0 S hK hW.1 dX0_add_16 ?_
    refine lv_iload_n hx hb dX0_add_19 rfl (lv_at hl 1 rfl) ?_
    refine lv_bipush (v := nI 63) hx hb dX0_add_20 (by decide) ?_
    refine lv_iand hx hb dX0_add_22 ?_
    refine bs_1 S hK ha hW N (by omega) dX0_add_23 (fun H locs hW => ?_)
    refine lv_aload_n hx hb dX0_add_24 rfl (lv_at hl 0 rfl) ?_
    refine bg_2 S hK hW.1 dX0_add_25 ?_
    refine lv_aload_n hx hb dX0_add_28 rfl (lv_at hl 0 rfl) ?_
    refine bg_0 S hK hW.1 dX0_add_29 ?_
    refine lv_iload_n hx hb dX0_add_32 rfl (lv_at hl 2 rfl) ?_
    refine bs_2 S hK ha hW N (by omega) hb01 dX0_add_33 (fun H locs hW => ?_)
    refine lv_aload_n hx hb dX0_add_34 rfl (lv_at hl 0 rfl) ?_
    refine lv_dup hx hb dX0_add_35 rfl ?_
    refine bg_0 S hK hW.1 dX0_add_36 ?_
    refine lv_iconst (v := nI 1) hx hb dX0_add_39 (by decide) ?_
    refine lv_iadd hx hb dX0_add_40 ?_
    refine rw_i (v := nI (N + 1)) (nI_add N 1) ?_
    refine bp_0 S hK ha hW dX0_add_41 (fun H locs hW => ?_)
    refine lv_aload_n hx hb dX0_add_44 rfl (lv_at hl 0 rfl) ?_
    refine lv_iconst (v := nI 0) hx hb dX0_add_45 (by decide) ?_
    refine bp_3 S hK ha hW rfl rfl dX0_add_46 (fun H locs hW => ?_)
    refine lv_aload_n hx hb dX0_add_49 rfl (lv_at hl 0 rfl) ?_
    refine bg_0 S hK hW.1 dX0_add_50 ?_
    exact W.iret hx hb hr (fun t ht hW2 => ⟨⟨_, (nI (N + 1), nI 0, upd fe N (x &&& (nI 63)), upd go N b), rfl, Or.inl ⟨c1, rfl, rfl⟩, to_ht ht hW.1⟩, hW.2.F ht⟩) hW.2.2.2 dX0_add_53
  · refine lv_iconst (v := -1) hx hb dX0_add_9 (by decide) ?_
    exact W.iret hx hb hr (fun t ht hW2 => ⟨⟨_, (nI N, cnt, fe, go), rfl, Or.inr ⟨c1, rfl, rfl⟩, to_ht ht hW.1⟩, hW.2.F ht⟩) hW.2.2.2 dX0_add_10
set_option maxHeartbeats 4000000 in
set_option maxRecDepth 100000 in
theorem drop_lp (N j : Nat) (hN : N < 48) (hgo : ∀ k, go k = 0 ∨ go k = 1) (S : CallFix p m c cX0_drop 3 s args lw_all RX0) (hK : va_K D vwCl (bt_ d) s) (ha : ap_ a 8 A) (K : ∀ (H : Heap) (locs : List Loc) (ls : Array Slot), BW D A H0 a d (nI N) cnt (dr_ fe j N) (dr_ go j N) gl bl sy be po H locs → lv_has ls 3 [(0, .ref (a 0))] → W p l e R s m args below meth c H locs 0 0 Q (F0 m 68 ls [])) : ∀ (k i : Nat), (j ≤ i ∧ i ≤ N) → N < i + k → ∀ (H : Heap) (locs : List Loc) (ls : Array Slot), BW D A H0 a d (nI N) cnt (dr_ fe j i) (dr_ go j i) gl bl sy be po H locs → lv_has ls 3 [(0, .ref (a 0)), (2, .int (nI i))] → W p l e R s m args below meth c H locs 0 0 Q (F0 m 26 ls []) := by
  have hx := S.1
  have hb := S.2.1
  intro k
  induction k with
  | zero =>
    intro i g1 g2
    exact absurd g2 (by omega)
  | succ k ih =>
    intro i q1 q2 H locs ls hW hl
    refine lv_iload_n hx hb dX0_drop_26 rfl (lv_at hl 1 rfl) ?_
    refine lv_aload_n hx hb dX0_drop_27 rfl (lv_at hl 0 rfl) ?_
    refine bg_0 S hK hW.1 dX0_drop_28 ?_
    refine nb_ge (tgt := 68) hx hb dX0_drop_31 (by decide) i N (by omega) (by omega) (fun c1 => ?_) (fun c1 => ?_)
    · obtain rfl : i = N := by omega
      exact K H locs ls hW (lv_sub hl [0] rfl)
    · refine lv_aload_n hx hb dX0_drop_34 rfl (lv_at hl 0 rfl) ?_
      refine bg_1 S hK hW.1 dX0_drop_35 ?_
      refine lv_iload_n hx hb dX0_drop_38 rfl (lv_at hl 1 rfl) ?_
      refine lv_aload_n hx hb dX0_drop_39 rfl (lv_at hl 0 rfl) ?_
      refine bg_1 S hK hW.1 dX0_drop_40 ?_
      refine lv_iload_n hx hb dX0_drop_43 rfl (lv_at hl 1 rfl) ?_
      refine lv_iconst (v := nI 1) hx hb dX0_drop_44 (by decide) ?_
      refine lv_iadd hx hb dX0_drop_45 ?_
      refine rw_i (v := nI (i + 1)) (nI_add i 1) ?_
      refine bl_1 S hK hW.1 (i + 1) (by omega) dX0_drop_46 ?_
      refine bs_1 S hK ha hW i (by omega) dX0_drop_47 (fun H locs hW => ?_)
      rw [dr_n, dr_s _ q1.1] at hW
      refine lv_aload_n hx hb dX0_drop_48 rfl (lv_at hl 0 rfl) ?_
      refine bg_2 S hK hW.1 dX0_drop_49 ?_
      refine lv_iload_n hx hb dX0_drop_52 rfl (lv_at hl 1 rfl) ?_
      refine lv_aload_n hx hb dX0_drop_53 rfl (lv_at hl 0 rfl) ?_
      refine bg_2 S hK hW.1 dX0_drop_54 ?_
      refine lv_iload_n hx hb dX0_drop_57 rfl (lv_at hl 1 rfl) ?_
      refine lv_iconst (v := nI 1) hx hb dX0_drop_58 (by decide) ?_
      refine lv_iadd hx hb dX0_drop_59 ?_
      refine rw_i (v := nI (i + 1)) (nI_add i 1) ?_
      refine bl_2 S hK hW.1 (i + 1) (by omega) dX0_drop_60 ?_
      refine bs_2 S hK ha hW i (by omega) (dr_p (P := fun x => x = 0 ∨ x = 1) hgo j i (i + 1)) dX0_drop_61 (fun H locs hW => ?_)
      rw [dr_n, dr_s _ q1.1] at hW
      refine lv_iinc (v := nI (i + 1)) (lv' := [(2, .int (nI (i + 1))), (0, .ref (a 0))]) hx hb dX0_drop_62 hl (k := 1) rfl (nI_1 i) (by decide) rfl (fun ls hl => ?_)
      refine lv_goto (tgt := 26) hx hb dX0_drop_65 (by decide) ?_
      exact ih (i + 1) (by omega) (by omega) H locs ls hW (lv_sub hl [1, 0] rfl)
set_option maxHeartbeats 4000000 in
set_option maxRecDepth 100000 in
theorem met_drop (l : Launch) (D : va_G) (a : Nat → Nat) (d : Nat → ClassId) (N : Nat) (cnt : Int32) (fe go gl bl : Nat → Int32) (sy : Nat → Int64) (be po : Nat → Int32) (hap : ap_ a 8 (fun _ => True)) (hN : N ≤ 48) (hgo : ∀ k, go k = 0 ∨ go k = 1) (x : Int32) : Met l yX0_drop (ws_ yX0_drop cX0_drop 3 (some .int)) { frames := 0, cells := 0, slots := 0, locals := 0 } (va_Pc [.ref (a 0), .int x] (fun U => va_P D vwCl (bw_ a d (nI N) cnt fe go gl bl sy be po) U.heap ∧ va_K D vwCl (bt_ d) U)) (va_Qi (fun r (u : AU) => (∃ j, j < N ∧ x = nI j ∧ r = nI (N - 1) ∧ u = (nI (N - 1), nI 0, dr_ fe j (N - 1), dr_ go j (N - 1))) ∨ ((∀ j, j < N → x ≠ nI j) ∧ r = -1 ∧ u = (nI N, cnt, fe, go))) (fun (u : AU) t => va_P D vwCl (bw_ a d u.1 u.2.1 u.2.2.1 u.2.2.2 gl bl sy be po) t.heap) (ad_ a 8)) 0 0 (ad_ a 8) := by
  refine me_of (by decide) (Nat.le_of_ble_eq_true rfl) (fun p e s m below meth c S hr hlk hnm hv ls hl => ?_)
  have S : CallFix p m c cX0_drop 3 s _ lw_all RX0 := S
  have hx := S.1
  have hb := S.2.1
  have hl : lv_has ls 3 [(0, .ref (a 0)), (1, .int x)] := hl
  have hK := hv.2
  have ha := ap_self hap
  have hW : BW D (ad_ a 8) s.heap a d (nI N) cnt fe go gl bl sy be po s.heap [] := ⟨hv.1, va_S.rf⟩
  refine lv_iload_n hx hb dX0_drop_0 rfl (lv_at hl 1 rfl) ?_
  refine lv_if_lt (tgt := 12) hx hb dX0_drop_1 (by decide) (fun c1 => ?_) (fun c1 => ?_)
  · refine lv_iconst (v := -1) hx hb dX0_drop_12 (by decide) ?_
    exact W.iret hx hb hr (fun t ht hW2 => ⟨⟨_, (nI N, cnt, fe, go), rfl, Or.inr ⟨fun g hg e => nI_pos (n := g) (by omega) (by rw [← e]; exact c1), rfl, rfl⟩, to_ht ht hW.1⟩, hW.2.F ht⟩) hW.2.2.2 dX0_drop_13
  · obtain ⟨j, hj, hxj⟩ := nI_of c1
    refine lv_iload_n hx hb dX0_drop_4 rfl (lv_at hl 1 rfl) ?_
    refine rw_i (v := nI j) (hxj) ?_
    refine lv_aload_n hx hb dX0_drop_5 rfl (lv_at hl 0 rfl) ?_
    refine bg_0 S hK hW.1 dX0_drop_6 ?_
    refine nb_lt (tgt := 14) hx hb dX0_drop_9 (by decide) j N (by omega) (by omega) (fun c2 => ?_) (fun c2 => ?_)
    · refine lv_aload_n hx hb dX0_drop_14 rfl (lv_at hl 0 rfl) ?_
      refine lv_dup hx hb dX0_drop_15 rfl ?_
      refine bg_0 S hK hW.1 dX0_drop_16 ?_
      refine lv_iconst (v := nI 1) hx hb dX0_drop_19 (by decide) ?_
      refine lv_isub hx hb dX0_drop_20 ?_
      refine rw_i (v := nI (N - 1)) (pk_sub (by omega)) ?_
      refine bp_0 S hK ha hW dX0_drop_21 (fun H locs hW => ?_)
      refine lv_iload_n hx hb dX0_drop_24 rfl (lv_at hl 1 rfl) ?_
      refine rw_i (v := nI j) (hxj) ?_
      refine lv_istore_n (lv' := [(2, .int (nI j)), (0, .ref (a 0)), (1, .int x)]) hx hb dX0_drop_25 rfl hl (by decide) rfl (fun ls hl => ?_)
      have hW3 : BW D (ad_ a 8) s.heap a d (nI (N - 1)) cnt (dr_ fe j j) (dr_ go j j) gl bl sy be po H locs := by rw [dr_0, dr_0]; exact hW
      refine drop_lp (N - 1) j (by omega) hgo S hK ha (fun H locs ls hW hl => ?_) N j (by omega) (by omega) H locs ls hW3 (lv_sub hl [1, 0] rfl)
      refine lv_aload_n hx hb dX0_drop_68 rfl (lv_at hl 0 rfl) ?_
      refine lv_iconst (v := nI 0) hx hb dX0_drop_69 (by decide) ?_
      refine bp_3 S hK ha hW rfl rfl dX0_drop_70 (fun H locs hW => ?_)
      refine lv_aload_n hx hb dX0_drop_73 rfl (lv_at hl 0 rfl) ?_
      refine bg_0 S hK hW.1 dX0_drop_74 ?_
      exact W.iret hx hb hr (fun t ht hW2 => ⟨⟨_, (nI (N - 1), nI 0, dr_ fe j (N - 1), dr_ go j (N - 1)), rfl, Or.inl ⟨j, c2, hxj, rfl, rfl⟩, to_ht ht hW.1⟩, hW.2.F ht⟩) hW.2.2.2 dX0_drop_77
    · refine lv_iconst (v := -1) hx hb dX0_drop_12 (by decide) ?_
      exact W.iret hx hb hr (fun t ht hW2 => ⟨⟨_, (nI N, cnt, fe, go), rfl, Or.inr ⟨fun g hg e => absurd ((nI_eq hj (by omega)).mp (hxj.symm.trans e)) (by omega), rfl, rfl⟩, to_ht ht hW.1⟩, hW.2.F ht⟩) hW.2.2.2 dX0_drop_13
theorem D_ap {a : Nat → Nat} {k : Nat} {A : Nat → Prop} {ws : va_W} (h : va_D A ws) (e : ws.map (fun q => q.1) = (List.range k).map a) : ap_ a k A := by
  have key : ∀ i, i < k → ∃ q : Nat × va_E, ws[i]? = some q ∧ q.1 = a i := by
    intro i hi
    have h1 : (ws.map (fun q => q.1))[i]? = some (a i) := by rw [e, List.getElem?_map, List.getElem?_range hi]; rfl
    rw [List.getElem?_map] at h1
    cases hw : ws[i]? with
    | none => rw [hw] at h1; cases h1
    | some q => rw [hw] at h1; exact ⟨q, rfl, Option.some.inj h1⟩
  refine ⟨fun i j hi hj hij => ?_, fun i hi => ?_⟩
  · obtain ⟨x, h1, h2⟩ := key i hi
    obtain ⟨y, h3, h4⟩ := key j hj
    exact h.1 i j x y h1 h3 (by rw [h2, h4]; exact hij)
  · obtain ⟨x, h1, h2⟩ := key i hi
    rw [← h2]
    exact h.2 i x h1
theorem one_D {A : Nat → Prop} {h0 : Nat} {E : va_E} (h : A h0) : va_D A [(h0, E)] := ap_D (a := fun _ => h0) (k := 1) ⟨fun i j hi hj _ => by omega, fun _ _ => h⟩ rfl
set_option maxHeartbeats 4000000 in
set_option maxRecDepth 100000 in
theorem init_lp (S : CallFix p m c cX0_init 2 s args lw_all RX0) (hK : va_K D vwCl (bt_ d) s) (ha : ap_ a 8 A) (K : ∀ (H : Heap) (locs : List Loc) (ls : Array Slot) (po : Nat → Int32), BW D A H0 a d n cnt fe go gl bl sy be po H locs → po_ok po → W p l e R s m args below meth c H locs cells slots Q (F0 m 100 ls [])) : ∀ (k f : Nat), f ≤ 6 → 6 < f + k → ∀ (H : Heap) (locs : List Loc) (ls : Array Slot) (po : Nat → Int32), BW D A H0 a d n cnt fe go gl bl sy be po H locs → (∀ g, g ≤ f → po g = nI (3 ^ g)) → lv_has ls 2 [(0, .ref (a 0)), (1, .int (nI f))] → W p l e R s m args below meth c H locs cells slots Q (F0 m 72 ls []) := by
  have hx := S.1
  have hb := S.2.1
  intro k
  induction k with
  | zero =>
    intro f g1 g2
    exact absurd g2 (by omega)
  | succ k ih =>
    intro f q1 q2 H locs ls po hW hp hl
    refine lv_iload_n hx hb dX0_init_72 rfl (lv_at hl 1 rfl) ?_
    refine lv_bipush (v := nI 6) hx hb dX0_init_73 (by decide) ?_
    refine nb_ge (tgt := 100) hx hb dX0_init_75 (by decide) f 6 (by omega) (by omega) (fun c1 => ?_) (fun c1 => ?_)
    · exact K H locs ls po hW (fun g hg => hp g (by omega))
    · refine lv_aload_n hx hb dX0_init_78 rfl (lv_at hl 0 rfl) ?_
      refine bg_8 S hK hW.1 dX0_init_79 ?_
      refine lv_iload_n hx hb dX0_init_82 rfl (lv_at hl 1 rfl) ?_
      refine lv_iconst (v := nI 1) hx hb dX0_init_83 (by decide) ?_
      refine lv_iadd hx hb dX0_init_84 ?_
      refine rw_i (v := nI (f + 1)) (nI_add f 1) ?_
      refine lv_iconst (v := nI 3) hx hb dX0_init_85 (by decide) ?_
      refine lv_aload_n hx hb dX0_init_86 rfl (lv_at hl 0 rfl) ?_
      refine bg_8 S hK hW.1 dX0_init_87 ?_
      refine lv_iload_n hx hb dX0_init_90 rfl (lv_at hl 1 rfl) ?_
      refine bl_7 S hK hW.1 f (by omega) dX0_init_91 ?_
      refine rw_i (v := nI (3 ^ f)) (hp f (Nat.le_refl f)) ?_
      refine lv_imul hx hb dX0_init_92 ?_
      refine rw_i (v := nI (3 * (3 ^ f))) (pk_mul 3 (3 ^ f)) ?_
      refine rw_i (v := nI (3 ^ (f + 1))) (by rw [Nat.pow_succ, Nat.mul_comm]) ?_
      refine bs_7 S hK ha hW (f + 1) (by omega) dX0_init_93 (fun H locs hW => ?_)
      refine lv_iinc (v := nI (f + 1)) (lv' := [(1, .int (nI (f + 1))), (0, .ref (a 0))]) hx hb dX0_init_94 hl (k := 1) rfl (nI_1 f) (by decide) rfl (fun ls hl => ?_)
      refine lv_goto (tgt := 72) hx hb dX0_init_97 (by decide) ?_
      refine ih (f + 1) (by omega) (by omega) H locs ls _ hW (fun g hg => ?_) (lv_sub hl [1, 0] rfl)
      by_cases e : g = f + 1
      · rw [e]
        exact pk_us
      · rw [pk_un e]
        exact hp g (by omega)
set_option maxHeartbeats 4000000 in
set_option maxRecDepth 100000 in
theorem init_tail (S : CallFix p m c cX0_init 2 s args lw_all RX0) (hK : va_K D vwCl (bt_ d) s) (ha : ap_ a 8 A) (K : ∀ (H : Heap) (locs : List Loc) (ls : Array Slot) (po : Nat → Int32), BW D A H0 a d n cnt fe go gl bl sy be po H locs → po_ok po → W p l e R s m args below meth c H locs cells slots Q (F0 m 100 ls [])) (hW : BW D A H0 a d n cnt fe go gl bl sy be po H locs) (hl : lv_has ls 2 [(0, .ref (a 0))]) : W p l e R s m args below meth c H locs cells slots Q (F0 m 63 ls []) := by
  have hx := S.1
  have hb := S.2.1
  refine lv_aload_n hx hb dX0_init_63 rfl (lv_at hl 0 rfl) ?_
  refine bg_8 S hK hW.1 dX0_init_64 ?_
  refine lv_iconst (v := nI 0) hx hb dX0_init_67 (by decide) ?_
  refine lv_iconst (v := nI 1) hx hb dX0_init_68 (by decide) ?_
  refine bs_7 S hK ha hW 0 (by omega) dX0_init_69 (fun H locs hW => ?_)
  refine lv_iconst (v := nI 0) hx hb dX0_init_70 (by decide) ?_
  refine lv_istore_n (lv' := [(1, .int (nI 0)), (0, .ref (a 0))]) hx hb dX0_init_71 rfl hl (by decide) rfl (fun ls hl => ?_)
  refine init_lp S hK ha K 7 0 (by omega) (by omega) H locs ls _ hW (fun g hg => ?_) (lv_sub hl [1, 0] rfl)
  rw [show g = 0 by omega]
  exact pk_us
abbrev NU : Type := (Nat → Nat) × (Nat → ClassId) × (Nat → Int32)
set_option maxHeartbeats 4000000 in
set_option maxRecDepth 100000 in
theorem met_init (l : Launch) (D : va_G) (h0 sz : Nat) : Met l yX0_init (ws_ yX0_init cX0_init 2 none) { frames := 1, cells := 7, slots := 4483, locals := 12 } (va_Pc [.ref h0] (fun U => va_P D vwCl [(h0, .inr (0, [.int (nI 0), .null, .null, .int (nI 0), .null, .null, .null, .null, .null]))] U.heap ∧ va_K D vwCl [] U ∧ U.heap.size = sz)) (va_Qv (fun u : NU => u.1 0 = h0 ∧ po_ok u.2.2 ∧ ap_ u.1 8 (fun q => q = h0 ∨ sz ≤ q)) (fun (u : NU) t => va_P D vwCl (bw_ u.1 u.2.1 (nI 0) (nI 0) (fun _ => 0) (fun _ => 0) (fun _ => 0) (fun _ => 0) (fun _ => 0) (fun _ => 0) u.2.2) t.heap ∧ va_K D vwCl (bt_ u.2.1) t) (fun q => q = h0 ∨ sz ≤ q)) 7 4483 (fun q => q = h0 ∨ sz ≤ q) := by
  refine me_of (by decide) (Nat.le_of_ble_eq_true rfl) (fun p e s m below meth c S hr hlk hnm hv ls hl => ?_)
  have S : CallFix p m c cX0_init 2 s _ lw_all RX0 := S
  have hx := S.1
  have hb := S.2.1
  have hl : lv_has ls 2 [(0, .ref h0)] := hl
  obtain ⟨hP, hK, hsz⟩ := hv
  have hA : ∀ q : Nat, s.heap.size ≤ q → (fun q => q = h0 ∨ sz ≤ q) q := fun q h => Or.inr (by rw [← hsz]; exact h)
  have hD : va_D (fun q => q = h0 ∨ sz ≤ q) [(h0, .inr (0, [.int (nI 0), .null, .null, .int (nI 0), .null, .null, .null, .null, .null]))] := one_D (Or.inl rfl)
  generalize hAe : (fun q => q = h0 ∨ sz ≤ q) = A at hA hD ⊢
  have hS : va_S A s.heap s.heap [] := va_S.rf
  refine lv_aload_n hx hb dX0_init_0 rfl (lv_at hl 0 rfl) ?_
  refine W.objInit hx hb S.2.2.2.1 (S.2.2.2.2 _ q21) (S.2.2.2.2 _ q22) (S.2.2.2.2 _ q23) rfl (by rw [S.2.2.1]; exact hl.1) rfl dX0_init_1 (Nat.le_of_ble_eq_true rfl) (Nat.le_of_ble_eq_true rfl) ?_
  refine W.eq (g2 := F0 m 4 ls []) rfl ?_
  refine lv_aload_n hx hb dX0_init_4 rfl (lv_at hl 0 rfl) ?_
  refine lv_bipush (v := nI 48) hx hb dX0_init_5 (by decide) ?_
  refine va_newa (D := D) (atype := .int) (a0 := (48, .inl (fun _ => 0))) (ty := .int) hx hb (S.2.2.2.2 _ q52) rfl hK hP hD hS hA (fun _ => rfl) (by decide) (by decide) (by decide) (Nat.le_of_ble_eq_true rfl) (Nat.le_of_ble_eq_true rfl) dX0_init_7 (fun q1 c1 H hK hP hD hS => ?_)
  have hP : va_P D vwCl [(h0, .inr (0, [.int (nI 0), .null, .null, .int (nI 0), .null, .null, .null, .null, .null])), (q1, .inl (c1, (48, .inl (fun _ => 0))))] H := hP
  have hD : va_D A [(h0, .inr (0, [.int (nI 0), .null, .null, .int (nI 0), .null, .null, .null, .null, .null])), (q1, .inl (c1, (48, .inl (fun _ => 0))))] := hD
  have hK : va_K D vwCl [(c1, .int)] s := hK
  refine va_putF (D := D) (ci := 0) (v := .ref q1) (ty := .array .int) (C := RX0) (T := TX0) (N := 9) hx hb S.2.2.2.2 in_X0 tyX0 tyX0_ok nmX0 S.2.2.2.1 hK hP hD hS 0 rfl rfl 1 (by decide) (S.2.2.2.2 _ q25) (fun _ h9 => h9) rfl hnm rfl (by decide +kernel) rfl rfl (Nat.le_of_ble_eq_true rfl) dX0_init_9 (fun H locs hP hD hS => ?_)
  have hP : va_P D vwCl [(h0, .inr (0, [.int (nI 0), .ref q1, .null, .int (nI 0), .null, .null, .null, .null, .null])), (q1, .inl (c1, (48, .inl (fun _ => 0))))] H := hP
  have hD : va_D A [(h0, .inr (0, [.int (nI 0), .ref q1, .null, .int (nI 0), .null, .null, .null, .null, .null])), (q1, .inl (c1, (48, .inl (fun _ => 0))))] := hD
  refine lv_aload_n hx hb dX0_init_12 rfl (lv_at hl 0 rfl) ?_
  refine lv_bipush (v := nI 48) hx hb dX0_init_13 (by decide) ?_
  refine va_newa (D := D) (atype := .boolean) (a0 := (48, .inl (fun _ => 0))) (ty := .boolean) hx hb (S.2.2.2.2 _ q53) rfl hK hP hD hS hA (fun _ => rfl) (by decide) (by decide) (by decide) (Nat.le_of_ble_eq_true rfl) (Nat.le_of_ble_eq_true rfl) dX0_init_15 (fun q2 c2 H hK hP hD hS => ?_)
  have hP : va_P D vwCl [(h0, .inr (0, [.int (nI 0), .ref q1, .null, .int (nI 0), .null, .null, .null, .null, .null])), (q1, .inl (c1, (48, .inl (fun _ => 0)))), (q2, .inl (c2, (48, .inl (fun _ => 0))))] H := hP
  have hD : va_D A [(h0, .inr (0, [.int (nI 0), .ref q1, .null, .int (nI 0), .null, .null, .null, .null, .null])), (q1, .inl (c1, (48, .inl (fun _ => 0)))), (q2, .inl (c2, (48, .inl (fun _ => 0))))] := hD
  have hK : va_K D vwCl [(c1, .int), (c2, .boolean)] s := hK
  refine va_putF (D := D) (ci := 0) (v := .ref q2) (ty := .array .boolean) (C := RX0) (T := TX0) (N := 9) hx hb S.2.2.2.2 in_X0 tyX0 tyX0_ok nmX0 S.2.2.2.1 hK hP hD hS 0 rfl rfl 2 (by decide) (S.2.2.2.2 _ q26) (fun _ h9 => h9) rfl hnm rfl (by decide +kernel) rfl rfl (Nat.le_of_ble_eq_true rfl) dX0_init_17 (fun H locs hP hD hS => ?_)
  have hP : va_P D vwCl [(h0, .inr (0, [.int (nI 0), .ref q1, .ref q2, .int (nI 0), .null, .null, .null, .null, .null])), (q1, .inl (c1, (48, .inl (fun _ => 0)))), (q2, .inl (c2, (48, .inl (fun _ => 0))))] H := hP
  have hD : va_D A [(h0, .inr (0, [.int (nI 0), .ref q1, .ref q2, .int (nI 0), .null, .null, .null, .null, .null])), (q1, .inl (c1, (48, .inl (fun _ => 0)))), (q2, .inl (c2, (48, .inl (fun _ => 0))))] := hD
  refine lv_aload_n hx hb dX0_init_20 rfl (lv_at hl 0 rfl) ?_
  refine lv_sipush (v := nI 729) hx hb dX0_init_21 (by decide) ?_
  refine va_newa (D := D) (atype := .int) (a0 := (729, .inl (fun _ => 0))) (ty := .int) hx hb (S.2.2.2.2 _ q52) rfl hK hP hD hS hA (fun _ => rfl) (by decide) (by decide) (by decide) (Nat.le_of_ble_eq_true rfl) (Nat.le_of_ble_eq_true rfl) dX0_init_24 (fun q3 c3 H hK hP hD hS => ?_)
  have hP : va_P D vwCl [(h0, .inr (0, [.int (nI 0), .ref q1, .ref q2, .int (nI 0), .null, .null, .null, .null, .null])), (q1, .inl (c1, (48, .inl (fun _ => 0)))), (q2, .inl (c2, (48, .inl (fun _ => 0)))), (q3, .inl (c3, (729, .inl (fun _ => 0))))] H := hP
  have hD : va_D A [(h0, .inr (0, [.int (nI 0), .ref q1, .ref q2, .int (nI 0), .null, .null, .null, .null, .null])), (q1, .inl (c1, (48, .inl (fun _ => 0)))), (q2, .inl (c2, (48, .inl (fun _ => 0)))), (q3, .inl (c3, (729, .inl (fun _ => 0))))] := hD
  have hK : va_K D vwCl [(c1, .int), (c2, .boolean), (c3, .int)] s := hK
  refine va_putF (D := D) (ci := 0) (v := .ref q3) (ty := .array .int) (C := RX0) (T := TX0) (N := 9) hx hb S.2.2.2.2 in_X0 tyX0 tyX0_ok nmX0 S.2.2.2.1 hK hP hD hS 0 rfl rfl 4 (by decide) (S.2.2.2.2 _ q28) (fun _ h9 => h9) rfl hnm rfl (by decide +kernel) rfl rfl (Nat.le_of_ble_eq_true rfl) dX0_init_26 (fun H locs hP hD hS => ?_)
  have hP : va_P D vwCl [(h0, .inr (0, [.int (nI 0), .ref q1, .ref q2, .int (nI 0), .ref q3, .null, .null, .null, .null])), (q1, .inl (c1, (48, .inl (fun _ => 0)))), (q2, .inl (c2, (48, .inl (fun _ => 0)))), (q3, .inl (c3, (729, .inl (fun _ => 0))))] H := hP
  have hD : va_D A [(h0, .inr (0, [.int (nI 0), .ref q1, .ref q2, .int (nI 0), .ref q3, .null, .null, .null, .null])), (q1, .inl (c1, (48, .inl (fun _ => 0)))), (q2, .inl (c2, (48, .inl (fun _ => 0)))), (q3, .inl (c3, (729, .inl (fun _ => 0))))] := hD
  refine lv_aload_n hx hb dX0_init_29 rfl (lv_at hl 0 rfl) ?_
  refine lv_sipush (v := nI 729) hx hb dX0_init_30 (by decide) ?_
  refine va_newa (D := D) (atype := .int) (a0 := (729, .inl (fun _ => 0))) (ty := .int) hx hb (S.2.2.2.2 _ q52) rfl hK hP hD hS hA (fun _ => rfl) (by decide) (by decide) (by decide) (Nat.le_of_ble_eq_true rfl) (Nat.le_of_ble_eq_true rfl) dX0_init_33 (fun q4 c4 H hK hP hD hS => ?_)
  have hP : va_P D vwCl [(h0, .inr (0, [.int (nI 0), .ref q1, .ref q2, .int (nI 0), .ref q3, .null, .null, .null, .null])), (q1, .inl (c1, (48, .inl (fun _ => 0)))), (q2, .inl (c2, (48, .inl (fun _ => 0)))), (q3, .inl (c3, (729, .inl (fun _ => 0)))), (q4, .inl (c4, (729, .inl (fun _ => 0))))] H := hP
  have hD : va_D A [(h0, .inr (0, [.int (nI 0), .ref q1, .ref q2, .int (nI 0), .ref q3, .null, .null, .null, .null])), (q1, .inl (c1, (48, .inl (fun _ => 0)))), (q2, .inl (c2, (48, .inl (fun _ => 0)))), (q3, .inl (c3, (729, .inl (fun _ => 0)))), (q4, .inl (c4, (729, .inl (fun _ => 0))))] := hD
  have hK : va_K D vwCl [(c1, .int), (c2, .boolean), (c3, .int), (c4, .int)] s := hK
  refine va_putF (D := D) (ci := 0) (v := .ref q4) (ty := .array .int) (C := RX0) (T := TX0) (N := 9) hx hb S.2.2.2.2 in_X0 tyX0 tyX0_ok nmX0 S.2.2.2.1 hK hP hD hS 0 rfl rfl 5 (by decide) (S.2.2.2.2 _ q29) (fun _ h9 => h9) rfl hnm rfl (by decide +kernel) rfl rfl (Nat.le_of_ble_eq_true rfl) dX0_init_35 (fun H locs hP hD hS => ?_)
  have hP : va_P D vwCl [(h0, .inr (0, [.int (nI 0), .ref q1, .ref q2, .int (nI 0), .ref q3, .ref q4, .null, .null, .null])), (q1, .inl (c1, (48, .inl (fun _ => 0)))), (q2, .inl (c2, (48, .inl (fun _ => 0)))), (q3, .inl (c3, (729, .inl (fun _ => 0)))), (q4, .inl (c4, (729, .inl (fun _ => 0))))] H := hP
  have hD : va_D A [(h0, .inr (0, [.int (nI 0), .ref q1, .ref q2, .int (nI 0), .ref q3, .ref q4, .null, .null, .null])), (q1, .inl (c1, (48, .inl (fun _ => 0)))), (q2, .inl (c2, (48, .inl (fun _ => 0)))), (q3, .inl (c3, (729, .inl (fun _ => 0)))), (q4, .inl (c4, (729, .inl (fun _ => 0))))] := hD
  refine lv_aload_n hx hb dX0_init_38 rfl (lv_at hl 0 rfl) ?_
  refine lv_bipush (v := nI 6) hx hb dX0_init_39 (by decide) ?_
  refine va_newa (D := D) (atype := .long) (a0 := (6, .inr (.inl (fun _ => 0)))) (ty := .long) hx hb (S.2.2.2.2 _ q54) rfl hK hP hD hS hA (fun _ => rfl) (by decide) (by decide) (by decide) (Nat.le_of_ble_eq_true rfl) (Nat.le_of_ble_eq_true rfl) dX0_init_41 (fun q5 c5 H hK hP hD hS => ?_)
  have hP : va_P D vwCl [(h0, .inr (0, [.int (nI 0), .ref q1, .ref q2, .int (nI 0), .ref q3, .ref q4, .null, .null, .null])), (q1, .inl (c1, (48, .inl (fun _ => 0)))), (q2, .inl (c2, (48, .inl (fun _ => 0)))), (q3, .inl (c3, (729, .inl (fun _ => 0)))), (q4, .inl (c4, (729, .inl (fun _ => 0)))), (q5, .inl (c5, (6, .inr (.inl (fun _ => 0)))))] H := hP
  have hD : va_D A [(h0, .inr (0, [.int (nI 0), .ref q1, .ref q2, .int (nI 0), .ref q3, .ref q4, .null, .null, .null])), (q1, .inl (c1, (48, .inl (fun _ => 0)))), (q2, .inl (c2, (48, .inl (fun _ => 0)))), (q3, .inl (c3, (729, .inl (fun _ => 0)))), (q4, .inl (c4, (729, .inl (fun _ => 0)))), (q5, .inl (c5, (6, .inr (.inl (fun _ => 0)))))] := hD
  have hK : va_K D vwCl [(c1, .int), (c2, .boolean), (c3, .int), (c4, .int), (c5, .long)] s := hK
  refine va_putF (D := D) (ci := 0) (v := .ref q5) (ty := .array .long) (C := RX0) (T := TX0) (N := 9) hx hb S.2.2.2.2 in_X0 tyX0 tyX0_ok nmX0 S.2.2.2.1 hK hP hD hS 0 rfl rfl 6 (by decide) (S.2.2.2.2 _ q30) (fun _ h9 => h9) rfl hnm rfl (by decide +kernel) rfl rfl (Nat.le_of_ble_eq_true rfl) dX0_init_43 (fun H locs hP hD hS => ?_)
  have hP : va_P D vwCl [(h0, .inr (0, [.int (nI 0), .ref q1, .ref q2, .int (nI 0), .ref q3, .ref q4, .ref q5, .null, .null])), (q1, .inl (c1, (48, .inl (fun _ => 0)))), (q2, .inl (c2, (48, .inl (fun _ => 0)))), (q3, .inl (c3, (729, .inl (fun _ => 0)))), (q4, .inl (c4, (729, .inl (fun _ => 0)))), (q5, .inl (c5, (6, .inr (.inl (fun _ => 0)))))] H := hP
  have hD : va_D A [(h0, .inr (0, [.int (nI 0), .ref q1, .ref q2, .int (nI 0), .ref q3, .ref q4, .ref q5, .null, .null])), (q1, .inl (c1, (48, .inl (fun _ => 0)))), (q2, .inl (c2, (48, .inl (fun _ => 0)))), (q3, .inl (c3, (729, .inl (fun _ => 0)))), (q4, .inl (c4, (729, .inl (fun _ => 0)))), (q5, .inl (c5, (6, .inr (.inl (fun _ => 0)))))] := hD
  refine lv_aload_n hx hb dX0_init_46 rfl (lv_at hl 0 rfl) ?_
  refine lv_sipush (v := nI 2916) hx hb dX0_init_47 (by decide) ?_
  refine va_newa (D := D) (atype := .int) (a0 := (2916, .inl (fun _ => 0))) (ty := .int) hx hb (S.2.2.2.2 _ q52) rfl hK hP hD hS hA (fun _ => rfl) (by decide) (by decide) (by decide) (Nat.le_of_ble_eq_true rfl) (Nat.le_of_ble_eq_true rfl) dX0_init_50 (fun q6 c6 H hK hP hD hS => ?_)
  have hP : va_P D vwCl [(h0, .inr (0, [.int (nI 0), .ref q1, .ref q2, .int (nI 0), .ref q3, .ref q4, .ref q5, .null, .null])), (q1, .inl (c1, (48, .inl (fun _ => 0)))), (q2, .inl (c2, (48, .inl (fun _ => 0)))), (q3, .inl (c3, (729, .inl (fun _ => 0)))), (q4, .inl (c4, (729, .inl (fun _ => 0)))), (q5, .inl (c5, (6, .inr (.inl (fun _ => 0))))), (q6, .inl (c6, (2916, .inl (fun _ => 0))))] H := hP
  have hD : va_D A [(h0, .inr (0, [.int (nI 0), .ref q1, .ref q2, .int (nI 0), .ref q3, .ref q4, .ref q5, .null, .null])), (q1, .inl (c1, (48, .inl (fun _ => 0)))), (q2, .inl (c2, (48, .inl (fun _ => 0)))), (q3, .inl (c3, (729, .inl (fun _ => 0)))), (q4, .inl (c4, (729, .inl (fun _ => 0)))), (q5, .inl (c5, (6, .inr (.inl (fun _ => 0))))), (q6, .inl (c6, (2916, .inl (fun _ => 0))))] := hD
  have hK : va_K D vwCl [(c1, .int), (c2, .boolean), (c3, .int), (c4, .int), (c5, .long), (c6, .int)] s := hK
  refine va_putF (D := D) (ci := 0) (v := .ref q6) (ty := .array .int) (C := RX0) (T := TX0) (N := 9) hx hb S.2.2.2.2 in_X0 tyX0 tyX0_ok nmX0 S.2.2.2.1 hK hP hD hS 0 rfl rfl 7 (by decide) (S.2.2.2.2 _ q31) (fun _ h9 => h9) rfl hnm rfl (by decide +kernel) rfl rfl (Nat.le_of_ble_eq_true rfl) dX0_init_52 (fun H locs hP hD hS => ?_)
  have hP : va_P D vwCl [(h0, .inr (0, [.int (nI 0), .ref q1, .ref q2, .int (nI 0), .ref q3, .ref q4, .ref q5, .ref q6, .null])), (q1, .inl (c1, (48, .inl (fun _ => 0)))), (q2, .inl (c2, (48, .inl (fun _ => 0)))), (q3, .inl (c3, (729, .inl (fun _ => 0)))), (q4, .inl (c4, (729, .inl (fun _ => 0)))), (q5, .inl (c5, (6, .inr (.inl (fun _ => 0))))), (q6, .inl (c6, (2916, .inl (fun _ => 0))))] H := hP
  have hD : va_D A [(h0, .inr (0, [.int (nI 0), .ref q1, .ref q2, .int (nI 0), .ref q3, .ref q4, .ref q5, .ref q6, .null])), (q1, .inl (c1, (48, .inl (fun _ => 0)))), (q2, .inl (c2, (48, .inl (fun _ => 0)))), (q3, .inl (c3, (729, .inl (fun _ => 0)))), (q4, .inl (c4, (729, .inl (fun _ => 0)))), (q5, .inl (c5, (6, .inr (.inl (fun _ => 0))))), (q6, .inl (c6, (2916, .inl (fun _ => 0))))] := hD
  refine lv_aload_n hx hb dX0_init_55 rfl (lv_at hl 0 rfl) ?_
  refine lv_bipush (v := nI 7) hx hb dX0_init_56 (by decide) ?_
  refine va_newa (D := D) (atype := .int) (a0 := (7, .inl (fun _ => 0))) (ty := .int) hx hb (S.2.2.2.2 _ q52) rfl hK hP hD hS hA (fun _ => rfl) (by decide) (by decide) (by decide) (Nat.le_of_ble_eq_true rfl) (Nat.le_of_ble_eq_true rfl) dX0_init_58 (fun q7 c7 H hK hP hD hS => ?_)
  have hP : va_P D vwCl [(h0, .inr (0, [.int (nI 0), .ref q1, .ref q2, .int (nI 0), .ref q3, .ref q4, .ref q5, .ref q6, .null])), (q1, .inl (c1, (48, .inl (fun _ => 0)))), (q2, .inl (c2, (48, .inl (fun _ => 0)))), (q3, .inl (c3, (729, .inl (fun _ => 0)))), (q4, .inl (c4, (729, .inl (fun _ => 0)))), (q5, .inl (c5, (6, .inr (.inl (fun _ => 0))))), (q6, .inl (c6, (2916, .inl (fun _ => 0)))), (q7, .inl (c7, (7, .inl (fun _ => 0))))] H := hP
  have hD : va_D A [(h0, .inr (0, [.int (nI 0), .ref q1, .ref q2, .int (nI 0), .ref q3, .ref q4, .ref q5, .ref q6, .null])), (q1, .inl (c1, (48, .inl (fun _ => 0)))), (q2, .inl (c2, (48, .inl (fun _ => 0)))), (q3, .inl (c3, (729, .inl (fun _ => 0)))), (q4, .inl (c4, (729, .inl (fun _ => 0)))), (q5, .inl (c5, (6, .inr (.inl (fun _ => 0))))), (q6, .inl (c6, (2916, .inl (fun _ => 0)))), (q7, .inl (c7, (7, .inl (fun _ => 0))))] := hD
  have hK : va_K D vwCl [(c1, .int), (c2, .boolean), (c3, .int), (c4, .int), (c5, .long), (c6, .int), (c7, .int)] s := hK
  refine va_putF (D := D) (ci := 0) (v := .ref q7) (ty := .array .int) (C := RX0) (T := TX0) (N := 9) hx hb S.2.2.2.2 in_X0 tyX0 tyX0_ok nmX0 S.2.2.2.1 hK hP hD hS 0 rfl rfl 8 (by decide) (S.2.2.2.2 _ q32) (fun _ h9 => h9) rfl hnm rfl (by decide +kernel) rfl rfl (Nat.le_of_ble_eq_true rfl) dX0_init_60 (fun H locs hP hD hS => ?_)
  have hP : va_P D vwCl [(h0, .inr (0, [.int (nI 0), .ref q1, .ref q2, .int (nI 0), .ref q3, .ref q4, .ref q5, .ref q6, .ref q7])), (q1, .inl (c1, (48, .inl (fun _ => 0)))), (q2, .inl (c2, (48, .inl (fun _ => 0)))), (q3, .inl (c3, (729, .inl (fun _ => 0)))), (q4, .inl (c4, (729, .inl (fun _ => 0)))), (q5, .inl (c5, (6, .inr (.inl (fun _ => 0))))), (q6, .inl (c6, (2916, .inl (fun _ => 0)))), (q7, .inl (c7, (7, .inl (fun _ => 0))))] H := hP
  have hD : va_D A [(h0, .inr (0, [.int (nI 0), .ref q1, .ref q2, .int (nI 0), .ref q3, .ref q4, .ref q5, .ref q6, .ref q7])), (q1, .inl (c1, (48, .inl (fun _ => 0)))), (q2, .inl (c2, (48, .inl (fun _ => 0)))), (q3, .inl (c3, (729, .inl (fun _ => 0)))), (q4, .inl (c4, (729, .inl (fun _ => 0)))), (q5, .inl (c5, (6, .inr (.inl (fun _ => 0))))), (q6, .inl (c6, (2916, .inl (fun _ => 0)))), (q7, .inl (c7, (7, .inl (fun _ => 0))))] := hD
  refine W.widen (k := 7) (n := 4483) (Nat.le_of_ble_eq_true rfl) (Nat.le_of_ble_eq_true rfl) ?_
  have hap : ap_ (fun k => [h0, q1, q2, q3, q4, q5, q6, q7].getD k 0) 8 A := D_ap hD rfl
  refine init_tail (A := A) (a := (fun k => [h0, q1, q2, q3, q4, q5, q6, q7].getD k 0)) (d := (fun k => [0, c1, c2, c3, c4, c5, c6, c7].getD k 0)) S hK hap (fun H locs ls po hW hpo => ?_) ⟨hP, hS⟩ hl
  exact W.vret hx hb hr (fun t ht hW2 => ⟨⟨((fun k => [h0, q1, q2, q3, q4, q5, q6, q7].getD k 0), (fun k => [0, c1, c2, c3, c4, c5, c6, c7].getD k 0), po), rfl, ⟨rfl, hpo, hap⟩, to_ht ht hW.1, va_K.moved hW2.alike hK⟩, hW.2.F ht⟩) hW.2.2.2 dX0_init_100
end B5
end
section
/-! BestTreeModel: within, weigh, all, part, leaf, one, two, least, by, cheapest -/
section M1
variable {p : Program} {l : Launch} {e : Env} {R : Room} {s : State} {m : MethodId} {args : Array Value} {below : List Frame} {meth : Method} {c : Code} {H : Heap} {locs : List Loc} {Q : State → Prop}
variable {cc : ByteArray} {nL pc : Nat} {ls : Array Slot} {rest : List Value} {D : va_G} {A : Nat → Prop} {H0 : Heap} {a : Nat → Nat} {d : Nat → ClassId} {n cnt mi ak : Int32} {fe go gl bl : Nat → Int32} {sy : Nat → Int64} {be po : Nat → Int32}
set_option maxHeartbeats 4000000 in
set_option maxRecDepth 100000 in
theorem met_within (l : Launch) (lo hi : Nat) (x : Int32) (hlo : lo < 2 ^ 31) : Met l yX1_within (ws_ yX1_within cX1_within 3 (some .int)) { frames := 0, cells := 0, slots := 0, locals := 0 } (va_Pc [.int x, .int (nI lo), .int (nI hi)] (fun _ => True)) (va_Qi (fun r (_ : Unit) => r = nI (cl_ lo hi x)) (fun _ _ => True) (fun _ => False)) 0 0 (fun _ => False) := by
  refine me_of (by decide) (Nat.le_of_ble_eq_true rfl) (fun p e s m below meth c S hr hlk hnm hv ls hl => ?_)
  have S : CallFix p m c cX1_within 3 s _ lw_all RX1 := S
  have hx := S.1
  have hb := S.2.1
  have hl : lv_has ls 3 [(0, .int x), (1, .int (nI lo)), (2, .int (nI hi))] := hl
  have hS0 : va_S (fun _ => False) s.heap s.heap [] := va_S.rf
  have T : W p l e { frames := 0, cells := 0, slots := 0, locals := 0 } s m [.int x, .int (nI lo), .int (nI hi)].toArray below meth c s.heap [] 0 0 (MQ below (va_Qi (fun r (_ : Unit) => r = nI (cl_ lo hi x)) (fun _ _ => True) (fun _ => False)) [.int x, .int (nI lo), .int (nI hi)].toArray s 0 0 (fun _ => False)) (F0 m 19 ls [.int (nI (cl_ lo hi x))]) := W.iret hx hb hr (fun t ht hW2 => ⟨⟨_, (), rfl, rfl, trivial⟩, hS0.F ht⟩) hS0.2.2 dX1_within_19
  refine lv_iload_n hx hb dX1_within_0 rfl (lv_at hl 0 rfl) ?_
  refine lv_iload_n hx hb dX1_within_1 rfl (lv_at hl 1 rfl) ?_
  refine lv_icmp_ge (tgt := 9) hx hb dX1_within_2 (by decide) (fun c1 => ?_) (fun c1 => ?_)
  · refine lv_iload_n hx hb dX1_within_9 rfl (lv_at hl 0 rfl) ?_
    refine lv_iload_n hx hb dX1_within_10 rfl (lv_at hl 2 rfl) ?_
    refine lv_icmp_le (tgt := 18) hx hb dX1_within_11 (by decide) (fun c2 => ?_) (fun c2 => ?_)
    · refine lv_iload_n hx hb dX1_within_18 rfl (lv_at hl 0 rfl) ?_
      refine rw_i (v := nI (cl_ lo hi x)) (cq_mid hlo c1 c2) ?_
      exact T
    · refine lv_iload_n hx hb dX1_within_14 rfl (lv_at hl 2 rfl) ?_
      refine lv_goto (tgt := 19) hx hb dX1_within_15 (by decide) ?_
      refine rw_i (v := nI (cl_ lo hi x)) (cq_hi c1 c2) ?_
      exact T
  · refine lv_iload_n hx hb dX1_within_5 rfl (lv_at hl 1 rfl) ?_
    refine lv_goto (tgt := 19) hx hb dX1_within_6 (by decide) ?_
    refine rw_i (v := nI (cl_ lo hi x)) (cq_lo c1) ?_
    exact T
theorem cl_within {ws : va_W} (S : CallFix p m c cc nL s args lw_all RX1) (hR : 1 ≤ R.frames ∧ 22 ≤ R.locals) (hP : va_P D vwCl ws H) (hS : va_S A H0 H locs) (lo hi : Nat) (x : Int32) (hlo : lo < 2 ^ 31) (hsz : ls.size = nL) (hrest : (rest.map fun v => v.category).sum ≤ 8) (hdg : decode cc pc = .ok (.invokestatic 59, 3)) (kk : ∀ (H : Heap) (locs : List Loc), va_P D vwCl ws H → va_S A H0 H locs → W p l e R s m args below meth c H locs 0 0 Q (F0 m (pc + 3) ls (.int (nI (cl_ lo hi x)) :: rest))) : W p l e R s m args below meth c H locs 0 0 Q (F0 m pc ls (.int (nI hi) :: .int (nI lo) :: .int x :: rest)) :=
  cs_i (As := [.int x, .int (nI lo), .int (nI hi)]) (rest := rest) S (met_within l lo hi x hlo) (va_cwS 3 S.2.2.2.2 (lw_S q145 q146 q15 q147) rfl rfl rfl (by decide +kernel) ⟨hR.1, hR.2⟩) hP hS rfl rfl hsz hrest hdg ⟨Nat.zero_le _, Nat.zero_le _⟩ (fun r H1 locs1 hp hP hk hS => by rw [hp]; exact kk H1 locs1 hP hS)
set_option maxHeartbeats 4000000 in
set_option maxRecDepth 100000 in
theorem met_weigh (l : Launch) (D : va_G) (a : Nat → Nat) (d : Nat → ClassId) (n : Int32) (fe go : Nat → Int32) (mi ak x y : Int32) (hap : ap_ a 3 (fun _ => True)) : Met l yX1_weigh (ws_ yX1_weigh cX1_weigh 3 none) { frames := 0, cells := 0, slots := 0, locals := 0 } (va_Pc [.ref (a 0), .int x, .int y] (fun U => va_P D vwCl (mw_ a d n fe go mi ak) U.heap ∧ va_K D vwCl (mt_ d) U)) (va_Qv (fun _ : Unit => True) (fun (_ : Unit) t => va_P D vwCl (mw_ a d n fe go x y) t.heap) (ad_ a 3)) 0 0 (ad_ a 3) := by
  refine me_of (by decide) (Nat.le_of_ble_eq_true rfl) (fun p e s m below meth c S hr hlk hnm hv ls hl => ?_)
  have S : CallFix p m c cX1_weigh 3 s _ lw_all RX1 := S
  have hx := S.1
  have hb := S.2.1
  have hl : lv_has ls 3 [(0, .ref (a 0)), (1, .int x), (2, .int y)] := hl
  have hK := hv.2
  have ha := ap_self hap
  have hW : MW D (ad_ a 3) s.heap a d n fe go mi ak s.heap [] := ⟨hv.1, va_S.rf⟩
  refine lv_aload_n hx hb dX1_weigh_0 rfl (lv_at hl 0 rfl) ?_
  refine lv_iload_n hx hb dX1_weigh_1 rfl (lv_at hl 1 rfl) ?_
  refine mp_3 S hK ha hW dX1_weigh_2 (fun H locs hW => ?_)
  refine lv_aload_n hx hb dX1_weigh_5 rfl (lv_at hl 0 rfl) ?_
  refine lv_iload_n hx hb dX1_weigh_6 rfl (lv_at hl 2 rfl) ?_
  refine mp_4 S hK ha hW dX1_weigh_7 (fun H locs hW => ?_)
  exact W.vret hx hb hr (fun t ht hW2 => ⟨⟨(), rfl, trivial, to_ht ht hW.1⟩, hW.2.F ht⟩) hW.2.2.2 dX1_weigh_10
theorem cl_weigh (S : CallFix p m c cc nL s args lw_all RX1) (hR : 1 ≤ R.frames ∧ 22 ≤ R.locals) (hK : va_K D vwCl (mt_ d) s) (hap : ap_ a 3 A) (hW : MW D A H0 a d n fe go mi ak H locs) (x y : Int32) (hsz : ls.size = nL) (hrest : (rest.map fun v => v.category).sum ≤ 8) (hdg : decode cc pc = .ok (.invokevirtual 55, 3)) (kk : ∀ (H : Heap) (locs : List Loc), MW D A H0 a d n fe go x y H locs → W p l e R s m args below meth c H locs 0 0 Q (F0 m (pc + 3) ls rest)) : W p l e R s m args below meth c H locs 0 0 Q (F0 m pc ls (.int y :: .int x :: .ref (a 0) :: rest)) :=
  cv_v (As := [.int x, .int y]) (rest := rest) (wf := fun _ : Unit => mw_ a d n fe go x y) S (met_weigh l D a d n fe go mi ak x y ⟨hap.1, fun _ _ => trivial⟩) (cwV 2 S.2.2.2.2 (lw_V q141 q143 qs4 q15 q144) rfl rfl rfl (by decide +kernel) ⟨hR.1, hR.2⟩) hK hW.1 hW.2 rfl rfl rfl rfl hsz hrest hdg ⟨Nat.zero_le _, Nat.zero_le _⟩ (ap_in hap) (fun u H1 locs1 hp hP hk hS => kk H1 locs1 ⟨hP, hS⟩)
set_option maxHeartbeats 4000000 in
set_option maxRecDepth 100000 in
theorem met_all (l : Launch) (D : va_G) (a : Nat → Nat) (d : Nat → ClassId) (N w q : Nat) (fe go : Nat → Int32) (hN : N ≤ 48) : Met l yX1_all (ws_ yX1_all cX1_all 1 (some .long)) { frames := 0, cells := 0, slots := 0, locals := 0 } (va_Pc [.ref (a 0)] (fun U => va_P D vwCl (mw_ a d (nI N) fe go (nI w) (nI q)) U.heap ∧ va_K D vwCl (mt_ d) U)) (va_Ql (fun r (_ : Unit) => ∀ k, k < N → lb_ r k = true) (fun _ _ => True) (fun _ => False)) 0 0 (fun _ => False) := by
  refine me_of (by decide) (Nat.le_of_ble_eq_true rfl) (fun p e s m below meth c S hr hlk hnm hv ls hl => ?_)
  have S : CallFix p m c cX1_all 1 s _ lw_all RX1 := S
  have hx := S.1
  have hb := S.2.1
  have hl : lv_has ls 1 [(0, .ref (a 0))] := hl
  have hK := hv.2
  have hW : MW D (fun _ => False) s.heap a d (nI N) fe go (nI w) (nI q) s.heap [] := ⟨hv.1, va_S.rf⟩
  refine lv_lconst (v := 1) hx hb dX1_all_0 (by decide) ?_
  refine lv_aload_n hx hb dX1_all_1 rfl (lv_at hl 0 rfl) ?_
  refine mg_0 S hK hW.1 dX1_all_2 ?_
  refine lv_lshl (v := (1 : Int64) <<< ((nI N).toInt64 &&& 63)) hx hb dX1_all_5 rfl ?_
  refine lv_lconst (v := 1) hx hb dX1_all_6 (by decide) ?_
  refine lv_lsub hx hb dX1_all_7 ?_
  exact W.lret hx hb hr (fun t ht hW2 => ⟨⟨_, (), rfl, lb_all N (by omega), trivial⟩, hW.2.F ht⟩) hW.2.2.2 dX1_all_8
theorem cl_all {N w q : Nat} (S : CallFix p m c cc nL s args lw_all RX1) (hR : 1 ≤ R.frames ∧ 20 ≤ R.locals) (hK : va_K D vwCl (mt_ d) s) (hW : MW D A H0 a d (nI N) fe go (nI w) (nI q) H locs)  (hN : N ≤ 48) (hsz : ls.size = nL) (hrest : (rest.map fun v => v.category).sum ≤ 8) (hdg : decode cc pc = .ok (.invokevirtual 43, 3)) (kk : ∀ (H : Heap) (locs : List Loc) (r : Int64), MW D A H0 a d (nI N) fe go (nI w) (nI q) H locs → (∀ k, k < N → lb_ r k = true) → W p l e R s m args below meth c H locs 0 0 Q (F0 m (pc + 3) ls (.long r :: rest))) : W p l e R s m args below meth c H locs 0 0 Q (F0 m pc ls (.ref (a 0) :: rest)) :=
  cv_l (As := []) (rest := rest) S (met_all l D a d N w q fe go hN) (cwV 0 S.2.2.2.2 (lw_V q152 q154 qs6 q15 q155) rfl rfl rfl (by decide +kernel) ⟨hR.1, hR.2⟩) hK hW.1 hW.2 rfl rfl rfl rfl hsz hrest hdg ⟨Nat.zero_le _, Nat.zero_le _⟩ (fun r H1 locs1 hp hP hk hS => kk H1 locs1 r ⟨hP, hS⟩ hp)
theorem ct_same {k : Nat} {P : Nat → Bool} {x : Int64} (h1 : ∀ j, j < 64 → lb_ x j = (decide (j < k) && P j)) (hp : P k = false) : ∀ j, j < 64 → lb_ x j = (decide (j < k + 1) && P j) := by
  intro j hj
  rw [h1 j hj]
  by_cases e : j < k
  · rw [decide_eq_true e, decide_eq_true (show j < k + 1 by omega)]
  · rw [decide_eq_false e]
    by_cases e2 : j = k
    · rw [e2, hp, Bool.and_false, Bool.and_false]
    · rw [decide_eq_false (show ¬ j < k + 1 by omega)]
set_option maxHeartbeats 4000000 in
set_option maxRecDepth 100000 in
theorem part_lp {N w q : Nat} (hN : N ≤ 48) (set : Int64) (f : Nat) (hf : f < 6) (S : CallFix p m c cX1_part 8 s args lw_all RX1) (hK : va_K D vwCl (mt_ d) s) (hW : MW D A H0 a d (nI N) fe go (nI w) (nI q) H locs) (K : ∀ (ls : Array Slot) (r : Int64), (∀ j, j < 64 → lb_ r j = (decide (j < N) && (lb_ set j && !ib_ fe j f))) → lv_has ls 8 [(5, .long r)] → W p l e R s m args below meth c H locs 0 0 Q (F0 m 65 ls [])) : ∀ (k i : Nat), i ≤ N → N < i + k → ∀ (ls : Array Slot) (r : Int64), (∀ j, j < 64 → lb_ r j = (decide (j < i) && (lb_ set j && !ib_ fe j f))) → lv_has ls 8 [(0, .ref (a 0)), (1, .long set), (3, .int (nI f)), (4, .int (nI 0)), (5, .long r), (7, .int (nI i))] → W p l e R s m args below meth c H locs 0 0 Q (F0 m 6 ls []) := by
  have hx := S.1
  have hb := S.2.1
  intro k
  induction k with
  | zero =>
    intro i g1 g2
    exact absurd g2 (by omega)
  | succ k ih =>
    intro i q1 q2 ls r hr hl
    refine lv_iload hx hb dX1_part_6 (lv_at hl 5 rfl) ?_
    refine lv_aload_n hx hb dX1_part_8 rfl (lv_at hl 0 rfl) ?_
    refine mg_0 S hK hW.1 dX1_part_9 ?_
    refine nb_ge (tgt := 65) hx hb dX1_part_12 (by decide) i N (by omega) (by omega) (fun h => ?_) (fun h => ?_)
    · obtain rfl : i = N := by omega
      exact K ls r hr (lv_sub hl [4] rfl)
    · have T : ∀ (ls : Array Slot) (r : Int64), (∀ j, j < 64 → lb_ r j = (decide (j < i + 1) && (lb_ set j && !ib_ fe j f))) → lv_has ls 8 [(0, .ref (a 0)), (1, .long set), (3, .int (nI f)), (4, .int (nI 0)), (5, .long r), (7, .int (nI i))] → W p l e R s m args below meth c H locs 0 0 Q (F0 m 59 ls []) := by
        intro ls r hr hl
        refine lv_iinc (v := nI (i + 1)) (lv' := [(7, .int (nI (i + 1))), (0, .ref (a 0)), (1, .long set), (3, .int (nI f)), (4, .int (nI 0)), (5, .long r)]) hx hb dX1_part_59 hl (k := 5) rfl (nI_1 i) (by decide) rfl (fun ls hl => ?_)
        refine lv_goto (tgt := 6) hx hb dX1_part_62 (by decide) ?_
        exact ih (i + 1) (by omega) (by omega) ls r hr (lv_sub hl [1, 2, 3, 4, 5, 0] rfl)
      refine lv_lload_n hx hb dX1_part_15 rfl (lv_at hl 1 rfl) ?_
      refine lv_iload hx hb dX1_part_16 (lv_at hl 5 rfl) ?_
      refine lv_lshr (v := set >>> ((nI i).toInt64 &&& 63)) hx hb dX1_part_18 rfl ?_
      refine lv_lconst (v := 1) hx hb dX1_part_19 (by decide) ?_
      refine lv_land hx hb dX1_part_20 ?_
      refine lv_lconst (v := 1) hx hb dX1_part_21 (by decide) ?_
      refine W.lcmp hx hb dX1_part_22 ?_
      refine lv_if_ne (tgt := 59) hx hb dX1_part_23 (by decide) (fun c1 => ?_) (fun c1 => ?_)
      · exact T ls r (ct_same hr (by rw [show lb_ set i = false from Bool.eq_false_iff.mpr (fun h9 => c1 ((bl_cmp set (by omega)).mpr h9))]; rfl)) hl
      · have hb1 : lb_ set i = true := (bl_cmp set (by omega)).mp c1
        refine lv_aload_n hx hb dX1_part_26 rfl (lv_at hl 0 rfl) ?_
        refine mg_1 S hK hW.1 dX1_part_27 ?_
        refine lv_iload hx hb dX1_part_30 (lv_at hl 5 rfl) ?_
        refine ml_1 S hK hW.1 i (by omega) dX1_part_32 ?_
        refine lv_iload_n hx hb dX1_part_33 rfl (lv_at hl 2 rfl) ?_
        refine lv_ishr hx hb dX1_part_34 ?_
        refine lv_iconst (v := nI 1) hx hb dX1_part_35 (by decide) ?_
        refine lv_iand hx hb dX1_part_36 ?_
        refine rw_i (v := nI (if ib_ fe i f then 1 else 0)) (bi_sshr (fe i) (by omega)) ?_
        refine lv_iload hx hb dX1_part_37 (lv_at hl 3 rfl) ?_
        refine nb_eq0 (tgt := 46) hx hb dX1_part_39 (by decide) 0 (by omega) (fun c2 => ?_) (fun c2 => ?_)
        · refine lv_iconst (v := nI 0) hx hb dX1_part_46 (by decide) ?_
          have hle : (if ib_ fe i f then 1 else 0) ≤ 1 := by split <;> omega
          refine nb_ne (tgt := 59) hx hb dX1_part_47 (by decide) (if ib_ fe i f then 1 else 0) 0 (by omega) (by omega) (fun c3 => ?_) (fun c3 => ?_)
          · have hb2 : ib_ fe i f = true := by
              cases h9 : ib_ fe i f
              · rw [h9] at c3
                exact absurd rfl c3
              · rfl
            exact T ls r (ct_same hr (by rw [hb2, hb1]; rfl)) hl
          · have hb2 : ib_ fe i f = false := by
              cases h9 : ib_ fe i f
              · rfl
              · rw [h9] at c3
                exact absurd c3 (by decide)
            refine lv_lload hx hb dX1_part_50 (lv_at hl 4 rfl) ?_
            refine lv_lconst (v := 1) hx hb dX1_part_52 (by decide) ?_
            refine lv_iload hx hb dX1_part_53 (lv_at hl 5 rfl) ?_
            refine lv_lshl (v := (1 : Int64) <<< ((nI i).toInt64 &&& 63)) hx hb dX1_part_55 rfl ?_
            refine lv_lor hx hb dX1_part_56 ?_
            refine lv_lstore (lv' := [(5, .long (r ||| ((1 : Int64) <<< ((nI i).toInt64 &&& 63)))), (0, .ref (a 0)), (1, .long set), (3, .int (nI f)), (4, .int (nI 0)), (7, .int (nI i))]) hx hb dX1_part_57 hl (by decide) rfl (fun ls hl => ?_)
            exact T ls _ (ct_more hr (ct_bit (by omega) (P := fun j => lb_ set j && !ib_ fe j f) (by rw [hb1, hb2]; rfl))) (lv_sub hl [1, 2, 3, 4, 0, 5] rfl)
        · exact absurd rfl c2
set_option maxHeartbeats 4000000 in
set_option maxRecDepth 100000 in
theorem met_part (l : Launch) (D : va_G) (a : Nat → Nat) (d : Nat → ClassId) (N w q : Nat) (fe go : Nat → Int32) (hN : N ≤ 48) (set : Int64) (f : Nat) (hf : f < 6) : Met l yX1_part (ws_ yX1_part cX1_part 8 (some .long)) { frames := 0, cells := 0, slots := 0, locals := 0 } (va_Pc [.ref (a 0), .long set, .int (nI f), .int (nI 0)] (fun U => va_P D vwCl (mw_ a d (nI N) fe go (nI w) (nI q)) U.heap ∧ va_K D vwCl (mt_ d) U)) (va_Ql (fun r (_ : Unit) => ∀ k, k < N → lb_ r k = (lb_ set k && !ib_ fe k f)) (fun _ _ => True) (fun _ => False)) 0 0 (fun _ => False) := by
  refine me_of (by decide) (Nat.le_of_ble_eq_true rfl) (fun p e s m below meth c S hr hlk hnm hv ls hl => ?_)
  have S : CallFix p m c cX1_part 8 s _ lw_all RX1 := S
  have hx := S.1
  have hb := S.2.1
  have hl : lv_has ls 8 [(0, .ref (a 0)), (1, .long set), (3, .int (nI f)), (4, .int (nI 0))] := hl
  have hK := hv.2
  have hW : MW D (fun _ => False) s.heap a d (nI N) fe go (nI w) (nI q) s.heap [] := ⟨hv.1, va_S.rf⟩
  refine lv_lconst (v := 0) hx hb dX1_part_0 (by decide) ?_
  refine lv_lstore (lv' := [(5, .long 0), (0, .ref (a 0)), (1, .long set), (3, .int (nI f)), (4, .int (nI 0))]) hx hb dX1_part_1 hl (by decide) rfl (fun ls hl => ?_)
  refine lv_iconst (v := nI 0) hx hb dX1_part_3 (by decide) ?_
  refine lv_istore (lv' := [(7, .int (nI 0)), (5, .long 0), (0, .ref (a 0)), (1, .long set), (3, .int (nI f)), (4, .int (nI 0))]) hx hb dX1_part_4 hl (by decide) rfl (fun ls hl => ?_)
  refine part_lp hN set f hf S hK hW (fun ls r hrb hl => ?_) (N + 1) 0 (by omega) (by omega) ls 0 (fun j hj => by rw [lb_zero, decide_eq_false (by omega), Bool.false_and]) (lv_sub hl [2, 3, 4, 5, 1, 0] rfl)
  refine lv_lload hx hb dX1_part_65 (lv_at hl 0 rfl) ?_
  exact W.lret hx hb hr (fun t ht hW2 => ⟨⟨_, (), rfl, fun k hk => by rw [hrb k (by omega), decide_eq_true hk, Bool.true_and], trivial⟩, hW.2.F ht⟩) hW.2.2.2 dX1_part_67
theorem cl_part {N w q : Nat} (S : CallFix p m c cc nL s args lw_all RX1) (hR : 1 ≤ R.frames ∧ 27 ≤ R.locals) (hK : va_K D vwCl (mt_ d) s) (hW : MW D A H0 a d (nI N) fe go (nI w) (nI q) H locs) (set : Int64) (f : Nat) (hN : N ≤ 48) (hf : f < 6) (hsz : ls.size = nL) (hrest : (rest.map fun v => v.category).sum ≤ 8) (hdg : decode cc pc = .ok (.invokevirtual 28, 3)) (kk : ∀ (H : Heap) (locs : List Loc) (r : Int64), MW D A H0 a d (nI N) fe go (nI w) (nI q) H locs → (∀ k, k < N → lb_ r k = (lb_ set k && !ib_ fe k f)) → W p l e R s m args below meth c H locs 0 0 Q (F0 m (pc + 3) ls (.long r :: rest))) : W p l e R s m args below meth c H locs 0 0 Q (F0 m pc ls (.int (nI 0) :: .int (nI f) :: .long set :: .ref (a 0) :: rest)) :=
  cv_l (As := [.long set, .int (nI f), .int (nI 0)]) (rest := rest) S (met_part l D a d N w q fe go hN set f hf) (cwV 3 S.2.2.2.2 (lw_V q164 q166 qs9 q15 q167) rfl rfl rfl (by decide +kernel) ⟨hR.1, hR.2⟩) hK hW.1 hW.2 rfl rfl rfl rfl hsz hrest hdg ⟨Nat.zero_le _, Nat.zero_le _⟩ (fun r H1 locs1 hp hP hk hS => kk H1 locs1 r ⟨hP, hS⟩ hp)
set_option maxHeartbeats 4000000 in
set_option maxRecDepth 100000 in
theorem leaf_lp {N w q : Nat} (hN : N ≤ 48) (set : Int64) (S : CallFix p m c cX1_leaf 6 s args lw_all RX1) (hK : va_K D vwCl (mt_ d) s) (hW : MW D A H0 a d (nI N) fe go (nI w) (nI q) H locs) (K : ∀ ls : Array Slot, lv_has ls 6 [(0, .ref (a 0)), (3, .int (nI (pu_ct (fun k => lb_ set k && gb_ go k) N))), (4, .int (nI (pu_ct (fun k => lb_ set k && !gb_ go k) N)))] → W p l e R s m args below meth c H locs 0 0 Q (F0 m 71 ls [])) : ∀ (k i : Nat), i ≤ N → N < i + k → ∀ (ls : Array Slot), lv_has ls 6 [(0, .ref (a 0)), (1, .long set), (3, .int (nI (pu_ct (fun k => lb_ set k && gb_ go k) i))), (4, .int (nI (pu_ct (fun k => lb_ set k && !gb_ go k) i))), (5, .int (nI i))] → W p l e R s m args below meth c H locs 0 0 Q (F0 m 8 ls []) := by
  have hx := S.1
  have hb := S.2.1
  intro k
  induction k with
  | zero =>
    intro i g1 g2
    exact absurd g2 (by omega)
  | succ k ih =>
    intro i q1 q2 ls hl
    refine lv_iload hx hb dX1_leaf_8 (lv_at hl 4 rfl) ?_
    refine lv_aload_n hx hb dX1_leaf_10 rfl (lv_at hl 0 rfl) ?_
    refine mg_0 S hK hW.1 dX1_leaf_11 ?_
    refine nb_ge (tgt := 71) hx hb dX1_leaf_14 (by decide) i N (by omega) (by omega) (fun h => ?_) (fun h => ?_)
    · obtain rfl : i = N := by omega
      exact K ls (lv_sub hl [0, 2, 3] rfl)
    · have T65 : ∀ ls : Array Slot, lv_has ls 6 [(0, .ref (a 0)), (1, .long set), (3, .int (nI (pu_ct (fun k => lb_ set k && gb_ go k) (i + 1)))), (4, .int (nI (pu_ct (fun k => lb_ set k && !gb_ go k) (i + 1)))), (5, .int (nI i))] → W p l e R s m args below meth c H locs 0 0 Q (F0 m 65 ls []) := by
        intro ls hl
        refine lv_iinc (v := nI (i + 1)) (lv' := [(5, .int (nI (i + 1))), (0, .ref (a 0)), (1, .long set), (3, .int (nI (pu_ct (fun k => lb_ set k && gb_ go k) (i + 1)))), (4, .int (nI (pu_ct (fun k => lb_ set k && !gb_ go k) (i + 1))))]) hx hb dX1_leaf_65 hl (k := 4) rfl (nI_1 i) (by decide) rfl (fun ls hl => ?_)
        refine lv_goto (tgt := 8) hx hb dX1_leaf_68 (by decide) ?_
        exact ih (i + 1) (by omega) (by omega) ls (lv_sub hl [1, 2, 3, 4, 0] rfl)
      have hsg := pu_ct_s (fun k => lb_ set k && gb_ go k) i
      have hsb := pu_ct_s (fun k => lb_ set k && !gb_ go k) i
      have T41 : ∀ ls : Array Slot, lv_has ls 6 [(0, .ref (a 0)), (1, .long set), (3, .int (nI (pu_ct (fun k => lb_ set k && gb_ go k) (i + 1)))), (4, .int (nI (pu_ct (fun k => lb_ set k && !gb_ go k) i))), (5, .int (nI i))] → W p l e R s m args below meth c H locs 0 0 Q (F0 m 41 ls []) := by
        intro ls hl
        refine lv_lload_n hx hb dX1_leaf_41 rfl (lv_at hl 1 rfl) ?_
        refine lv_iload hx hb dX1_leaf_42 (lv_at hl 4 rfl) ?_
        refine lv_lshr (v := set >>> ((nI i).toInt64 &&& 63)) hx hb dX1_leaf_44 rfl ?_
        refine lv_lconst (v := 1) hx hb dX1_leaf_45 (by decide) ?_
        refine lv_land hx hb dX1_leaf_46 ?_
        refine lv_lconst (v := 1) hx hb dX1_leaf_47 (by decide) ?_
        refine W.lcmp hx hb dX1_leaf_48 ?_
        refine lv_if_ne (tgt := 65) hx hb dX1_leaf_49 (by decide) (fun c1 => ?_) (fun c1 => ?_)
        · exact T65 ls (by rw [hsb, if_neg (by rw [show lb_ set i = false from Bool.eq_false_iff.mpr (fun h9 => c1 ((bl_cmp set (by omega)).mpr h9))]; simp)]; exact hl)
        · have hb1 : lb_ set i = true := (bl_cmp set (by omega)).mp c1
          refine lv_aload_n hx hb dX1_leaf_52 rfl (lv_at hl 0 rfl) ?_
          refine mg_2 S hK hW.1 dX1_leaf_53 ?_
          refine lv_iload hx hb dX1_leaf_56 (lv_at hl 4 rfl) ?_
          refine ml_2 S hK hW.1 i (by omega) dX1_leaf_58 ?_
          refine lv_if_ne (tgt := 65) hx hb dX1_leaf_59 (by decide) (fun c2 => ?_) (fun c2 => ?_)
          · exact T65 ls (by rw [hsb, if_neg (by unfold gb_; simp [c2])]; exact hl)
          · refine lv_iinc (v := nI (pu_ct (fun k => lb_ set k && !gb_ go k) i + 1)) (lv' := [(4, .int (nI (pu_ct (fun k => lb_ set k && !gb_ go k) i + 1))), (0, .ref (a 0)), (1, .long set), (3, .int (nI (pu_ct (fun k => lb_ set k && gb_ go k) (i + 1)))), (5, .int (nI i))]) hx hb dX1_leaf_62 hl (k := 3) rfl (nI_1 (pu_ct (fun k => lb_ set k && !gb_ go k) i)) (by decide) rfl (fun ls hl => ?_)
            exact T65 ls (by rw [hsb, if_pos (by unfold gb_; simp [c2, hb1])]; exact lv_sub hl [1, 2, 3, 0, 4] rfl)
      refine lv_lload_n hx hb dX1_leaf_17 rfl (lv_at hl 1 rfl) ?_
      refine lv_iload hx hb dX1_leaf_18 (lv_at hl 4 rfl) ?_
      refine lv_lshr (v := set >>> ((nI i).toInt64 &&& 63)) hx hb dX1_leaf_20 rfl ?_
      refine lv_lconst (v := 1) hx hb dX1_leaf_21 (by decide) ?_
      refine lv_land hx hb dX1_leaf_22 ?_
      refine lv_lconst (v := 1) hx hb dX1_leaf_23 (by decide) ?_
      refine W.lcmp hx hb dX1_leaf_24 ?_
      refine lv_if_ne (tgt := 41) hx hb dX1_leaf_25 (by decide) (fun c1 => ?_) (fun c1 => ?_)
      · exact T41 ls (by rw [hsg, if_neg (by rw [show lb_ set i = false from Bool.eq_false_iff.mpr (fun h9 => c1 ((bl_cmp set (by omega)).mpr h9))]; simp)]; exact hl)
      · have hb1 : lb_ set i = true := (bl_cmp set (by omega)).mp c1
        refine lv_aload_n hx hb dX1_leaf_28 rfl (lv_at hl 0 rfl) ?_
        refine mg_2 S hK hW.1 dX1_leaf_29 ?_
        refine lv_iload hx hb dX1_leaf_32 (lv_at hl 4 rfl) ?_
        refine ml_2 S hK hW.1 i (by omega) dX1_leaf_34 ?_
        refine lv_if_eq (tgt := 41) hx hb dX1_leaf_35 (by decide) (fun c2 => ?_) (fun c2 => ?_)
        · exact T41 ls (by rw [hsg, if_neg (by unfold gb_; simp [c2])]; exact hl)
        · refine lv_iinc (v := nI (pu_ct (fun k => lb_ set k && gb_ go k) i + 1)) (lv' := [(3, .int (nI (pu_ct (fun k => lb_ set k && gb_ go k) i + 1))), (0, .ref (a 0)), (1, .long set), (4, .int (nI (pu_ct (fun k => lb_ set k && !gb_ go k) i))), (5, .int (nI i))]) hx hb dX1_leaf_38 hl (k := 2) rfl (nI_1 (pu_ct (fun k => lb_ set k && gb_ go k) i)) (by decide) rfl (fun ls hl => ?_)
          exact T41 ls (by rw [hsg, if_pos (by unfold gb_; simp [c2, hb1])]; exact lv_sub hl [1, 2, 0, 3, 4] rfl)
set_option maxHeartbeats 4000000 in
set_option maxRecDepth 100000 in
theorem met_leaf (l : Launch) (D : va_G) (a : Nat → Nat) (d : Nat → ClassId) (N w q : Nat) (fe go : Nat → Int32) (hN : N ≤ 48) (hw : w ≤ 100) (hq : q ≤ 20) (set : Int64) : Met l yX1_leaf (ws_ yX1_leaf cX1_leaf 6 (some .int)) { frames := 0, cells := 0, slots := 0, locals := 0 } (va_Pc [.ref (a 0), .long set] (fun U => va_P D vwCl (mw_ a d (nI N) fe go (nI w) (nI q)) U.heap ∧ va_K D vwCl (mt_ d) U)) (va_Qi (fun r (_ : Unit) => r = nI (pu_M N w q (ib_ fe) (gb_ go) 0 (lb_ set))) (fun _ _ => True) (fun _ => False)) 0 0 (fun _ => False) := by
  refine me_of (by decide) (Nat.le_of_ble_eq_true rfl) (fun p e s m below meth c S hr hlk hnm hv ls hl => ?_)
  have S : CallFix p m c cX1_leaf 6 s _ lw_all RX1 := S
  have hx := S.1
  have hb := S.2.1
  have hl : lv_has ls 6 [(0, .ref (a 0)), (1, .long set)] := hl
  have hK := hv.2
  have hW : MW D (fun _ => False) s.heap a d (nI N) fe go (nI w) (nI q) s.heap [] := ⟨hv.1, va_S.rf⟩
  refine lv_iconst (v := nI 0) hx hb dX1_leaf_0 (by decide) ?_
  refine lv_istore_n (lv' := [(3, .int (nI 0)), (0, .ref (a 0)), (1, .long set)]) hx hb dX1_leaf_1 rfl hl (by decide) rfl (fun ls hl => ?_)
  refine lv_iconst (v := nI 0) hx hb dX1_leaf_2 (by decide) ?_
  refine lv_istore (lv' := [(4, .int (nI 0)), (3, .int (nI 0)), (0, .ref (a 0)), (1, .long set)]) hx hb dX1_leaf_3 hl (by decide) rfl (fun ls hl => ?_)
  refine lv_iconst (v := nI 0) hx hb dX1_leaf_5 (by decide) ?_
  refine lv_istore (lv' := [(5, .int (nI 0)), (4, .int (nI 0)), (3, .int (nI 0)), (0, .ref (a 0)), (1, .long set)]) hx hb dX1_leaf_6 hl (by decide) rfl (fun ls hl => ?_)
  refine leaf_lp hN set S hK hW (fun ls hl => ?_) (N + 1) 0 (by omega) (by omega) ls (lv_sub hl [3, 4, 2, 1, 0] rfl)
  have hfin : w * pu_mi (pu_ct (fun k => lb_ set k && gb_ go k) N) (pu_ct (fun k => lb_ set k && !gb_ go k) N) = pu_M N w q (ib_ fe) (gb_ go) 0 (lb_ set) := rfl
  have b1 := pu_ct_le (fun k => lb_ set k && gb_ go k) N
  have b2 := pu_ct_le (fun k => lb_ set k && !gb_ go k) N
  generalize pu_ct (fun k => lb_ set k && gb_ go k) N = g at hl hfin b1
  generalize pu_ct (fun k => lb_ set k && !gb_ go k) N = b at hl hfin b2
  refine lv_aload_n hx hb dX1_leaf_71 rfl (lv_at hl 0 rfl) ?_
  refine mg_3 S hK hW.1 dX1_leaf_72 ?_
  refine lv_iload_n hx hb dX1_leaf_75 rfl (lv_at hl 1 rfl) ?_
  refine lv_iload hx hb dX1_leaf_76 (lv_at hl 2 rfl) ?_
  refine nb_ge (tgt := 85) hx hb dX1_leaf_78 (by decide) g b (by omega) (by omega) (fun c1 => ?_) (fun c1 => ?_)
  · refine lv_iload hx hb dX1_leaf_85 (lv_at hl 2 rfl) ?_
    refine rw_i (v := nI (pu_mi g b)) (by unfold pu_mi; rw [if_neg (by omega)]) ?_
    refine lv_imul hx hb dX1_leaf_87 ?_
    refine rw_i (v := nI (w * (pu_mi g b))) (pk_mul w (pu_mi g b)) ?_
    exact W.iret hx hb hr (fun t ht hW2 => ⟨⟨_, (), rfl, congrArg nI hfin, trivial⟩, hW.2.F ht⟩) hW.2.2.2 dX1_leaf_88
  · refine lv_iload_n hx hb dX1_leaf_81 rfl (lv_at hl 1 rfl) ?_
    refine lv_goto (tgt := 87) hx hb dX1_leaf_82 (by decide) ?_
    refine rw_i (v := nI (pu_mi g b)) (by unfold pu_mi; rw [if_pos c1]) ?_
    refine lv_imul hx hb dX1_leaf_87 ?_
    refine rw_i (v := nI (w * (pu_mi g b))) (pk_mul w (pu_mi g b)) ?_
    exact W.iret hx hb hr (fun t ht hW2 => ⟨⟨_, (), rfl, congrArg nI hfin, trivial⟩, hW.2.F ht⟩) hW.2.2.2 dX1_leaf_88
theorem cl_leaf {N w q : Nat} (S : CallFix p m c cc nL s args lw_all RX1) (hR : 1 ≤ R.frames ∧ 25 ≤ R.locals) (hK : va_K D vwCl (mt_ d) s) (hW : MW D A H0 a d (nI N) fe go (nI w) (nI q) H locs) (set : Int64) (hN : N ≤ 48) (hw : w ≤ 100) (hq : q ≤ 20) (hsz : ls.size = nL) (hrest : (rest.map fun v => v.category).sum ≤ 8) (hdg : decode cc pc = .ok (.invokevirtual 24, 3)) (kk : ∀ (H : Heap) (locs : List Loc), MW D A H0 a d (nI N) fe go (nI w) (nI q) H locs → W p l e R s m args below meth c H locs 0 0 Q (F0 m (pc + 3) ls (.int (nI (pu_M N w q (ib_ fe) (gb_ go) 0 (lb_ set))) :: rest))) : W p l e R s m args below meth c H locs 0 0 Q (F0 m pc ls (.long set :: .ref (a 0) :: rest)) :=
  cv_i (As := [.long set]) (rest := rest) S (met_leaf l D a d N w q fe go hN hw hq set) (cwV 1 S.2.2.2.2 (lw_V q156 q158 qs7 q15 q159) rfl rfl rfl (by decide +kernel) ⟨hR.1, hR.2⟩) hK hW.1 hW.2 rfl rfl rfl rfl hsz hrest hdg ⟨Nat.zero_le _, Nat.zero_le _⟩ (fun r H1 locs1 hp hP hk hS => by rw [hp]; exact kk H1 locs1 ⟨hP, hS⟩)
theorem no_yes {N w q : Nat} {fe go : Nat → Int32} {dd f : Nat} {set no : Int64} {S : Nat → Bool} (hN : N ≤ 48) (hS : ∀ k, k < N → lb_ set k = S k) (hno : ∀ k, k < N → lb_ no k = (lb_ set k && !ib_ fe k f)) : pu_M N w q (ib_ fe) (gb_ go) dd (lb_ no) = pu_M N w q (ib_ fe) (gb_ go) dd (fun k => S k && !ib_ fe k f) ∧ pu_M N w q (ib_ fe) (gb_ go) dd (lb_ (set &&& (no ^^^ (-1)))) = pu_M N w q (ib_ fe) (gb_ go) dd (fun k => S k && ib_ fe k f) := by
  constructor
  · exact pu_M_congr dd (fun k hk => by rw [hno k hk, hS k hk])
  · refine pu_M_congr dd (fun k hk => ?_)
    rw [lb_and, lb_not no (by omega), hno k hk, hS k hk]
    cases S k <;> cases ib_ fe k f <;> rfl
theorem M_lt (n w q : Nat) (B : Nat → Nat → Bool) (G : Nat → Bool) (d : Nat) (S : Nat → Bool) (hn : n ≤ 48) (hw : w ≤ 100) : pu_M n w q B G d S ≤ 4800 := Nat.le_trans (pu_M_le n w q B G d S) (Nat.mul_le_mul hw hn)
theorem mf_lt {g : Nat → Nat} {b k x : Nat} (h : b ≤ x) : pu_mf g b k ≤ x := Nat.le_trans (pu_mf_le g b k) h
set_option maxHeartbeats 4000000 in
set_option maxRecDepth 100000 in
theorem one_lp {N w q : Nat} (hN : N ≤ 48) (hw : w ≤ 100) (hq : q ≤ 20) (set : Int64) (S : CallFix p m c cX1_one 8 s args lw_all RX1) (hR : 1 ≤ R.frames ∧ 27 ≤ R.locals) (hK : va_K D vwCl (mt_ d) s) (K : ∀ (H : Heap) (locs : List Loc) (ls : Array Slot), MW D A H0 a d (nI N) fe go (nI w) (nI q) H locs → lv_has ls 8 [(3, .int (nI (pu_mf (fun f => q + pu_M N w q (ib_ fe) (gb_ go) 0 (fun k => lb_ set k && !ib_ fe k f) + pu_M N w q (ib_ fe) (gb_ go) 0 (fun k => lb_ set k && ib_ fe k f)) (pu_M N w q (ib_ fe) (gb_ go) 0 (lb_ set)) 6)))] → W p l e R s m args below meth c H locs 0 0 Q (F0 m 67 ls [])) : ∀ (k f : Nat), f ≤ 6 → 6 < f + k → ∀ (H : Heap) (locs : List Loc) (ls : Array Slot), MW D A H0 a d (nI N) fe go (nI w) (nI q) H locs → lv_has ls 8 [(0, .ref (a 0)), (1, .long set), (3, .int (nI (pu_mf (fun f => q + pu_M N w q (ib_ fe) (gb_ go) 0 (fun k => lb_ set k && !ib_ fe k f) + pu_M N w q (ib_ fe) (gb_ go) 0 (fun k => lb_ set k && ib_ fe k f)) (pu_M N w q (ib_ fe) (gb_ go) 0 (lb_ set)) f))), (4, .int (nI f))] → W p l e R s m args below meth c H locs 0 0 Q (F0 m 9 ls []) := by
  have hx := S.1
  have hb := S.2.1
  intro k
  induction k with
  | zero =>
    intro f g1 g2
    exact absurd g2 (by omega)
  | succ k ih =>
    intro f q1 q2 H locs ls hW hl
    refine lv_iload hx hb dX1_one_9 (lv_at hl 3 rfl) ?_
    refine lv_bipush (v := nI 6) hx hb dX1_one_11 (by decide) ?_
    refine nb_ge (tgt := 67) hx hb dX1_one_13 (by decide) f 6 (by omega) (by omega) (fun h => ?_) (fun h => ?_)
    · obtain rfl : f = 6 := by omega
      exact K H locs ls hW (lv_sub hl [2] rfl)
    · refine lv_aload_n hx hb dX1_one_16 rfl (lv_at hl 0 rfl) ?_
      refine lv_lload_n hx hb dX1_one_17 rfl (lv_at hl 1 rfl) ?_
      refine lv_iload hx hb dX1_one_18 (lv_at hl 3 rfl) ?_
      refine lv_iconst (v := nI 0) hx hb dX1_one_20 (by decide) ?_
      refine cl_part S ⟨Nat.le_trans (by decide) hR.1, Nat.le_trans (by decide) hR.2⟩ hK hW set f hN (by omega) hl.1 (Nat.zero_le 8) dX1_one_21 (fun H locs no hW hno => ?_)
      have hny := no_yes (w := w) (q := q) (fe := fe) (go := go) (dd := 0) (f := f) (set := set) (no := no) (S := lb_ set) hN (fun k hk => rfl) hno
      refine lv_lstore (lv' := [(5, .long no), (0, .ref (a 0)), (1, .long set), (3, .int (nI (pu_mf (fun f => q + pu_M N w q (ib_ fe) (gb_ go) 0 (fun k => lb_ set k && !ib_ fe k f) + pu_M N w q (ib_ fe) (gb_ go) 0 (fun k => lb_ set k && ib_ fe k f)) (pu_M N w q (ib_ fe) (gb_ go) 0 (lb_ set)) f))), (4, .int (nI f))]) hx hb dX1_one_24 hl (by decide) rfl (fun ls hl => ?_)
      refine lv_aload_n hx hb dX1_one_26 rfl (lv_at hl 1 rfl) ?_
      refine mg_4 S hK hW.1 dX1_one_27 ?_
      refine lv_aload_n hx hb dX1_one_30 rfl (lv_at hl 1 rfl) ?_
      refine lv_lload hx hb dX1_one_31 (lv_at hl 0 rfl) ?_
      refine cl_leaf S ⟨Nat.le_trans (by decide) hR.1, Nat.le_trans (by decide) hR.2⟩ hK hW no hN hw hq hl.1 (Nat.le_of_ble_eq_true rfl) dX1_one_33 (fun H locs hW => ?_)
      refine rw_i (v := nI (pu_M N w q (ib_ fe) (gb_ go) 0 (fun k => lb_ set k && !ib_ fe k f))) (congrArg nI hny.1) ?_
      refine lv_iadd hx hb dX1_one_36 ?_
      refine rw_i (v := nI (q + (pu_M N w q (ib_ fe) (gb_ go) 0 (fun k => lb_ set k && !ib_ fe k f)))) (nI_add q (pu_M N w q (ib_ fe) (gb_ go) 0 (fun k => lb_ set k && !ib_ fe k f))) ?_
      refine lv_aload_n hx hb dX1_one_37 rfl (lv_at hl 1 rfl) ?_
      refine lv_lload_n hx hb dX1_one_38 rfl (lv_at hl 2 rfl) ?_
      refine lv_lload hx hb dX1_one_39 (lv_at hl 0 rfl) ?_
      refine lv_ldc2 (v := -1) hx hb S.2.2.2.1 (S.2.2.2.2 _ q176) dX1_one_41 ?_
      refine lv_lxor hx hb dX1_one_44 ?_
      refine lv_land hx hb dX1_one_45 ?_
      refine cl_leaf S ⟨Nat.le_trans (by decide) hR.1, Nat.le_trans (by decide) hR.2⟩ hK hW (set &&& (no ^^^ (-1))) hN hw hq hl.1 (Nat.le_of_ble_eq_true rfl) dX1_one_46 (fun H locs hW => ?_)
      refine rw_i (v := nI (pu_M N w q (ib_ fe) (gb_ go) 0 (fun k => lb_ set k && ib_ fe k f))) (congrArg nI hny.2) ?_
      refine lv_iadd hx hb dX1_one_49 ?_
      refine rw_i (v := nI ((q + (pu_M N w q (ib_ fe) (gb_ go) 0 (fun k => lb_ set k && !ib_ fe k f))) + (pu_M N w q (ib_ fe) (gb_ go) 0 (fun k => lb_ set k && ib_ fe k f)))) (nI_add (q + (pu_M N w q (ib_ fe) (gb_ go) 0 (fun k => lb_ set k && !ib_ fe k f))) (pu_M N w q (ib_ fe) (gb_ go) 0 (fun k => lb_ set k && ib_ fe k f))) ?_
      refine rw_i (v := nI ((fun f => q + pu_M N w q (ib_ fe) (gb_ go) 0 (fun k => lb_ set k && !ib_ fe k f) + pu_M N w q (ib_ fe) (gb_ go) 0 (fun k => lb_ set k && ib_ fe k f)) f)) (rfl) ?_
      have b1 := M_lt N w q (ib_ fe) (gb_ go) 0 (fun k => lb_ set k && !ib_ fe k f) hN hw
      have b2 := M_lt N w q (ib_ fe) (gb_ go) 0 (fun k => lb_ set k && ib_ fe k f) hN hw
      have b3 : (fun f => q + pu_M N w q (ib_ fe) (gb_ go) 0 (fun k => lb_ set k && !ib_ fe k f) + pu_M N w q (ib_ fe) (gb_ go) 0 (fun k => lb_ set k && ib_ fe k f)) f ≤ 9620 := by show q + pu_M N w q (ib_ fe) (gb_ go) 0 (fun k => lb_ set k && !ib_ fe k f) + pu_M N w q (ib_ fe) (gb_ go) 0 (fun k => lb_ set k && ib_ fe k f) ≤ 9620; omega
      have b4 : pu_mf (fun f => q + pu_M N w q (ib_ fe) (gb_ go) 0 (fun k => lb_ set k && !ib_ fe k f) + pu_M N w q (ib_ fe) (gb_ go) 0 (fun k => lb_ set k && ib_ fe k f)) (pu_M N w q (ib_ fe) (gb_ go) 0 (lb_ set)) f ≤ 4800 := mf_lt (M_lt N w q (ib_ fe) (gb_ go) 0 (lb_ set) hN hw)
      have hs := pu_mf_s (fun f => q + pu_M N w q (ib_ fe) (gb_ go) 0 (fun k => lb_ set k && !ib_ fe k f) + pu_M N w q (ib_ fe) (gb_ go) 0 (fun k => lb_ set k && ib_ fe k f)) (pu_M N w q (ib_ fe) (gb_ go) 0 (lb_ set)) f
      refine lv_istore (lv' := [(7, .int (nI ((fun f => q + pu_M N w q (ib_ fe) (gb_ go) 0 (fun k => lb_ set k && !ib_ fe k f) + pu_M N w q (ib_ fe) (gb_ go) 0 (fun k => lb_ set k && ib_ fe k f)) f))), (5, .long no), (0, .ref (a 0)), (1, .long set), (3, .int (nI (pu_mf (fun f => q + pu_M N w q (ib_ fe) (gb_ go) 0 (fun k => lb_ set k && !ib_ fe k f) + pu_M N w q (ib_ fe) (gb_ go) 0 (fun k => lb_ set k && ib_ fe k f)) (pu_M N w q (ib_ fe) (gb_ go) 0 (lb_ set)) f))), (4, .int (nI f))]) hx hb dX1_one_50 hl (by decide) rfl (fun ls hl => ?_)
      refine lv_iload hx hb dX1_one_52 (lv_at hl 0 rfl) ?_
      refine lv_iload_n hx hb dX1_one_54 rfl (lv_at hl 4 rfl) ?_
      refine nb_ge (tgt := 61) hx hb dX1_one_55 (by decide) ((fun f => q + pu_M N w q (ib_ fe) (gb_ go) 0 (fun k => lb_ set k && !ib_ fe k f) + pu_M N w q (ib_ fe) (gb_ go) 0 (fun k => lb_ set k && ib_ fe k f)) f) (pu_mf (fun f => q + pu_M N w q (ib_ fe) (gb_ go) 0 (fun k => lb_ set k && !ib_ fe k f) + pu_M N w q (ib_ fe) (gb_ go) 0 (fun k => lb_ set k && ib_ fe k f)) (pu_M N w q (ib_ fe) (gb_ go) 0 (lb_ set)) f) (by omega) (by omega) (fun c1 => ?_) (fun c1 => ?_)
      · refine lv_iinc (v := nI (f + 1)) (lv' := [(4, .int (nI (f + 1))), (7, .int (nI ((fun f => q + pu_M N w q (ib_ fe) (gb_ go) 0 (fun k => lb_ set k && !ib_ fe k f) + pu_M N w q (ib_ fe) (gb_ go) 0 (fun k => lb_ set k && ib_ fe k f)) f))), (5, .long no), (0, .ref (a 0)), (1, .long set), (3, .int (nI (pu_mf (fun f => q + pu_M N w q (ib_ fe) (gb_ go) 0 (fun k => lb_ set k && !ib_ fe k f) + pu_M N w q (ib_ fe) (gb_ go) 0 (fun k => lb_ set k && ib_ fe k f)) (pu_M N w q (ib_ fe) (gb_ go) 0 (lb_ set)) f)))]) hx hb dX1_one_61 hl (k := 5) rfl (nI_1 f) (by decide) rfl (fun ls hl => ?_)
        refine lv_goto (tgt := 9) hx hb dX1_one_64 (by decide) ?_
        exact ih (f + 1) (by omega) (by omega) H locs ls hW (by rw [hs, if_neg (Nat.not_lt.mpr c1)]; exact lv_sub hl [3, 4, 5, 0] rfl)
      · refine lv_iload hx hb dX1_one_58 (lv_at hl 0 rfl) ?_
        refine lv_istore_n (lv' := [(3, .int (nI ((fun f => q + pu_M N w q (ib_ fe) (gb_ go) 0 (fun k => lb_ set k && !ib_ fe k f) + pu_M N w q (ib_ fe) (gb_ go) 0 (fun k => lb_ set k && ib_ fe k f)) f))), (7, .int (nI ((fun f => q + pu_M N w q (ib_ fe) (gb_ go) 0 (fun k => lb_ set k && !ib_ fe k f) + pu_M N w q (ib_ fe) (gb_ go) 0 (fun k => lb_ set k && ib_ fe k f)) f))), (5, .long no), (0, .ref (a 0)), (1, .long set), (4, .int (nI f))]) hx hb dX1_one_60 rfl hl (by decide) rfl (fun ls hl => ?_)
        refine lv_iinc (v := nI (f + 1)) (lv' := [(4, .int (nI (f + 1))), (3, .int (nI ((fun f => q + pu_M N w q (ib_ fe) (gb_ go) 0 (fun k => lb_ set k && !ib_ fe k f) + pu_M N w q (ib_ fe) (gb_ go) 0 (fun k => lb_ set k && ib_ fe k f)) f))), (7, .int (nI ((fun f => q + pu_M N w q (ib_ fe) (gb_ go) 0 (fun k => lb_ set k && !ib_ fe k f) + pu_M N w q (ib_ fe) (gb_ go) 0 (fun k => lb_ set k && ib_ fe k f)) f))), (5, .long no), (0, .ref (a 0)), (1, .long set)]) hx hb dX1_one_61 hl (k := 5) rfl (nI_1 f) (by decide) rfl (fun ls hl => ?_)
        refine lv_goto (tgt := 9) hx hb dX1_one_64 (by decide) ?_
        exact ih (f + 1) (by omega) (by omega) H locs ls hW (by rw [hs, if_pos c1]; exact lv_sub hl [4, 5, 1, 0] rfl)
set_option maxHeartbeats 4000000 in
set_option maxRecDepth 100000 in
theorem met_one (l : Launch) (D : va_G) (a : Nat → Nat) (d : Nat → ClassId) (N w q : Nat) (fe go : Nat → Int32) (hN : N ≤ 48) (hw : w ≤ 100) (hq : q ≤ 20) (set : Int64) : Met l yX1_one (ws_ yX1_one cX1_one 8 (some .int)) { frames := 1, cells := 0, slots := 0, locals := 27 } (va_Pc [.ref (a 0), .long set] (fun U => va_P D vwCl (mw_ a d (nI N) fe go (nI w) (nI q)) U.heap ∧ va_K D vwCl (mt_ d) U)) (va_Qi (fun r (_ : Unit) => r = nI (pu_M N w q (ib_ fe) (gb_ go) (0 + 1) (lb_ set))) (fun _ _ => True) (fun _ => False)) 0 0 (fun _ => False) := by
  refine me_of (by decide) (Nat.le_of_ble_eq_true rfl) (fun p e s m below meth c S hr hlk hnm hv ls hl => ?_)
  have S : CallFix p m c cX1_one 8 s _ lw_all RX1 := S
  have hx := S.1
  have hb := S.2.1
  have hl : lv_has ls 8 [(0, .ref (a 0)), (1, .long set)] := hl
  have hK := hv.2
  have hW : MW D (fun _ => False) s.heap a d (nI N) fe go (nI w) (nI q) s.heap [] := ⟨hv.1, va_S.rf⟩
  refine lv_aload_n hx hb dX1_one_0 rfl (lv_at hl 0 rfl) ?_
  refine lv_lload_n hx hb dX1_one_1 rfl (lv_at hl 1 rfl) ?_
  refine cl_leaf S ⟨Nat.le_of_ble_eq_true rfl, Nat.le_of_ble_eq_true rfl⟩ hK hW set hN hw hq hl.1 (Nat.zero_le 8) dX1_one_2 (fun H locs hW => ?_)
  refine lv_istore_n (lv' := [(3, .int (nI (pu_M N w q (ib_ fe) (gb_ go) 0 (lb_ set)))), (0, .ref (a 0)), (1, .long set)]) hx hb dX1_one_5 rfl hl (by decide) rfl (fun ls hl => ?_)
  refine lv_iconst (v := nI 0) hx hb dX1_one_6 (by decide) ?_
  refine lv_istore (lv' := [(4, .int (nI 0)), (3, .int (nI (pu_M N w q (ib_ fe) (gb_ go) 0 (lb_ set)))), (0, .ref (a 0)), (1, .long set)]) hx hb dX1_one_7 hl (by decide) rfl (fun ls hl => ?_)
  refine one_lp hN hw hq set S ⟨Nat.le_of_ble_eq_true rfl, Nat.le_of_ble_eq_true rfl⟩ hK (fun H locs ls hW hl => ?_) 7 0 (by omega) (by omega) H locs ls hW (lv_sub hl [2, 3, 1, 0] rfl)
  refine lv_iload_n hx hb dX1_one_67 rfl (lv_at hl 0 rfl) ?_
  exact W.iret hx hb hr (fun t ht hW2 => ⟨⟨_, (), rfl, rfl, trivial⟩, hW.2.F ht⟩) hW.2.2.2 dX1_one_68
theorem cl_one {N w q : Nat} (S : CallFix p m c cc nL s args lw_all RX1) (hR : 2 ≤ R.frames ∧ 54 ≤ R.locals) (hK : va_K D vwCl (mt_ d) s) (hW : MW D A H0 a d (nI N) fe go (nI w) (nI q) H locs) (set : Int64) (hN : N ≤ 48) (hw : w ≤ 100) (hq : q ≤ 20) (hsz : ls.size = nL) (hrest : (rest.map fun v => v.category).sum ≤ 8) (hdg : decode cc pc = .ok (.invokevirtual 37, 3)) (kk : ∀ (H : Heap) (locs : List Loc), MW D A H0 a d (nI N) fe go (nI w) (nI q) H locs → W p l e R s m args below meth c H locs 0 0 Q (F0 m (pc + 3) ls (.int (nI (pu_M N w q (ib_ fe) (gb_ go) (0 + 1) (lb_ set))) :: rest))) : W p l e R s m args below meth c H locs 0 0 Q (F0 m pc ls (.long set :: .ref (a 0) :: rest)) :=
  cv_i (As := [.long set]) (rest := rest) S (met_one l D a d N w q fe go hN hw hq set) (cwV 1 S.2.2.2.2 (lw_V q172 q174 qs11 q15 q175) rfl rfl rfl (by decide +kernel) ⟨hR.1, hR.2⟩) hK hW.1 hW.2 rfl rfl rfl rfl hsz hrest hdg ⟨Nat.zero_le _, Nat.zero_le _⟩ (fun r H1 locs1 hp hP hk hS => by rw [hp]; exact kk H1 locs1 ⟨hP, hS⟩)
set_option maxHeartbeats 4000000 in
set_option maxRecDepth 100000 in
theorem two_lp {N w q : Nat} (hN : N ≤ 48) (hw : w ≤ 100) (hq : q ≤ 20) (set : Int64) (S : CallFix p m c cX1_two 8 s args lw_all RX1) (hR : 2 ≤ R.frames ∧ 54 ≤ R.locals) (hK : va_K D vwCl (mt_ d) s) (K : ∀ (H : Heap) (locs : List Loc) (ls : Array Slot), MW D A H0 a d (nI N) fe go (nI w) (nI q) H locs → lv_has ls 8 [(3, .int (nI (pu_mf (fun f => q + pu_M N w q (ib_ fe) (gb_ go) 1 (fun k => lb_ set k && !ib_ fe k f) + pu_M N w q (ib_ fe) (gb_ go) 1 (fun k => lb_ set k && ib_ fe k f)) (pu_M N w q (ib_ fe) (gb_ go) 0 (lb_ set)) 6)))] → W p l e R s m args below meth c H locs 0 0 Q (F0 m 67 ls [])) : ∀ (k f : Nat), f ≤ 6 → 6 < f + k → ∀ (H : Heap) (locs : List Loc) (ls : Array Slot), MW D A H0 a d (nI N) fe go (nI w) (nI q) H locs → lv_has ls 8 [(0, .ref (a 0)), (1, .long set), (3, .int (nI (pu_mf (fun f => q + pu_M N w q (ib_ fe) (gb_ go) 1 (fun k => lb_ set k && !ib_ fe k f) + pu_M N w q (ib_ fe) (gb_ go) 1 (fun k => lb_ set k && ib_ fe k f)) (pu_M N w q (ib_ fe) (gb_ go) 0 (lb_ set)) f))), (4, .int (nI f))] → W p l e R s m args below meth c H locs 0 0 Q (F0 m 9 ls []) := by
  have hx := S.1
  have hb := S.2.1
  intro k
  induction k with
  | zero =>
    intro f g1 g2
    exact absurd g2 (by omega)
  | succ k ih =>
    intro f q1 q2 H locs ls hW hl
    refine lv_iload hx hb dX1_two_9 (lv_at hl 3 rfl) ?_
    refine lv_bipush (v := nI 6) hx hb dX1_two_11 (by decide) ?_
    refine nb_ge (tgt := 67) hx hb dX1_two_13 (by decide) f 6 (by omega) (by omega) (fun h => ?_) (fun h => ?_)
    · obtain rfl : f = 6 := by omega
      exact K H locs ls hW (lv_sub hl [2] rfl)
    · refine lv_aload_n hx hb dX1_two_16 rfl (lv_at hl 0 rfl) ?_
      refine lv_lload_n hx hb dX1_two_17 rfl (lv_at hl 1 rfl) ?_
      refine lv_iload hx hb dX1_two_18 (lv_at hl 3 rfl) ?_
      refine lv_iconst (v := nI 0) hx hb dX1_two_20 (by decide) ?_
      refine cl_part S ⟨Nat.le_trans (by decide) hR.1, Nat.le_trans (by decide) hR.2⟩ hK hW set f hN (by omega) hl.1 (Nat.zero_le 8) dX1_two_21 (fun H locs no hW hno => ?_)
      have hny := no_yes (w := w) (q := q) (fe := fe) (go := go) (dd := 1) (f := f) (set := set) (no := no) (S := lb_ set) hN (fun k hk => rfl) hno
      refine lv_lstore (lv' := [(5, .long no), (0, .ref (a 0)), (1, .long set), (3, .int (nI (pu_mf (fun f => q + pu_M N w q (ib_ fe) (gb_ go) 1 (fun k => lb_ set k && !ib_ fe k f) + pu_M N w q (ib_ fe) (gb_ go) 1 (fun k => lb_ set k && ib_ fe k f)) (pu_M N w q (ib_ fe) (gb_ go) 0 (lb_ set)) f))), (4, .int (nI f))]) hx hb dX1_two_24 hl (by decide) rfl (fun ls hl => ?_)
      refine lv_aload_n hx hb dX1_two_26 rfl (lv_at hl 1 rfl) ?_
      refine mg_4 S hK hW.1 dX1_two_27 ?_
      refine lv_aload_n hx hb dX1_two_30 rfl (lv_at hl 1 rfl) ?_
      refine lv_lload hx hb dX1_two_31 (lv_at hl 0 rfl) ?_
      refine cl_one S hR hK hW no hN hw hq hl.1 (Nat.le_of_ble_eq_true rfl) dX1_two_33 (fun H locs hW => ?_)
      refine rw_i (v := nI (pu_M N w q (ib_ fe) (gb_ go) 1 (fun k => lb_ set k && !ib_ fe k f))) (congrArg nI hny.1) ?_
      refine lv_iadd hx hb dX1_two_36 ?_
      refine rw_i (v := nI (q + (pu_M N w q (ib_ fe) (gb_ go) 1 (fun k => lb_ set k && !ib_ fe k f)))) (nI_add q (pu_M N w q (ib_ fe) (gb_ go) 1 (fun k => lb_ set k && !ib_ fe k f))) ?_
      refine lv_aload_n hx hb dX1_two_37 rfl (lv_at hl 1 rfl) ?_
      refine lv_lload_n hx hb dX1_two_38 rfl (lv_at hl 2 rfl) ?_
      refine lv_lload hx hb dX1_two_39 (lv_at hl 0 rfl) ?_
      refine lv_ldc2 (v := -1) hx hb S.2.2.2.1 (S.2.2.2.2 _ q176) dX1_two_41 ?_
      refine lv_lxor hx hb dX1_two_44 ?_
      refine lv_land hx hb dX1_two_45 ?_
      refine cl_one S hR hK hW (set &&& (no ^^^ (-1))) hN hw hq hl.1 (Nat.le_of_ble_eq_true rfl) dX1_two_46 (fun H locs hW => ?_)
      refine rw_i (v := nI (pu_M N w q (ib_ fe) (gb_ go) 1 (fun k => lb_ set k && ib_ fe k f))) (congrArg nI hny.2) ?_
      refine lv_iadd hx hb dX1_two_49 ?_
      refine rw_i (v := nI ((q + (pu_M N w q (ib_ fe) (gb_ go) 1 (fun k => lb_ set k && !ib_ fe k f))) + (pu_M N w q (ib_ fe) (gb_ go) 1 (fun k => lb_ set k && ib_ fe k f)))) (nI_add (q + (pu_M N w q (ib_ fe) (gb_ go) 1 (fun k => lb_ set k && !ib_ fe k f))) (pu_M N w q (ib_ fe) (gb_ go) 1 (fun k => lb_ set k && ib_ fe k f))) ?_
      refine rw_i (v := nI ((fun f => q + pu_M N w q (ib_ fe) (gb_ go) 1 (fun k => lb_ set k && !ib_ fe k f) + pu_M N w q (ib_ fe) (gb_ go) 1 (fun k => lb_ set k && ib_ fe k f)) f)) (rfl) ?_
      have b1 := M_lt N w q (ib_ fe) (gb_ go) 1 (fun k => lb_ set k && !ib_ fe k f) hN hw
      have b2 := M_lt N w q (ib_ fe) (gb_ go) 1 (fun k => lb_ set k && ib_ fe k f) hN hw
      have b3 : (fun f => q + pu_M N w q (ib_ fe) (gb_ go) 1 (fun k => lb_ set k && !ib_ fe k f) + pu_M N w q (ib_ fe) (gb_ go) 1 (fun k => lb_ set k && ib_ fe k f)) f ≤ 9620 := by show q + pu_M N w q (ib_ fe) (gb_ go) 1 (fun k => lb_ set k && !ib_ fe k f) + pu_M N w q (ib_ fe) (gb_ go) 1 (fun k => lb_ set k && ib_ fe k f) ≤ 9620; omega
      have b4 : pu_mf (fun f => q + pu_M N w q (ib_ fe) (gb_ go) 1 (fun k => lb_ set k && !ib_ fe k f) + pu_M N w q (ib_ fe) (gb_ go) 1 (fun k => lb_ set k && ib_ fe k f)) (pu_M N w q (ib_ fe) (gb_ go) 0 (lb_ set)) f ≤ 4800 := mf_lt (M_lt N w q (ib_ fe) (gb_ go) 0 (lb_ set) hN hw)
      have hs := pu_mf_s (fun f => q + pu_M N w q (ib_ fe) (gb_ go) 1 (fun k => lb_ set k && !ib_ fe k f) + pu_M N w q (ib_ fe) (gb_ go) 1 (fun k => lb_ set k && ib_ fe k f)) (pu_M N w q (ib_ fe) (gb_ go) 0 (lb_ set)) f
      refine lv_istore (lv' := [(7, .int (nI ((fun f => q + pu_M N w q (ib_ fe) (gb_ go) 1 (fun k => lb_ set k && !ib_ fe k f) + pu_M N w q (ib_ fe) (gb_ go) 1 (fun k => lb_ set k && ib_ fe k f)) f))), (5, .long no), (0, .ref (a 0)), (1, .long set), (3, .int (nI (pu_mf (fun f => q + pu_M N w q (ib_ fe) (gb_ go) 1 (fun k => lb_ set k && !ib_ fe k f) + pu_M N w q (ib_ fe) (gb_ go) 1 (fun k => lb_ set k && ib_ fe k f)) (pu_M N w q (ib_ fe) (gb_ go) 0 (lb_ set)) f))), (4, .int (nI f))]) hx hb dX1_two_50 hl (by decide) rfl (fun ls hl => ?_)
      refine lv_iload hx hb dX1_two_52 (lv_at hl 0 rfl) ?_
      refine lv_iload_n hx hb dX1_two_54 rfl (lv_at hl 4 rfl) ?_
      refine nb_ge (tgt := 61) hx hb dX1_two_55 (by decide) ((fun f => q + pu_M N w q (ib_ fe) (gb_ go) 1 (fun k => lb_ set k && !ib_ fe k f) + pu_M N w q (ib_ fe) (gb_ go) 1 (fun k => lb_ set k && ib_ fe k f)) f) (pu_mf (fun f => q + pu_M N w q (ib_ fe) (gb_ go) 1 (fun k => lb_ set k && !ib_ fe k f) + pu_M N w q (ib_ fe) (gb_ go) 1 (fun k => lb_ set k && ib_ fe k f)) (pu_M N w q (ib_ fe) (gb_ go) 0 (lb_ set)) f) (by omega) (by omega) (fun c1 => ?_) (fun c1 => ?_)
      · refine lv_iinc (v := nI (f + 1)) (lv' := [(4, .int (nI (f + 1))), (7, .int (nI ((fun f => q + pu_M N w q (ib_ fe) (gb_ go) 1 (fun k => lb_ set k && !ib_ fe k f) + pu_M N w q (ib_ fe) (gb_ go) 1 (fun k => lb_ set k && ib_ fe k f)) f))), (5, .long no), (0, .ref (a 0)), (1, .long set), (3, .int (nI (pu_mf (fun f => q + pu_M N w q (ib_ fe) (gb_ go) 1 (fun k => lb_ set k && !ib_ fe k f) + pu_M N w q (ib_ fe) (gb_ go) 1 (fun k => lb_ set k && ib_ fe k f)) (pu_M N w q (ib_ fe) (gb_ go) 0 (lb_ set)) f)))]) hx hb dX1_two_61 hl (k := 5) rfl (nI_1 f) (by decide) rfl (fun ls hl => ?_)
        refine lv_goto (tgt := 9) hx hb dX1_two_64 (by decide) ?_
        exact ih (f + 1) (by omega) (by omega) H locs ls hW (by rw [hs, if_neg (Nat.not_lt.mpr c1)]; exact lv_sub hl [3, 4, 5, 0] rfl)
      · refine lv_iload hx hb dX1_two_58 (lv_at hl 0 rfl) ?_
        refine lv_istore_n (lv' := [(3, .int (nI ((fun f => q + pu_M N w q (ib_ fe) (gb_ go) 1 (fun k => lb_ set k && !ib_ fe k f) + pu_M N w q (ib_ fe) (gb_ go) 1 (fun k => lb_ set k && ib_ fe k f)) f))), (7, .int (nI ((fun f => q + pu_M N w q (ib_ fe) (gb_ go) 1 (fun k => lb_ set k && !ib_ fe k f) + pu_M N w q (ib_ fe) (gb_ go) 1 (fun k => lb_ set k && ib_ fe k f)) f))), (5, .long no), (0, .ref (a 0)), (1, .long set), (4, .int (nI f))]) hx hb dX1_two_60 rfl hl (by decide) rfl (fun ls hl => ?_)
        refine lv_iinc (v := nI (f + 1)) (lv' := [(4, .int (nI (f + 1))), (3, .int (nI ((fun f => q + pu_M N w q (ib_ fe) (gb_ go) 1 (fun k => lb_ set k && !ib_ fe k f) + pu_M N w q (ib_ fe) (gb_ go) 1 (fun k => lb_ set k && ib_ fe k f)) f))), (7, .int (nI ((fun f => q + pu_M N w q (ib_ fe) (gb_ go) 1 (fun k => lb_ set k && !ib_ fe k f) + pu_M N w q (ib_ fe) (gb_ go) 1 (fun k => lb_ set k && ib_ fe k f)) f))), (5, .long no), (0, .ref (a 0)), (1, .long set)]) hx hb dX1_two_61 hl (k := 5) rfl (nI_1 f) (by decide) rfl (fun ls hl => ?_)
        refine lv_goto (tgt := 9) hx hb dX1_two_64 (by decide) ?_
        exact ih (f + 1) (by omega) (by omega) H locs ls hW (by rw [hs, if_pos c1]; exact lv_sub hl [4, 5, 1, 0] rfl)
set_option maxHeartbeats 4000000 in
set_option maxRecDepth 100000 in
theorem met_two (l : Launch) (D : va_G) (a : Nat → Nat) (d : Nat → ClassId) (N w q : Nat) (fe go : Nat → Int32) (hN : N ≤ 48) (hw : w ≤ 100) (hq : q ≤ 20) (set : Int64) : Met l yX1_two (ws_ yX1_two cX1_two 8 (some .int)) { frames := 2, cells := 0, slots := 0, locals := 54 } (va_Pc [.ref (a 0), .long set] (fun U => va_P D vwCl (mw_ a d (nI N) fe go (nI w) (nI q)) U.heap ∧ va_K D vwCl (mt_ d) U)) (va_Qi (fun r (_ : Unit) => r = nI (pu_M N w q (ib_ fe) (gb_ go) (1 + 1) (lb_ set))) (fun _ _ => True) (fun _ => False)) 0 0 (fun _ => False) := by
  refine me_of (by decide) (Nat.le_of_ble_eq_true rfl) (fun p e s m below meth c S hr hlk hnm hv ls hl => ?_)
  have S : CallFix p m c cX1_two 8 s _ lw_all RX1 := S
  have hx := S.1
  have hb := S.2.1
  have hl : lv_has ls 8 [(0, .ref (a 0)), (1, .long set)] := hl
  have hK := hv.2
  have hW : MW D (fun _ => False) s.heap a d (nI N) fe go (nI w) (nI q) s.heap [] := ⟨hv.1, va_S.rf⟩
  refine lv_aload_n hx hb dX1_two_0 rfl (lv_at hl 0 rfl) ?_
  refine lv_lload_n hx hb dX1_two_1 rfl (lv_at hl 1 rfl) ?_
  refine cl_leaf S ⟨Nat.le_of_ble_eq_true rfl, Nat.le_of_ble_eq_true rfl⟩ hK hW set hN hw hq hl.1 (Nat.zero_le 8) dX1_two_2 (fun H locs hW => ?_)
  refine lv_istore_n (lv' := [(3, .int (nI (pu_M N w q (ib_ fe) (gb_ go) 0 (lb_ set)))), (0, .ref (a 0)), (1, .long set)]) hx hb dX1_two_5 rfl hl (by decide) rfl (fun ls hl => ?_)
  refine lv_iconst (v := nI 0) hx hb dX1_two_6 (by decide) ?_
  refine lv_istore (lv' := [(4, .int (nI 0)), (3, .int (nI (pu_M N w q (ib_ fe) (gb_ go) 0 (lb_ set)))), (0, .ref (a 0)), (1, .long set)]) hx hb dX1_two_7 hl (by decide) rfl (fun ls hl => ?_)
  refine two_lp hN hw hq set S ⟨Nat.le_of_ble_eq_true rfl, Nat.le_of_ble_eq_true rfl⟩ hK (fun H locs ls hW hl => ?_) 7 0 (by omega) (by omega) H locs ls hW (lv_sub hl [2, 3, 1, 0] rfl)
  refine lv_iload_n hx hb dX1_two_67 rfl (lv_at hl 0 rfl) ?_
  exact W.iret hx hb hr (fun t ht hW2 => ⟨⟨_, (), rfl, rfl, trivial⟩, hW.2.F ht⟩) hW.2.2.2 dX1_two_68
theorem cl_two {N w q : Nat} (S : CallFix p m c cc nL s args lw_all RX1) (hR : 3 ≤ R.frames ∧ 81 ≤ R.locals) (hK : va_K D vwCl (mt_ d) s) (hW : MW D A H0 a d (nI N) fe go (nI w) (nI q) H locs) (set : Int64) (hN : N ≤ 48) (hw : w ≤ 100) (hq : q ≤ 20) (hsz : ls.size = nL) (hrest : (rest.map fun v => v.category).sum ≤ 8) (hdg : decode cc pc = .ok (.invokevirtual 40, 3)) (kk : ∀ (H : Heap) (locs : List Loc), MW D A H0 a d (nI N) fe go (nI w) (nI q) H locs → W p l e R s m args below meth c H locs 0 0 Q (F0 m (pc + 3) ls (.int (nI (pu_M N w q (ib_ fe) (gb_ go) (1 + 1) (lb_ set))) :: rest))) : W p l e R s m args below meth c H locs 0 0 Q (F0 m pc ls (.long set :: .ref (a 0) :: rest)) :=
  cv_i (As := [.long set]) (rest := rest) S (met_two l D a d N w q fe go hN hw hq set) (cwV 1 S.2.2.2.2 (lw_V q177 q179 qs12 q15 q180) rfl rfl rfl (by decide +kernel) ⟨hR.1, hR.2⟩) hK hW.1 hW.2 rfl rfl rfl rfl hsz hrest hdg ⟨Nat.zero_le _, Nat.zero_le _⟩ (fun r H1 locs1 hp hP hk hS => by rw [hp]; exact kk H1 locs1 ⟨hP, hS⟩)
set_option maxHeartbeats 4000000 in
set_option maxRecDepth 100000 in
theorem met_least (l : Launch) (D : va_G) (a : Nat → Nat) (d : Nat → ClassId) (N w q : Nat) (fe go : Nat → Int32) (hN : N ≤ 48) (hw : w ≤ 100) (hq : q ≤ 20) (set : Int64) (dd : Nat) (hdd : dd ≤ 2) : Met l yX1_least (ws_ yX1_least cX1_least 4 (some .int)) { frames := 3, cells := 0, slots := 0, locals := 81 } (va_Pc [.ref (a 0), .long set, .int (nI dd)] (fun U => va_P D vwCl (mw_ a d (nI N) fe go (nI w) (nI q)) U.heap ∧ va_K D vwCl (mt_ d) U)) (va_Qi (fun r (_ : Unit) => r = nI (pu_M N w q (ib_ fe) (gb_ go) dd (lb_ set))) (fun _ _ => True) (fun _ => False)) 0 0 (fun _ => False) := by
  refine me_of (by decide) (Nat.le_of_ble_eq_true rfl) (fun p e s m below meth c S hr hlk hnm hv ls hl => ?_)
  have S : CallFix p m c cX1_least 4 s _ lw_all RX1 := S
  have hx := S.1
  have hb := S.2.1
  have hl : lv_has ls 4 [(0, .ref (a 0)), (1, .long set), (3, .int (nI dd))] := hl
  have hK := hv.2
  have hW : MW D (fun _ => False) s.heap a d (nI N) fe go (nI w) (nI q) s.heap [] := ⟨hv.1, va_S.rf⟩
  refine lv_iload_n hx hb dX1_least_0 rfl (lv_at hl 2 rfl) ?_
  refine nb_ne0 (tgt := 12) hx hb dX1_least_1 (by decide) dd (by omega) (fun c1 => ?_) (fun c1 => ?_)
  · refine lv_iload_n hx hb dX1_least_12 rfl (lv_at hl 2 rfl) ?_
    refine lv_iconst (v := nI 1) hx hb dX1_least_13 (by decide) ?_
    refine nb_ne (tgt := 25) hx hb dX1_least_14 (by decide) dd 1 (by omega) (by omega) (fun c2 => ?_) (fun c2 => ?_)
    · refine lv_aload_n hx hb dX1_least_25 rfl (lv_at hl 0 rfl) ?_
      refine lv_lload_n hx hb dX1_least_26 rfl (lv_at hl 1 rfl) ?_
      refine cl_two S ⟨Nat.le_of_ble_eq_true rfl, Nat.le_of_ble_eq_true rfl⟩ hK hW set hN hw hq hl.1 (Nat.zero_le 8) dX1_least_27 (fun H locs hW => ?_)
      exact W.iret hx hb hr (fun t ht hW2 => ⟨⟨_, (), rfl, by rw [show dd = 2 by omega], trivial⟩, hW.2.F ht⟩) hW.2.2.2 dX1_least_30
    · refine lv_aload_n hx hb dX1_least_17 rfl (lv_at hl 0 rfl) ?_
      refine lv_lload_n hx hb dX1_least_18 rfl (lv_at hl 1 rfl) ?_
      refine cl_one S ⟨Nat.le_of_ble_eq_true rfl, Nat.le_of_ble_eq_true rfl⟩ hK hW set hN hw hq hl.1 (Nat.zero_le 8) dX1_least_19 (fun H locs hW => ?_)
      refine lv_goto (tgt := 30) hx hb dX1_least_22 (by decide) ?_
      exact W.iret hx hb hr (fun t ht hW2 => ⟨⟨_, (), rfl, by rw [c2], trivial⟩, hW.2.F ht⟩) hW.2.2.2 dX1_least_30
  · refine lv_aload_n hx hb dX1_least_4 rfl (lv_at hl 0 rfl) ?_
    refine lv_lload_n hx hb dX1_least_5 rfl (lv_at hl 1 rfl) ?_
    refine cl_leaf S ⟨Nat.le_of_ble_eq_true rfl, Nat.le_of_ble_eq_true rfl⟩ hK hW set hN hw hq hl.1 (Nat.zero_le 8) dX1_least_6 (fun H locs hW => ?_)
    refine lv_goto (tgt := 30) hx hb dX1_least_9 (by decide) ?_
    exact W.iret hx hb hr (fun t ht hW2 => ⟨⟨_, (), rfl, by rw [c1], trivial⟩, hW.2.F ht⟩) hW.2.2.2 dX1_least_30
theorem cl_least {N w q : Nat} (S : CallFix p m c cc nL s args lw_all RX1) (hR : 4 ≤ R.frames ∧ 104 ≤ R.locals) (hK : va_K D vwCl (mt_ d) s) (hW : MW D A H0 a d (nI N) fe go (nI w) (nI q) H locs) (set : Int64) (dd : Nat) (hN : N ≤ 48) (hw : w ≤ 100) (hq : q ≤ 20) (hdd : dd ≤ 2) (hsz : ls.size = nL) (hrest : (rest.map fun v => v.category).sum ≤ 8) (hdg : decode cc pc = .ok (.invokevirtual 47, 3)) (kk : ∀ (H : Heap) (locs : List Loc), MW D A H0 a d (nI N) fe go (nI w) (nI q) H locs → W p l e R s m args below meth c H locs 0 0 Q (F0 m (pc + 3) ls (.int (nI (pu_M N w q (ib_ fe) (gb_ go) dd (lb_ set))) :: rest))) : W p l e R s m args below meth c H locs 0 0 Q (F0 m pc ls (.int (nI dd) :: .long set :: .ref (a 0) :: rest)) :=
  cv_i (As := [.long set, .int (nI dd)]) (rest := rest) S (met_least l D a d N w q fe go hN hw hq set dd hdd) (cwV 2 S.2.2.2.2 (lw_V q168 q170 qs10 q15 q171) rfl rfl rfl (by decide +kernel) ⟨hR.1, hR.2⟩) hK hW.1 hW.2 rfl rfl rfl rfl hsz hrest hdg ⟨Nat.zero_le _, Nat.zero_le _⟩ (fun r H1 locs1 hp hP hk hS => by rw [hp]; exact kk H1 locs1 ⟨hP, hS⟩)
set_option maxHeartbeats 4000000 in
set_option maxRecDepth 100000 in
theorem met_by (l : Launch) (D : va_G) (a : Nat → Nat) (d : Nat → ClassId) (N w q : Nat) (fe go : Nat → Int32) (hN : N ≤ 48) (hw : w ≤ 100) (hq : q ≤ 20) (dd f : Nat) (h1 : 1 ≤ dd) (h3 : dd ≤ 3) (hf : f < 6) : Met l yX1_by (ws_ yX1_by cX1_by 7 (some .int)) { frames := 4, cells := 0, slots := 0, locals := 104 } (va_Pc [.ref (a 0), .int (nI dd), .int (nI f)] (fun U => va_P D vwCl (mw_ a d (nI N) fe go (nI w) (nI q)) U.heap ∧ va_K D vwCl (mt_ d) U)) (va_Qi (fun r (_ : Unit) => r = nI (pu_By N w q (ib_ fe) (gb_ go) (dd - 1) f)) (fun _ _ => True) (fun _ => False)) 0 0 (fun _ => False) := by
  refine me_of (by decide) (Nat.le_of_ble_eq_true rfl) (fun p e s m below meth c S hr hlk hnm hv ls hl => ?_)
  have S : CallFix p m c cX1_by 7 s _ lw_all RX1 := S
  have hx := S.1
  have hb := S.2.1
  have hl : lv_has ls 7 [(0, .ref (a 0)), (1, .int (nI dd)), (2, .int (nI f))] := hl
  have hK := hv.2
  have hW : MW D (fun _ => False) s.heap a d (nI N) fe go (nI w) (nI q) s.heap [] := ⟨hv.1, va_S.rf⟩
  refine lv_aload_n hx hb dX1_by_0 rfl (lv_at hl 0 rfl) ?_
  refine cl_all S ⟨Nat.le_of_ble_eq_true rfl, Nat.le_of_ble_eq_true rfl⟩ hK hW hN hl.1 (Nat.zero_le 8) dX1_by_1 (fun H locs set hW hset => ?_)
  refine lv_lstore_n (lv' := [(3, .long set), (0, .ref (a 0)), (1, .int (nI dd)), (2, .int (nI f))]) hx hb dX1_by_4 rfl hl (by decide) rfl (fun ls hl => ?_)
  refine lv_aload_n hx hb dX1_by_5 rfl (lv_at hl 1 rfl) ?_
  refine lv_lload_n hx hb dX1_by_6 rfl (lv_at hl 0 rfl) ?_
  refine lv_iload_n hx hb dX1_by_7 rfl (lv_at hl 3 rfl) ?_
  refine lv_iconst (v := nI 0) hx hb dX1_by_8 (by decide) ?_
  refine cl_part S ⟨Nat.le_of_ble_eq_true rfl, Nat.le_of_ble_eq_true rfl⟩ hK hW set f hN hf hl.1 (Nat.zero_le 8) dX1_by_9 (fun H locs no hW hno => ?_)
  have hny := no_yes (w := w) (q := q) (fe := fe) (go := go) (dd := dd - 1) (f := f) (set := set) (no := no) (S := fun _ => true) hN hset hno
  refine lv_lstore (lv' := [(5, .long no), (3, .long set), (0, .ref (a 0)), (1, .int (nI dd)), (2, .int (nI f))]) hx hb dX1_by_12 hl (by decide) rfl (fun ls hl => ?_)
  refine lv_aload_n hx hb dX1_by_14 rfl (lv_at hl 2 rfl) ?_
  refine mg_4 S hK hW.1 dX1_by_15 ?_
  refine lv_aload_n hx hb dX1_by_18 rfl (lv_at hl 2 rfl) ?_
  refine lv_lload hx hb dX1_by_19 (lv_at hl 0 rfl) ?_
  refine lv_iload_n hx hb dX1_by_21 rfl (lv_at hl 3 rfl) ?_
  refine lv_iconst (v := nI 1) hx hb dX1_by_22 (by decide) ?_
  refine lv_isub hx hb dX1_by_23 ?_
  refine rw_i (v := nI (dd - 1)) (pk_sub (by omega)) ?_
  refine cl_least S ⟨Nat.le_of_ble_eq_true rfl, Nat.le_of_ble_eq_true rfl⟩ hK hW no (dd - 1) hN hw hq (by omega) hl.1 (Nat.le_of_ble_eq_true rfl) dX1_by_24 (fun H locs hW => ?_)
  refine rw_i (v := nI (pu_M N w q (ib_ fe) (gb_ go) (dd - 1) (fun k => !ib_ fe k f))) (congrArg nI (hny.1.trans (pu_M_congr (dd - 1) (fun k _ => Bool.true_and _)))) ?_
  refine lv_iadd hx hb dX1_by_27 ?_
  refine rw_i (v := nI (q + (pu_M N w q (ib_ fe) (gb_ go) (dd - 1) (fun k => !ib_ fe k f)))) (nI_add q (pu_M N w q (ib_ fe) (gb_ go) (dd - 1) (fun k => !ib_ fe k f))) ?_
  refine lv_aload_n hx hb dX1_by_28 rfl (lv_at hl 2 rfl) ?_
  refine lv_lload_n hx hb dX1_by_29 rfl (lv_at hl 1 rfl) ?_
  refine lv_lload hx hb dX1_by_30 (lv_at hl 0 rfl) ?_
  refine lv_ldc2 (v := -1) hx hb S.2.2.2.1 (S.2.2.2.2 _ q176) dX1_by_32 ?_
  refine lv_lxor hx hb dX1_by_35 ?_
  refine lv_land hx hb dX1_by_36 ?_
  refine lv_iload_n hx hb dX1_by_37 rfl (lv_at hl 3 rfl) ?_
  refine lv_iconst (v := nI 1) hx hb dX1_by_38 (by decide) ?_
  refine lv_isub hx hb dX1_by_39 ?_
  refine rw_i (v := nI (dd - 1)) (pk_sub (by omega)) ?_
  refine cl_least S ⟨Nat.le_of_ble_eq_true rfl, Nat.le_of_ble_eq_true rfl⟩ hK hW (set &&& (no ^^^ (-1))) (dd - 1) hN hw hq (by omega) hl.1 (Nat.le_of_ble_eq_true rfl) dX1_by_40 (fun H locs hW => ?_)
  refine rw_i (v := nI (pu_M N w q (ib_ fe) (gb_ go) (dd - 1) (fun k => ib_ fe k f))) (congrArg nI (hny.2.trans (pu_M_congr (dd - 1) (fun k _ => Bool.true_and _)))) ?_
  refine lv_iadd hx hb dX1_by_43 ?_
  refine rw_i (v := nI ((q + (pu_M N w q (ib_ fe) (gb_ go) (dd - 1) (fun k => !ib_ fe k f))) + (pu_M N w q (ib_ fe) (gb_ go) (dd - 1) (fun k => ib_ fe k f)))) (nI_add (q + (pu_M N w q (ib_ fe) (gb_ go) (dd - 1) (fun k => !ib_ fe k f))) (pu_M N w q (ib_ fe) (gb_ go) (dd - 1) (fun k => ib_ fe k f))) ?_
  exact W.iret hx hb hr (fun t ht hW2 => ⟨⟨_, (), rfl, rfl, trivial⟩, hW.2.F ht⟩) hW.2.2.2 dX1_by_44
theorem cl_by {N w q : Nat} (S : CallFix p m c cc nL s args lw_all RX1) (hR : 5 ≤ R.frames ∧ 130 ≤ R.locals) (hK : va_K D vwCl (mt_ d) s) (hW : MW D A H0 a d (nI N) fe go (nI w) (nI q) H locs) (dd f : Nat) (hN : N ≤ 48) (hw : w ≤ 100) (hq : q ≤ 20) (h1 : 1 ≤ dd) (h3 : dd ≤ 3) (hf : f < 6) (hsz : ls.size = nL) (hrest : (rest.map fun v => v.category).sum ≤ 8) (hdg : decode cc pc = .ok (.invokevirtual 51, 3)) (kk : ∀ (H : Heap) (locs : List Loc), MW D A H0 a d (nI N) fe go (nI w) (nI q) H locs → W p l e R s m args below meth c H locs 0 0 Q (F0 m (pc + 3) ls (.int (nI (pu_By N w q (ib_ fe) (gb_ go) (dd - 1) f)) :: rest))) : W p l e R s m args below meth c H locs 0 0 Q (F0 m pc ls (.int (nI f) :: .int (nI dd) :: .ref (a 0) :: rest)) :=
  cv_i (As := [.int (nI dd), .int (nI f)]) (rest := rest) S (met_by l D a d N w q fe go hN hw hq dd f h1 h3 hf) (cwV 2 S.2.2.2.2 (lw_V q160 q162 qs8 q15 q163) rfl rfl rfl (by decide +kernel) ⟨hR.1, hR.2⟩) hK hW.1 hW.2 rfl rfl rfl rfl hsz hrest hdg ⟨Nat.zero_le _, Nat.zero_le _⟩ (fun r H1 locs1 hp hP hk hS => by rw [hp]; exact kk H1 locs1 ⟨hP, hS⟩)
theorem By_lt (n w q : Nat) (B : Nat → Nat → Bool) (G : Nat → Bool) (d f : Nat) (hn : n ≤ 48) (hw : w ≤ 100) (hq : q ≤ 20) : pu_By n w q B G d f ≤ 9620 := by
  have b1 := M_lt n w q B G d (fun k => !B k f) hn hw
  have b2 := M_lt n w q B G d (fun k => B k f) hn hw
  unfold pu_By
  omega
theorem By_M (n w q : Nat) (B : Nat → Nat → Bool) (G : Nat → Bool) (d : Nat) : pu_mf (fun f => pu_By n w q B G d f) (pu_M n w q B G 0 (fun _ => true)) 6 = pu_M n w q B G (d + 1) (fun _ => true) := by
  rw [pu_M_s]
  exact pu_mf_congr (fun f _ => rfl)
set_option maxHeartbeats 4000000 in
set_option maxRecDepth 100000 in
theorem cheapest_lp {N w q : Nat} (hN : N ≤ 48) (hw : w ≤ 100) (hq : q ≤ 20) (dd : Nat) (h1 : 1 ≤ dd) (h3 : dd ≤ 3) (S : CallFix p m c cX1_cheapest 7 s args lw_all RX1) (hR : 5 ≤ R.frames ∧ 130 ≤ R.locals) (hK : va_K D vwCl (mt_ d) s) (K : ∀ (H : Heap) (locs : List Loc) (ls : Array Slot), MW D A H0 a d (nI N) fe go (nI w) (nI q) H locs → lv_has ls 7 [(4, .int (nI (pu_mf (fun f => pu_By N w q (ib_ fe) (gb_ go) (dd - 1) f) (pu_M N w q (ib_ fe) (gb_ go) 0 (fun _ => true)) 6)))] → W p l e R s m args below meth c H locs 0 0 Q (F0 m 52 ls [])) : ∀ (k f : Nat), f ≤ 6 → 6 < f + k → ∀ (H : Heap) (locs : List Loc) (ls : Array Slot), MW D A H0 a d (nI N) fe go (nI w) (nI q) H locs → lv_has ls 7 [(0, .ref (a 0)), (1, .int (nI dd)), (4, .int (nI (pu_mf (fun f => pu_By N w q (ib_ fe) (gb_ go) (dd - 1) f) (pu_M N w q (ib_ fe) (gb_ go) 0 (fun _ => true)) f))), (5, .int (nI f))] → W p l e R s m args below meth c H locs 0 0 Q (F0 m 15 ls []) := by
  have hx := S.1
  have hb := S.2.1
  intro k
  induction k with
  | zero =>
    intro f g1 g2
    exact absurd g2 (by omega)
  | succ k ih =>
    intro f q1 q2 H locs ls hW hl
    refine lv_iload hx hb dX1_cheapest_15 (lv_at hl 3 rfl) ?_
    refine lv_bipush (v := nI 6) hx hb dX1_cheapest_17 (by decide) ?_
    refine nb_ge (tgt := 52) hx hb dX1_cheapest_19 (by decide) f 6 (by omega) (by omega) (fun h => ?_) (fun h => ?_)
    · obtain rfl : f = 6 := by omega
      exact K H locs ls hW (lv_sub hl [2] rfl)
    · refine lv_iload_n hx hb dX1_cheapest_22 rfl (lv_at hl 1 rfl) ?_
      refine nb_le0 (tgt := 52) hx hb dX1_cheapest_23 (by decide) dd (by omega) (fun c0 => ?_) (fun c0 => ?_)
      · exact absurd c0 (by omega)
      · refine lv_aload_n hx hb dX1_cheapest_26 rfl (lv_at hl 0 rfl) ?_
        refine lv_iload_n hx hb dX1_cheapest_27 rfl (lv_at hl 1 rfl) ?_
        refine lv_iload hx hb dX1_cheapest_28 (lv_at hl 3 rfl) ?_
        refine cl_by S hR hK hW dd f hN hw hq h1 h3 (by omega) hl.1 (Nat.zero_le 8) dX1_cheapest_30 (fun H locs hW => ?_)
        refine rw_i (v := nI ((fun f => pu_By N w q (ib_ fe) (gb_ go) (dd - 1) f) f)) (rfl) ?_
        have b3 : (fun f => pu_By N w q (ib_ fe) (gb_ go) (dd - 1) f) f ≤ 9620 := By_lt N w q (ib_ fe) (gb_ go) (dd - 1) f hN hw hq
        have b4 : pu_mf (fun f => pu_By N w q (ib_ fe) (gb_ go) (dd - 1) f) (pu_M N w q (ib_ fe) (gb_ go) 0 (fun _ => true)) f ≤ 4800 := mf_lt (M_lt N w q (ib_ fe) (gb_ go) 0 (fun _ => true) hN hw)
        have hs := pu_mf_s (fun f => pu_By N w q (ib_ fe) (gb_ go) (dd - 1) f) (pu_M N w q (ib_ fe) (gb_ go) 0 (fun _ => true)) f
        refine lv_istore (lv' := [(6, .int (nI ((fun f => pu_By N w q (ib_ fe) (gb_ go) (dd - 1) f) f))), (0, .ref (a 0)), (1, .int (nI dd)), (4, .int (nI (pu_mf (fun f => pu_By N w q (ib_ fe) (gb_ go) (dd - 1) f) (pu_M N w q (ib_ fe) (gb_ go) 0 (fun _ => true)) f))), (5, .int (nI f))]) hx hb dX1_cheapest_33 hl (by decide) rfl (fun ls hl => ?_)
        refine lv_iload hx hb dX1_cheapest_35 (lv_at hl 0 rfl) ?_
        refine lv_iload hx hb dX1_cheapest_37 (lv_at hl 3 rfl) ?_
        refine nb_ge (tgt := 46) hx hb dX1_cheapest_39 (by decide) ((fun f => pu_By N w q (ib_ fe) (gb_ go) (dd - 1) f) f) (pu_mf (fun f => pu_By N w q (ib_ fe) (gb_ go) (dd - 1) f) (pu_M N w q (ib_ fe) (gb_ go) 0 (fun _ => true)) f) (by omega) (by omega) (fun c1 => ?_) (fun c1 => ?_)
        · refine lv_iinc (v := nI (f + 1)) (lv' := [(5, .int (nI (f + 1))), (6, .int (nI ((fun f => pu_By N w q (ib_ fe) (gb_ go) (dd - 1) f) f))), (0, .ref (a 0)), (1, .int (nI dd)), (4, .int (nI (pu_mf (fun f => pu_By N w q (ib_ fe) (gb_ go) (dd - 1) f) (pu_M N w q (ib_ fe) (gb_ go) 0 (fun _ => true)) f)))]) hx hb dX1_cheapest_46 hl (k := 4) rfl (nI_1 f) (by decide) rfl (fun ls hl => ?_)
          refine lv_goto (tgt := 15) hx hb dX1_cheapest_49 (by decide) ?_
          exact ih (f + 1) (by omega) (by omega) H locs ls hW (by rw [hs, if_neg (Nat.not_lt.mpr c1)]; exact lv_sub hl [2, 3, 4, 0] rfl)
        · refine lv_iload hx hb dX1_cheapest_42 (lv_at hl 0 rfl) ?_
          refine lv_istore (lv' := [(4, .int (nI ((fun f => pu_By N w q (ib_ fe) (gb_ go) (dd - 1) f) f))), (6, .int (nI ((fun f => pu_By N w q (ib_ fe) (gb_ go) (dd - 1) f) f))), (0, .ref (a 0)), (1, .int (nI dd)), (5, .int (nI f))]) hx hb dX1_cheapest_44 hl (by decide) rfl (fun ls hl => ?_)
          refine lv_iinc (v := nI (f + 1)) (lv' := [(5, .int (nI (f + 1))), (4, .int (nI ((fun f => pu_By N w q (ib_ fe) (gb_ go) (dd - 1) f) f))), (6, .int (nI ((fun f => pu_By N w q (ib_ fe) (gb_ go) (dd - 1) f) f))), (0, .ref (a 0)), (1, .int (nI dd))]) hx hb dX1_cheapest_46 hl (k := 4) rfl (nI_1 f) (by decide) rfl (fun ls hl => ?_)
          refine lv_goto (tgt := 15) hx hb dX1_cheapest_49 (by decide) ?_
          exact ih (f + 1) (by omega) (by omega) H locs ls hW (by rw [hs, if_pos c1]; exact lv_sub hl [3, 4, 1, 0] rfl)
set_option maxHeartbeats 4000000 in
set_option maxRecDepth 100000 in
theorem met_cheapest (l : Launch) (D : va_G) (a : Nat → Nat) (d : Nat → ClassId) (N w q : Nat) (fe go : Nat → Int32) (hN : N ≤ 48) (hw : w ≤ 100) (hq : q ≤ 20) (dd : Nat) (h3 : dd ≤ 3) : Met l yX1_cheapest (ws_ yX1_cheapest cX1_cheapest 7 (some .int)) { frames := 5, cells := 0, slots := 0, locals := 130 } (va_Pc [.ref (a 0), .int (nI dd)] (fun U => va_P D vwCl (mw_ a d (nI N) fe go (nI w) (nI q)) U.heap ∧ va_K D vwCl (mt_ d) U)) (va_Qi (fun r (_ : Unit) => r = nI (pu_M N w q (ib_ fe) (gb_ go) dd (fun _ => true))) (fun _ _ => True) (fun _ => False)) 0 0 (fun _ => False) := by
  refine me_of (by decide) (Nat.le_of_ble_eq_true rfl) (fun p e s m below meth c S hr hlk hnm hv ls hl => ?_)
  have S : CallFix p m c cX1_cheapest 7 s _ lw_all RX1 := S
  have hx := S.1
  have hb := S.2.1
  have hl : lv_has ls 7 [(0, .ref (a 0)), (1, .int (nI dd))] := hl
  have hK := hv.2
  have hW : MW D (fun _ => False) s.heap a d (nI N) fe go (nI w) (nI q) s.heap [] := ⟨hv.1, va_S.rf⟩
  refine lv_aload_n hx hb dX1_cheapest_0 rfl (lv_at hl 0 rfl) ?_
  refine cl_all S ⟨Nat.le_of_ble_eq_true rfl, Nat.le_of_ble_eq_true rfl⟩ hK hW hN hl.1 (Nat.zero_le 8) dX1_cheapest_1 (fun H locs set hW hset => ?_)
  refine lv_lstore_n (lv' := [(2, .long set), (0, .ref (a 0)), (1, .int (nI dd))]) hx hb dX1_cheapest_4 rfl hl (by decide) rfl (fun ls hl => ?_)
  refine lv_aload_n hx hb dX1_cheapest_5 rfl (lv_at hl 1 rfl) ?_
  refine lv_lload_n hx hb dX1_cheapest_6 rfl (lv_at hl 0 rfl) ?_
  refine cl_leaf S ⟨Nat.le_of_ble_eq_true rfl, Nat.le_of_ble_eq_true rfl⟩ hK hW set hN hw hq hl.1 (Nat.zero_le 8) dX1_cheapest_7 (fun H locs hW => ?_)
  refine rw_i (v := nI (pu_M N w q (ib_ fe) (gb_ go) 0 (fun _ => true))) (congrArg nI (pu_M_congr 0 hset)) ?_
  refine lv_istore (lv' := [(4, .int (nI (pu_M N w q (ib_ fe) (gb_ go) 0 (fun _ => true)))), (2, .long set), (0, .ref (a 0)), (1, .int (nI dd))]) hx hb dX1_cheapest_10 hl (by decide) rfl (fun ls hl => ?_)
  refine lv_iconst (v := nI 0) hx hb dX1_cheapest_12 (by decide) ?_
  refine lv_istore (lv' := [(5, .int (nI 0)), (4, .int (nI (pu_M N w q (ib_ fe) (gb_ go) 0 (fun _ => true)))), (2, .long set), (0, .ref (a 0)), (1, .int (nI dd))]) hx hb dX1_cheapest_13 hl (by decide) rfl (fun ls hl => ?_)
  by_cases h0 : dd = 0
  · refine lv_iload hx hb dX1_cheapest_15 (lv_at hl 0 rfl) ?_
    refine lv_bipush (v := nI 6) hx hb dX1_cheapest_17 (by decide) ?_
    refine nb_ge (tgt := 52) hx hb dX1_cheapest_19 (by decide) 0 6 (by omega) (by omega) (fun h => ?_) (fun h => ?_)
    · exact absurd h (by omega)
    · refine lv_iload_n hx hb dX1_cheapest_22 rfl (lv_at hl 4 rfl) ?_
      refine nb_le0 (tgt := 52) hx hb dX1_cheapest_23 (by decide) dd (by omega) (fun c0 => ?_) (fun c0 => ?_)
      · refine lv_iload hx hb dX1_cheapest_52 (lv_at hl 1 rfl) ?_
        exact W.iret hx hb hr (fun t ht hW2 => ⟨⟨_, (), rfl, by rw [c0], trivial⟩, hW.2.F ht⟩) hW.2.2.2 dX1_cheapest_54
      · exact absurd h0 (by omega)
  · refine cheapest_lp hN hw hq dd (by omega) h3 S ⟨Nat.le_of_ble_eq_true rfl, Nat.le_of_ble_eq_true rfl⟩ hK (fun H locs ls hW hl => ?_) 7 0 (by omega) (by omega) H locs ls hW (lv_sub hl [3, 4, 1, 0] rfl)
    refine lv_iload hx hb dX1_cheapest_52 (lv_at hl 0 rfl) ?_
    exact W.iret hx hb hr (fun t ht hW2 => ⟨⟨_, (), rfl, by rw [By_M, Nat.sub_add_cancel (by omega)], trivial⟩, hW.2.F ht⟩) hW.2.2.2 dX1_cheapest_54
theorem cl_cheapest {N w q : Nat} (S : CallFix p m c cc nL s args lw_all RX1) (hR : 6 ≤ R.frames ∧ 156 ≤ R.locals) (hK : va_K D vwCl (mt_ d) s) (hW : MW D A H0 a d (nI N) fe go (nI w) (nI q) H locs) (dd : Nat) (hN : N ≤ 48) (hw : w ≤ 100) (hq : q ≤ 20) (h3 : dd ≤ 3) (hsz : ls.size = nL) (hrest : (rest.map fun v => v.category).sum ≤ 8) (hdg : decode cc pc = .ok (.invokevirtual 63, 3)) (kk : ∀ (H : Heap) (locs : List Loc), MW D A H0 a d (nI N) fe go (nI w) (nI q) H locs → W p l e R s m args below meth c H locs 0 0 Q (F0 m (pc + 3) ls (.int (nI (pu_M N w q (ib_ fe) (gb_ go) dd (fun _ => true))) :: rest))) : W p l e R s m args below meth c H locs 0 0 Q (F0 m pc ls (.int (nI dd) :: .ref (a 0) :: rest)) :=
  cv_i (As := [.int (nI dd)]) (rest := rest) S (met_cheapest l D a d N w q fe go hN hw hq dd h3) (cwV 1 S.2.2.2.2 (lw_V q148 q150 qs5 q15 q151) rfl rfl rfl (by decide +kernel) ⟨hR.1, hR.2⟩) hK hW.1 hW.2 rfl rfl rfl rfl hsz hrest hdg ⟨Nat.zero_le _, Nat.zero_le _⟩ (fun r H1 locs1 hp hP hk hS => by rw [hp]; exact kk H1 locs1 ⟨hP, hS⟩)
end M1
end
section
/-! BestTreeModel: its questions, add, drop, its constructor -/
section M2
variable {p : Program} {l : Launch} {e : Env} {R : Room} {s : State} {m : MethodId} {args : Array Value} {below : List Frame} {meth : Method} {c : Code} {H : Heap} {locs : List Loc} {Q : State → Prop}
variable {cc : ByteArray} {nL pc : Nat} {ls : Array Slot} {rest : List Value} {D : va_G} {A : Nat → Prop} {H0 : Heap} {a : Nat → Nat} {d : Nat → ClassId} {n cnt mi ak : Int32} {fe go gl bl : Nat → Int32} {sy : Nat → Int64} {be po : Nat → Int32}
variable {cells slots : Nat}
set_option maxHeartbeats 4000000 in
set_option maxRecDepth 100000 in
theorem mo_mistakes (l : Launch) (D : va_G) (a : Nat → Nat) (d : Nat → ClassId) (N : Nat) (fe go : Nat → Int32) (mi ak : Int32) (hap : ap_ a 3 (fun _ => True)) (hN : N ≤ 48) (x : Int32) : Met l yX1_mistakes (ws_ yX1_mistakes cX1_mistakes 3 (some .int)) { frames := 6, cells := 0, slots := 0, locals := 156 } (va_Pc [.ref (a 0), .int x] (fun U => va_P D vwCl (mw_ a d (nI N) fe go mi ak) U.heap ∧ va_K D vwCl (mt_ d) U)) (va_Qi (fun r (u : Int32 × Int32) => r = nI (pu_M N 1 0 (ib_ fe) (gb_ go) (cl_ 0 3 x) (fun _ => true))) (fun (u : Int32 × Int32) t => va_P D vwCl (mw_ a d (nI N) fe go u.1 u.2) t.heap) (ad_ a 3)) 0 0 (ad_ a 3) := by
  refine me_of (by decide) (Nat.le_of_ble_eq_true rfl) (fun p e s m below meth c S hr hlk hnm hv ls hl => ?_)
  have S : CallFix p m c cX1_mistakes 3 s _ lw_all RX1 := S
  have hx := S.1
  have hb := S.2.1
  have hl : lv_has ls 3 [(0, .ref (a 0)), (1, .int x)] := hl
  have hK := hv.2
  have ha := ap_self hap
  have hW : MW D (ad_ a 3) s.heap a d (nI N) fe go mi ak s.heap [] := ⟨hv.1, va_S.rf⟩
  have hcl := cl_in x (show 0 ≤ 3 by decide) (by decide)
  refine lv_aload_n hx hb dX1_mistakes_0 rfl (lv_at hl 0 rfl) ?_
  refine lv_iconst (v := nI 1) hx hb dX1_mistakes_1 (by decide) ?_
  refine lv_iconst (v := nI 0) hx hb dX1_mistakes_2 (by decide) ?_
  refine cl_weigh S ⟨Nat.le_of_ble_eq_true rfl, Nat.le_of_ble_eq_true rfl⟩ hK ha hW (nI 1) (nI 0) hl.1 (Nat.zero_le 8) dX1_mistakes_3 (fun H locs hW => ?_)
  refine lv_iload_n hx hb dX1_mistakes_6 rfl (lv_at hl 1 rfl) ?_
  refine lv_iconst (v := nI 0) hx hb dX1_mistakes_7 (by decide) ?_
  refine lv_iconst (v := nI 3) hx hb dX1_mistakes_8 (by decide) ?_
  refine cl_within S ⟨Nat.le_of_ble_eq_true rfl, Nat.le_of_ble_eq_true rfl⟩ hW.1 hW.2 0 3 x (by decide) hl.1 (Nat.zero_le 8) dX1_mistakes_9 (fun H locs hP hS => ?_)
  have hW : MW D (ad_ a 3) s.heap a d (nI N) fe go (nI 1) (nI 0) H locs := ⟨hP, hS⟩
  refine lv_istore_n (lv' := [(2, .int (nI (cl_ 0 3 x))), (0, .ref (a 0)), (1, .int x)]) hx hb dX1_mistakes_12 rfl hl (by decide) rfl (fun ls hl => ?_)
  refine lv_aload_n hx hb dX1_mistakes_13 rfl (lv_at hl 1 rfl) ?_
  refine lv_iload_n hx hb dX1_mistakes_14 rfl (lv_at hl 0 rfl) ?_
  refine cl_cheapest S ⟨Nat.le_of_ble_eq_true rfl, Nat.le_of_ble_eq_true rfl⟩ hK hW (cl_ 0 3 x) hN (by decide) (by decide) hcl.2 hl.1 (Nat.zero_le 8) dX1_mistakes_15 (fun H locs hW => ?_)
  exact W.iret hx hb hr (fun t ht hW2 => ⟨⟨_, (nI 1, nI 0), rfl, rfl, to_ht ht hW.1⟩, hW.2.F ht⟩) hW.2.2.2 dX1_mistakes_18
set_option maxHeartbeats 4000000 in
set_option maxRecDepth 100000 in
theorem mo_price (l : Launch) (D : va_G) (a : Nat → Nat) (d : Nat → ClassId) (N : Nat) (fe go : Nat → Int32) (mi ak : Int32) (hap : ap_ a 3 (fun _ => True)) (hN : N ≤ 48) (x y : Int32) : Met l yX1_price (ws_ yX1_price cX1_price 5 (some .int)) { frames := 6, cells := 0, slots := 0, locals := 156 } (va_Pc [.ref (a 0), .int x, .int y] (fun U => va_P D vwCl (mw_ a d (nI N) fe go mi ak) U.heap ∧ va_K D vwCl (mt_ d) U)) (va_Qi (fun r (u : Int32 × Int32) => r = nI (pu_M N 1 (cl_ 0 20 y) (ib_ fe) (gb_ go) (cl_ 0 3 x) (fun _ => true))) (fun (u : Int32 × Int32) t => va_P D vwCl (mw_ a d (nI N) fe go u.1 u.2) t.heap) (ad_ a 3)) 0 0 (ad_ a 3) := by
  refine me_of (by decide) (Nat.le_of_ble_eq_true rfl) (fun p e s m below meth c S hr hlk hnm hv ls hl => ?_)
  have S : CallFix p m c cX1_price 5 s _ lw_all RX1 := S
  have hx := S.1
  have hb := S.2.1
  have hl : lv_has ls 5 [(0, .ref (a 0)), (1, .int x), (2, .int y)] := hl
  have hK := hv.2
  have ha := ap_self hap
  have hW : MW D (ad_ a 3) s.heap a d (nI N) fe go mi ak s.heap [] := ⟨hv.1, va_S.rf⟩
  have hcl := cl_in x (show 0 ≤ 3 by decide) (by decide)
  have hcy := cl_in y (show 0 ≤ 20 by decide) (by decide)
  refine lv_iload_n hx hb dX1_price_0 rfl (lv_at hl 2 rfl) ?_
  refine lv_iconst (v := nI 0) hx hb dX1_price_1 (by decide) ?_
  refine lv_bipush (v := nI 20) hx hb dX1_price_2 (by decide) ?_
  refine cl_within S ⟨Nat.le_of_ble_eq_true rfl, Nat.le_of_ble_eq_true rfl⟩ hW.1 hW.2 0 20 y (by decide) hl.1 (Nat.zero_le 8) dX1_price_4 (fun H locs hP hS => ?_)
  have hW : MW D (ad_ a 3) s.heap a d (nI N) fe go mi ak H locs := ⟨hP, hS⟩
  refine lv_istore_n (lv' := [(3, .int (nI (cl_ 0 20 y))), (0, .ref (a 0)), (1, .int x), (2, .int y)]) hx hb dX1_price_7 rfl hl (by decide) rfl (fun ls hl => ?_)
  refine lv_aload_n hx hb dX1_price_8 rfl (lv_at hl 1 rfl) ?_
  refine lv_iconst (v := nI 1) hx hb dX1_price_9 (by decide) ?_
  refine lv_iload_n hx hb dX1_price_10 rfl (lv_at hl 0 rfl) ?_
  refine cl_weigh S ⟨Nat.le_of_ble_eq_true rfl, Nat.le_of_ble_eq_true rfl⟩ hK ha hW (nI 1) (nI (cl_ 0 20 y)) hl.1 (Nat.zero_le 8) dX1_price_11 (fun H locs hW => ?_)
  refine lv_iload_n hx hb dX1_price_14 rfl (lv_at hl 2 rfl) ?_
  refine lv_iconst (v := nI 0) hx hb dX1_price_15 (by decide) ?_
  refine lv_iconst (v := nI 3) hx hb dX1_price_16 (by decide) ?_
  refine cl_within S ⟨Nat.le_of_ble_eq_true rfl, Nat.le_of_ble_eq_true rfl⟩ hW.1 hW.2 0 3 x (by decide) hl.1 (Nat.zero_le 8) dX1_price_17 (fun H locs hP hS => ?_)
  have hW : MW D (ad_ a 3) s.heap a d (nI N) fe go (nI 1) (nI (cl_ 0 20 y)) H locs := ⟨hP, hS⟩
  refine lv_istore (lv' := [(4, .int (nI (cl_ 0 3 x))), (3, .int (nI (cl_ 0 20 y))), (0, .ref (a 0)), (1, .int x), (2, .int y)]) hx hb dX1_price_20 hl (by decide) rfl (fun ls hl => ?_)
  refine lv_aload_n hx hb dX1_price_22 rfl (lv_at hl 2 rfl) ?_
  refine lv_iload hx hb dX1_price_23 (lv_at hl 0 rfl) ?_
  refine cl_cheapest S ⟨Nat.le_of_ble_eq_true rfl, Nat.le_of_ble_eq_true rfl⟩ hK hW (cl_ 0 3 x) hN (by decide) hcy.2 hcl.2 hl.1 (Nat.zero_le 8) dX1_price_25 (fun H locs hW => ?_)
  exact W.iret hx hb hr (fun t ht hW2 => ⟨⟨_, (nI 1, nI (cl_ 0 20 y)), rfl, rfl, to_ht ht hW.1⟩, hW.2.F ht⟩) hW.2.2.2 dX1_price_28
set_option maxHeartbeats 4000000 in
set_option maxRecDepth 100000 in
theorem mo_leaves (l : Launch) (D : va_G) (a : Nat → Nat) (d : Nat → ClassId) (N : Nat) (fe go : Nat → Int32) (mi ak : Int32) (hap : ap_ a 3 (fun _ => True)) (hN : N ≤ 48) (x : Int32) : Met l yX1_leaves (ws_ yX1_leaves cX1_leaves 3 (some .int)) { frames := 6, cells := 0, slots := 0, locals := 156 } (va_Pc [.ref (a 0), .int x] (fun U => va_P D vwCl (mw_ a d (nI N) fe go mi ak) U.heap ∧ va_K D vwCl (mt_ d) U)) (va_Qi (fun r (u : Int32 × Int32) => r = nI (pu_M N 100 1 (ib_ fe) (gb_ go) (cl_ 0 3 x) (fun _ => true) % 100 + 1)) (fun (u : Int32 × Int32) t => va_P D vwCl (mw_ a d (nI N) fe go u.1 u.2) t.heap) (ad_ a 3)) 0 0 (ad_ a 3) := by
  refine me_of (by decide) (Nat.le_of_ble_eq_true rfl) (fun p e s m below meth c S hr hlk hnm hv ls hl => ?_)
  have S : CallFix p m c cX1_leaves 3 s _ lw_all RX1 := S
  have hx := S.1
  have hb := S.2.1
  have hl : lv_has ls 3 [(0, .ref (a 0)), (1, .int x)] := hl
  have hK := hv.2
  have ha := ap_self hap
  have hW : MW D (ad_ a 3) s.heap a d (nI N) fe go mi ak s.heap [] := ⟨hv.1, va_S.rf⟩
  have hcl := cl_in x (show 0 ≤ 3 by decide) (by decide)
  refine lv_aload_n hx hb dX1_leaves_0 rfl (lv_at hl 0 rfl) ?_
  refine lv_bipush (v := nI 100) hx hb dX1_leaves_1 (by decide) ?_
  refine lv_iconst (v := nI 1) hx hb dX1_leaves_3 (by decide) ?_
  refine cl_weigh S ⟨Nat.le_of_ble_eq_true rfl, Nat.le_of_ble_eq_true rfl⟩ hK ha hW (nI 100) (nI 1) hl.1 (Nat.zero_le 8) dX1_leaves_4 (fun H locs hW => ?_)
  refine lv_iload_n hx hb dX1_leaves_7 rfl (lv_at hl 1 rfl) ?_
  refine lv_iconst (v := nI 0) hx hb dX1_leaves_8 (by decide) ?_
  refine lv_iconst (v := nI 3) hx hb dX1_leaves_9 (by decide) ?_
  refine cl_within S ⟨Nat.le_of_ble_eq_true rfl, Nat.le_of_ble_eq_true rfl⟩ hW.1 hW.2 0 3 x (by decide) hl.1 (Nat.zero_le 8) dX1_leaves_10 (fun H locs hP hS => ?_)
  have hW : MW D (ad_ a 3) s.heap a d (nI N) fe go (nI 100) (nI 1) H locs := ⟨hP, hS⟩
  refine lv_istore_n (lv' := [(2, .int (nI (cl_ 0 3 x))), (0, .ref (a 0)), (1, .int x)]) hx hb dX1_leaves_13 rfl hl (by decide) rfl (fun ls hl => ?_)
  refine lv_aload_n hx hb dX1_leaves_14 rfl (lv_at hl 1 rfl) ?_
  refine lv_iload_n hx hb dX1_leaves_15 rfl (lv_at hl 0 rfl) ?_
  refine cl_cheapest S ⟨Nat.le_of_ble_eq_true rfl, Nat.le_of_ble_eq_true rfl⟩ hK hW (cl_ 0 3 x) hN (by decide) (by decide) hcl.2 hl.1 (Nat.zero_le 8) dX1_leaves_16 (fun H locs hW => ?_)
  have hM := M_lt N 100 1 (ib_ fe) (gb_ go) (cl_ 0 3 x) (fun _ => true) hN (by decide)
  refine lv_bipush (v := nI 100) hx hb dX1_leaves_19 (by decide) ?_
  refine lv_irem hx hb dX1_leaves_21 (by decide) ?_
  refine rw_i (v := nI (pu_M N 100 1 (ib_ fe) (gb_ go) (cl_ 0 3 x) (fun _ => true) % 100)) (pk_rem (by omega) (by omega) (by omega)) ?_
  refine lv_iconst (v := nI 1) hx hb dX1_leaves_22 (by decide) ?_
  refine lv_iadd hx hb dX1_leaves_23 ?_
  refine rw_i (v := nI ((pu_M N 100 1 (ib_ fe) (gb_ go) (cl_ 0 3 x) (fun _ => true) % 100) + 1)) (nI_add (pu_M N 100 1 (ib_ fe) (gb_ go) (cl_ 0 3 x) (fun _ => true) % 100) 1) ?_
  exact W.iret hx hb hr (fun t ht hW2 => ⟨⟨_, (nI 100, nI 1), rfl, rfl, to_ht ht hW.1⟩, hW.2.F ht⟩) hW.2.2.2 dX1_leaves_24
set_option maxHeartbeats 4000000 in
set_option maxRecDepth 100000 in
theorem mo_mistakesBy (l : Launch) (D : va_G) (a : Nat → Nat) (d : Nat → ClassId) (N : Nat) (fe go : Nat → Int32) (mi ak : Int32) (hap : ap_ a 3 (fun _ => True)) (hN : N ≤ 48) (x y : Int32) : Met l yX1_mistakesBy (ws_ yX1_mistakesBy cX1_mistakesBy 4 (some .int)) { frames := 6, cells := 0, slots := 0, locals := 156 } (va_Pc [.ref (a 0), .int x, .int y] (fun U => va_P D vwCl (mw_ a d (nI N) fe go mi ak) U.heap ∧ va_K D vwCl (mt_ d) U)) (va_Qi (fun r (u : Int32 × Int32) => ((∃ f, f < 6 ∧ y = nI f ∧ r = nI (pu_By N 1 0 (ib_ fe) (gb_ go) (cl_ 1 3 x - 1) f)) ∨ ((∀ f, f < 6 → y ≠ nI f) ∧ r = -1))) (fun (u : Int32 × Int32) t => va_P D vwCl (mw_ a d (nI N) fe go u.1 u.2) t.heap) (ad_ a 3)) 0 0 (ad_ a 3) := by
  refine me_of (by decide) (Nat.le_of_ble_eq_true rfl) (fun p e s m below meth c S hr hlk hnm hv ls hl => ?_)
  have S : CallFix p m c cX1_mistakesBy 4 s _ lw_all RX1 := S
  have hx := S.1
  have hb := S.2.1
  have hl : lv_has ls 4 [(0, .ref (a 0)), (1, .int x), (2, .int y)] := hl
  have hK := hv.2
  have ha := ap_self hap
  have hW : MW D (ad_ a 3) s.heap a d (nI N) fe go mi ak s.heap [] := ⟨hv.1, va_S.rf⟩
  have hcl := cl_in x (show 1 ≤ 3 by decide) (by decide)
  refine lv_iload_n hx hb dX1_mistakesBy_0 rfl (lv_at hl 2 rfl) ?_
  refine lv_if_lt (tgt := 9) hx hb dX1_mistakesBy_1 (by decide) (fun c1 => ?_) (fun c1 => ?_)
  · refine lv_iconst (v := -1) hx hb dX1_mistakesBy_9 (by decide) ?_
    exact W.iret hx hb hr (fun t ht hW2 => ⟨⟨_, (mi, ak), rfl, Or.inr ⟨fun f hf e => nI_pos (n := f) (by omega) (by rw [← e]; exact c1), rfl⟩, to_ht ht hW.1⟩, hW.2.F ht⟩) hW.2.2.2 dX1_mistakesBy_10
  · obtain ⟨f, hf, hy⟩ := nI_of c1
    refine lv_iload_n hx hb dX1_mistakesBy_4 rfl (lv_at hl 2 rfl) ?_
    refine lv_iconst (v := nI 5) hx hb dX1_mistakesBy_5 (by decide) ?_
    refine lv_icmp_le (tgt := 11) hx hb dX1_mistakesBy_6 (by decide) (fun c2 => ?_) (fun c2 => ?_)
    · have hf6 : f < 6 := by
        rw [hy, nI_leI hf (by decide)] at c2
        omega
      refine lv_aload_n hx hb dX1_mistakesBy_11 rfl (lv_at hl 0 rfl) ?_
      refine lv_iconst (v := nI 1) hx hb dX1_mistakesBy_12 (by decide) ?_
      refine lv_iconst (v := nI 0) hx hb dX1_mistakesBy_13 (by decide) ?_
      refine cl_weigh S ⟨Nat.le_of_ble_eq_true rfl, Nat.le_of_ble_eq_true rfl⟩ hK ha hW (nI 1) (nI 0) hl.1 (Nat.zero_le 8) dX1_mistakesBy_14 (fun H locs hW => ?_)
      refine lv_iload_n hx hb dX1_mistakesBy_17 rfl (lv_at hl 1 rfl) ?_
      refine lv_iconst (v := nI 1) hx hb dX1_mistakesBy_18 (by decide) ?_
      refine lv_iconst (v := nI 3) hx hb dX1_mistakesBy_19 (by decide) ?_
      refine cl_within S ⟨Nat.le_of_ble_eq_true rfl, Nat.le_of_ble_eq_true rfl⟩ hW.1 hW.2 1 3 x (by decide) hl.1 (Nat.zero_le 8) dX1_mistakesBy_20 (fun H locs hP hS => ?_)
      have hW : MW D (ad_ a 3) s.heap a d (nI N) fe go (nI 1) (nI 0) H locs := ⟨hP, hS⟩
      refine lv_istore_n (lv' := [(3, .int (nI (cl_ 1 3 x))), (0, .ref (a 0)), (1, .int x), (2, .int y)]) hx hb dX1_mistakesBy_23 rfl hl (by decide) rfl (fun ls hl => ?_)
      refine lv_aload_n hx hb dX1_mistakesBy_24 rfl (lv_at hl 1 rfl) ?_
      refine lv_iload_n hx hb dX1_mistakesBy_25 rfl (lv_at hl 0 rfl) ?_
      refine lv_iload_n hx hb dX1_mistakesBy_26 rfl (lv_at hl 3 rfl) ?_
      refine rw_i (v := nI f) (hy) ?_
      refine cl_by S ⟨Nat.le_of_ble_eq_true rfl, Nat.le_of_ble_eq_true rfl⟩ hK hW (cl_ 1 3 x) f hN (by decide) (by decide) hcl.1 hcl.2 hf6 hl.1 (Nat.zero_le 8) dX1_mistakesBy_27 (fun H locs hW => ?_)
      exact W.iret hx hb hr (fun t ht hW2 => ⟨⟨_, (nI 1, nI 0), rfl, Or.inl ⟨f, hf6, hy, rfl⟩, to_ht ht hW.1⟩, hW.2.F ht⟩) hW.2.2.2 dX1_mistakesBy_30
    · refine lv_iconst (v := -1) hx hb dX1_mistakesBy_9 (by decide) ?_
      exact W.iret hx hb hr (fun t ht hW2 => ⟨⟨_, (mi, ak), rfl, Or.inr ⟨fun g hg e => c2 (by rw [e]; exact nI_le (by omega) (by decide)), rfl⟩, to_ht ht hW.1⟩, hW.2.F ht⟩) hW.2.2.2 dX1_mistakesBy_10
set_option maxHeartbeats 4000000 in
set_option maxRecDepth 100000 in
theorem mquestion_lp (N : Nat) (x y : Int32) (hN : N ≤ 48) (S : CallFix p m c cX1_question 7 s args lw_all RX1) (hR : 5 ≤ R.frames ∧ 130 ≤ R.locals) (hK : va_K D vwCl (mt_ d) s) (K : ∀ (H : Heap) (locs : List Loc) (ls : Array Slot), MW D A H0 a d (nI N) fe go (nI 1) (nI (cl_ 0 20 y)) H locs → lv_has ls 7 [(5, .int (nI (pu_ar (fun f => pu_By N 1 (cl_ 0 20 y) (ib_ fe) (gb_ go) (cl_ 1 3 x - 1) f) 5)))] → W p l e R s m args below meth c H locs 0 0 Q (F0 m 64 ls [])) : ∀ (k j : Nat), j ≤ 5 → 5 < j + k → ∀ (H : Heap) (locs : List Loc) (ls : Array Slot), MW D A H0 a d (nI N) fe go (nI 1) (nI (cl_ 0 20 y)) H locs → lv_has ls 7 [(0, .ref (a 0)), (4, .int (nI (cl_ 1 3 x))), (5, .int (nI (pu_ar (fun f => pu_By N 1 (cl_ 0 20 y) (ib_ fe) (gb_ go) (cl_ 1 3 x - 1) f) j))), (6, .int (nI (j + 1)))] → W p l e R s m args below meth c H locs 0 0 Q (F0 m 28 ls []) := by
  have hcl := cl_in x (show 1 ≤ 3 by decide) (by decide)
  have hcy := cl_in y (show 0 ≤ 20 by decide) (by decide)
  have hx := S.1
  have hb := S.2.1
  intro k
  induction k with
  | zero =>
    intro j g1 g2
    exact absurd g2 (by omega)
  | succ k ih =>
    intro j q1 q2 H locs ls hW hl
    refine lv_iload hx hb dX1_question_28 (lv_at hl 3 rfl) ?_
    refine lv_bipush (v := nI 6) hx hb dX1_question_30 (by decide) ?_
    refine nb_ge (tgt := 64) hx hb dX1_question_32 (by decide) (j + 1) 6 (by omega) (by omega) (fun h => ?_) (fun h => ?_)
    · obtain rfl : j = 5 := by omega
      exact K H locs ls hW (lv_sub hl [2] rfl)
    · have hal := pu_ar_le (fun f => pu_By N 1 (cl_ 0 20 y) (ib_ fe) (gb_ go) (cl_ 1 3 x - 1) f) j
      refine lv_aload_n hx hb dX1_question_35 rfl (lv_at hl 0 rfl) ?_
      refine lv_iload hx hb dX1_question_36 (lv_at hl 1 rfl) ?_
      refine lv_iload hx hb dX1_question_38 (lv_at hl 3 rfl) ?_
      refine cl_by S hR hK hW (cl_ 1 3 x) (j + 1) hN (by decide) hcy.2 hcl.1 hcl.2 (by omega) hl.1 (Nat.zero_le 8) dX1_question_40 (fun H locs hW => ?_)
      refine rw_i (v := nI ((fun f => pu_By N 1 (cl_ 0 20 y) (ib_ fe) (gb_ go) (cl_ 1 3 x - 1) f) (j + 1))) (rfl) ?_
      refine lv_aload_n hx hb dX1_question_43 rfl (lv_at hl 0 rfl) ?_
      refine lv_iload hx hb dX1_question_44 (lv_at hl 1 rfl) ?_
      refine lv_iload hx hb dX1_question_46 (lv_at hl 2 rfl) ?_
      refine cl_by S hR hK hW (cl_ 1 3 x) (pu_ar (fun f => pu_By N 1 (cl_ 0 20 y) (ib_ fe) (gb_ go) (cl_ 1 3 x - 1) f) j) hN (by decide) hcy.2 hcl.1 hcl.2 (by omega) hl.1 (Nat.le_of_ble_eq_true rfl) dX1_question_48 (fun H locs hW => ?_)
      refine rw_i (v := nI ((fun f => pu_By N 1 (cl_ 0 20 y) (ib_ fe) (gb_ go) (cl_ 1 3 x - 1) f) (pu_ar (fun f => pu_By N 1 (cl_ 0 20 y) (ib_ fe) (gb_ go) (cl_ 1 3 x - 1) f) j))) (rfl) ?_
      have d1 : (fun f => pu_By N 1 (cl_ 0 20 y) (ib_ fe) (gb_ go) (cl_ 1 3 x - 1) f) (j + 1) ≤ 9620 := By_lt N 1 (cl_ 0 20 y) (ib_ fe) (gb_ go) (cl_ 1 3 x - 1) (j + 1) hN (by decide) hcy.2
      have d2 : (fun f => pu_By N 1 (cl_ 0 20 y) (ib_ fe) (gb_ go) (cl_ 1 3 x - 1) f) (pu_ar (fun f => pu_By N 1 (cl_ 0 20 y) (ib_ fe) (gb_ go) (cl_ 1 3 x - 1) f) j) ≤ 9620 := By_lt N 1 (cl_ 0 20 y) (ib_ fe) (gb_ go) (cl_ 1 3 x - 1) (pu_ar (fun f => pu_By N 1 (cl_ 0 20 y) (ib_ fe) (gb_ go) (cl_ 1 3 x - 1) f) j) hN (by decide) hcy.2
      have hs := pu_ar_s (fun f => pu_By N 1 (cl_ 0 20 y) (ib_ fe) (gb_ go) (cl_ 1 3 x - 1) f) j
      refine nb_ge (tgt := 58) hx hb dX1_question_51 (by decide) ((fun f => pu_By N 1 (cl_ 0 20 y) (ib_ fe) (gb_ go) (cl_ 1 3 x - 1) f) (j + 1)) ((fun f => pu_By N 1 (cl_ 0 20 y) (ib_ fe) (gb_ go) (cl_ 1 3 x - 1) f) (pu_ar (fun f => pu_By N 1 (cl_ 0 20 y) (ib_ fe) (gb_ go) (cl_ 1 3 x - 1) f) j)) (by omega) (by omega) (fun c1 => ?_) (fun c1 => ?_)
      · refine lv_iinc (v := nI (j + 1 + 1)) (lv' := [(6, .int (nI (j + 1 + 1))), (0, .ref (a 0)), (4, .int (nI (cl_ 1 3 x))), (5, .int (nI (pu_ar (fun f => pu_By N 1 (cl_ 0 20 y) (ib_ fe) (gb_ go) (cl_ 1 3 x - 1) f) j)))]) hx hb dX1_question_58 hl (k := 3) rfl (nI_1 (j + 1)) (by decide) rfl (fun ls hl => ?_)
        refine lv_goto (tgt := 28) hx hb dX1_question_61 (by decide) ?_
        exact ih (j + 1) (by omega) (by omega) H locs ls hW (by rw [hs, if_neg (Nat.not_lt.mpr c1)]; exact lv_sub hl [1, 2, 3, 0] rfl)
      · refine lv_iload hx hb dX1_question_54 (lv_at hl 3 rfl) ?_
        refine lv_istore (lv' := [(5, .int (nI (j + 1))), (0, .ref (a 0)), (4, .int (nI (cl_ 1 3 x))), (6, .int (nI (j + 1)))]) hx hb dX1_question_56 hl (by decide) rfl (fun ls hl => ?_)
        refine lv_iinc (v := nI (j + 1 + 1)) (lv' := [(6, .int (nI (j + 1 + 1))), (5, .int (nI (j + 1))), (0, .ref (a 0)), (4, .int (nI (cl_ 1 3 x)))]) hx hb dX1_question_58 hl (k := 3) rfl (nI_1 (j + 1)) (by decide) rfl (fun ls hl => ?_)
        refine lv_goto (tgt := 28) hx hb dX1_question_61 (by decide) ?_
        exact ih (j + 1) (by omega) (by omega) H locs ls hW (by rw [hs, if_pos c1]; exact lv_sub hl [2, 3, 1, 0] rfl)
set_option maxHeartbeats 4000000 in
set_option maxRecDepth 100000 in
theorem mo_question (l : Launch) (D : va_G) (a : Nat → Nat) (d : Nat → ClassId) (N : Nat) (fe go : Nat → Int32) (mi ak : Int32) (hap : ap_ a 3 (fun _ => True)) (hN : N ≤ 48) (x y : Int32) : Met l yX1_question (ws_ yX1_question cX1_question 7 (some .int)) { frames := 6, cells := 0, slots := 0, locals := 156 } (va_Pc [.ref (a 0), .int x, .int y] (fun U => va_P D vwCl (mw_ a d (nI N) fe go mi ak) U.heap ∧ va_K D vwCl (mt_ d) U)) (va_Qi (fun r (u : Int32 × Int32) => r = nI (pu_ar (fun f => pu_By N 1 (cl_ 0 20 y) (ib_ fe) (gb_ go) (cl_ 1 3 x - 1) f) 5)) (fun (u : Int32 × Int32) t => va_P D vwCl (mw_ a d (nI N) fe go u.1 u.2) t.heap) (ad_ a 3)) 0 0 (ad_ a 3) := by
  refine me_of (by decide) (Nat.le_of_ble_eq_true rfl) (fun p e s m below meth c S hr hlk hnm hv ls hl => ?_)
  have S : CallFix p m c cX1_question 7 s _ lw_all RX1 := S
  have hx := S.1
  have hb := S.2.1
  have hl : lv_has ls 7 [(0, .ref (a 0)), (1, .int x), (2, .int y)] := hl
  have hK := hv.2
  have ha := ap_self hap
  have hW : MW D (ad_ a 3) s.heap a d (nI N) fe go mi ak s.heap [] := ⟨hv.1, va_S.rf⟩
  refine lv_iload_n hx hb dX1_question_0 rfl (lv_at hl 2 rfl) ?_
  refine lv_iconst (v := nI 0) hx hb dX1_question_1 (by decide) ?_
  refine lv_bipush (v := nI 20) hx hb dX1_question_2 (by decide) ?_
  refine cl_within S ⟨Nat.le_of_ble_eq_true rfl, Nat.le_of_ble_eq_true rfl⟩ hW.1 hW.2 0 20 y (by decide) hl.1 (Nat.zero_le 8) dX1_question_4 (fun H locs hP hS => ?_)
  have hW : MW D (ad_ a 3) s.heap a d (nI N) fe go mi ak H locs := ⟨hP, hS⟩
  refine lv_istore_n (lv' := [(3, .int (nI (cl_ 0 20 y))), (0, .ref (a 0)), (1, .int x), (2, .int y)]) hx hb dX1_question_7 rfl hl (by decide) rfl (fun ls hl => ?_)
  refine lv_aload_n hx hb dX1_question_8 rfl (lv_at hl 1 rfl) ?_
  refine lv_iconst (v := nI 1) hx hb dX1_question_9 (by decide) ?_
  refine lv_iload_n hx hb dX1_question_10 rfl (lv_at hl 0 rfl) ?_
  refine cl_weigh S ⟨Nat.le_of_ble_eq_true rfl, Nat.le_of_ble_eq_true rfl⟩ hK ha hW (nI 1) (nI (cl_ 0 20 y)) hl.1 (Nat.zero_le 8) dX1_question_11 (fun H locs hW => ?_)
  refine lv_iload_n hx hb dX1_question_14 rfl (lv_at hl 2 rfl) ?_
  refine lv_iconst (v := nI 1) hx hb dX1_question_15 (by decide) ?_
  refine lv_iconst (v := nI 3) hx hb dX1_question_16 (by decide) ?_
  refine cl_within S ⟨Nat.le_of_ble_eq_true rfl, Nat.le_of_ble_eq_true rfl⟩ hW.1 hW.2 1 3 x (by decide) hl.1 (Nat.zero_le 8) dX1_question_17 (fun H locs hP hS => ?_)
  have hW : MW D (ad_ a 3) s.heap a d (nI N) fe go (nI 1) (nI (cl_ 0 20 y)) H locs := ⟨hP, hS⟩
  refine lv_istore (lv' := [(4, .int (nI (cl_ 1 3 x))), (3, .int (nI (cl_ 0 20 y))), (0, .ref (a 0)), (1, .int x), (2, .int y)]) hx hb dX1_question_20 hl (by decide) rfl (fun ls hl => ?_)
  refine lv_iconst (v := nI 0) hx hb dX1_question_22 (by decide) ?_
  refine lv_istore (lv' := [(5, .int (nI 0)), (4, .int (nI (cl_ 1 3 x))), (3, .int (nI (cl_ 0 20 y))), (0, .ref (a 0)), (1, .int x), (2, .int y)]) hx hb dX1_question_23 hl (by decide) rfl (fun ls hl => ?_)
  refine lv_iconst (v := nI 1) hx hb dX1_question_25 (by decide) ?_
  refine lv_istore (lv' := [(6, .int (nI 1)), (5, .int (nI 0)), (4, .int (nI (cl_ 1 3 x))), (3, .int (nI (cl_ 0 20 y))), (0, .ref (a 0)), (1, .int x), (2, .int y)]) hx hb dX1_question_26 hl (by decide) rfl (fun ls hl => ?_)
  refine mquestion_lp N x y hN S ⟨Nat.le_of_ble_eq_true rfl, Nat.le_of_ble_eq_true rfl⟩ hK (fun H locs ls hW hl => ?_) 6 0 (by omega) (by omega) H locs ls hW (lv_sub hl [4, 2, 1, 0] rfl)
  refine lv_iload hx hb dX1_question_64 (lv_at hl 0 rfl) ?_
  exact W.iret hx hb hr (fun t ht hW2 => ⟨⟨_, (nI 1, nI (cl_ 0 20 y)), rfl, rfl, to_ht ht hW.1⟩, hW.2.F ht⟩) hW.2.2.2 dX1_question_66
/-- the same features -/
def eq_ (fe : Nat → Int32) (i j : Nat) : Bool := decide (fe i = fe j)
def bn_ (b : Bool) : Nat := if b then 1 else 0
theorem bn_le (b : Bool) : bn_ b ≤ 1 := by cases b <;> decide
set_option maxHeartbeats 4000000 in
set_option maxRecDepth 100000 in
theorem mdoubtful_li {N : Nat} (hN : N ≤ 48) (hgo : ∀ k, go k = 0 ∨ go k = 1) (r i : Nat) (hi : i < 48) (S : CallFix p m c cX1_doubtful 5 s args lw_all RX1) (hK : va_K D vwCl (mt_ d) s) (hW : MW D A H0 a d (nI N) fe go mi ak H locs) (K : ∀ ls : Array Slot, lv_has ls 5 [(0, .ref (a 0)), (1, .int (nI r)), (2, .int (nI i)), (3, .int (nI (bn_ (pu_dM (eq_ fe) (gb_ go) i N))))] → W p l e R s m args below meth c H locs 0 0 Q (F0 m 66 ls [])) : ∀ (k j : Nat), j ≤ N → N < j + k → ∀ ls : Array Slot, lv_has ls 5 [(0, .ref (a 0)), (1, .int (nI r)), (2, .int (nI i)), (3, .int (nI (bn_ (pu_dM (eq_ fe) (gb_ go) i j)))), (4, .int (nI j))] → W p l e R s m args below meth c H locs 0 0 Q (F0 m 17 ls []) := by
  have hx := S.1
  have hb := S.2.1
  intro k
  induction k with
  | zero =>
    intro j g1 g2
    exact absurd g2 (by omega)
  | succ k ih =>
    intro j q1 q2 ls hl
    refine lv_iload hx hb dX1_doubtful_17 (lv_at hl 4 rfl) ?_
    refine lv_aload_n hx hb dX1_doubtful_19 rfl (lv_at hl 0 rfl) ?_
    refine mg_0 S hK hW.1 dX1_doubtful_20 ?_
    refine nb_ge (tgt := 66) hx hb dX1_doubtful_23 (by decide) j N (by omega) (by omega) (fun h => ?_) (fun h => ?_)
    · obtain rfl : j = N := by omega
      exact K ls (lv_sub hl [0, 1, 2, 3] rfl)
    · have T : ∀ ls : Array Slot, lv_has ls 5 [(0, .ref (a 0)), (1, .int (nI r)), (2, .int (nI i)), (3, .int (nI (bn_ (pu_dM (eq_ fe) (gb_ go) i (j + 1))))), (4, .int (nI j))] → W p l e R s m args below meth c H locs 0 0 Q (F0 m 60 ls []) := by
        intro ls hl
        refine lv_iinc (v := nI (j + 1)) (lv' := [(4, .int (nI (j + 1))), (0, .ref (a 0)), (1, .int (nI r)), (2, .int (nI i)), (3, .int (nI (bn_ (pu_dM (eq_ fe) (gb_ go) i (j + 1)))))]) hx hb dX1_doubtful_60 hl (k := 4) rfl (nI_1 j) (by decide) rfl (fun ls hl => ?_)
        refine lv_goto (tgt := 17) hx hb dX1_doubtful_63 (by decide) ?_
        exact ih (j + 1) (by omega) (by omega) ls (lv_sub hl [1, 2, 3, 4, 0] rfl)
      have hs := pu_dM_s (eq_ fe) (gb_ go) i j
      refine lv_aload_n hx hb dX1_doubtful_26 rfl (lv_at hl 0 rfl) ?_
      refine mg_1 S hK hW.1 dX1_doubtful_27 ?_
      refine lv_iload_n hx hb dX1_doubtful_30 rfl (lv_at hl 2 rfl) ?_
      refine ml_1 S hK hW.1 i (by omega) dX1_doubtful_31 ?_
      refine lv_aload_n hx hb dX1_doubtful_32 rfl (lv_at hl 0 rfl) ?_
      refine mg_1 S hK hW.1 dX1_doubtful_33 ?_
      refine lv_iload hx hb dX1_doubtful_36 (lv_at hl 4 rfl) ?_
      refine ml_1 S hK hW.1 j (by omega) dX1_doubtful_38 ?_
      refine lv_icmp_ne (tgt := 60) hx hb dX1_doubtful_39 (by decide) (fun c1 => ?_) (fun c1 => ?_)
      · exact T ls (by rw [hs, if_neg (by unfold eq_; simp [c1])]; exact hl)
      · refine lv_aload_n hx hb dX1_doubtful_42 rfl (lv_at hl 0 rfl) ?_
        refine mg_2 S hK hW.1 dX1_doubtful_43 ?_
        refine lv_iload_n hx hb dX1_doubtful_46 rfl (lv_at hl 2 rfl) ?_
        refine ml_2 S hK hW.1 i (by omega) dX1_doubtful_47 ?_
        refine lv_aload_n hx hb dX1_doubtful_48 rfl (lv_at hl 0 rfl) ?_
        refine mg_2 S hK hW.1 dX1_doubtful_49 ?_
        refine lv_iload hx hb dX1_doubtful_52 (lv_at hl 4 rfl) ?_
        refine ml_2 S hK hW.1 j (by omega) dX1_doubtful_54 ?_
        refine lv_icmp_eq (tgt := 60) hx hb dX1_doubtful_55 (by decide) (fun c2 => ?_) (fun c2 => ?_)
        · exact T ls (by rw [hs, if_neg (by rw [show gb_ go i = gb_ go j from (gb_eq hgo i j).mp c2]; simp)]; exact hl)
        · refine lv_iconst (v := nI 1) hx hb dX1_doubtful_58 (by decide) ?_
          refine lv_istore_n (lv' := [(3, .int (nI 1)), (0, .ref (a 0)), (1, .int (nI r)), (2, .int (nI i)), (4, .int (nI j))]) hx hb dX1_doubtful_59 rfl hl (by decide) rfl (fun ls hl => ?_)
          refine T ls ?_
          rw [hs, if_pos (by
            rw [Bool.and_eq_true]
            exact ⟨decide_eq_true c1, by simpa using fun h9 => c2 ((gb_eq hgo i j).mpr h9)⟩)]
          exact lv_sub hl [1, 2, 3, 0, 4] rfl
set_option maxHeartbeats 4000000 in
set_option maxRecDepth 100000 in
theorem mdoubtful_lp {N : Nat} (hN : N ≤ 48) (hgo : ∀ k, go k = 0 ∨ go k = 1) (S : CallFix p m c cX1_doubtful 5 s args lw_all RX1) (hK : va_K D vwCl (mt_ d) s) (hW : MW D A H0 a d (nI N) fe go mi ak H locs) (K : ∀ ls : Array Slot, lv_has ls 5 [(1, .int (nI (pu_ct (fun k => pu_dM (eq_ fe) (gb_ go) k N) N)))] → W p l e R s m args below meth c H locs 0 0 Q (F0 m 79 ls [])) : ∀ (k i : Nat), i ≤ N → N < i + k → ∀ ls : Array Slot, lv_has ls 5 [(0, .ref (a 0)), (1, .int (nI (pu_ct (fun k => pu_dM (eq_ fe) (gb_ go) k N) i))), (2, .int (nI i))] → W p l e R s m args below meth c H locs 0 0 Q (F0 m 4 ls []) := by
  have hx := S.1
  have hb := S.2.1
  intro k
  induction k with
  | zero =>
    intro i g1 g2
    exact absurd g2 (by omega)
  | succ k ih =>
    intro i q1 q2 ls hl
    refine lv_iload_n hx hb dX1_doubtful_4 rfl (lv_at hl 2 rfl) ?_
    refine lv_aload_n hx hb dX1_doubtful_5 rfl (lv_at hl 0 rfl) ?_
    refine mg_0 S hK hW.1 dX1_doubtful_6 ?_
    refine nb_ge (tgt := 79) hx hb dX1_doubtful_9 (by decide) i N (by omega) (by omega) (fun h => ?_) (fun h => ?_)
    · obtain rfl : i = N := by omega
      exact K ls (lv_sub hl [1] rfl)
    · refine lv_iconst (v := nI 0) hx hb dX1_doubtful_12 (by decide) ?_
      refine lv_istore_n (lv' := [(3, .int (nI 0)), (0, .ref (a 0)), (1, .int (nI (pu_ct (fun k => pu_dM (eq_ fe) (gb_ go) k N) i))), (2, .int (nI i))]) hx hb dX1_doubtful_13 rfl hl (by decide) rfl (fun ls hl => ?_)
      refine lv_iconst (v := nI 0) hx hb dX1_doubtful_14 (by decide) ?_
      refine lv_istore (lv' := [(4, .int (nI 0)), (3, .int (nI 0)), (0, .ref (a 0)), (1, .int (nI (pu_ct (fun k => pu_dM (eq_ fe) (gb_ go) k N) i))), (2, .int (nI i))]) hx hb dX1_doubtful_15 hl (by decide) rfl (fun ls hl => ?_)
      refine mdoubtful_li hN hgo (pu_ct (fun k => pu_dM (eq_ fe) (gb_ go) k N) i) i (by omega) S hK hW (fun ls hl => ?_) (N + 1) 0 (by omega) (by omega) ls (lv_sub hl [2, 3, 4, 1, 0] rfl)
      have hbn := bn_le (pu_dM (eq_ fe) (gb_ go) i N)
      have hs := pu_ct_s (fun k => pu_dM (eq_ fe) (gb_ go) k N) i
      refine lv_iload_n hx hb dX1_doubtful_66 rfl (lv_at hl 3 rfl) ?_
      refine nb_eq0 (tgt := 73) hx hb dX1_doubtful_67 (by decide) (bn_ (pu_dM (eq_ fe) (gb_ go) i N)) (by omega) (fun c1 => ?_) (fun c1 => ?_)
      · have hb1 : ¬ pu_dM (eq_ fe) (gb_ go) i N = true := fun h9 => by rw [h9] at c1; exact absurd c1 (by decide)
        refine lv_iinc (v := nI (i + 1)) (lv' := [(2, .int (nI (i + 1))), (0, .ref (a 0)), (1, .int (nI (pu_ct (fun k => pu_dM (eq_ fe) (gb_ go) k N) i))), (3, .int (nI (bn_ (pu_dM (eq_ fe) (gb_ go) i N))))]) hx hb dX1_doubtful_73 hl (k := 2) rfl (nI_1 i) (by decide) rfl (fun ls hl => ?_)
        refine lv_goto (tgt := 4) hx hb dX1_doubtful_76 (by decide) ?_
        exact ih (i + 1) (by omega) (by omega) ls (by rw [hs, if_neg hb1]; exact lv_sub hl [1, 2, 0] rfl)
      · have hb1 : pu_dM (eq_ fe) (gb_ go) i N = true := by
          cases h9 : pu_dM (eq_ fe) (gb_ go) i N
          · rw [h9] at c1
            exact absurd rfl c1
          · rfl
        refine lv_iinc (v := nI (pu_ct (fun k => pu_dM (eq_ fe) (gb_ go) k N) i + 1)) (lv' := [(1, .int (nI (pu_ct (fun k => pu_dM (eq_ fe) (gb_ go) k N) i + 1))), (0, .ref (a 0)), (2, .int (nI i)), (3, .int (nI (bn_ (pu_dM (eq_ fe) (gb_ go) i N))))]) hx hb dX1_doubtful_70 hl (k := 1) rfl (nI_1 (pu_ct (fun k => pu_dM (eq_ fe) (gb_ go) k N) i)) (by decide) rfl (fun ls hl => ?_)
        refine lv_iinc (v := nI (i + 1)) (lv' := [(2, .int (nI (i + 1))), (1, .int (nI (pu_ct (fun k => pu_dM (eq_ fe) (gb_ go) k N) i + 1))), (0, .ref (a 0)), (3, .int (nI (bn_ (pu_dM (eq_ fe) (gb_ go) i N))))]) hx hb dX1_doubtful_73 hl (k := 2) rfl (nI_1 i) (by decide) rfl (fun ls hl => ?_)
        refine lv_goto (tgt := 4) hx hb dX1_doubtful_76 (by decide) ?_
        exact ih (i + 1) (by omega) (by omega) ls (by rw [hs, if_pos hb1]; exact lv_sub hl [2, 1, 0] rfl)
set_option maxHeartbeats 4000000 in
set_option maxRecDepth 100000 in
theorem mo_doubtful (l : Launch) (D : va_G) (a : Nat → Nat) (d : Nat → ClassId) (N : Nat) (fe go : Nat → Int32) (mi ak : Int32) (hN : N ≤ 48) (hgo : ∀ k, go k = 0 ∨ go k = 1) : Met l yX1_doubtful (ws_ yX1_doubtful cX1_doubtful 5 (some .int)) { frames := 0, cells := 0, slots := 0, locals := 0 } (va_Pc [.ref (a 0)] (fun U => va_P D vwCl (mw_ a d (nI N) fe go mi ak) U.heap ∧ va_K D vwCl (mt_ d) U)) (va_Qi (fun r (_ : Unit) => r = nI (pu_ct (fun k => pu_dM (eq_ fe) (gb_ go) k N) N)) (fun _ _ => True) (fun _ => False)) 0 0 (fun _ => False) := by
  refine me_of (by decide) (Nat.le_of_ble_eq_true rfl) (fun p e s m below meth c S hr hlk hnm hv ls hl => ?_)
  have S : CallFix p m c cX1_doubtful 5 s _ lw_all RX1 := S
  have hx := S.1
  have hb := S.2.1
  have hl : lv_has ls 5 [(0, .ref (a 0))] := hl
  have hK := hv.2
  have hW : MW D (fun _ => False) s.heap a d (nI N) fe go mi ak s.heap [] := ⟨hv.1, va_S.rf⟩
  refine lv_iconst (v := nI 0) hx hb dX1_doubtful_0 (by decide) ?_
  refine lv_istore_n (lv' := [(1, .int (nI 0)), (0, .ref (a 0))]) hx hb dX1_doubtful_1 rfl hl (by decide) rfl (fun ls hl => ?_)
  refine lv_iconst (v := nI 0) hx hb dX1_doubtful_2 (by decide) ?_
  refine lv_istore_n (lv' := [(2, .int (nI 0)), (1, .int (nI 0)), (0, .ref (a 0))]) hx hb dX1_doubtful_3 rfl hl (by decide) rfl (fun ls hl => ?_)
  refine mdoubtful_lp hN hgo S hK hW (fun ls hl => ?_) (N + 1) 0 (by omega) (by omega) ls (lv_sub hl [2, 1, 0] rfl)
  refine lv_iload_n hx hb dX1_doubtful_79 rfl (lv_at hl 0 rfl) ?_
  exact W.iret hx hb hr (fun t ht hW2 => ⟨⟨_, (), rfl, rfl, trivial⟩, hW.2.F ht⟩) hW.2.2.2 dX1_doubtful_80
abbrev BU : Type := Int32 × (Nat → Int32) × (Nat → Int32)
set_option maxHeartbeats 4000000 in
set_option maxRecDepth 100000 in
theorem mo_add (l : Launch) (D : va_G) (a : Nat → Nat) (d : Nat → ClassId) (N : Nat) (fe go : Nat → Int32) (mi ak : Int32) (hap : ap_ a 3 (fun _ => True)) (hN : N ≤ 48) (x b : Int32) (hb01 : b = 0 ∨ b = 1) : Met l yX1_add (ws_ yX1_add cX1_add 3 (some .int)) { frames := 0, cells := 0, slots := 0, locals := 0 } (va_Pc [.ref (a 0), .int x, .int b] (fun U => va_P D vwCl (mw_ a d (nI N) fe go mi ak) U.heap ∧ va_K D vwCl (mt_ d) U)) (va_Qi (fun r (u : BU) => (N < 48 ∧ r = nI (N + 1) ∧ u = (nI (N + 1), upd fe N (x &&& (nI 63)), upd go N b)) ∨ (48 ≤ N ∧ r = -1 ∧ u = (nI N, fe, go))) (fun (u : BU) t => va_P D vwCl (mw_ a d u.1 u.2.1 u.2.2 mi ak) t.heap) (ad_ a 3)) 0 0 (ad_ a 3) := by
  refine me_of (by decide) (Nat.le_of_ble_eq_true rfl) (fun p e s m below meth c S hr hlk hnm hv ls hl => ?_)
  have S : CallFix p m c cX1_add 3 s _ lw_all RX1 := S
  have hx := S.1
  have hb := S.2.1
  have hl : lv_has ls 3 [(0, .ref (a 0)), (1, .int x), (2, .int b)] := hl
  have hK := hv.2
  have ha := ap_self hap
  have hW : MW D (ad_ a 3) s.heap a d (nI N) fe go mi ak s.heap [] := ⟨hv.1, va_S.rf⟩
  refine lv_aload_n hx hb dX1_add_0 rfl (lv_at hl 0 rfl) ?_
  refine mg_0 S hK hW.1 dX1_add_1 ?_
  refine lv_bipush (v := nI 48) hx hb dX1_add_4 (by decide) ?_
  refine nb_ne (tgt := 11) hx hb dX1_add_6 (by decide) N 48 (by omega) (by omega) (fun c1 => ?_) (fun c1 => ?_)
  · refine lv_aload_n hx hb dX1_add_11 rfl (lv_at hl 0 rfl) ?_
    refine mg_1 S hK hW.1 dX1_add_12 ?_
    refine lv_aload_n hx hb dX1_add_15 rfl (lv_at hl 0 rfl) ?_
    refine mg_0 S hK hW.1 dX1_add_16 ?_
    refine lv_iload_n hx hb dX1_add_19 rfl (lv_at hl 1 rfl) ?_
    refine lv_bipush (v := nI 63) hx hb dX1_add_20 (by decide) ?_
    refine lv_iand hx hb dX1_add_22 ?_
    refine ms_1 S hK ha hW N (by omega) dX1_add_23 (fun H locs hW => ?_)
    refine lv_aload_n hx hb dX1_add_24 rfl (lv_at hl 0 rfl) ?_
    refine mg_2 S hK hW.1 dX1_add_25 ?_
    refine lv_aload_n hx hb dX1_add_28 rfl (lv_at hl 0 rfl) ?_
    refine mg_0 S hK hW.1 dX1_add_29 ?_
    refine lv_iload_n hx hb dX1_add_32 rfl (lv_at hl 2 rfl) ?_
    refine ms_2 S hK ha hW N (by omega) hb01 dX1_add_33 (fun H locs hW => ?_)
    refine lv_aload_n hx hb dX1_add_34 rfl (lv_at hl 0 rfl) ?_
    refine lv_dup hx hb dX1_add_35 rfl ?_
    refine mg_0 S hK hW.1 dX1_add_36 ?_
    refine lv_iconst (v := nI 1) hx hb dX1_add_39 (by decide) ?_
    refine lv_iadd hx hb dX1_add_40 ?_
    refine rw_i (v := nI (N + 1)) (nI_add N 1) ?_
    refine mp_0 S hK ha hW dX1_add_41 (fun H locs hW => ?_)
    refine lv_aload_n hx hb dX1_add_44 rfl (lv_at hl 0 rfl) ?_
    refine mg_0 S hK hW.1 dX1_add_45 ?_
    exact W.iret hx hb hr (fun t ht hW2 => ⟨⟨_, (nI (N + 1), upd fe N (x &&& (nI 63)), upd go N b), rfl, Or.inl ⟨by omega, rfl, rfl⟩, to_ht ht hW.1⟩, hW.2.F ht⟩) hW.2.2.2 dX1_add_48
  · refine lv_iconst (v := -1) hx hb dX1_add_9 (by decide) ?_
    exact W.iret hx hb hr (fun t ht hW2 => ⟨⟨_, (nI N, fe, go), rfl, Or.inr ⟨by omega, rfl, rfl⟩, to_ht ht hW.1⟩, hW.2.F ht⟩) hW.2.2.2 dX1_add_10
set_option maxHeartbeats 4000000 in
set_option maxRecDepth 100000 in
theorem mdrop_lp (N j : Nat) (hN : N < 48) (hgo : ∀ k, go k = 0 ∨ go k = 1) (S : CallFix p m c cX1_drop 3 s args lw_all RX1) (hK : va_K D vwCl (mt_ d) s) (ha : ap_ a 3 A) (K : ∀ (H : Heap) (locs : List Loc) (ls : Array Slot), MW D A H0 a d (nI N) (dr_ fe j N) (dr_ go j N) mi ak H locs → lv_has ls 3 [(0, .ref (a 0))] → W p l e R s m args below meth c H locs 0 0 Q (F0 m 68 ls [])) : ∀ (k i : Nat), (j ≤ i ∧ i ≤ N) → N < i + k → ∀ (H : Heap) (locs : List Loc) (ls : Array Slot), MW D A H0 a d (nI N) (dr_ fe j i) (dr_ go j i) mi ak H locs → lv_has ls 3 [(0, .ref (a 0)), (2, .int (nI i))] → W p l e R s m args below meth c H locs 0 0 Q (F0 m 26 ls []) := by
  have hx := S.1
  have hb := S.2.1
  intro k
  induction k with
  | zero =>
    intro i g1 g2
    exact absurd g2 (by omega)
  | succ k ih =>
    intro i q1 q2 H locs ls hW hl
    refine lv_iload_n hx hb dX1_drop_26 rfl (lv_at hl 1 rfl) ?_
    refine lv_aload_n hx hb dX1_drop_27 rfl (lv_at hl 0 rfl) ?_
    refine mg_0 S hK hW.1 dX1_drop_28 ?_
    refine nb_ge (tgt := 68) hx hb dX1_drop_31 (by decide) i N (by omega) (by omega) (fun c1 => ?_) (fun c1 => ?_)
    · obtain rfl : i = N := by omega
      exact K H locs ls hW (lv_sub hl [0] rfl)
    · refine lv_aload_n hx hb dX1_drop_34 rfl (lv_at hl 0 rfl) ?_
      refine mg_1 S hK hW.1 dX1_drop_35 ?_
      refine lv_iload_n hx hb dX1_drop_38 rfl (lv_at hl 1 rfl) ?_
      refine lv_aload_n hx hb dX1_drop_39 rfl (lv_at hl 0 rfl) ?_
      refine mg_1 S hK hW.1 dX1_drop_40 ?_
      refine lv_iload_n hx hb dX1_drop_43 rfl (lv_at hl 1 rfl) ?_
      refine lv_iconst (v := nI 1) hx hb dX1_drop_44 (by decide) ?_
      refine lv_iadd hx hb dX1_drop_45 ?_
      refine rw_i (v := nI (i + 1)) (nI_add i 1) ?_
      refine ml_1 S hK hW.1 (i + 1) (by omega) dX1_drop_46 ?_
      refine ms_1 S hK ha hW i (by omega) dX1_drop_47 (fun H locs hW => ?_)
      rw [dr_n, dr_s _ q1.1] at hW
      refine lv_aload_n hx hb dX1_drop_48 rfl (lv_at hl 0 rfl) ?_
      refine mg_2 S hK hW.1 dX1_drop_49 ?_
      refine lv_iload_n hx hb dX1_drop_52 rfl (lv_at hl 1 rfl) ?_
      refine lv_aload_n hx hb dX1_drop_53 rfl (lv_at hl 0 rfl) ?_
      refine mg_2 S hK hW.1 dX1_drop_54 ?_
      refine lv_iload_n hx hb dX1_drop_57 rfl (lv_at hl 1 rfl) ?_
      refine lv_iconst (v := nI 1) hx hb dX1_drop_58 (by decide) ?_
      refine lv_iadd hx hb dX1_drop_59 ?_
      refine rw_i (v := nI (i + 1)) (nI_add i 1) ?_
      refine ml_2 S hK hW.1 (i + 1) (by omega) dX1_drop_60 ?_
      refine ms_2 S hK ha hW i (by omega) (dr_p (P := fun x => x = 0 ∨ x = 1) hgo j i (i + 1)) dX1_drop_61 (fun H locs hW => ?_)
      rw [dr_n, dr_s _ q1.1] at hW
      refine lv_iinc (v := nI (i + 1)) (lv' := [(2, .int (nI (i + 1))), (0, .ref (a 0))]) hx hb dX1_drop_62 hl (k := 1) rfl (nI_1 i) (by decide) rfl (fun ls hl => ?_)
      refine lv_goto (tgt := 26) hx hb dX1_drop_65 (by decide) ?_
      exact ih (i + 1) (by omega) (by omega) H locs ls hW (lv_sub hl [1, 0] rfl)
set_option maxHeartbeats 4000000 in
set_option maxRecDepth 100000 in
theorem mo_drop (l : Launch) (D : va_G) (a : Nat → Nat) (d : Nat → ClassId) (N : Nat) (fe go : Nat → Int32) (mi ak : Int32) (hap : ap_ a 3 (fun _ => True)) (hN : N ≤ 48) (hgo : ∀ k, go k = 0 ∨ go k = 1) (x : Int32) : Met l yX1_drop (ws_ yX1_drop cX1_drop 3 (some .int)) { frames := 0, cells := 0, slots := 0, locals := 0 } (va_Pc [.ref (a 0), .int x] (fun U => va_P D vwCl (mw_ a d (nI N) fe go mi ak) U.heap ∧ va_K D vwCl (mt_ d) U)) (va_Qi (fun r (u : BU) => (∃ j, j < N ∧ x = nI j ∧ r = nI (N - 1) ∧ u = (nI (N - 1), dr_ fe j (N - 1), dr_ go j (N - 1))) ∨ ((∀ j, j < N → x ≠ nI j) ∧ r = -1 ∧ u = (nI N, fe, go))) (fun (u : BU) t => va_P D vwCl (mw_ a d u.1 u.2.1 u.2.2 mi ak) t.heap) (ad_ a 3)) 0 0 (ad_ a 3) := by
  refine me_of (by decide) (Nat.le_of_ble_eq_true rfl) (fun p e s m below meth c S hr hlk hnm hv ls hl => ?_)
  have S : CallFix p m c cX1_drop 3 s _ lw_all RX1 := S
  have hx := S.1
  have hb := S.2.1
  have hl : lv_has ls 3 [(0, .ref (a 0)), (1, .int x)] := hl
  have hK := hv.2
  have ha := ap_self hap
  have hW : MW D (ad_ a 3) s.heap a d (nI N) fe go mi ak s.heap [] := ⟨hv.1, va_S.rf⟩
  refine lv_iload_n hx hb dX1_drop_0 rfl (lv_at hl 1 rfl) ?_
  refine lv_if_lt (tgt := 12) hx hb dX1_drop_1 (by decide) (fun c1 => ?_) (fun c1 => ?_)
  · refine lv_iconst (v := -1) hx hb dX1_drop_12 (by decide) ?_
    exact W.iret hx hb hr (fun t ht hW2 => ⟨⟨_, (nI N, fe, go), rfl, Or.inr ⟨fun g hg e => nI_pos (n := g) (by omega) (by rw [← e]; exact c1), rfl, rfl⟩, to_ht ht hW.1⟩, hW.2.F ht⟩) hW.2.2.2 dX1_drop_13
  · obtain ⟨j, hj, hxj⟩ := nI_of c1
    refine lv_iload_n hx hb dX1_drop_4 rfl (lv_at hl 1 rfl) ?_
    refine rw_i (v := nI j) (hxj) ?_
    refine lv_aload_n hx hb dX1_drop_5 rfl (lv_at hl 0 rfl) ?_
    refine mg_0 S hK hW.1 dX1_drop_6 ?_
    refine nb_lt (tgt := 14) hx hb dX1_drop_9 (by decide) j N (by omega) (by omega) (fun c2 => ?_) (fun c2 => ?_)
    · refine lv_aload_n hx hb dX1_drop_14 rfl (lv_at hl 0 rfl) ?_
      refine lv_dup hx hb dX1_drop_15 rfl ?_
      refine mg_0 S hK hW.1 dX1_drop_16 ?_
      refine lv_iconst (v := nI 1) hx hb dX1_drop_19 (by decide) ?_
      refine lv_isub hx hb dX1_drop_20 ?_
      refine rw_i (v := nI (N - 1)) (pk_sub (by omega)) ?_
      refine mp_0 S hK ha hW dX1_drop_21 (fun H locs hW => ?_)
      refine lv_iload_n hx hb dX1_drop_24 rfl (lv_at hl 1 rfl) ?_
      refine rw_i (v := nI j) (hxj) ?_
      refine lv_istore_n (lv' := [(2, .int (nI j)), (0, .ref (a 0)), (1, .int x)]) hx hb dX1_drop_25 rfl hl (by decide) rfl (fun ls hl => ?_)
      have hW3 : MW D (ad_ a 3) s.heap a d (nI (N - 1)) (dr_ fe j j) (dr_ go j j) mi ak H locs := by rw [dr_0, dr_0]; exact hW
      refine mdrop_lp (N - 1) j (by omega) hgo S hK ha (fun H locs ls hW hl => ?_) N j (by omega) (by omega) H locs ls hW3 (lv_sub hl [1, 0] rfl)
      refine lv_aload_n hx hb dX1_drop_68 rfl (lv_at hl 0 rfl) ?_
      refine mg_0 S hK hW.1 dX1_drop_69 ?_
      exact W.iret hx hb hr (fun t ht hW2 => ⟨⟨_, (nI (N - 1), dr_ fe j (N - 1), dr_ go j (N - 1)), rfl, Or.inl ⟨j, c2, hxj, rfl, rfl⟩, to_ht ht hW.1⟩, hW.2.F ht⟩) hW.2.2.2 dX1_drop_72
    · refine lv_iconst (v := -1) hx hb dX1_drop_12 (by decide) ?_
      exact W.iret hx hb hr (fun t ht hW2 => ⟨⟨_, (nI N, fe, go), rfl, Or.inr ⟨fun g hg e => absurd ((nI_eq hj (by omega)).mp (hxj.symm.trans e)) (by omega), rfl, rfl⟩, to_ht ht hW.1⟩, hW.2.F ht⟩) hW.2.2.2 dX1_drop_13
abbrev MU : Type := (Nat → Nat) × (Nat → ClassId)
set_option maxHeartbeats 4000000 in
set_option maxRecDepth 100000 in
theorem mo_init (l : Launch) (D : va_G) (h0 sz : Nat) : Met l yX1_init (ws_ yX1_init cX1_init 1 none) { frames := 1, cells := 2, slots := 96, locals := 12 } (va_Pc [.ref h0] (fun U => va_P D vwCl [(h0, .inr (1, [.int (nI 0), .null, .null, .int (nI 0), .int (nI 0)]))] U.heap ∧ va_K D vwCl [] U ∧ U.heap.size = sz)) (va_Qv (fun u : MU => u.1 0 = h0 ∧ ap_ u.1 3 (fun q => q = h0 ∨ sz ≤ q)) (fun (u : MU) t => va_P D vwCl (mw_ u.1 u.2 (nI 0) (fun _ => 0) (fun _ => 0) (nI 0) (nI 0)) t.heap ∧ va_K D vwCl (mt_ u.2) t) (fun q => q = h0 ∨ sz ≤ q)) 2 96 (fun q => q = h0 ∨ sz ≤ q) := by
  refine me_of (by decide) (Nat.le_of_ble_eq_true rfl) (fun p e s m below meth c S hr hlk hnm hv ls hl => ?_)
  have S : CallFix p m c cX1_init 1 s _ lw_all RX1 := S
  have hx := S.1
  have hb := S.2.1
  have hl : lv_has ls 1 [(0, .ref h0)] := hl
  obtain ⟨hP, hK, hsz⟩ := hv
  have hA : ∀ q : Nat, s.heap.size ≤ q → (fun q => q = h0 ∨ sz ≤ q) q := fun q h => Or.inr (by rw [← hsz]; exact h)
  have hD : va_D (fun q => q = h0 ∨ sz ≤ q) [(h0, .inr (1, [.int (nI 0), .null, .null, .int (nI 0), .int (nI 0)]))] := one_D (Or.inl rfl)
  generalize hAe : (fun q => q = h0 ∨ sz ≤ q) = A at hA hD ⊢
  have hS : va_S A s.heap s.heap [] := va_S.rf
  refine lv_aload_n hx hb dX1_init_0 rfl (lv_at hl 0 rfl) ?_
  refine W.objInit hx hb S.2.2.2.1 (S.2.2.2.2 _ q112) (S.2.2.2.2 _ q22) (S.2.2.2.2 _ q23) rfl (by rw [S.2.2.1]; exact hl.1) rfl dX1_init_1 (Nat.le_of_ble_eq_true rfl) (Nat.le_of_ble_eq_true rfl) ?_
  refine W.eq (g2 := F0 m 4 ls []) rfl ?_
  refine lv_aload_n hx hb dX1_init_4 rfl (lv_at hl 0 rfl) ?_
  refine lv_bipush (v := nI 48) hx hb dX1_init_5 (by decide) ?_
  refine va_newa (D := D) (atype := .int) (a0 := (48, .inl (fun _ => 0))) (ty := .int) hx hb (S.2.2.2.2 _ q52) rfl hK hP hD hS hA (fun _ => rfl) (by decide) (by decide) (by decide) (Nat.le_of_ble_eq_true rfl) (Nat.le_of_ble_eq_true rfl) dX1_init_7 (fun q1 c1 H hK hP hD hS => ?_)
  have hP : va_P D vwCl [(h0, .inr (1, [.int (nI 0), .null, .null, .int (nI 0), .int (nI 0)])), (q1, .inl (c1, (48, .inl (fun _ => 0))))] H := hP
  have hD : va_D A [(h0, .inr (1, [.int (nI 0), .null, .null, .int (nI 0), .int (nI 0)])), (q1, .inl (c1, (48, .inl (fun _ => 0))))] := hD
  have hK : va_K D vwCl [(c1, .int)] s := hK
  refine va_putF (D := D) (ci := 1) (v := .ref q1) (ty := .array .int) (C := RX1) (T := TX1) (N := 5) hx hb S.2.2.2.2 in_X1 tyX1 tyX1_ok nmX1 S.2.2.2.1 hK hP hD hS 0 rfl rfl 1 (by decide) (S.2.2.2.2 _ q114) (fun _ h9 => h9) rfl hnm rfl (by decide +kernel) rfl rfl (Nat.le_of_ble_eq_true rfl) dX1_init_9 (fun H locs hP hD hS => ?_)
  have hP : va_P D vwCl [(h0, .inr (1, [.int (nI 0), .ref q1, .null, .int (nI 0), .int (nI 0)])), (q1, .inl (c1, (48, .inl (fun _ => 0))))] H := hP
  have hD : va_D A [(h0, .inr (1, [.int (nI 0), .ref q1, .null, .int (nI 0), .int (nI 0)])), (q1, .inl (c1, (48, .inl (fun _ => 0))))] := hD
  refine lv_aload_n hx hb dX1_init_12 rfl (lv_at hl 0 rfl) ?_
  refine lv_bipush (v := nI 48) hx hb dX1_init_13 (by decide) ?_
  refine va_newa (D := D) (atype := .boolean) (a0 := (48, .inl (fun _ => 0))) (ty := .boolean) hx hb (S.2.2.2.2 _ q53) rfl hK hP hD hS hA (fun _ => rfl) (by decide) (by decide) (by decide) (Nat.le_of_ble_eq_true rfl) (Nat.le_of_ble_eq_true rfl) dX1_init_15 (fun q2 c2 H hK hP hD hS => ?_)
  have hP : va_P D vwCl [(h0, .inr (1, [.int (nI 0), .ref q1, .null, .int (nI 0), .int (nI 0)])), (q1, .inl (c1, (48, .inl (fun _ => 0)))), (q2, .inl (c2, (48, .inl (fun _ => 0))))] H := hP
  have hD : va_D A [(h0, .inr (1, [.int (nI 0), .ref q1, .null, .int (nI 0), .int (nI 0)])), (q1, .inl (c1, (48, .inl (fun _ => 0)))), (q2, .inl (c2, (48, .inl (fun _ => 0))))] := hD
  have hK : va_K D vwCl [(c1, .int), (c2, .boolean)] s := hK
  refine va_putF (D := D) (ci := 1) (v := .ref q2) (ty := .array .boolean) (C := RX1) (T := TX1) (N := 5) hx hb S.2.2.2.2 in_X1 tyX1 tyX1_ok nmX1 S.2.2.2.1 hK hP hD hS 0 rfl rfl 2 (by decide) (S.2.2.2.2 _ q115) (fun _ h9 => h9) rfl hnm rfl (by decide +kernel) rfl rfl (Nat.le_of_ble_eq_true rfl) dX1_init_17 (fun H locs hP hD hS => ?_)
  have hP : va_P D vwCl [(h0, .inr (1, [.int (nI 0), .ref q1, .ref q2, .int (nI 0), .int (nI 0)])), (q1, .inl (c1, (48, .inl (fun _ => 0)))), (q2, .inl (c2, (48, .inl (fun _ => 0))))] H := hP
  have hD : va_D A [(h0, .inr (1, [.int (nI 0), .ref q1, .ref q2, .int (nI 0), .int (nI 0)])), (q1, .inl (c1, (48, .inl (fun _ => 0)))), (q2, .inl (c2, (48, .inl (fun _ => 0))))] := hD
  refine W.widen (k := 2) (n := 96) (Nat.le_of_ble_eq_true rfl) (Nat.le_of_ble_eq_true rfl) ?_
  have hap : ap_ (fun k => [h0, q1, q2].getD k 0) 3 A := D_ap hD rfl
  exact W.vret hx hb hr (fun t ht hW2 => ⟨⟨((fun k => [h0, q1, q2].getD k 0), (fun k => [0, c1, c2].getD k 0)), rfl, ⟨rfl, hap⟩, to_ht ht hP, va_K.moved hW2.alike hK⟩, hS.F ht⟩) hS.2.2 dX1_init_20
end M2
end
section
/-! THE LAW: its eight cases and its loop -/
def R_law : String := "BestTreeLaw"
/-- the cells that the run has made -/
def LA (s : State) : Nat → Prop := fun q => s.heap.size ≤ q
theorem w_key {a : Nat → Nat} {k : Nat} {ws : va_W} (e : ws.map (fun q => q.1) = (List.range k).map a) (i : Nat) (q : Nat × va_E) (hq : ws[i]? = some q) : i < k ∧ q.1 = a i := by
  have h1 : (ws.map (fun q => q.1))[i]? = some q.1 := by rw [List.getElem?_map, hq]; rfl
  rw [e, List.getElem?_map] at h1
  by_cases hi : i < k
  · rw [List.getElem?_range hi] at h1
    exact ⟨hi, (Option.some.inj h1).symm⟩
  · rw [List.getElem?_eq_none (by rw [List.length_range]; omega)] at h1
    cases h1
theorem mw_keep {D : va_G} {a a2 : Nat → Nat} {d2 : Nat → ClassId} {n mi ak : Int32} {fe go : Nat → Int32} {H H1 : Heap} (hab : ∀ i j, i < 8 → j < 3 → a i ≠ a2 j) (hM : va_P D vwCl (mw_ a2 d2 n fe go mi ak) H) (hk : ∀ q : Nat, q < H.size → ¬ ad_ a 8 q → H1[q]? = H[q]?) : va_P D vwCl (mw_ a2 d2 n fe go mi ak) H1 :=
  hM.kept (fun k q hq => hk q.1 ((hM k q hq).lt) (fun ⟨i, hi, e⟩ => hab i k hi (w_key (a := a2) (k := 3) rfl k q hq).1 (by rw [← (w_key (a := a2) (k := 3) rfl k q hq).2, e])))
theorem bw_keep {D : va_G} {a a2 : Nat → Nat} {d : Nat → ClassId} {n cnt : Int32} {fe go gl bl : Nat → Int32} {sy : Nat → Int64} {be po : Nat → Int32} {H H1 : Heap} (hab : ∀ i j, i < 8 → j < 3 → a i ≠ a2 j) (hB : va_P D vwCl (bw_ a d n cnt fe go gl bl sy be po) H) (hk : ∀ q : Nat, q < H.size → ¬ ad_ a2 3 q → H1[q]? = H[q]?) : va_P D vwCl (bw_ a d n cnt fe go gl bl sy be po) H1 :=
  hB.kept (fun k q hq => hk q.1 ((hB k q hq).lt) (fun ⟨j, hj, e⟩ => hab k j (w_key (a := a) (k := 8) rfl k q hq).1 hj (by rw [← (w_key (a := a) (k := 8) rfl k q hq).2, e])))
/-- what the loop keeps: both hold the same samples; the class's counts stand if it says so -/
def lw_I (D : va_G) (A : Nat → Prop) (H0 : Heap) (a : Nat → Nat) (d : Nat → ClassId) (a2 : Nat → Nat) (d2 : Nat → ClassId) (po : Nat → Int32) (N : Nat) (cnt : Int32) (fe go gl bl : Nat → Int32) (sy : Nat → Int64) (be : Nat → Int32) (mi ak : Int32) (H : Heap) (locs : List Loc) : Prop :=
  N ≤ 48 ∧ (∀ k, go k = 0 ∨ go k = 1) ∧ (∀ k, ∃ x, x < 64 ∧ fe k = nI x) ∧ (¬ cnt = 0 → ct_ok N fe go gl bl) ∧ va_P D vwCl (bw_ a d (nI N) cnt fe go gl bl sy be po) H ∧ va_P D vwCl (mw_ a2 d2 (nI N) fe go mi ak) H ∧ va_S A H0 H locs
theorem lw_gt {i L : Nat} (hi : i < 2 ^ 30) (hL : L < 2 ^ 30) (h : ¬ nI L - nI 3 < nI i) : i + 3 ≤ L := by
  rw [Int32.lt_iff_toInt_lt, pk_sub_toInt hL (by decide), nI_toInt (by omega)] at h
  omega
section LW
variable {p : Program} {l : Launch} {e : Env} {s : State} {m : MethodId} {below : List Frame} {meth : Method} {c : Code} {H : Heap} {locs : List Loc} {Q : State → Prop}
variable {ls : Array Slot} {D : va_G} {a a2 : Nat → Nat} {d d2 : Nat → ClassId} {b0 L N : Nat} {xs : Nat → Int32} {cnt mi ak : Int32} {fe go gl bl : Nat → Int32} {sy : Nat → Int64} {be po : Nat → Int32}
theorem sl_ld {R : Room} {args : Array Value} {cells slots pc : Nat} {rest : List Value} {cc : ByteArray} {A : Nat → Prop} {H0 : Heap} (hx : p.tables.exec = Jvm.exec) (hb : c.code = cc) (hX : va_X b0 L xs s H0) (hbl : b0 < H0.size) (hbA : ¬ A b0) (hS : va_S A H0 H locs) (hL : L ≤ 192) (i : Nat) (hi : i < L) (hdg : decode cc pc = .ok (.iaload, 1)) (kk : W p l e R s m args below meth c H locs cells slots Q (F0 m (pc + 1) ls (.int (xs i) :: rest))) : W p l e R s m args below meth c H locs cells slots Q (F0 m pc ls (.int (nI i) :: .ref b0 :: rest)) := by
  refine va_sld hx hb hX hbl hbA hS (vp_in_nI hi (by omega)) hdg ?_
  rw [nI_clamp (by omega)]
  exact kk
set_option maxHeartbeats 4000000 in
set_option maxRecDepth 100000 in
theorem law_mistakes (S : CallFix p m c code 4 s #[Value.ref b0] lw_all R_law) (hX : va_X b0 L xs s s.heap) (hbl : b0 < s.heap.size) (hL : L ≤ 192) (hKb : va_K D vwCl (bt_ d) s) (hKm : va_K D vwCl (mt_ d2) s) (ha : ap_ a 8 (LA s)) (hb2 : ap_ a2 3 (LA s)) (hab : ∀ i j, i < 8 → j < 3 → a i ≠ a2 j) (hpo : po_ok po) (i : Nat) (hi : i + 3 ≤ L) (K : ∀ (H : Heap) (locs : List Loc) (N : Nat) (cnt : Int32) (fe go gl bl : Nat → Int32) (sy : Nat → Int64) (be : Nat → Int32) (mi ak : Int32), lw_I D (LA s) s.heap a d a2 d2 po N cnt fe go gl bl sy be mi ak H locs → W p l e room_1 s m #[Value.ref b0] below meth c H locs 11 4593 Q (F0 m 310 ls [])) (hI : lw_I D (LA s) s.heap a d a2 d2 po N cnt fe go gl bl sy be mi ak H locs) (hl : lv_has ls 4 [(0, .ref b0), (1, .ref (a 0)), (2, .ref (a2 0)), (3, .int (nI i))]) : W p l e room_1 s m #[Value.ref b0] below meth c H locs 11 4593 Q (F0 m 152 ls []) := by
  have hx := S.1
  have hb := S.2.1
  have hbA : ¬ LA s b0 := Nat.not_le.mpr hbl
  obtain ⟨hN, hgo, hfe, hct, hB, hM, hS⟩ := hI
  refine lv_aload_n hx hb dL_law_152 rfl (lv_at hl 1 rfl) ?_
  refine lv_aload_n hx hb dL_law_153 rfl (lv_at hl 0 rfl) ?_
  refine lv_iload_n hx hb dL_law_154 rfl (lv_at hl 3 rfl) ?_
  refine lv_iconst (v := nI 1) hx hb dL_law_155 (by decide) ?_
  refine lv_iadd hx hb dL_law_156 ?_
  refine rw_i (v := nI (i + 1)) (nI_add i 1) ?_
  refine sl_ld hx hb hX hbl hbA hS hL (i + 1) (by omega) dL_law_157 ?_
  refine cv_w (As := [.int (xs (i + 1))]) (rest := []) (wf := fun u : WU => bw_ a d (nI N) u.1 fe go u.2.1 u.2.2.1 u.2.2.2.1 u.2.2.2.2 po) S (met_mistakes l D a d N cnt fe go gl bl sy be po ⟨ha.1, fun _ _ => trivial⟩ hN hpo hct (xs (i + 1))) (cwV 1 S.2.2.2.2 (lw_V q63 q64 q65 q14 q66) rfl rfl rfl (by decide +kernel) ⟨Nat.le_of_ble_eq_true rfl, Nat.le_of_ble_eq_true rfl⟩) hKb hB hS rfl rfl rfl rfl hl.1 (Nat.zero_le 8) dL_law_158 ⟨Nat.le_of_ble_eq_true rfl, Nat.le_of_ble_eq_true rfl⟩ (ap_in ha) (fun r1 u H locs1 hp1 hB hk hS => ?_)
  have hM := mw_keep hab hM hk
  refine lv_aload_n hx hb dL_law_161 rfl (lv_at hl 2 rfl) ?_
  refine lv_aload_n hx hb dL_law_162 rfl (lv_at hl 0 rfl) ?_
  refine lv_iload_n hx hb dL_law_163 rfl (lv_at hl 3 rfl) ?_
  refine lv_iconst (v := nI 1) hx hb dL_law_164 (by decide) ?_
  refine lv_iadd hx hb dL_law_165 ?_
  refine rw_i (v := nI (i + 1)) (nI_add i 1) ?_
  refine sl_ld hx hb hX hbl hbA hS hL (i + 1) (by omega) dL_law_166 ?_
  refine cv_w (As := [.int (xs (i + 1))]) (rest := [.int r1]) (wf := fun u : Int32 × Int32 => mw_ a2 d2 (nI N) fe go u.1 u.2) S (mo_mistakes l D a2 d2 N fe go mi ak ⟨hb2.1, fun _ _ => trivial⟩ hN  (xs (i + 1))) (cwV 1 S.2.2.2.2 (lw_V q137 q138 q139 q15 q140) rfl rfl rfl (by decide +kernel) ⟨Nat.le_of_ble_eq_true rfl, Nat.le_of_ble_eq_true rfl⟩) hKm hM hS rfl rfl rfl rfl hl.1 (Nat.le_of_ble_eq_true rfl) dL_law_167 ⟨Nat.le_of_ble_eq_true rfl, Nat.le_of_ble_eq_true rfl⟩ (ap_in hb2) (fun r2 v H locs2 hp2 hM hk hS => ?_)
  have hB := bw_keep hab hB hk
  have hreq : r1 = r2 := by rw [hp1.1, hp2, pu_A_all]
  refine lv_icmp_eq (tgt := 310) hx hb dL_law_170 (by decide) (fun h9 => ?_) (fun h9 => ?_)
  · exact K H locs2 N u.1 fe go u.2.1 u.2.2.1 u.2.2.2.1 u.2.2.2.2 v.1 v.2 ⟨hN, hgo, hfe, hp1.2, hB, hM, hS⟩
  · exact absurd hreq h9
set_option maxHeartbeats 4000000 in
set_option maxRecDepth 100000 in
theorem law_price (S : CallFix p m c code 4 s #[Value.ref b0] lw_all R_law) (hX : va_X b0 L xs s s.heap) (hbl : b0 < s.heap.size) (hL : L ≤ 192) (hKb : va_K D vwCl (bt_ d) s) (hKm : va_K D vwCl (mt_ d2) s) (ha : ap_ a 8 (LA s)) (hb2 : ap_ a2 3 (LA s)) (hab : ∀ i j, i < 8 → j < 3 → a i ≠ a2 j) (hpo : po_ok po) (i : Nat) (hi : i + 3 ≤ L) (K : ∀ (H : Heap) (locs : List Loc) (N : Nat) (cnt : Int32) (fe go gl bl : Nat → Int32) (sy : Nat → Int64) (be : Nat → Int32) (mi ak : Int32), lw_I D (LA s) s.heap a d a2 d2 po N cnt fe go gl bl sy be mi ak H locs → W p l e room_1 s m #[Value.ref b0] below meth c H locs 11 4593 Q (F0 m 310 ls [])) (hI : lw_I D (LA s) s.heap a d a2 d2 po N cnt fe go gl bl sy be mi ak H locs) (hl : lv_has ls 4 [(0, .ref b0), (1, .ref (a 0)), (2, .ref (a2 0)), (3, .int (nI i))]) : W p l e room_1 s m #[Value.ref b0] below meth c H locs 11 4593 Q (F0 m 175 ls []) := by
  have hx := S.1
  have hb := S.2.1
  have hbA : ¬ LA s b0 := Nat.not_le.mpr hbl
  obtain ⟨hN, hgo, hfe, hct, hB, hM, hS⟩ := hI
  refine lv_aload_n hx hb dL_law_175 rfl (lv_at hl 1 rfl) ?_
  refine lv_aload_n hx hb dL_law_176 rfl (lv_at hl 0 rfl) ?_
  refine lv_iload_n hx hb dL_law_177 rfl (lv_at hl 3 rfl) ?_
  refine lv_iconst (v := nI 1) hx hb dL_law_178 (by decide) ?_
  refine lv_iadd hx hb dL_law_179 ?_
  refine rw_i (v := nI (i + 1)) (nI_add i 1) ?_
  refine sl_ld hx hb hX hbl hbA hS hL (i + 1) (by omega) dL_law_180 ?_
  refine lv_aload_n hx hb dL_law_181 rfl (lv_at hl 0 rfl) ?_
  refine lv_iload_n hx hb dL_law_182 rfl (lv_at hl 3 rfl) ?_
  refine lv_iconst (v := nI 2) hx hb dL_law_183 (by decide) ?_
  refine lv_iadd hx hb dL_law_184 ?_
  refine rw_i (v := nI (i + 2)) (nI_add i 2) ?_
  refine sl_ld hx hb hX hbl hbA hS hL (i + 2) (by omega) dL_law_185 ?_
  refine cv_w (As := [.int (xs (i + 1)), .int (xs (i + 2))]) (rest := []) (wf := fun u : WU => bw_ a d (nI N) u.1 fe go u.2.1 u.2.2.1 u.2.2.2.1 u.2.2.2.2 po) S (met_price l D a d N cnt fe go gl bl sy be po ⟨ha.1, fun _ _ => trivial⟩ hN hpo hct (xs (i + 1)) (xs (i + 2))) (cwV 2 S.2.2.2.2 (lw_V q87 q88 q89 q14 q90) rfl rfl rfl (by decide +kernel) ⟨Nat.le_of_ble_eq_true rfl, Nat.le_of_ble_eq_true rfl⟩) hKb hB hS rfl rfl rfl rfl hl.1 (Nat.zero_le 8) dL_law_186 ⟨Nat.le_of_ble_eq_true rfl, Nat.le_of_ble_eq_true rfl⟩ (ap_in ha) (fun r1 u H locs1 hp1 hB hk hS => ?_)
  have hM := mw_keep hab hM hk
  refine lv_aload_n hx hb dL_law_189 rfl (lv_at hl 2 rfl) ?_
  refine lv_aload_n hx hb dL_law_190 rfl (lv_at hl 0 rfl) ?_
  refine lv_iload_n hx hb dL_law_191 rfl (lv_at hl 3 rfl) ?_
  refine lv_iconst (v := nI 1) hx hb dL_law_192 (by decide) ?_
  refine lv_iadd hx hb dL_law_193 ?_
  refine rw_i (v := nI (i + 1)) (nI_add i 1) ?_
  refine sl_ld hx hb hX hbl hbA hS hL (i + 1) (by omega) dL_law_194 ?_
  refine lv_aload_n hx hb dL_law_195 rfl (lv_at hl 0 rfl) ?_
  refine lv_iload_n hx hb dL_law_196 rfl (lv_at hl 3 rfl) ?_
  refine lv_iconst (v := nI 2) hx hb dL_law_197 (by decide) ?_
  refine lv_iadd hx hb dL_law_198 ?_
  refine rw_i (v := nI (i + 2)) (nI_add i 2) ?_
  refine sl_ld hx hb hX hbl hbA hS hL (i + 2) (by omega) dL_law_199 ?_
  refine cv_w (As := [.int (xs (i + 1)), .int (xs (i + 2))]) (rest := [.int r1]) (wf := fun u : Int32 × Int32 => mw_ a2 d2 (nI N) fe go u.1 u.2) S (mo_price l D a2 d2 N fe go mi ak ⟨hb2.1, fun _ _ => trivial⟩ hN  (xs (i + 1)) (xs (i + 2))) (cwV 2 S.2.2.2.2 (lw_V q181 q182 q183 q15 q184) rfl rfl rfl (by decide +kernel) ⟨Nat.le_of_ble_eq_true rfl, Nat.le_of_ble_eq_true rfl⟩) hKm hM hS rfl rfl rfl rfl hl.1 (Nat.le_of_ble_eq_true rfl) dL_law_200 ⟨Nat.le_of_ble_eq_true rfl, Nat.le_of_ble_eq_true rfl⟩ (ap_in hb2) (fun r2 v H locs2 hp2 hM hk hS => ?_)
  have hB := bw_keep hab hB hk
  have hreq : r1 = r2 := by rw [hp1.1, hp2, pu_A_all]
  refine lv_icmp_eq (tgt := 310) hx hb dL_law_203 (by decide) (fun h9 => ?_) (fun h9 => ?_)
  · exact K H locs2 N u.1 fe go u.2.1 u.2.2.1 u.2.2.2.1 u.2.2.2.2 v.1 v.2 ⟨hN, hgo, hfe, hp1.2, hB, hM, hS⟩
  · exact absurd hreq h9
set_option maxHeartbeats 4000000 in
set_option maxRecDepth 100000 in
theorem law_question (S : CallFix p m c code 4 s #[Value.ref b0] lw_all R_law) (hX : va_X b0 L xs s s.heap) (hbl : b0 < s.heap.size) (hL : L ≤ 192) (hKb : va_K D vwCl (bt_ d) s) (hKm : va_K D vwCl (mt_ d2) s) (ha : ap_ a 8 (LA s)) (hb2 : ap_ a2 3 (LA s)) (hab : ∀ i j, i < 8 → j < 3 → a i ≠ a2 j) (hpo : po_ok po) (i : Nat) (hi : i + 3 ≤ L) (K : ∀ (H : Heap) (locs : List Loc) (N : Nat) (cnt : Int32) (fe go gl bl : Nat → Int32) (sy : Nat → Int64) (be : Nat → Int32) (mi ak : Int32), lw_I D (LA s) s.heap a d a2 d2 po N cnt fe go gl bl sy be mi ak H locs → W p l e room_1 s m #[Value.ref b0] below meth c H locs 11 4593 Q (F0 m 310 ls [])) (hI : lw_I D (LA s) s.heap a d a2 d2 po N cnt fe go gl bl sy be mi ak H locs) (hl : lv_has ls 4 [(0, .ref b0), (1, .ref (a 0)), (2, .ref (a2 0)), (3, .int (nI i))]) : W p l e room_1 s m #[Value.ref b0] below meth c H locs 11 4593 Q (F0 m 208 ls []) := by
  have hx := S.1
  have hb := S.2.1
  have hbA : ¬ LA s b0 := Nat.not_le.mpr hbl
  obtain ⟨hN, hgo, hfe, hct, hB, hM, hS⟩ := hI
  refine lv_aload_n hx hb dL_law_208 rfl (lv_at hl 1 rfl) ?_
  refine lv_aload_n hx hb dL_law_209 rfl (lv_at hl 0 rfl) ?_
  refine lv_iload_n hx hb dL_law_210 rfl (lv_at hl 3 rfl) ?_
  refine lv_iconst (v := nI 1) hx hb dL_law_211 (by decide) ?_
  refine lv_iadd hx hb dL_law_212 ?_
  refine rw_i (v := nI (i + 1)) (nI_add i 1) ?_
  refine sl_ld hx hb hX hbl hbA hS hL (i + 1) (by omega) dL_law_213 ?_
  refine lv_aload_n hx hb dL_law_214 rfl (lv_at hl 0 rfl) ?_
  refine lv_iload_n hx hb dL_law_215 rfl (lv_at hl 3 rfl) ?_
  refine lv_iconst (v := nI 2) hx hb dL_law_216 (by decide) ?_
  refine lv_iadd hx hb dL_law_217 ?_
  refine rw_i (v := nI (i + 2)) (nI_add i 2) ?_
  refine sl_ld hx hb hX hbl hbA hS hL (i + 2) (by omega) dL_law_218 ?_
  refine cv_w (As := [.int (xs (i + 1)), .int (xs (i + 2))]) (rest := []) (wf := fun u : WU => bw_ a d (nI N) u.1 fe go u.2.1 u.2.2.1 u.2.2.2.1 u.2.2.2.2 po) S (met_question l D a d N cnt fe go gl bl sy be po ⟨ha.1, fun _ _ => trivial⟩ hN hpo hct (xs (i + 1)) (xs (i + 2))) (cwV 2 S.2.2.2.2 (lw_V q91 q92 q93 q14 q94) rfl rfl rfl (by decide +kernel) ⟨Nat.le_of_ble_eq_true rfl, Nat.le_of_ble_eq_true rfl⟩) hKb hB hS rfl rfl rfl rfl hl.1 (Nat.zero_le 8) dL_law_219 ⟨Nat.le_of_ble_eq_true rfl, Nat.le_of_ble_eq_true rfl⟩ (ap_in ha) (fun r1 u H locs1 hp1 hB hk hS => ?_)
  have hM := mw_keep hab hM hk
  refine lv_aload_n hx hb dL_law_222 rfl (lv_at hl 2 rfl) ?_
  refine lv_aload_n hx hb dL_law_223 rfl (lv_at hl 0 rfl) ?_
  refine lv_iload_n hx hb dL_law_224 rfl (lv_at hl 3 rfl) ?_
  refine lv_iconst (v := nI 1) hx hb dL_law_225 (by decide) ?_
  refine lv_iadd hx hb dL_law_226 ?_
  refine rw_i (v := nI (i + 1)) (nI_add i 1) ?_
  refine sl_ld hx hb hX hbl hbA hS hL (i + 1) (by omega) dL_law_227 ?_
  refine lv_aload_n hx hb dL_law_228 rfl (lv_at hl 0 rfl) ?_
  refine lv_iload_n hx hb dL_law_229 rfl (lv_at hl 3 rfl) ?_
  refine lv_iconst (v := nI 2) hx hb dL_law_230 (by decide) ?_
  refine lv_iadd hx hb dL_law_231 ?_
  refine rw_i (v := nI (i + 2)) (nI_add i 2) ?_
  refine sl_ld hx hb hX hbl hbA hS hL (i + 2) (by omega) dL_law_232 ?_
  refine cv_w (As := [.int (xs (i + 1)), .int (xs (i + 2))]) (rest := [.int r1]) (wf := fun u : Int32 × Int32 => mw_ a2 d2 (nI N) fe go u.1 u.2) S (mo_question l D a2 d2 N fe go mi ak ⟨hb2.1, fun _ _ => trivial⟩ hN  (xs (i + 1)) (xs (i + 2))) (cwV 2 S.2.2.2.2 (lw_V q185 q186 q187 q15 q188) rfl rfl rfl (by decide +kernel) ⟨Nat.le_of_ble_eq_true rfl, Nat.le_of_ble_eq_true rfl⟩) hKm hM hS rfl rfl rfl rfl hl.1 (Nat.le_of_ble_eq_true rfl) dL_law_233 ⟨Nat.le_of_ble_eq_true rfl, Nat.le_of_ble_eq_true rfl⟩ (ap_in hb2) (fun r2 v H locs2 hp2 hM hk hS => ?_)
  have hB := bw_keep hab hB hk
  have hreq : r1 = r2 := by rw [hp1.1, hp2]; exact congrArg nI (pu_ar_shift (q := cl_ 0 20 (xs (i + 2))) (fun f hf => pu_By_Di (by omega))).symm
  refine lv_icmp_eq (tgt := 310) hx hb dL_law_236 (by decide) (fun h9 => ?_) (fun h9 => ?_)
  · exact K H locs2 N u.1 fe go u.2.1 u.2.2.1 u.2.2.2.1 u.2.2.2.2 v.1 v.2 ⟨hN, hgo, hfe, hp1.2, hB, hM, hS⟩
  · exact absurd hreq h9
set_option maxHeartbeats 4000000 in
set_option maxRecDepth 100000 in
theorem law_leaves (S : CallFix p m c code 4 s #[Value.ref b0] lw_all R_law) (hX : va_X b0 L xs s s.heap) (hbl : b0 < s.heap.size) (hL : L ≤ 192) (hKb : va_K D vwCl (bt_ d) s) (hKm : va_K D vwCl (mt_ d2) s) (ha : ap_ a 8 (LA s)) (hb2 : ap_ a2 3 (LA s)) (hab : ∀ i j, i < 8 → j < 3 → a i ≠ a2 j) (hpo : po_ok po) (i : Nat) (hi : i + 3 ≤ L) (K : ∀ (H : Heap) (locs : List Loc) (N : Nat) (cnt : Int32) (fe go gl bl : Nat → Int32) (sy : Nat → Int64) (be : Nat → Int32) (mi ak : Int32), lw_I D (LA s) s.heap a d a2 d2 po N cnt fe go gl bl sy be mi ak H locs → W p l e room_1 s m #[Value.ref b0] below meth c H locs 11 4593 Q (F0 m 310 ls [])) (hI : lw_I D (LA s) s.heap a d a2 d2 po N cnt fe go gl bl sy be mi ak H locs) (hl : lv_has ls 4 [(0, .ref b0), (1, .ref (a 0)), (2, .ref (a2 0)), (3, .int (nI i))]) : W p l e room_1 s m #[Value.ref b0] below meth c H locs 11 4593 Q (F0 m 241 ls []) := by
  have hx := S.1
  have hb := S.2.1
  have hbA : ¬ LA s b0 := Nat.not_le.mpr hbl
  obtain ⟨hN, hgo, hfe, hct, hB, hM, hS⟩ := hI
  refine lv_aload_n hx hb dL_law_241 rfl (lv_at hl 1 rfl) ?_
  refine lv_aload_n hx hb dL_law_242 rfl (lv_at hl 0 rfl) ?_
  refine lv_iload_n hx hb dL_law_243 rfl (lv_at hl 3 rfl) ?_
  refine lv_iconst (v := nI 1) hx hb dL_law_244 (by decide) ?_
  refine lv_iadd hx hb dL_law_245 ?_
  refine rw_i (v := nI (i + 1)) (nI_add i 1) ?_
  refine sl_ld hx hb hX hbl hbA hS hL (i + 1) (by omega) dL_law_246 ?_
  refine cv_w (As := [.int (xs (i + 1))]) (rest := []) (wf := fun u : WU => bw_ a d (nI N) u.1 fe go u.2.1 u.2.2.1 u.2.2.2.1 u.2.2.2.2 po) S (met_leaves l D a d N cnt fe go gl bl sy be po ⟨ha.1, fun _ _ => trivial⟩ hN hpo hct (xs (i + 1))) (cwV 1 S.2.2.2.2 (lw_V q95 q96 q97 q14 q98) rfl rfl rfl (by decide +kernel) ⟨Nat.le_of_ble_eq_true rfl, Nat.le_of_ble_eq_true rfl⟩) hKb hB hS rfl rfl rfl rfl hl.1 (Nat.zero_le 8) dL_law_247 ⟨Nat.le_of_ble_eq_true rfl, Nat.le_of_ble_eq_true rfl⟩ (ap_in ha) (fun r1 u H locs1 hp1 hB hk hS => ?_)
  have hM := mw_keep hab hM hk
  refine lv_aload_n hx hb dL_law_250 rfl (lv_at hl 2 rfl) ?_
  refine lv_aload_n hx hb dL_law_251 rfl (lv_at hl 0 rfl) ?_
  refine lv_iload_n hx hb dL_law_252 rfl (lv_at hl 3 rfl) ?_
  refine lv_iconst (v := nI 1) hx hb dL_law_253 (by decide) ?_
  refine lv_iadd hx hb dL_law_254 ?_
  refine rw_i (v := nI (i + 1)) (nI_add i 1) ?_
  refine sl_ld hx hb hX hbl hbA hS hL (i + 1) (by omega) dL_law_255 ?_
  refine cv_w (As := [.int (xs (i + 1))]) (rest := [.int r1]) (wf := fun u : Int32 × Int32 => mw_ a2 d2 (nI N) fe go u.1 u.2) S (mo_leaves l D a2 d2 N fe go mi ak ⟨hb2.1, fun _ _ => trivial⟩ hN  (xs (i + 1))) (cwV 1 S.2.2.2.2 (lw_V q189 q190 q191 q15 q192) rfl rfl rfl (by decide +kernel) ⟨Nat.le_of_ble_eq_true rfl, Nat.le_of_ble_eq_true rfl⟩) hKm hM hS rfl rfl rfl rfl hl.1 (Nat.le_of_ble_eq_true rfl) dL_law_256 ⟨Nat.le_of_ble_eq_true rfl, Nat.le_of_ble_eq_true rfl⟩ (ap_in hb2) (fun r2 v H locs2 hp2 hM hk hS => ?_)
  have hB := bw_keep hab hB hk
  have hreq : r1 = r2 := by rw [hp1.1, hp2, pu_leaves (cl_in (xs (i + 1)) (show 0 ≤ 3 by decide) (by decide)).2 0, pu_A_all]
  refine lv_icmp_eq (tgt := 310) hx hb dL_law_259 (by decide) (fun h9 => ?_) (fun h9 => ?_)
  · exact K H locs2 N u.1 fe go u.2.1 u.2.2.1 u.2.2.2.1 u.2.2.2.2 v.1 v.2 ⟨hN, hgo, hfe, hp1.2, hB, hM, hS⟩
  · exact absurd hreq h9
set_option maxHeartbeats 4000000 in
set_option maxRecDepth 100000 in
theorem law_mistakesBy (S : CallFix p m c code 4 s #[Value.ref b0] lw_all R_law) (hX : va_X b0 L xs s s.heap) (hbl : b0 < s.heap.size) (hL : L ≤ 192) (hKb : va_K D vwCl (bt_ d) s) (hKm : va_K D vwCl (mt_ d2) s) (ha : ap_ a 8 (LA s)) (hb2 : ap_ a2 3 (LA s)) (hab : ∀ i j, i < 8 → j < 3 → a i ≠ a2 j) (hpo : po_ok po) (i : Nat) (hi : i + 3 ≤ L) (K : ∀ (H : Heap) (locs : List Loc) (N : Nat) (cnt : Int32) (fe go gl bl : Nat → Int32) (sy : Nat → Int64) (be : Nat → Int32) (mi ak : Int32), lw_I D (LA s) s.heap a d a2 d2 po N cnt fe go gl bl sy be mi ak H locs → W p l e room_1 s m #[Value.ref b0] below meth c H locs 11 4593 Q (F0 m 310 ls [])) (hI : lw_I D (LA s) s.heap a d a2 d2 po N cnt fe go gl bl sy be mi ak H locs) (hl : lv_has ls 4 [(0, .ref b0), (1, .ref (a 0)), (2, .ref (a2 0)), (3, .int (nI i))]) : W p l e room_1 s m #[Value.ref b0] below meth c H locs 11 4593 Q (F0 m 264 ls []) := by
  have hx := S.1
  have hb := S.2.1
  have hbA : ¬ LA s b0 := Nat.not_le.mpr hbl
  obtain ⟨hN, hgo, hfe, hct, hB, hM, hS⟩ := hI
  refine lv_aload_n hx hb dL_law_264 rfl (lv_at hl 1 rfl) ?_
  refine lv_aload_n hx hb dL_law_265 rfl (lv_at hl 0 rfl) ?_
  refine lv_iload_n hx hb dL_law_266 rfl (lv_at hl 3 rfl) ?_
  refine lv_iconst (v := nI 1) hx hb dL_law_267 (by decide) ?_
  refine lv_iadd hx hb dL_law_268 ?_
  refine rw_i (v := nI (i + 1)) (nI_add i 1) ?_
  refine sl_ld hx hb hX hbl hbA hS hL (i + 1) (by omega) dL_law_269 ?_
  refine lv_aload_n hx hb dL_law_270 rfl (lv_at hl 0 rfl) ?_
  refine lv_iload_n hx hb dL_law_271 rfl (lv_at hl 3 rfl) ?_
  refine lv_iconst (v := nI 2) hx hb dL_law_272 (by decide) ?_
  refine lv_iadd hx hb dL_law_273 ?_
  refine rw_i (v := nI (i + 2)) (nI_add i 2) ?_
  refine sl_ld hx hb hX hbl hbA hS hL (i + 2) (by omega) dL_law_274 ?_
  refine cv_w (As := [.int (xs (i + 1)), .int (xs (i + 2))]) (rest := []) (wf := fun u : WU => bw_ a d (nI N) u.1 fe go u.2.1 u.2.2.1 u.2.2.2.1 u.2.2.2.2 po) S (met_mistakesBy l D a d N cnt fe go gl bl sy be po ⟨ha.1, fun _ _ => trivial⟩ hN hpo hct (xs (i + 1)) (xs (i + 2))) (cwV 2 S.2.2.2.2 (lw_V q99 q100 q101 q14 q102) rfl rfl rfl (by decide +kernel) ⟨Nat.le_of_ble_eq_true rfl, Nat.le_of_ble_eq_true rfl⟩) hKb hB hS rfl rfl rfl rfl hl.1 (Nat.zero_le 8) dL_law_275 ⟨Nat.le_of_ble_eq_true rfl, Nat.le_of_ble_eq_true rfl⟩ (ap_in ha) (fun r1 u H locs1 hp1 hB hk hS => ?_)
  have hM := mw_keep hab hM hk
  refine lv_aload_n hx hb dL_law_278 rfl (lv_at hl 2 rfl) ?_
  refine lv_aload_n hx hb dL_law_279 rfl (lv_at hl 0 rfl) ?_
  refine lv_iload_n hx hb dL_law_280 rfl (lv_at hl 3 rfl) ?_
  refine lv_iconst (v := nI 1) hx hb dL_law_281 (by decide) ?_
  refine lv_iadd hx hb dL_law_282 ?_
  refine rw_i (v := nI (i + 1)) (nI_add i 1) ?_
  refine sl_ld hx hb hX hbl hbA hS hL (i + 1) (by omega) dL_law_283 ?_
  refine lv_aload_n hx hb dL_law_284 rfl (lv_at hl 0 rfl) ?_
  refine lv_iload_n hx hb dL_law_285 rfl (lv_at hl 3 rfl) ?_
  refine lv_iconst (v := nI 2) hx hb dL_law_286 (by decide) ?_
  refine lv_iadd hx hb dL_law_287 ?_
  refine rw_i (v := nI (i + 2)) (nI_add i 2) ?_
  refine sl_ld hx hb hX hbl hbA hS hL (i + 2) (by omega) dL_law_288 ?_
  refine cv_w (As := [.int (xs (i + 1)), .int (xs (i + 2))]) (rest := [.int r1]) (wf := fun u : Int32 × Int32 => mw_ a2 d2 (nI N) fe go u.1 u.2) S (mo_mistakesBy l D a2 d2 N fe go mi ak ⟨hb2.1, fun _ _ => trivial⟩ hN  (xs (i + 1)) (xs (i + 2))) (cwV 2 S.2.2.2.2 (lw_V q193 q194 q195 q15 q196) rfl rfl rfl (by decide +kernel) ⟨Nat.le_of_ble_eq_true rfl, Nat.le_of_ble_eq_true rfl⟩) hKm hM hS rfl rfl rfl rfl hl.1 (Nat.le_of_ble_eq_true rfl) dL_law_289 ⟨Nat.le_of_ble_eq_true rfl, Nat.le_of_ble_eq_true rfl⟩ (ap_in hb2) (fun r2 v H locs2 hp2 hM hk hS => ?_)
  have hB := bw_keep hab hB hk
  have hreq : r1 = r2 := by
      rcases hp1.1 with ⟨f, hf, ey, er⟩ | ⟨hno, er⟩
      · rcases hp2 with ⟨g, hg, ey2, er2⟩ | ⟨hno, -⟩
        · have hfg : f = g := (nI_eq (by omega) (by omega)).mp (ey.symm.trans ey2)
          rw [er, er2, ← hfg, pu_By_Di hf, Nat.zero_add]
        · exact absurd ey (hno f hf)
      · rcases hp2 with ⟨g, hg, ey2, -⟩ | ⟨-, er2⟩
        · exact absurd ey2 (hno g hg)
        · rw [er, er2]
  refine lv_icmp_eq (tgt := 310) hx hb dL_law_292 (by decide) (fun h9 => ?_) (fun h9 => ?_)
  · exact K H locs2 N u.1 fe go u.2.1 u.2.2.1 u.2.2.2.1 u.2.2.2.2 v.1 v.2 ⟨hN, hgo, hfe, hp1.2, hB, hM, hS⟩
  · exact absurd hreq h9
set_option maxHeartbeats 4000000 in
set_option maxRecDepth 100000 in
theorem law_doubtful (S : CallFix p m c code 4 s #[Value.ref b0] lw_all R_law) (hX : va_X b0 L xs s s.heap) (hbl : b0 < s.heap.size) (hL : L ≤ 192) (hKb : va_K D vwCl (bt_ d) s) (hKm : va_K D vwCl (mt_ d2) s) (ha : ap_ a 8 (LA s)) (hb2 : ap_ a2 3 (LA s)) (hab : ∀ i j, i < 8 → j < 3 → a i ≠ a2 j) (hpo : po_ok po) (i : Nat) (hi : i + 3 ≤ L) (K : ∀ (H : Heap) (locs : List Loc) (N : Nat) (cnt : Int32) (fe go gl bl : Nat → Int32) (sy : Nat → Int64) (be : Nat → Int32) (mi ak : Int32), lw_I D (LA s) s.heap a d a2 d2 po N cnt fe go gl bl sy be mi ak H locs → W p l e room_1 s m #[Value.ref b0] below meth c H locs 11 4593 Q (F0 m 310 ls [])) (hI : lw_I D (LA s) s.heap a d a2 d2 po N cnt fe go gl bl sy be mi ak H locs) (hl : lv_has ls 4 [(0, .ref b0), (1, .ref (a 0)), (2, .ref (a2 0)), (3, .int (nI i))]) : W p l e room_1 s m #[Value.ref b0] below meth c H locs 11 4593 Q (F0 m 297 ls []) := by
  have hx := S.1
  have hb := S.2.1
  have hbA : ¬ LA s b0 := Nat.not_le.mpr hbl
  obtain ⟨hN, hgo, hfe, hct, hB, hM, hS⟩ := hI
  refine lv_aload_n hx hb dL_law_297 rfl (lv_at hl 1 rfl) ?_
  refine cv_w (As := []) (rest := []) (wf := fun u : WU => bw_ a d (nI N) u.1 fe go u.2.1 u.2.2.1 u.2.2.2.1 u.2.2.2.2 po) S (met_doubtful l D a d N cnt fe go gl bl sy be po ⟨ha.1, fun _ _ => trivial⟩ hN hpo hct) (cwV 0 S.2.2.2.2 (lw_V q103 q104 q105 q14 q106) rfl rfl rfl (by decide +kernel) ⟨Nat.le_of_ble_eq_true rfl, Nat.le_of_ble_eq_true rfl⟩) hKb hB hS rfl rfl rfl rfl hl.1 (Nat.zero_le 8) dL_law_298 ⟨Nat.le_of_ble_eq_true rfl, Nat.le_of_ble_eq_true rfl⟩ (ap_in ha) (fun r1 u H locs1 hp1 hB hk hS => ?_)
  have hM := mw_keep hab hM hk
  refine lv_aload_n hx hb dL_law_301 rfl (lv_at hl 2 rfl) ?_
  refine cv_i (As := []) (rest := [.int r1]) S (mo_doubtful l D a2 d2 N fe go mi ak hN hgo) (cwV 0 S.2.2.2.2 (lw_V q197 q198 q199 q15 q200) rfl rfl rfl (by decide +kernel) ⟨Nat.le_of_ble_eq_true rfl, Nat.le_of_ble_eq_true rfl⟩) hKm hM hS rfl rfl rfl rfl hl.1 (Nat.le_of_ble_eq_true rfl) dL_law_302 ⟨Nat.le_of_ble_eq_true rfl, Nat.le_of_ble_eq_true rfl⟩ (fun r2 H locs2 hp2 hM hk hS => ?_)
  have hB := bw_keep hab hB (fun q hq _ => hk q hq)
  have hreq : r1 = r2 := by
      rw [hp1.1, hp2]
      exact congrArg nI (pu_ct_congr (fun k hk => pu_doubt (fun j hj => by unfold eq_; rw [decide_eq_true_iff]; exact fe_eq hfe k j)))
  refine lv_icmp_eq (tgt := 310) hx hb dL_law_305 (by decide) (fun h9 => ?_) (fun h9 => ?_)
  · exact K H locs2 N u.1 fe go u.2.1 u.2.2.1 u.2.2.2.1 u.2.2.2.2 mi ak ⟨hN, hgo, hfe, hp1.2, hB, hM, hS⟩
  · exact absurd hreq h9
set_option maxHeartbeats 4000000 in
set_option maxRecDepth 100000 in
theorem law_drop (S : CallFix p m c code 4 s #[Value.ref b0] lw_all R_law) (hX : va_X b0 L xs s s.heap) (hbl : b0 < s.heap.size) (hL : L ≤ 192) (hKb : va_K D vwCl (bt_ d) s) (hKm : va_K D vwCl (mt_ d2) s) (ha : ap_ a 8 (LA s)) (hb2 : ap_ a2 3 (LA s)) (hab : ∀ i j, i < 8 → j < 3 → a i ≠ a2 j) (hpo : po_ok po) (i : Nat) (hi : i + 3 ≤ L) (K : ∀ (H : Heap) (locs : List Loc) (N : Nat) (cnt : Int32) (fe go gl bl : Nat → Int32) (sy : Nat → Int64) (be : Nat → Int32) (mi ak : Int32), lw_I D (LA s) s.heap a d a2 d2 po N cnt fe go gl bl sy be mi ak H locs → W p l e room_1 s m #[Value.ref b0] below meth c H locs 11 4593 Q (F0 m 310 ls [])) (hI : lw_I D (LA s) s.heap a d a2 d2 po N cnt fe go gl bl sy be mi ak H locs) (hl : lv_has ls 4 [(0, .ref b0), (1, .ref (a 0)), (2, .ref (a2 0)), (3, .int (nI i))]) : W p l e room_1 s m #[Value.ref b0] below meth c H locs 11 4593 Q (F0 m 129 ls []) := by
  have hx := S.1
  have hb := S.2.1
  have hbA : ¬ LA s b0 := Nat.not_le.mpr hbl
  obtain ⟨hN, hgo, hfe, hct, hB, hM, hS⟩ := hI
  refine lv_aload_n hx hb dL_law_129 rfl (lv_at hl 1 rfl) ?_
  refine lv_aload_n hx hb dL_law_130 rfl (lv_at hl 0 rfl) ?_
  refine lv_iload_n hx hb dL_law_131 rfl (lv_at hl 3 rfl) ?_
  refine lv_iconst (v := nI 1) hx hb dL_law_132 (by decide) ?_
  refine lv_iadd hx hb dL_law_133 ?_
  refine rw_i (v := nI (i + 1)) (nI_add i 1) ?_
  refine sl_ld hx hb hX hbl hbA hS hL (i + 1) (by omega) dL_law_134 ?_
  refine cv_w (As := [.int (xs (i + 1))]) (rest := []) (wf := fun u : AU => bw_ a d u.1 u.2.1 u.2.2.1 u.2.2.2 gl bl sy be po) S (met_drop l D a d N cnt fe go gl bl sy be po ⟨ha.1, fun _ _ => trivial⟩ hN hgo (xs (i + 1))) (cwV 1 S.2.2.2.2 (lw_V q59 q60 q61 q14 q62) rfl rfl rfl (by decide +kernel) ⟨Nat.le_of_ble_eq_true rfl, Nat.le_of_ble_eq_true rfl⟩) hKb hB hS rfl rfl rfl rfl hl.1 (Nat.zero_le 8) dL_law_135 ⟨Nat.le_of_ble_eq_true rfl, Nat.le_of_ble_eq_true rfl⟩ (ap_in ha) (fun r1 u H locs1 hp1 hB hk hS => ?_)
  have hM := mw_keep hab hM hk
  refine lv_aload_n hx hb dL_law_138 rfl (lv_at hl 2 rfl) ?_
  refine lv_aload_n hx hb dL_law_139 rfl (lv_at hl 0 rfl) ?_
  refine lv_iload_n hx hb dL_law_140 rfl (lv_at hl 3 rfl) ?_
  refine lv_iconst (v := nI 1) hx hb dL_law_141 (by decide) ?_
  refine lv_iadd hx hb dL_law_142 ?_
  refine rw_i (v := nI (i + 1)) (nI_add i 1) ?_
  refine sl_ld hx hb hX hbl hbA hS hL (i + 1) (by omega) dL_law_143 ?_
  refine cv_w (As := [.int (xs (i + 1))]) (rest := [.int r1]) (wf := fun u : BU => mw_ a2 d2 u.1 u.2.1 u.2.2 mi ak) S (mo_drop l D a2 d2 N fe go mi ak ⟨hb2.1, fun _ _ => trivial⟩ hN hgo (xs (i + 1))) (cwV 1 S.2.2.2.2 (lw_V q133 q134 q135 q15 q136) rfl rfl rfl (by decide +kernel) ⟨Nat.le_of_ble_eq_true rfl, Nat.le_of_ble_eq_true rfl⟩) hKm hM hS rfl rfl rfl rfl hl.1 (Nat.le_of_ble_eq_true rfl) dL_law_144 ⟨Nat.le_of_ble_eq_true rfl, Nat.le_of_ble_eq_true rfl⟩ (ap_in hb2) (fun r2 v H locs2 hp2 hM hk hS => ?_)
  have hB := bw_keep hab hB hk
  rcases hp1 with ⟨j, hj, ex, er, rfl⟩ | ⟨hno, er, rfl⟩
  · rcases hp2 with ⟨j2, hj2, ex2, er2, rfl⟩ | ⟨hno, -⟩
    · obtain rfl : j = j2 := (nI_eq (by omega) (by omega)).mp (ex.symm.trans ex2)
      refine lv_icmp_eq (tgt := 310) hx hb dL_law_147 (by decide) (fun h9 => ?_) (fun h9 => ?_)
      · exact K H locs2 (N - 1) (nI 0) (dr_ fe j (N - 1)) (dr_ go j (N - 1)) gl bl sy be mi ak ⟨by omega, fun k => dr_p (P := fun x => x = 0 ∨ x = 1) hgo j (N - 1) k, fun k => dr_p (P := fun y => ∃ x, x < 64 ∧ y = nI x) hfe j (N - 1) k, fun h => absurd rfl h, hB, hM, hS⟩
      · exact absurd (er.trans er2.symm) h9
    · exact absurd ex (hno j hj)
  · rcases hp2 with ⟨j2, hj2, ex2, -⟩ | ⟨-, er2, rfl⟩
    · exact absurd ex2 (hno j2 hj2)
    · refine lv_icmp_eq (tgt := 310) hx hb dL_law_147 (by decide) (fun h9 => ?_) (fun h9 => ?_)
      · exact K H locs2 N cnt fe go gl bl sy be mi ak ⟨hN, hgo, hfe, hct, hB, hM, hS⟩
      · exact absurd (er.trans er2.symm) h9
set_option maxHeartbeats 4000000 in
set_option maxRecDepth 100000 in
theorem law_add (S : CallFix p m c code 4 s #[Value.ref b0] lw_all R_law) (hX : va_X b0 L xs s s.heap) (hbl : b0 < s.heap.size) (hL : L ≤ 192) (hKb : va_K D vwCl (bt_ d) s) (hKm : va_K D vwCl (mt_ d2) s) (ha : ap_ a 8 (LA s)) (hb2 : ap_ a2 3 (LA s)) (hab : ∀ i j, i < 8 → j < 3 → a i ≠ a2 j) (hpo : po_ok po) (i : Nat) (hi : i + 3 ≤ L) (K : ∀ (H : Heap) (locs : List Loc) (N : Nat) (cnt : Int32) (fe go gl bl : Nat → Int32) (sy : Nat → Int64) (be : Nat → Int32) (mi ak : Int32), lw_I D (LA s) s.heap a d a2 d2 po N cnt fe go gl bl sy be mi ak H locs → W p l e room_1 s m #[Value.ref b0] below meth c H locs 11 4593 Q (F0 m 310 ls [])) (hI : lw_I D (LA s) s.heap a d a2 d2 po N cnt fe go gl bl sy be mi ak H locs) (hl : lv_has ls 4 [(0, .ref b0), (1, .ref (a 0)), (2, .ref (a2 0)), (3, .int (nI i))]) : W p l e room_1 s m #[Value.ref b0] below meth c H locs 11 4593 Q (F0 m 80 ls []) := by
  have hx := S.1
  have hb := S.2.1
  have hbA : ¬ LA s b0 := Nat.not_le.mpr hbl
  obtain ⟨hN, hgo, hfe, hct, hB, hM, hS⟩ := hI
  obtain ⟨b, hb01, hbz, hbn⟩ : ∃ b : Int32, (b = 0 ∨ b = 1) ∧ (xs (i + 2) = 0 → nI 0 = b) ∧ (¬ xs (i + 2) = 0 → nI 1 = b) := by
    by_cases h9 : xs (i + 2) = 0
    · exact ⟨nI 0, Or.inl rfl, fun _ => rfl, fun h => absurd h9 h⟩
    · exact ⟨nI 1, Or.inr rfl, fun h => absurd h h9, fun _ => rfl⟩
  have T : W p l e room_1 s m #[Value.ref b0] below meth c H locs 11 4593 Q (F0 m 99 ls [.int b, .int (xs (i + 1)), .ref (a 0)]) := by
    refine cv_w (As := [.int (xs (i + 1)), .int b]) (rest := []) (wf := fun u : AU => bw_ a d u.1 u.2.1 u.2.2.1 u.2.2.2 gl bl sy be po) S (met_add l D a d N cnt fe go gl bl sy be po ⟨ha.1, fun _ _ => trivial⟩ hN  (xs (i + 1)) b hb01) (cwV 2 S.2.2.2.2 (lw_V q55 q56 q57 q14 q58) rfl rfl rfl (by decide +kernel) ⟨Nat.le_of_ble_eq_true rfl, Nat.le_of_ble_eq_true rfl⟩) hKb hB hS rfl rfl rfl rfl hl.1 (Nat.zero_le 8) dL_law_99 ⟨Nat.le_of_ble_eq_true rfl, Nat.le_of_ble_eq_true rfl⟩ (ap_in ha) (fun r1 u H locs1 hp1 hB hk hS => ?_)
    have hM := mw_keep hab hM hk
    have T2 : W p l e room_1 s m #[Value.ref b0] below meth c H locs1 11 4593 Q (F0 m 121 ls [.int b, .int (xs (i + 1)), .ref (a2 0), .int r1]) := by
      refine cv_w (As := [.int (xs (i + 1)), .int b]) (rest := [.int r1]) (wf := fun u : BU => mw_ a2 d2 u.1 u.2.1 u.2.2 mi ak) S (mo_add l D a2 d2 N fe go mi ak ⟨hb2.1, fun _ _ => trivial⟩ hN  (xs (i + 1)) b hb01) (cwV 2 S.2.2.2.2 (lw_V q129 q130 q131 q15 q132) rfl rfl rfl (by decide +kernel) ⟨Nat.le_of_ble_eq_true rfl, Nat.le_of_ble_eq_true rfl⟩) hKm hM hS rfl rfl rfl rfl hl.1 (Nat.le_of_ble_eq_true rfl) dL_law_121 ⟨Nat.le_of_ble_eq_true rfl, Nat.le_of_ble_eq_true rfl⟩ (ap_in hb2) (fun r2 v H locs2 hp2 hM hk hS => ?_)
      have hB := bw_keep hab hB hk
      rcases hp1 with ⟨hlt, er, rfl⟩ | ⟨hge, er, rfl⟩
      · rcases hp2 with ⟨-, er2, rfl⟩ | ⟨hge, -⟩
        · refine lv_icmp_eq (tgt := 310) hx hb dL_law_124 (by decide) (fun h9 => ?_) (fun h9 => ?_)
          · exact K H locs2 (N + 1) (nI 0) (upd fe N (xs (i + 1) &&& (nI 63))) (upd go N b) gl bl sy be mi ak ⟨by omega, fun k => up_p (P := fun x => x = 0 ∨ x = 1) hgo N hb01 k, fun k => up_p (P := fun y => ∃ x, x < 64 ∧ y = nI x) hfe N (pk_andE (xs (i + 1)) 6 (by decide)) k, fun h => absurd rfl h, hB, hM, hS⟩
          · exact absurd (er.trans er2.symm) h9
        · exact absurd hge (by omega)
      · rcases hp2 with ⟨hlt, -⟩ | ⟨-, er2, rfl⟩
        · exact absurd hge (by omega)
        · refine lv_icmp_eq (tgt := 310) hx hb dL_law_124 (by decide) (fun h9 => ?_) (fun h9 => ?_)
          · exact K H locs2 N cnt fe go gl bl sy be mi ak ⟨hN, hgo, hfe, hct, hB, hM, hS⟩
          · exact absurd (er.trans er2.symm) h9
    refine lv_aload_n hx hb dL_law_102 rfl (lv_at hl 2 rfl) ?_
    refine lv_aload_n hx hb dL_law_103 rfl (lv_at hl 0 rfl) ?_
    refine lv_iload_n hx hb dL_law_104 rfl (lv_at hl 3 rfl) ?_
    refine lv_iconst (v := nI 1) hx hb dL_law_105 (by decide) ?_
    refine lv_iadd hx hb dL_law_106 ?_
    refine rw_i (v := nI (i + 1)) (nI_add i 1) ?_
    refine sl_ld hx hb hX hbl hbA hS hL (i + 1) (by omega) dL_law_107 ?_
    refine lv_aload_n hx hb dL_law_108 rfl (lv_at hl 0 rfl) ?_
    refine lv_iload_n hx hb dL_law_109 rfl (lv_at hl 3 rfl) ?_
    refine lv_iconst (v := nI 2) hx hb dL_law_110 (by decide) ?_
    refine lv_iadd hx hb dL_law_111 ?_
    refine rw_i (v := nI (i + 2)) (nI_add i 2) ?_
    refine sl_ld hx hb hX hbl hbA hS hL (i + 2) (by omega) dL_law_112 ?_
    refine lv_if_eq (tgt := 120) hx hb dL_law_113 (by decide) (fun h9 => ?_) (fun h9 => ?_)
    · refine lv_iconst (v := nI 0) hx hb dL_law_120 (by decide) ?_
      refine rw_i (v := b) (hbz h9) ?_
      exact T2
    · refine lv_iconst (v := nI 1) hx hb dL_law_116 (by decide) ?_
      refine lv_goto (tgt := 121) hx hb dL_law_117 (by decide) ?_
      refine rw_i (v := b) (hbn h9) ?_
      exact T2
  refine lv_aload_n hx hb dL_law_80 rfl (lv_at hl 1 rfl) ?_
  refine lv_aload_n hx hb dL_law_81 rfl (lv_at hl 0 rfl) ?_
  refine lv_iload_n hx hb dL_law_82 rfl (lv_at hl 3 rfl) ?_
  refine lv_iconst (v := nI 1) hx hb dL_law_83 (by decide) ?_
  refine lv_iadd hx hb dL_law_84 ?_
  refine rw_i (v := nI (i + 1)) (nI_add i 1) ?_
  refine sl_ld hx hb hX hbl hbA hS hL (i + 1) (by omega) dL_law_85 ?_
  refine lv_aload_n hx hb dL_law_86 rfl (lv_at hl 0 rfl) ?_
  refine lv_iload_n hx hb dL_law_87 rfl (lv_at hl 3 rfl) ?_
  refine lv_iconst (v := nI 2) hx hb dL_law_88 (by decide) ?_
  refine lv_iadd hx hb dL_law_89 ?_
  refine rw_i (v := nI (i + 2)) (nI_add i 2) ?_
  refine sl_ld hx hb hX hbl hbA hS hL (i + 2) (by omega) dL_law_90 ?_
  refine lv_if_eq (tgt := 98) hx hb dL_law_91 (by decide) (fun h9 => ?_) (fun h9 => ?_)
  · refine lv_iconst (v := nI 0) hx hb dL_law_98 (by decide) ?_
    refine rw_i (v := b) (hbz h9) ?_
    exact T
  · refine lv_iconst (v := nI 1) hx hb dL_law_94 (by decide) ?_
    refine lv_goto (tgt := 99) hx hb dL_law_95 (by decide) ?_
    refine rw_i (v := b) (hbn h9) ?_
    exact T
set_option maxHeartbeats 4000000 in
set_option maxRecDepth 100000 in
theorem law_loop (S : CallFix p m c code 4 s #[Value.ref b0] lw_all R_law) (hX : va_X b0 L xs s s.heap) (hbl : b0 < s.heap.size) (hL : L ≤ 192) (hKb : va_K D vwCl (bt_ d) s) (hKm : va_K D vwCl (mt_ d2) s) (ha : ap_ a 8 (LA s)) (hb2 : ap_ a2 3 (LA s)) (hab : ∀ i j, i < 8 → j < 3 → a i ≠ a2 j) (hpo : po_ok po) (KE : ∀ (H : Heap) (locs : List Loc) (ls : Array Slot), va_S (LA s) s.heap H locs → W p l e room_1 s m #[Value.ref b0] below meth c H locs 11 4593 Q (F0 m 316 ls [])) : ∀ (k i : Nat), i ≤ L → L < i + k → ∀ (H : Heap) (locs : List Loc) (ls : Array Slot) (N : Nat) (cnt : Int32) (fe go gl bl : Nat → Int32) (sy : Nat → Int64) (be : Nat → Int32) (mi ak : Int32), lw_I D (LA s) s.heap a d a2 d2 po N cnt fe go gl bl sy be mi ak H locs → lv_has ls 4 [(0, .ref b0), (1, .ref (a 0)), (2, .ref (a2 0)), (3, .int (nI i))] → W p l e room_1 s m #[Value.ref b0] below meth c H locs 11 4593 Q (F0 m 18 ls []) := by
  have hbA : ¬ LA s b0 := Nat.not_le.mpr hbl
  have hx := S.1
  have hb := S.2.1
  intro k
  induction k with
  | zero =>
    intro i g1 g2
    exact absurd g2 (by omega)
  | succ k ih =>
    intro i q1 q2 H locs ls N cnt fe go gl bl sy be mi ak hI hl
    have hS := hI.2.2.2.2.2.2
    refine lv_iload_n hx hb dL_law_18 rfl (lv_at hl 3 rfl) ?_
    refine lv_aload_n hx hb dL_law_19 rfl (lv_at hl 0 rfl) ?_
    refine va_slen hx hb hX hbl hbA hS dL_law_20 ?_
    refine rw_i (v := nI L) (rfl) ?_
    refine lv_iconst (v := nI 3) hx hb dL_law_21 (by decide) ?_
    refine lv_isub hx hb dL_law_22 ?_
    refine lv_icmp_gt (tgt := 316) hx hb dL_law_23 (by decide) (fun h1 => ?_) (fun h1 => ?_)
    · exact KE H locs ls hS
    · have hi3 : i + 3 ≤ L := lw_gt (by omega) (by omega) h1
      have K : ∀ (H : Heap) (locs : List Loc) (N : Nat) (cnt : Int32) (fe go gl bl : Nat → Int32) (sy : Nat → Int64) (be : Nat → Int32) (mi ak : Int32), lw_I D (LA s) s.heap a d a2 d2 po N cnt fe go gl bl sy be mi ak H locs → W p l e room_1 s m #[Value.ref b0] below meth c H locs 11 4593 Q (F0 m 310 ls []) := by
        intro H locs N cnt fe go gl bl sy be mi ak hI
        refine lv_iinc (v := nI (i + 3)) (lv' := [(3, .int (nI (i + 3))), (0, .ref b0), (1, .ref (a 0)), (2, .ref (a2 0))]) hx hb dL_law_310 hl (k := 3) rfl (nI_add i 3) (by decide) rfl (fun ls hl => ?_)
        refine lv_goto (tgt := 18) hx hb dL_law_313 (by decide) ?_
        exact ih (i + 3) (by omega) (by omega) H locs ls N cnt fe go gl bl sy be mi ak hI (lv_sub hl [1, 2, 3, 0] rfl)
      refine lv_aload_n hx hb dL_law_26 rfl (lv_at hl 0 rfl) ?_
      refine lv_iload_n hx hb dL_law_27 rfl (lv_at hl 3 rfl) ?_
      refine sl_ld hx hb hX hbl hbA hS hL i (by omega) dL_law_28 ?_
      refine lv_bipush (v := nI 7) hx hb dL_law_29 (by decide) ?_
      refine lv_iand hx hb dL_law_31 ?_
      obtain ⟨j, hj, ej⟩ := pk_andE (xs i) (m := nI 7) 3 (by decide)
      refine rw_i (v := nI j) (ej) ?_
      rcases (show j = 0 ∨ j = 1 ∨ j = 2 ∨ j = 3 ∨ j = 4 ∨ j = 5 ∨ j = 6 ∨ j = 7 by omega) with rfl | rfl | rfl | rfl | rfl | rfl | rfl | rfl
      · refine lv_tableIn (tgt := 80) hx hb dL_law_32 (by decide) (by decide) (off := 48) (by decide) (by decide) ?_
        exact law_add S hX hbl hL hKb hKm ha hb2 hab hpo i hi3 K hI hl
      · refine lv_tableIn (tgt := 129) hx hb dL_law_32 (by decide) (by decide) (off := 97) (by decide) (by decide) ?_
        exact law_drop S hX hbl hL hKb hKm ha hb2 hab hpo i hi3 K hI hl
      · refine lv_tableIn (tgt := 152) hx hb dL_law_32 (by decide) (by decide) (off := 120) (by decide) (by decide) ?_
        exact law_mistakes S hX hbl hL hKb hKm ha hb2 hab hpo i hi3 K hI hl
      · refine lv_tableIn (tgt := 175) hx hb dL_law_32 (by decide) (by decide) (off := 143) (by decide) (by decide) ?_
        exact law_price S hX hbl hL hKb hKm ha hb2 hab hpo i hi3 K hI hl
      · refine lv_tableIn (tgt := 208) hx hb dL_law_32 (by decide) (by decide) (off := 176) (by decide) (by decide) ?_
        exact law_question S hX hbl hL hKb hKm ha hb2 hab hpo i hi3 K hI hl
      · refine lv_tableIn (tgt := 241) hx hb dL_law_32 (by decide) (by decide) (off := 209) (by decide) (by decide) ?_
        exact law_leaves S hX hbl hL hKb hKm ha hb2 hab hpo i hi3 K hI hl
      · refine lv_tableIn (tgt := 264) hx hb dL_law_32 (by decide) (by decide) (off := 232) (by decide) (by decide) ?_
        exact law_mistakesBy S hX hbl hL hKb hKm ha hb2 hab hpo i hi3 K hI hl
      · refine lv_tableIn (tgt := 297) hx hb dL_law_32 (by decide) (by decide) (off := 265) (by decide) (by decide) ?_
        exact law_doubtful S hX hbl hL hKb hKm ha hb2 hab hpo i hi3 K hI hl
end LW
end
section
/-! THE CLAIM OUT OF ONE WALK OF THE LAW'S BODY. Your part is whole_start (and what it stands on); all else here is the same for every law, but numbers. -/
def lw_P (b : Addr) (xs : List Int32) (args : Array Value) (s : State) : Prop := args = #[.ref b] ∧ s.IntsAt b xs ∧ xs.length ≤ 192 ∧ (Jvm.Cond.and given_1 narrow_1).before args s = true
def lw_Q (_ : Array Value) (s : State) (o : Outcome) (t : State) : Prop := o = .returned (some (.int 1)) ∧ Framed s o t [] 600000 7290000
def lw_Z (below : List Frame) (a : Array Value) (s : State) : State → Prop := fun t => ∃ o, t.status = .running ∧ Ended t below o ∧ lw_Q a s o t
/-- the law's own end, with 1 on the stack, nothing written that was there before, its room as the claim has it -/
theorem lw_ret {p : Program} {l : Launch} {e : Env} {s : State} {m : MethodId} {below : List Frame} {meth : Method} {c : Code} {b : Nat} (hx : p.tables.exec = Jvm.exec) (hb : c.code = code) (hr : meth.sig.returnType = ret) (hlocks : meth.locks = false) {pc : Nat} {H : Heap} {ls : Array Slot} (hdg : decode code pc = .ok (.ireturn, 1)) : W p l e room_1 s m #[Value.ref b] below meth c H [] 600000 7290000 (lw_Z below #[Value.ref b] s) (F0 m pc ls [.int 1]) := by
  intro T hT X
  obtain ⟨fs, hret, hrun, hended, hW, hframe⟩ := X.leave (v := some (.int 1)) (hlocks := hlocks) (fun h => by rw [hr] at h; cases h)
  have hmeth' : T.vm.method? m = some meth := X.method'
  refine ⟨T.setFrames fs, ?_, .returned (some (.int 1)), hrun, hended, rfl, ⟨_, rfl⟩, hW, hframe⟩
  jvm_step X.here [X.here.top, hx, hb, hdg, hmeth', hr, ret, narrow_b1]
  (try refine ⟨rfl, ?_⟩); (try refine ⟨rfl, ?_⟩)
  first | (intro acts; rw [hret _ acts rfl rfl rfl]) | rw [hret _ _ rfl rfl rfl]
  exact Steps.refl _
/-- what holds at the law's entry: the machine, the code, the tables' words (any of lw_tbl by 'hts w (by decide +kernel)'), the script of L ints xs at the cell b, what the Statement gives of the start (any of its parts by flat_of_before) -/
def lw_At (p : Program) (s : State) (m : MethodId) (meth : Method) (c : Code) (b L : Nat) (xs : Nat → Int32) : Prop :=
  p.tables.exec = Jvm.exec ∧ c.code = code ∧ meth.sig.returnType = ret ∧ c.maxLocals = 4 ∧ s.vm.findClass R_law = some m.cls ∧ (∀ w ∈ lw_tbl, w.before #[Value.ref b] s = true) ∧ va_X b L xs s s.heap ∧ b < s.heap.size ∧ meth.locks = false ∧ (Jvm.Cond.and given_1 narrow_1).before #[Value.ref b] s = true
set_option maxHeartbeats 4000000 in
set_option maxRecDepth 100000 in
/-- THE LAW, from its entry -/
theorem whole_start {p : Program} {e : Env} {s : State} {m : MethodId} {below : List Frame} {meth : Method} {c : Code} (l : Launch) {b L : Nat} {xs : Nat → Int32} (hL : L ≤ 192) (C0 : lw_At p s m meth c b L xs) : W p l e room_1 s m #[Value.ref b] below meth c s.heap [] 0 0 (lw_Z below #[Value.ref b] s) (entryFrame m ([Value.ref b] : List Value).toArray 4) := by
  obtain ⟨hx, hb, hr, hml, hown, hts0, hX, hbl, hlocks, hgv⟩ := C0
  have S : CallFix p m c code 4 s #[Value.ref b] lw_all R_law := ⟨hx, hb, hml, hown, fun w h => hts0 w (lw_all_tbl h)⟩
  have hts := S.2.2.2.2
  have hA : ∀ q : Nat, s.heap.size ≤ q → LA s q := fun _ h => h
  obtain ⟨c0, iS0, hKn0⟩ := u_known (C := RX0) (T := TX0) (N := 9) (n := 9) hts in_X0 (hts _ q17)
  obtain ⟨c1, iS1, hKn1⟩ := u_known (C := RX1) (T := TX1) (N := 5) (n := 5) hts in_X1 (hts _ q108)
  obtain ⟨D, hKc⟩ : ∃ D : va_G, ∀ (k : Nat) (q : vw_C), vwCl[k]? = some q → u_Kn s q.1 q.2.1 q.2.2 (D.1 k) (D.2 k) := by
    refine ⟨(fun k => if k = 0 then c0 else c1, fun k => if k = 0 then iS0 else iS1), ?_⟩
    intro k q hq
    match k, hq with
    | 0, hq => cases hq; exact hKn0
    | 1, hq => cases hq; exact hKn1
    | k + 2, hq => simp [vwCl] at hq
  have hS : va_S (LA s) s.heap s.heap [] := va_S.rf
  have hK : va_K D vwCl [] s := ⟨hKc, fun k q h => by simp at h⟩
  have hP : va_P D vwCl [] s.heap := fun k q h => by simp at h
  have hD : va_D (LA s) [] := ⟨fun i j p q h => by simp at h, fun k q h => by simp at h⟩
  have hl := lv_entry ([.ref b]) (n := 4) (Nat.le_of_ble_eq_true rfl)
  rw [lg_entry_eq]
  generalize (lg_sl ([.ref b]) ++ List.replicate (4 - (lg_sl ([.ref b])).length) Slot.unset).toArray = ls at hl ⊢
  have hl : lv_has ls 4 [(0, .ref b)] := hl
  refine va_new (ci := 0) (fs := [.int (nI 0), .null, .null, .int (nI 0), .null, .null, .null, .null, .null]) (C := RX0) (T := TX0) (N := 9) hx hb hts in_X0 tyX0 tyX0_ok hown (hts _ q16) (hts _ q17) (hts _ q14) hK hP hD hS hA rfl (fun j hj => by rcases (show j = 0 ∨ j = 1 ∨ j = 2 ∨ j = 3 ∨ j = 4 ∨ j = 5 ∨ j = 6 ∨ j = 7 ∨ j = 8 by omega) with rfl | rfl | rfl | rfl | rfl | rfl | rfl | rfl | rfl <;> rfl) (Nat.le_of_ble_eq_true rfl) (Nat.le_of_ble_eq_true rfl) dL_law_0 (fun q0 H hP hD hS => ?_)
  have hP : va_P D vwCl [(q0, .inr (0, [.int (nI 0), .null, .null, .int (nI 0), .null, .null, .null, .null, .null]))] H := hP
  have hD : va_D (LA s) [(q0, .inr (0, [.int (nI 0), .null, .null, .int (nI 0), .null, .null, .null, .null, .null]))] := hD
  have hq0 : LA s q0 := hD.2 0 _ rfl
  have hA1 : ∀ q : Nat, (q = q0 ∨ H.size ≤ q) → LA s q := fun q h => by
    rcases h with h | h
    · rw [h]; exact hq0
    · exact Nat.le_trans hS.1 h
  refine lv_dup hx hb dL_law_3 rfl ?_
  refine va_callv (va_runI (As := []) (rest := [.ref q0]) S (met_init l D q0 H.size) (cwI 0 hts (lw_meth q20) rfl rfl rfl (hts _ q14) (hts _ q18) (hts _ q19) rfl (by decide +kernel) ⟨Nat.le_of_ble_eq_true rfl, Nat.le_of_ble_eq_true rfl⟩) ⟨fun a U g mk q => ⟨q.1, q.2.1, va_K.moved (u := U) (U := U.calling g mk a) (Vm.Alike.refl U.vm) q.2.2.1, q.2.2.2⟩, fun U hU hW => ⟨rfl, by rw [hU]; exact hP, va_K.moved hW.alike hK, by rw [hU]⟩⟩ rfl rfl hl.1 rfl (lv_room (Nat.le_of_ble_eq_true rfl)) dL_law_4 ⟨Nat.le_of_ble_eq_true rfl, Nat.le_of_ble_eq_true rfl⟩) hS (fun q _ h => hA1 q h) hA1 (fun u t H1 locs ht hvm hw hB hz1 hk1 hS => ?_)
  obtain ⟨a, d, po⟩ := u
  obtain ⟨ha0, hpo, hap⟩ := hw
  have ha0 : a 0 = q0 := ha0
  have hKb : va_K D vwCl (bt_ d) s := va_K.moved hvm.symm hB.2
  have hPb : va_P D vwCl (bw_ a d (nI 0) (nI 0) (fun _ => 0) (fun _ => 0) (fun _ => 0) (fun _ => 0) (fun _ => 0) (fun _ => 0) po) H1 := by rw [← ht]; exact hB.1
  have ha : ap_ a 8 (LA s) := ⟨hap.1, fun i hi => hA1 _ (hap.2 i hi)⟩
  subst ha0
  refine lv_astore_n (lv' := [(1, .ref (a 0)), (0, .ref b)]) hx hb dL_law_7 rfl hl (by decide) rfl (fun ls hl => ?_)
  refine va_new (ci := 1) (fs := [.int (nI 0), .null, .null, .int (nI 0), .int (nI 0)]) (C := RX1) (T := TX1) (N := 5) hx hb hts in_X1 tyX1 tyX1_ok hown (hts _ q107) (hts _ q108) (hts _ q15) hKb hPb (bw_D ha d (nI 0) (nI 0) (fun _ => 0) (fun _ => 0) (fun _ => 0) (fun _ => 0) (fun _ => 0) (fun _ => 0) po) hS hA rfl (fun j hj => by rcases (show j = 0 ∨ j = 1 ∨ j = 2 ∨ j = 3 ∨ j = 4 by omega) with rfl | rfl | rfl | rfl | rfl <;> rfl) (Nat.le_of_ble_eq_true rfl) (Nat.le_of_ble_eq_true rfl) dL_law_8 (fun q1 H hP hD hS => ?_)
  have hPb : va_P D vwCl (bw_ a d (nI 0) (nI 0) (fun _ => 0) (fun _ => 0) (fun _ => 0) (fun _ => 0) (fun _ => 0) (fun _ => 0) po) H := hP.sub [0, 1, 2, 3, 4, 5, 6, 7] rfl
  have hP1 : va_P D vwCl [(q1, .inr (1, [.int (nI 0), .null, .null, .int (nI 0), .int (nI 0)]))] H := hP.sub [8] rfl
  have hap9 : ap_ (fun k => if k < 8 then a k else q1) 9 (LA s) := D_ap hD rfl
  have hq1 : LA s q1 := hap9.2 8 (by decide)
  have hne : ∀ i, i < 8 → a i ≠ q1 := fun i hi e => by
    have h9 := hap9.1 i 8 (by omega) (by omega) (by show (if i < 8 then a i else q1) = (if 8 < 8 then a 8 else q1); rw [if_pos hi, if_neg (by omega)]; exact e)
    omega
  have hA2 : ∀ q : Nat, (q = q1 ∨ H.size ≤ q) → LA s q := fun q h => by
    rcases h with h | h
    · rw [h]; exact hq1
    · exact Nat.le_trans hS.1 h
  have hlt : ∀ i, i < 8 → a i < H.size := fun i hi => by
    rcases (show i = 0 ∨ i = 1 ∨ i = 2 ∨ i = 3 ∨ i = 4 ∨ i = 5 ∨ i = 6 ∨ i = 7 by omega) with rfl | rfl | rfl | rfl | rfl | rfl | rfl | rfl
    · exact (hPb 0 _ rfl).lt
    · exact (hPb 1 _ rfl).lt
    · exact (hPb 2 _ rfl).lt
    · exact (hPb 3 _ rfl).lt
    · exact (hPb 4 _ rfl).lt
    · exact (hPb 5 _ rfl).lt
    · exact (hPb 6 _ rfl).lt
    · exact (hPb 7 _ rfl).lt
  refine lv_dup hx hb dL_law_11 rfl ?_
  refine va_callv (va_runI (As := []) (rest := [.ref q1]) S (mo_init l D q1 H.size) (cwI 0 hts (lw_meth q111) rfl rfl rfl (hts _ q15) (hts _ q109) (hts _ q110) rfl (by decide +kernel) ⟨Nat.le_of_ble_eq_true rfl, Nat.le_of_ble_eq_true rfl⟩) ⟨fun a U g mk q => ⟨q.1, q.2.1, va_K.moved (u := U) (U := U.calling g mk a) (Vm.Alike.refl U.vm) q.2.2.1, q.2.2.2⟩, fun U hU hW => ⟨rfl, by rw [hU]; exact hP1, va_K.moved hW.alike hK, by rw [hU]⟩⟩ rfl rfl hl.1 rfl (lv_room (Nat.le_of_ble_eq_true rfl)) dL_law_12 ⟨Nat.le_of_ble_eq_true rfl, Nat.le_of_ble_eq_true rfl⟩) hS (fun q _ h => hA2 q h) hA2 (fun u t H1 locs ht hvm hw hB hz1 hk1 hS => ?_)
  obtain ⟨a2, d2⟩ := u
  obtain ⟨ha0, hap2⟩ := hw
  have ha0 : a2 0 = q1 := ha0
  have hap2 : ap_ a2 3 (fun q => q = q1 ∨ H.size ≤ q) := hap2
  have hKm : va_K D vwCl (mt_ d2) s := va_K.moved hvm.symm hB.2
  have hPm : va_P D vwCl (mw_ a2 d2 (nI 0) (fun _ => 0) (fun _ => 0) (nI 0) (nI 0)) H1 := by rw [← ht]; exact hB.1
  have hb2 : ap_ a2 3 (LA s) := ⟨hap2.1, fun i hi => hA2 _ (hap2.2 i hi)⟩
  have hab : ∀ i j, i < 8 → j < 3 → a i ≠ a2 j := fun i j hi hj e => by
    rcases hap2.2 j hj with h | h
    · exact hne i hi (e.trans h)
    · have := hlt i hi
      omega
  have hPb : va_P D vwCl (bw_ a d (nI 0) (nI 0) (fun _ => 0) (fun _ => 0) (fun _ => 0) (fun _ => 0) (fun _ => 0) (fun _ => 0) po) H1 := hPb.kept (fun k q hq => by
    obtain ⟨h8, e8⟩ := w_key (a := a) (k := 8) rfl k q hq
    refine hk1 q.1 ((hPb k q hq).lt) (fun h => ?_)
    rcases h with h | h
    · exact hne k h8 (e8.symm.trans h)
    · have := hlt k h8
      omega)
  subst ha0
  refine lv_astore_n (lv' := [(2, .ref (a2 0)), (1, .ref (a 0)), (0, .ref b)]) hx hb dL_law_15 rfl hl (by decide) rfl (fun ls hl => ?_)
  refine lv_iconst (v := nI 0) hx hb dL_law_16 (by decide) ?_
  refine lv_istore_n (lv' := [(3, .int (nI 0)), (2, .ref (a2 0)), (1, .ref (a 0)), (0, .ref b)]) hx hb dL_law_17 rfl hl (by decide) rfl (fun ls hl => ?_)
  refine W.widen (k := 11) (n := 4593) (Nat.le_of_ble_eq_true rfl) (Nat.le_of_ble_eq_true rfl) ?_
  refine law_loop S hX hbl hL hKb hKm ha hb2 hab hpo (fun H locs ls hS => ?_) (L + 1) 0 (Nat.zero_le L) (by omega) H1 locs ls 0 (nI 0) (fun _ => 0) (fun _ => 0) (fun _ => 0) (fun _ => 0) (fun _ => 0) (fun _ => 0) (nI 0) (nI 0) ⟨by decide, fun _ => Or.inl rfl, fun _ => ⟨0, by decide, rfl⟩, fun h => absurd rfl h, hPb, hPm, hS⟩ (lv_sub hl [3, 2, 1, 0] rfl)
  refine lv_iconst (v := 1) hx hb dL_law_316 (by decide) ?_
  refine va_forget (fun q hq => hS.2.2 q hq) ?_
  refine W.widen (k := 600000) (n := 7290000) (Nat.le_of_ble_eq_true rfl) (Nat.le_of_ble_eq_true rfl) ?_
  exact lw_ret hx hb hr hlocks dL_law_317
set_option maxHeartbeats 4000000 in
theorem lw_walk (l : Launch) (b : Addr) (xs : List Int32) : MetFree l x (headSpec (Jvm.Cond.code x code maxLocals ret :: tables_1) room_1) (lw_P b xs) (fun _ _ _ _ _ => True) lw_Q := by
  refine MetFree.of_bodyS (code := code) (maxLocals := maxLocals) (ret := ret) (by decide) ?_ ?_
  · intro args s m h hn
    obtain ⟨meth, c, h1, h2, h3, h4, h5, h6, -, -⟩ := Cond.code_spec hn (atoms_spec (ws := Jvm.Cond.code x code maxLocals ret :: tables_1) h _ List.mem_cons_self)
    exact ⟨meth, c, h1, h2, h3, h4, h5, h6⟩
  · intro p e s m args below meth c s₁ B hml0 hP _
    obtain ⟨rfl, hx, hbd, hgv⟩ := hP
    obtain ⟨scr, harrAt, hlist, hof, hsmall⟩ := hx
    obtain ⟨hcb, hkn, -, -⟩ := State.arrayAt?_spec harrAt
    have hown : s.vm.findClass R_law = some m.cls := findClass_of_methodNamed B.named
    have hts0 : ∀ c ∈ (Jvm.Cond.code x code maxLocals ret :: tables_1), c.before #[Value.ref b] s = true := atoms_spec (ws := Jvm.Cond.code x code maxLocals ret :: tables_1) B.pre
    have hts : ∀ w ∈ lw_tbl, w.before #[Value.ref b] s = true := k2_hts_sels lw_privs (fun w hw => hts0 w (List.mem_cons_of_mem _ hw)) lw_privs_ok
    have hml : c.maxLocals = 4 := B.maxLocals_eq (hts0 _ List.mem_cons_self)
    have X₀ : Stand p l e room_1 s m #[Value.ref b] below meth c s₁ [] 0 0 := Stand.of_body B
    have hh0 : s₁.heap = s.heap := by rw [B.state]; rfl
    have hsz : scr.slots.size = xs.length := by rw [← Array.length_toList, hlist, List.length_map]
    have hval : ∀ j : Nat, j < xs.length → scr.slots[j]? = some (.int (xs.getD j 0)) := fun j hj => by
      rw [← Array.getElem?_toList, hlist]
      simp [hj]
    have hbl : b < s.heap.size := (Array.getElem?_eq_some_iff.mp hcb).1
    have hX : va_X b xs.length (fun j => xs.getD j 0) s s.heap := ⟨scr, hcb, hof, hkn, hsz, hval⟩
    have K : W p l e room_1 s m #[Value.ref b] below meth c s₁.heap [] 0 0 (lw_Z below #[Value.ref b] s) (entryFrame m ([Value.ref b] : List Value).toArray 4) := by
      rw [hh0]
      exact whole_start l hbd ⟨B.exec, B.bytes, B.returns, hml, hown, hts, hX, hbl, B.notSynchronized, hgv⟩
    obtain ⟨t, a1, o, b1, b2, b3⟩ := K s₁ rfl X₀
    exact ⟨t, o, a1, b1, b2, b3⟩
theorem lw_pre_spec {args : Array Value} {s : State} (h : (Jvm.Cond.and given_1 narrow_1).before args s = true) (hr : rest_1_c.before args s = true) : ∃ (b : Addr) (xs : List Int32), lw_P b xs args s := by
  have hs := flat_of_before _ h
  have hq := flat_of_before _ hr
  have hc : (Cond.count 1).before args s = true := hs _ (by decide +kernel)
  have harr : (Cond.arrayOf (.arg 0) .int).before args s = true := hs _ (by decide +kernel)
  have hle : (Cond.le (.length (.arg 0)) (.int 192)).before args s = true := hs _ (by decide +kernel)
  have hlen : (Cond.isInt (.length (.arg 0))).before args s = true := hq _ (by decide +kernel)
  have hall : (Cond.all (.arg 0) (.isInt (.elem (.arg 0) (.index 0)))).before args s = true := hq _ (by decide +kernel)
  obtain ⟨b, xs, hb, hx⟩ := State.ints_of_pre rfl harr hlen hall
  have hsm : xs.length < 2 ^ 31 := hx.choose_spec.2.2.2
  have hev : (Term.length (.arg 0)).eval args s none [] s = some (.int xs.length.toInt32) := hx.length_eval hb
  have hv := Cond.le_ints hev (show (Term.int 192).eval args s none [] s = some (.int 192) from rfl)
  have hd : xs.length.toInt32 ≤ 192 := by
    simpa [Cond.before, Cond.holds, hv] using hle
  have hN : xs.length ≤ 192 := (Int32.ofNat_le_ofNat hsm (by decide)).mp (show Int32.ofNat xs.length ≤ Int32.ofNat 192 from hd)
  exact ⟨b, xs, Cond.one_arg hc (show args[0]? = some (.ref b) from hb), hx, hN, h⟩
theorem lw_comes (l : Launch) : Comes l x (Jvm.Cond.code x code maxLocals ret :: tables_1) room_1 (fun tb e args s => Calls_1 tb e args s ∧ rest_1 tb e args s ∧ Pre_1 tb e args s)
    (fun _ _ args s o t => lw_Q args s o t) := by
  intro p e ha hc hk s m args below hf hfit hheap happ hpre
  obtain ⟨b, xs, hP⟩ := lw_pre_spec hpre.2.2 hpre.2.1
  obtain ⟨k, o, h1, h2, h3, hQ⟩ := lw_walk l b xs p e ha hc hk s m args below hf ((Spec.applies_iff_loose hf).mp happ).1 hP trivial
  exact ⟨k, o, h1, h2, h3, hQ⟩
theorem lw_frame {s t : State} {o : Outcome} {args : Array Value} (h : Framed s o t [] 600000 7290000) :
    Framed s o t (fieldLocs frame_1_writes args s ++ arrayLocs frame_1_arrays args s ++ staticLocs frame_1_statics s) 600000 7290000 := h
theorem lw_limb (L : Cond) (hL : ∀ (args : Array Value) (s t : State), L.after args s (.returned (some (.int 1))) t = true) :
    ArmFor flags0 classFile x code maxLocals ret World_1 tables_1 room_1 Calls_1 rest_1 Pre_1
      (fun tb e a s o t => postC L tb e a s o t ∧ Framed s o t (fieldLocs frame_1_writes a s ++ arrayLocs frame_1_arrays a s ++ staticLocs frame_1_statics s) 600000 7290000) := by
  intro l _ _ _ p e ha hc hk s m args below hf hfit hheap happ hpre
  obtain ⟨k, o, h1, h2, h3, rfl, hF⟩ := lw_comes l p e ha hc hk s m args below hf hfit hheap happ hpre
  exact ⟨k, _, h1, h2, h3, hL args s _, lw_frame hF⟩
theorem i_vc : Claimed_1_1 ∧ Claimed_1_2 := ⟨lw_limb limb_1_1 (fun args s t => by simp [limb_1_1, Cond.after, Cond.holds, Cond.value]), lw_limb limb_1_2 (fun args s t => Cond.after_iff.mpr (by
  first | (rw [show limb_1_2 = Cond.eq .result (.int 1) from rfl, Cond.eq_ints (x := 1) (y := 1) rfl rfl]; simp; done) | (simp [limb_1_2, Cond.value, Term.eval]; done)))⟩
end
