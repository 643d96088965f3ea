section
/-! PURE 1: binomials on the integers, sums, paths by steps up in a strip -/
def sp_C : Nat → Int → Int
  | 0, k => if k = 0 then 1 else 0
  | n + 1, k => sp_C n k + sp_C n (k - 1)
theorem sp_C0 (k : Int) : sp_C 0 k = if k = 0 then 1 else 0 := rfl
theorem sp_Cs (n : Nat) (k : Int) : sp_C (n + 1) k = sp_C n k + sp_C n (k - 1) := rfl
theorem sp_C_neg (n : Nat) : ∀ k : Int, k < 0 → sp_C n k = 0 := by
  induction n with
  | zero => intro k h; rw [sp_C0, if_neg (by omega)]
  | succ n ih =>
    intro k h
    have h1 := ih k h
    have h2 := ih (k - 1) (by omega)
    rw [sp_Cs]; omega
theorem sp_C_big (n : Nat) : ∀ k : Int, (n : Int) < k → sp_C n k = 0 := by
  induction n with
  | zero => intro k h; rw [sp_C0, if_neg (by omega)]
  | succ n ih =>
    intro k h
    have h1 := ih k (by omega)
    have h2 := ih (k - 1) (by omega)
    rw [sp_Cs]; omega
theorem sp_C_first (n : Nat) : sp_C n 0 = 1 := by
  induction n with
  | zero => rfl
  | succ n ih =>
    have h2 := sp_C_neg n (0 - 1) (by omega)
    rw [sp_Cs]; omega
theorem sp_C_last (n : Nat) : sp_C n (n : Int) = 1 := by
  induction n with
  | zero => rfl
  | succ n ih =>
    have h1 := sp_C_big n ((n + 1 : Nat) : Int) (by omega)
    have h2 : ((n + 1 : Nat) : Int) - 1 = (n : Int) := by omega
    rw [sp_Cs, h2]; omega
/-- a sum over k whole numbers from s on -/
def sp_S (f : Int → Int) (s : Int) : Nat → Int
  | 0 => 0
  | k + 1 => sp_S f s k + f (s + k)
theorem sp_S0 (f : Int → Int) (s : Int) : sp_S f s 0 = 0 := rfl
theorem sp_Ss (f : Int → Int) (s : Int) (k : Nat) : sp_S f s (k + 1) = sp_S f s k + f (s + k) := rfl
theorem sp_S_congr {f g : Int → Int} {s : Int} (k : Nat) (h : ∀ i : Nat, i < k → f (s + i) = g (s + i)) : sp_S f s k = sp_S g s k := by
  induction k with
  | zero => rfl
  | succ k ih =>
    have h1 := ih (fun i hi => h i (by omega))
    have h2 := h k (by omega)
    rw [sp_Ss, sp_Ss]; omega
theorem sp_S_add (f g : Int → Int) (s : Int) (k : Nat) : sp_S (fun t => f t + g t) s k = sp_S f s k + sp_S g s k := by
  induction k with
  | zero => rfl
  | succ k ih => simp only [sp_Ss, ih]; omega
theorem sp_S_zero {f : Int → Int} {s : Int} (k : Nat) (h : ∀ i : Nat, i < k → f (s + i) = 0) : sp_S f s k = 0 := by
  induction k with
  | zero => rfl
  | succ k ih =>
    have h1 := ih (fun i hi => h i (by omega))
    have h2 := h k (by omega)
    rw [sp_Ss]; omega
theorem sp_S_tel (h : Int → Int) (s : Int) (k : Nat) : sp_S (fun t => h t - h (t - 1)) s k = h (s + k - 1) - h (s - 1) := by
  induction k with
  | zero =>
    rw [sp_S0, show s + ((0 : Nat) : Int) - 1 = s - 1 by omega]; omega
  | succ k ih =>
    simp only [sp_Ss, ih]
    rw [show s + ((k + 1 : Nat) : Int) - 1 = s + k by omega]; omega
theorem sp_S_one (s0 : Nat) (k : Nat) : sp_S (fun t => if t = 0 then 1 else 0) (-(s0 : Int)) k = if k ≤ s0 then 0 else 1 := by
  induction k with
  | zero => rw [sp_S0, if_pos (by omega)]
  | succ k ih =>
    simp only [sp_Ss, ih]
    (repeat' split) <;> omega
/-- what comes to j out of the first v places: a step up out of j - 1, a step down out of j -/
def sp_N (ru rd : Nat → Nat) (v j : Nat) : Nat := (if 1 ≤ j ∧ j - 1 < v then ru (j - 1) else 0) + (if j < v then rd j else 0)
def sp_M (ru rd : Nat → Nat) (v j : Nat) : Nat := sp_N ru rd v j + (if j = v + 1 then ru v else 0)
theorem sp_N_0 (ru rd : Nat → Nat) (j : Nat) : sp_N ru rd 0 j = 0 := by
  unfold sp_N
  (repeat' split) <;> omega
theorem sp_M_e (ru rd : Nat → Nat) (v j : Nat) : sp_M ru rd v j = sp_N ru rd v j + (if j = v + 1 then ru v else 0) := rfl
theorem sp_N_s (ru rd : Nat → Nat) (v j : Nat) : sp_N ru rd (v + 1) j = sp_M ru rd v j + (if j = v then rd v else 0) := by
  unfold sp_M sp_N
  by_cases h1 : j = v + 1
  · subst h1
    rw [show v + 1 - 1 = v by omega]
    (repeat' split) <;> omega
  · by_cases h2 : j = v
    · subst h2
      (repeat' split) <;> omega
    · (repeat' split) <;> omega
def sp_ru (a : Nat) (hi : Int) (t : Nat) (r : Nat → Nat) (v : Nat) : Nat := if v < a ∧ 2 * (v : Int) + 1 - t < hi then r v else 0
def sp_rd (b : Nat) (lo : Int) (t : Nat) (r : Nat → Nat) (v : Nat) : Nat := if (t : Int) - v < b ∧ lo < 2 * (v : Int) - t - 1 then r v else 0
/-- paths of t steps, j of them up, in the box of a up and b down, between the lines lo and hi -/
def sp_R (a b : Nat) (lo hi : Int) : Nat → (Nat → Nat)
  | 0 => fun j => if j = 0 then 1 else 0
  | t + 1 => fun j => sp_N (sp_ru a hi t (sp_R a b lo hi t)) (sp_rd b lo t (sp_R a b lo hi t)) (min a t + 1) j
theorem sp_R0 (a b : Nat) (lo hi : Int) (j : Nat) : sp_R a b lo hi 0 j = if j = 0 then 1 else 0 := rfl
theorem sp_Rs (a b : Nat) (lo hi : Int) (t j : Nat) : sp_R a b lo hi (t + 1) j = sp_N (sp_ru a hi t (sp_R a b lo hi t)) (sp_rd b lo t (sp_R a b lo hi t)) (min a t + 1) j := rfl
theorem sp_ru_le (a : Nat) (hi : Int) (t : Nat) (r : Nat → Nat) (v : Nat) : sp_ru a hi t r v ≤ r v := by
  unfold sp_ru
  split <;> omega
theorem sp_rd_le (b : Nat) (lo : Int) (t : Nat) (r : Nat → Nat) (v : Nat) : sp_rd b lo t r v ≤ r v := by
  unfold sp_rd
  split <;> omega
theorem sp_R_le (a b : Nat) (lo hi : Int) (t : Nat) : ∀ j : Nat, sp_R a b lo hi t j ≤ 2 ^ t := by
  induction t with
  | zero => intro j; rw [sp_R0]; split <;> omega
  | succ t ih =>
    intro j
    rw [sp_Rs, Nat.pow_succ]
    unfold sp_N
    have h1 := Nat.le_trans (sp_ru_le a hi t (sp_R a b lo hi t) (j - 1)) (ih (j - 1))
    have h2 := Nat.le_trans (sp_rd_le b lo t (sp_R a b lo hi t) j) (ih j)
    (repeat' split) <;> omega
theorem sp_R_lt {a b : Nat} {lo hi : Int} {t : Nat} (ht : t ≤ 30) (j : Nat) : sp_R a b lo hi t j < 2 ^ 63 := by
  have h1 := sp_R_le a b lo hi t j
  have h2 : 2 ^ t ≤ 2 ^ 30 := Nat.pow_le_pow_right (by decide) ht
  have h3 : (2 : Nat) ^ 30 < 2 ^ 63 := by decide
  omega
theorem sp_out {G : Nat → Int → Int} {lo hi : Int} {N : Nat} (hG : ∀ (n : Nat) (u : Int), n < N → G (n + 1) u = G n (u - 1) + G n u) (hlo : ∀ (n : Nat) (u : Int), n ≤ N → 2 * u - n = lo → G n u = 0) (hhi : ∀ (n : Nat) (u : Int), n ≤ N → 2 * u - n = hi → G n u = 0) (h0 : ∀ u : Int, lo < 2 * u → 2 * u < hi → G 0 u = if u = 0 then 1 else 0) : ∀ t : Nat, t ≤ N → ∀ u : Int, lo ≤ 2 * u - t → 2 * u - t ≤ hi → (u < 0 ∨ (t : Int) < u) → G t u = 0 := by
  intro t
  induction t with
  | zero =>
    intro ht u h1 h2 h3
    by_cases e1 : 2 * u - ((0 : Nat) : Int) = lo
    · exact hlo 0 u ht e1
    · by_cases e2 : 2 * u - ((0 : Nat) : Int) = hi
      · exact hhi 0 u ht e2
      · rw [h0 u (by omega) (by omega), if_neg (by omega)]
  | succ t ih =>
    intro ht u h1 h2 h3
    by_cases e1 : 2 * u - ((t + 1 : Nat) : Int) = lo
    · exact hlo (t + 1) u ht e1
    · by_cases e2 : 2 * u - ((t + 1 : Nat) : Int) = hi
      · exact hhi (t + 1) u ht e2
      · have a1 := ih (by omega) (u - 1) (by omega) (by omega) (by omega)
        have a2 := ih (by omega) u (by omega) (by omega) (by omega)
        rw [hG t u (by omega)]; omega
theorem sp_main {G : Nat → Int → Int} {lo hi : Int} {a b : Nat} (hG : ∀ (n : Nat) (u : Int), n < a + b → G (n + 1) u = G n (u - 1) + G n u) (hlo : ∀ (n : Nat) (u : Int), n ≤ a + b → 2 * u - n = lo → G n u = 0) (hhi : ∀ (n : Nat) (u : Int), n ≤ a + b → 2 * u - n = hi → G n u = 0) (h0 : ∀ u : Int, lo < 2 * u → 2 * u < hi → G 0 u = if u = 0 then 1 else 0) (hl : lo < 0) (hh : 0 < hi) : ∀ t : Nat, t ≤ a + b → ∀ j : Nat, j ≤ a → t ≤ b + j → ((lo < 2 * (j : Int) - t ∧ 2 * (j : Int) - t < hi) → (sp_R a b lo hi t j : Int) = G t j) ∧ (¬ (lo < 2 * (j : Int) - t ∧ 2 * (j : Int) - t < hi) → sp_R a b lo hi t j = 0) := by
  have hout := sp_out hG hlo hhi h0
  intro t
  induction t with
  | zero =>
    intro ht j hj hbj
    refine ⟨fun h => ?_, fun h => ?_⟩
    · rw [h0 j (by omega) (by omega), sp_R0]
      by_cases e : j = 0
      · subst e; rfl
      · rw [if_neg e, if_neg (by omega)] <;> rfl
    · rw [sp_R0, if_neg (by omega)]
  | succ t ih =>
    intro ht j hj hbj
    have hstep : sp_R a b lo hi (t + 1) j = (if 1 ≤ j ∧ j - 1 < min a t + 1 then sp_ru a hi t (sp_R a b lo hi t) (j - 1) else 0) + (if j < min a t + 1 then sp_rd b lo t (sp_R a b lo hi t) j else 0) := rfl
    refine ⟨fun h => ?_, fun h => ?_⟩
    · have hU : (((if 1 ≤ j ∧ j - 1 < min a t + 1 then sp_ru a hi t (sp_R a b lo hi t) (j - 1) else 0 : Nat)) : Int) = G t ((j : Int) - 1) := by
        by_cases e : 1 ≤ j ∧ j - 1 ≤ t
        · have ec : ((j - 1 : Nat) : Int) = (j : Int) - 1 := by omega
          obtain ⟨k1, k2⟩ := ih (by omega) (j - 1) (by omega) (by omega)
          rw [if_pos (by omega)]
          unfold sp_ru
          rw [if_pos (by omega)]
          by_cases hi1 : lo < 2 * ((j - 1 : Nat) : Int) - t ∧ 2 * ((j - 1 : Nat) : Int) - t < hi
          · rw [k1 hi1, ec]
          · rw [k2 hi1, ← ec, hlo t ((j - 1 : Nat) : Int) (by omega) (by omega)] <;> rfl
        · rw [if_neg (by omega), hout t (by omega) ((j : Int) - 1) (by omega) (by omega) (by omega)] <;> rfl
      have hD : (((if j < min a t + 1 then sp_rd b lo t (sp_R a b lo hi t) j else 0 : Nat)) : Int) = G t (j : Int) := by
        by_cases e : j ≤ t
        · obtain ⟨k1, k2⟩ := ih (by omega) j hj (by omega)
          rw [if_pos (by omega)]
          unfold sp_rd
          rw [if_pos (by omega)]
          by_cases hi1 : lo < 2 * (j : Int) - t ∧ 2 * (j : Int) - t < hi
          · rw [k1 hi1]
          · rw [k2 hi1, hhi t (j : Int) (by omega) (by omega)] <;> rfl
        · rw [if_neg (by omega), hout t (by omega) (j : Int) (by omega) (by omega) (by omega)] <;> rfl
      rw [hstep, Int.natCast_add, hU, hD, hG t j (by omega)]
    · have hU0 : (if 1 ≤ j ∧ j - 1 < min a t + 1 then sp_ru a hi t (sp_R a b lo hi t) (j - 1) else 0) = 0 := by
        by_cases e : 1 ≤ j ∧ j - 1 < min a t + 1
        · rw [if_pos e]
          unfold sp_ru
          by_cases e2 : (j - 1) < a ∧ 2 * ((j - 1 : Nat) : Int) + 1 - t < hi
          · rw [if_pos e2]
            exact (ih (by omega) (j - 1) (by omega) (by omega)).2 (by omega)
          · rw [if_neg e2]
        · rw [if_neg e]
      have hD0 : (if j < min a t + 1 then sp_rd b lo t (sp_R a b lo hi t) j else 0) = 0 := by
        by_cases e : j < min a t + 1
        · rw [if_pos e]
          unfold sp_rd
          by_cases e2 : (t : Int) - j < b ∧ lo < 2 * (j : Int) - t - 1
          · rw [if_pos e2]
            exact (ih (by omega) j hj (by omega)).2 (by omega)
          · rw [if_neg e2]
        · rw [if_neg e]
      rw [hstep, hU0, hD0]
/-- all paths -/
theorem sp_all {a b : Nat} (ha : a ≤ 15) (hb : b ≤ 15) : (sp_R a b (-100) 100 (a + b) a : Int) = sp_C (a + b) a := by
  refine (sp_main (G := sp_C) (fun n u _ => ?_) (fun n u hn h => ?_) (fun n u hn h => ?_) (fun u _ _ => sp_C0 u) (by decide) (by decide) (a + b) (Nat.le_refl _) a (Nat.le_refl _) (by omega)).1 ⟨by omega, by omega⟩
  · rw [sp_Cs]; omega
  · exact sp_C_neg n u (by omega)
  · exact sp_C_big n u (by omega)
/-- paths that stay above the line lo -/
theorem sp_above {a b : Nat} {lo : Int} (ha : a ≤ 15) (hb : b ≤ 15) (hl : lo < 0) (hl2 : -20 < lo) : (lo < (a : Int) - b → (sp_R a b lo 100 (a + b) a : Int) = sp_C (a + b) a - sp_C (a + b) (b + lo)) ∧ (¬ lo < (a : Int) - b → sp_R a b lo 100 (a + b) a = 0) := by
  have K := sp_main (a := a) (b := b) (lo := lo) (hi := 100) (G := fun n u => sp_C n u - sp_C n ((n : Int) - u + lo)) (fun n u _ => by
      show sp_C (n + 1) u - sp_C (n + 1) (((n + 1 : Nat) : Int) - u + lo) = (sp_C n (u - 1) - sp_C n ((n : Int) - (u - 1) + lo)) + (sp_C n u - sp_C n ((n : Int) - u + lo))
      rw [sp_Cs, sp_Cs, show ((n + 1 : Nat) : Int) - u + lo = (n : Int) - (u - 1) + lo by omega, show (n : Int) - (u - 1) + lo - 1 = (n : Int) - u + lo by omega]
      omega) (fun n u hn h => by
      show sp_C n u - sp_C n ((n : Int) - u + lo) = 0
      rw [show (n : Int) - u + lo = u by omega]; omega) (fun n u hn h => by
      have h1 := sp_C_big n u (by omega)
      have h2 := sp_C_neg n ((n : Int) - u + lo) (by omega)
      show sp_C n u - sp_C n ((n : Int) - u + lo) = 0
      omega) (fun u h1 h2 => by
      have h3 : sp_C 0 (((0 : Nat) : Int) - u + lo) = 0 := by rw [sp_C0, if_neg (by omega)]
      show sp_C 0 u - sp_C 0 (((0 : Nat) : Int) - u + lo) = _
      rw [h3, sp_C0]; omega) hl (by decide) (a + b) (Nat.le_refl _) a (Nat.le_refl _) (by omega)
  obtain ⟨k1, k2⟩ := K
  refine ⟨fun h => ?_, fun h => ?_⟩
  · rw [k1 ⟨by omega, by omega⟩]
    show sp_C (a + b) a - sp_C (a + b) (((a + b : Nat) : Int) - a + lo) = _
    rw [show ((a + b : Nat) : Int) - a + lo = b + lo by omega]
  · exact k2 (by omega)
theorem sp_mul1 {t w : Int} (hw : 0 < w) (h : 1 ≤ t) : w ≤ t * w := by
  have := Int.mul_le_mul_of_nonneg_right h (Int.le_of_lt hw)
  omega
theorem sp_mulm {t w : Int} (hw : 0 < w) (h : t ≤ -1) : t * w ≤ -w := by
  have := Int.mul_le_mul_of_nonneg_right h (Int.le_of_lt hw)
  omega
theorem sp_mul0 {t w : Int} (hw : 0 < w) : (t ≤ -1 ∧ t * w ≤ -w) ∨ (t = 0 ∧ t * w = 0) ∨ (1 ≤ t ∧ w ≤ t * w) := by
  rcases Int.lt_trichotomy t 0 with h | h | h
  · exact Or.inl ⟨by omega, sp_mulm hw (by omega)⟩
  · exact Or.inr (Or.inl ⟨h, by rw [h, Int.zero_mul]⟩)
  · exact Or.inr (Or.inr ⟨by omega, sp_mul1 hw (by omega)⟩)
/-- the paths between two lines, turned over again and again -/
def sp_B (lo w : Int) (T n : Nat) (u : Int) : Int := sp_S (fun t => sp_C n (u + t * w) - sp_C n ((n : Int) - u + lo + t * w)) (-(T : Int)) (2 * T + 1)
theorem sp_B_step (lo w : Int) (T n : Nat) (u : Int) : sp_B lo w T (n + 1) u = sp_B lo w T n (u - 1) + sp_B lo w T n u := by
  unfold sp_B
  rw [← sp_S_add]
  refine sp_S_congr _ (fun i _ => ?_)
  show sp_C (n + 1) (u + (-(T : Int) + i) * w) - sp_C (n + 1) (((n + 1 : Nat) : Int) - u + lo + (-(T : Int) + i) * w) = (sp_C n (u - 1 + (-(T : Int) + i) * w) - sp_C n ((n : Int) - (u - 1) + lo + (-(T : Int) + i) * w)) + (sp_C n (u + (-(T : Int) + i) * w) - sp_C n ((n : Int) - u + lo + (-(T : Int) + i) * w))
  generalize (-(T : Int) + i) * w = X
  rw [sp_Cs, sp_Cs, show u + X - 1 = u - 1 + X by omega, show ((n + 1 : Nat) : Int) - u + lo + X = (n : Int) - (u - 1) + lo + X by omega, show (n : Int) - (u - 1) + lo + X - 1 = (n : Int) - u + lo + X by omega]
  omega
theorem sp_B_lo {lo w : Int} {T n : Nat} {u : Int} (h : 2 * u - n = lo) : sp_B lo w T n u = 0 := by
  refine sp_S_zero _ (fun i _ => ?_)
  show sp_C n (u + (-(T : Int) + i) * w) - sp_C n ((n : Int) - u + lo + (-(T : Int) + i) * w) = 0
  rw [show (n : Int) - u + lo = u by omega]; omega
theorem sp_B_hi {lo hi w : Int} {T n N : Nat} {u : Int} (hw : w = hi - lo) (hl : lo < 0) (hh : 0 < hi) (hn : n ≤ N) (hT : (N : Int) < 2 * ((T : Int) * w)) (h : 2 * u - n = hi) : sp_B lo w T n u = 0 := by
  have e1 : sp_B lo w T n u = sp_S (fun t => (fun t => sp_C n (u + t * w)) t - (fun t => sp_C n (u + t * w)) (t - 1)) (-(T : Int)) (2 * T + 1) := by
    refine sp_S_congr _ (fun i _ => ?_)
    show sp_C n (u + (-(T : Int) + i) * w) - sp_C n ((n : Int) - u + lo + (-(T : Int) + i) * w) = sp_C n (u + (-(T : Int) + i) * w) - sp_C n (u + (-(T : Int) + i - 1) * w)
    rw [Int.sub_mul, Int.one_mul, show (n : Int) - u + lo + (-(T : Int) + i) * w = u + ((-(T : Int) + i) * w - w) by omega]
  rw [e1, sp_S_tel]
  show sp_C n (u + (-(T : Int) + ((2 * T + 1 : Nat) : Int) - 1) * w) - sp_C n (u + (-(T : Int) - 1) * w) = 0
  rw [show -(T : Int) + ((2 * T + 1 : Nat) : Int) - 1 = T by omega, Int.sub_mul, Int.neg_mul, Int.one_mul]
  have h1 := sp_C_big n (u + (T : Int) * w) (by omega)
  have h2 := sp_C_neg n (u + (-((T : Int) * w) - w)) (by omega)
  omega
theorem sp_B_0 {lo hi w : Int} {T : Nat} {u : Int} (hw : w = hi - lo) (hl : lo < 0) (hh : 0 < hi) (h1 : lo < 2 * u) (h2 : 2 * u < hi) : sp_B lo w T 0 u = if u = 0 then 1 else 0 := by
  by_cases e : u = 0
  · subst e
    have e1 : sp_B lo w T 0 0 = sp_S (fun t => if t = 0 then 1 else 0) (-(T : Int)) (2 * T + 1) := by
      refine sp_S_congr _ (fun i _ => ?_)
      show sp_C 0 (0 + (-(T : Int) + i) * w) - sp_C 0 (((0 : Nat) : Int) - 0 + lo + (-(T : Int) + i) * w) = if -(T : Int) + i = 0 then 1 else 0
      have hm := sp_mul0 (t := -(T : Int) + i) (w := w) (by omega)
      generalize (-(T : Int) + i) * w = X at hm ⊢
      generalize -(T : Int) + i = Y at hm ⊢
      rw [sp_C0, sp_C0]
      (repeat' split) <;> omega
    rw [e1, sp_S_one, if_neg (by omega)] <;> rfl
  · rw [if_neg e]
    refine sp_S_zero _ (fun i _ => ?_)
    show sp_C 0 (u + (-(T : Int) + i) * w) - sp_C 0 (((0 : Nat) : Int) - u + lo + (-(T : Int) + i) * w) = 0
    have hm := sp_mul0 (t := -(T : Int) + i) (w := w) (by omega)
    generalize (-(T : Int) + i) * w = X at hm ⊢
    rw [sp_C0, sp_C0]
    (repeat' split) <;> omega
theorem sp_between {a b T : Nat} {lo hi w : Int} (hw : w = hi - lo) (hl : lo < 0) (hh : 0 < hi) (hT : ((a + b : Nat) : Int) < 2 * ((T : Int) * w)) : ((lo < (a : Int) - b ∧ (a : Int) - b < hi) → (sp_R a b lo hi (a + b) a : Int) = sp_S (fun t => sp_C (a + b) (a + t * w) - sp_C (a + b) (b + lo + t * w)) (-(T : Int)) (2 * T + 1)) ∧ (¬ (lo < (a : Int) - b ∧ (a : Int) - b < hi) → sp_R a b lo hi (a + b) a = 0) := by
  obtain ⟨k1, k2⟩ := sp_main (a := a) (b := b) (lo := lo) (hi := hi) (G := sp_B lo w T) (fun n u _ => sp_B_step lo w T n u) (fun n u _ h => sp_B_lo h) (fun n u hn h => sp_B_hi hw hl hh hn hT h) (fun u h1 h2 => sp_B_0 hw hl hh h1 h2) hl hh (a + b) (Nat.le_refl _) a (Nat.le_refl _) (by omega)
  refine ⟨fun h => ?_, fun h => k2 (by omega)⟩
  rw [k1 (by omega)]
  refine sp_S_congr _ (fun i _ => ?_)
  show sp_C (a + b) (a + (-(T : Int) + i) * w) - sp_C (a + b) (((a + b : Nat) : Int) - a + lo + (-(T : Int) + i) * w) = sp_C (a + b) (a + (-(T : Int) + i) * w) - sp_C (a + b) (b + lo + (-(T : Int) + i) * w)
  rw [show ((a + b : Nat) : Int) - a + lo = b + lo by omega]
end
section
/-! PURE 2: pairs of paths, and the partial sums of the reference's loops -/
def sp_X (a b t : Nat) (r : Nat → Nat → Nat) (v p q : Nat) : Nat := if p ≤ a ∧ q ≤ a + 1 ∧ t + 1 ≤ b + p ∧ t + 2 ≤ b + q ∧ p < q then (if p < v then r p q + r p (q - 1) else 0) + (if 1 ≤ p ∧ p - 1 < v then r (p - 1) q + r (p - 1) (q - 1) else 0) else 0
def sp_Y (a b t : Nat) (r : Nat → Nat → Nat) (x v p q : Nat) : Nat := if p ≤ a ∧ q ≤ a + 1 ∧ t + 1 ≤ b + p ∧ t + 2 ≤ b + q ∧ p < q then (if p = x ∨ p = x + 1 then (if q < v then r x q else 0) + (if q - 1 < v then r x (q - 1) else 0) else 0) else 0
def sp_Z (a b t : Nat) (r : Nat → Nat → Nat) (x y s p q : Nat) : Nat := if (p ≤ a ∧ q ≤ a + 1 ∧ t + 1 ≤ b + p ∧ t + 2 ≤ b + q ∧ p < q) ∧ ((p = x ∧ q = y ∧ 0 < s) ∨ (p = x + 1 ∧ q = y ∧ 1 < s) ∨ (p = x ∧ q = y + 1 ∧ 2 < s) ∨ (p = x + 1 ∧ q = y + 1 ∧ 3 < s)) then r x y else 0
theorem sp_X_0 (a b t : Nat) (r : Nat → Nat → Nat) (p q : Nat) : sp_X a b t r 0 p q = 0 := by
  unfold sp_X
  (repeat' split) <;> omega
theorem sp_Y_first {a b t : Nat} {r : Nat → Nat → Nat} (hr : ∀ x y, y ≤ x → r x y = 0) (x p q : Nat) : sp_Y a b t r x (x + 1) p q = 0 := by
  unfold sp_Y
  have h1 : q < x + 1 → r x q = 0 := fun h => hr x q (by omega)
  have h2 : q - 1 < x + 1 → r x (q - 1) = 0 := fun h => hr x (q - 1) (by omega)
  (repeat' split) <;> omega
theorem sp_Z_0 (a b t : Nat) (r : Nat → Nat → Nat) (x y p q : Nat) : sp_Z a b t r x y 0 p q = 0 := by
  unfold sp_Z
  rw [if_neg (by omega)]
theorem sp_Z_s {a b t : Nat} {r : Nat → Nat → Nat} {x y s : Nat} (hs : s < 4) (p q : Nat) : sp_Z a b t r x y (s + 1) p q = sp_Z a b t r x y s p q + (if p = x + s % 2 ∧ q = y + s / 2 then (if x + s % 2 ≤ a ∧ y + s / 2 ≤ a + 1 ∧ t + 1 ≤ b + (x + s % 2) ∧ t + 2 ≤ b + (y + s / 2) ∧ x + s % 2 < y + s / 2 then r x y else 0) else 0) := by
  unfold sp_Z
  rcases (show s = 0 ∨ s = 1 ∨ s = 2 ∨ s = 3 by omega) with h | h | h | h <;> subst h <;> (repeat' split) <;> omega
theorem sp_Y_s (a b t : Nat) (r : Nat → Nat → Nat) (x y p q : Nat) : sp_Y a b t r x y p q + sp_Z a b t r x y 4 p q = sp_Y a b t r x (y + 1) p q := by
  unfold sp_Y sp_Z
  by_cases h1 : q = y
  · subst h1
    (repeat' split) <;> omega
  · by_cases h2 : q = y + 1
    · subst h2
      rw [show y + 1 - 1 = y by omega]
      (repeat' split) <;> omega
    · (repeat' split) <;> omega
theorem sp_X_s (a b t : Nat) (r : Nat → Nat → Nat) (v p q : Nat) : sp_X a b t r v p q + sp_Y a b t r v (a + 2) p q = sp_X a b t r (v + 1) p q := by
  unfold sp_X sp_Y
  by_cases h1 : p = v
  · subst h1
    (repeat' split) <;> omega
  · by_cases h2 : p = v + 1
    · subst h2
      rw [show v + 1 - 1 = v by omega]
      (repeat' split) <;> omega
    · (repeat' split) <;> omega
/-- pairs of paths of t steps, the upper one x and the lower one y to the right, that have never met -/
def sp_T (a b : Nat) : Nat → (Nat → Nat → Nat)
  | 0 => fun x y => if x = 0 ∧ y = 1 then 1 else 0
  | t + 1 => fun p q => sp_X a b t (sp_T a b t) (a + 1) p q
theorem sp_T0 (a b x y : Nat) : sp_T a b 0 x y = if x = 0 ∧ y = 1 then 1 else 0 := rfl
theorem sp_Ts (a b t p q : Nat) : sp_T a b (t + 1) p q = sp_X a b t (sp_T a b t) (a + 1) p q := rfl
theorem sp_T_low (a b t : Nat) : ∀ x y : Nat, y ≤ x → sp_T a b t x y = 0 := by
  cases t with
  | zero => intro x y h; rw [sp_T0, if_neg (by omega)]
  | succ t => intro x y h; rw [sp_Ts]; unfold sp_X; rw [if_neg (by omega)]
theorem sp_T_le (a b t : Nat) : ∀ x y : Nat, sp_T a b t x y ≤ 4 ^ t := by
  induction t with
  | zero => intro x y; rw [sp_T0]; split <;> omega
  | succ t ih =>
    intro p q
    rw [sp_Ts, Nat.pow_succ]
    unfold sp_X
    have h1 := ih p q
    have h2 := ih p (q - 1)
    have h3 := ih (p - 1) q
    have h4 := ih (p - 1) (q - 1)
    (repeat' split) <;> omega
theorem sp_T_lt {a b t : Nat} (ht : t ≤ 30) (x y : Nat) : sp_T a b t x y < 2 ^ 63 := by
  have h1 := sp_T_le a b t x y
  have h2 : 4 ^ t ≤ 4 ^ 30 := Nat.pow_le_pow_right (by decide) ht
  have h3 : (4 : Nat) ^ 30 < 2 ^ 63 := by decide
  omega
theorem sp_K_step (A B C D E G H : Int) : (A + B) * (C + D) - (E + C) * (G + H) = (A * C - E * G) + (A * D - C * G) + ((B * C - E * H) + (B * D - C * H)) := by
  simp only [Int.add_mul, Int.mul_add]
  omega
theorem sp_TK (a b : Nat) : ∀ t : Nat, ∀ x y : Nat, x ≤ y → x ≤ a → y ≤ a + 1 → t ≤ b + x → t + 1 ≤ b + y → (sp_T a b t x y : Int) = sp_C t x * sp_C t ((y : Int) - 1) - sp_C t y * sp_C t ((x : Int) - 1) := by
  intro t
  induction t with
  | zero =>
    intro x y h1 h2 h3 h4 h5
    rw [sp_T0]
    simp only [sp_C0]
    (repeat' split) <;> omega
  | succ t ih =>
    intro p q h1 h2 h3 h4 h5
    by_cases e : p = q
    · subst e
      rw [sp_T_low a b (t + 1) p p (Nat.le_refl _), Int.mul_comm (sp_C (t + 1) p)]
      omega
    · have eq1 : ((q - 1 : Nat) : Int) = (q : Int) - 1 := by omega
      have i1 := ih p q h1 h2 h3 (by omega) (by omega)
      have i2 := ih p (q - 1) (by omega) h2 (by omega) (by omega) (by omega)
      rw [eq1] at i2
      rw [sp_Ts]
      unfold sp_X
      rw [if_pos (by omega), if_pos (by omega)]
      rw [sp_Cs, sp_Cs, sp_Cs, sp_Cs, sp_K_step, ← i1, ← i2]
      by_cases e0 : p = 0
      · subst e0
        rw [if_neg (by omega), sp_C_neg t (((0 : Nat) : Int) - 1) (by omega), sp_C_neg t (((0 : Nat) : Int) - 1 - 1) (by omega)]
        simp only [Int.zero_mul, Int.mul_zero]
        omega
      · have ep1 : ((p - 1 : Nat) : Int) = (p : Int) - 1 := by omega
        have i3 := ih (p - 1) q (by omega) (by omega) h3 (by omega) (by omega)
        have i4 := ih (p - 1) (q - 1) (by omega) (by omega) (by omega) (by omega) (by omega)
        rw [ep1] at i3 i4
        rw [eq1] at i4
        rw [if_pos (by omega), ← i3, ← i4]
        omega
theorem sp_apart (a b : Nat) : (sp_T a b (a + b) a (a + 1) : Int) = sp_C (a + b) a * sp_C (a + b) a - sp_C (a + b) ((a : Int) + 1) * sp_C (a + b) ((a : Int) - 1) := by
  rw [sp_TK a b (a + b) a (a + 1) (by omega) (by omega) (by omega) (by omega) (by omega)]
  rw [show ((a + 1 : Nat) : Int) - 1 = (a : Int) by omega, show ((a + 1 : Nat) : Int) = (a : Int) + 1 by omega]
/-! arrays of the reference, place by place -/
theorem sp_bump {L : Nat} {nx : Nat → Int64} {g g' : Nat → Nat} {k r : Nat} (h : ∀ j, j < L → nx j = lN (g j)) (hg : ∀ j, g' j = g j + if j = k then r else 0) : ∀ j, j < L → vp_updL nx k (lN (g k + r)) j = lN (g' j) := by
  intro j hj
  rw [hg j]
  by_cases e : j = k
  · subst e
    rw [pk_uLs, if_pos rfl]
  · rw [pk_uLn e, if_neg e, h j hj, Nat.add_zero]
theorem sp_keep {L : Nat} {nx : Nat → Int64} {g g' : Nat → Nat} {k r : Nat} (h : ∀ j, j < L → nx j = lN (g j)) (hg : ∀ j, g' j = g j + if j = k then r else 0) (hr : r = 0) : ∀ j, j < L → nx j = lN (g' j) := by
  intro j hj
  rw [hg j, h j hj, hr]
  split <;> rfl
theorem sp_fill {nx : Nat → Int64} {v : Nat} {x : Int64} {f : Nat → Int64} (h : ∀ j, j < v → nx j = f j) (hx : x = f v) : ∀ j, j < v + 1 → vp_updL nx v x j = f j := by
  intro j hj
  by_cases e : j = v
  · subst e
    rw [pk_uLs, hx]
  · rw [pk_uLn e]
    exact h j (by omega)
theorem sp_bump2 {th : Nat → Int64} {g g' : Nat → Nat → Nat} {p0 q0 r : Nat} (hq0 : q0 < 32) (h : ∀ p q, p < 32 → q < 32 → th (32 * p + q) = lN (g p q)) (hg : ∀ p q, g' p q = g p q + if p = p0 ∧ q = q0 then r else 0) : ∀ p q, p < 32 → q < 32 → vp_updL th (32 * p0 + q0) (lN (g p0 q0 + r)) (32 * p + q) = lN (g' p q) := by
  intro p q hp hq
  rw [hg p q]
  by_cases e : p = p0 ∧ q = q0
  · obtain ⟨e1, e2⟩ := e
    subst e1; subst e2
    rw [pk_uLs, if_pos ⟨rfl, rfl⟩]
  · rw [pk_uLn (by omega), if_neg e, h p q hp hq, Nat.add_zero]
theorem sp_keep2 {th : Nat → Int64} {g g' : Nat → Nat → Nat} {p0 q0 r : Nat} (h : ∀ p q, p < 32 → q < 32 → th (32 * p + q) = lN (g p q)) (hg : ∀ p q, g' p q = g p q + if p = p0 ∧ q = q0 then r else 0) (hr : r = 0) : ∀ p q, p < 32 → q < 32 → th (32 * p + q) = lN (g' p q) := by
  intro p q hp hq
  rw [hg p q, h p q hp hq, hr]
  split <;> rfl
end
section
/-! NUMBERS, and rows of the kit with the places already turned into numbers -/
def sp_i (z : Int) : Int32 := Int32.ofInt z
def sp_l (z : Int) : Int64 := Int64.ofInt z
theorem sp_ni (n : Nat) : nI n = sp_i n := (Int32.ofInt_eq_ofNat).symm
theorem sp_nl (n : Nat) : lN n = sp_l n := (Int64.ofInt_eq_ofNat).symm
theorem sp_nie {n : Nat} {z : Int} (h : (n : Int) = z) : sp_i z = nI n := by rw [sp_ni, h]
theorem sp_nle {n : Nat} {z : Int} (h : (n : Int) = z) : lN n = sp_l z := by rw [sp_nl, h]
theorem sp_iadd (x y : Int) : sp_i x + sp_i y = sp_i (x + y) := (Int32.ofInt_add x y).symm
theorem sp_isub (x y : Int) : sp_i x - sp_i y = sp_i (x - y) := (Int32.ofInt_sub x y).symm
theorem sp_imul (x y : Int) : sp_i x * sp_i y = sp_i (x * y) := (Int32.ofInt_mul x y).symm
theorem sp_ineg (x : Int) : - sp_i x = sp_i (-x) := (Int32.ofInt_neg x).symm
theorem sp_ladd (x y : Int) : sp_l x + sp_l y = sp_l (x + y) := (Int64.ofInt_add x y).symm
theorem sp_lsub (x y : Int) : sp_l x - sp_l y = sp_l (x - y) := (Int64.ofInt_sub x y).symm
theorem sp_lmul (x y : Int) : sp_l x * sp_l y = sp_l (x * y) := (Int64.ofInt_mul x y).symm
theorem sp_iT {z : Int} (h1 : -1000000 ≤ z) (h2 : z ≤ 1000000) : (sp_i z).toInt = z := Int32.toInt_ofInt_of_le (by omega) (by omega)
theorem sp_ile {x y : Int} (h1 : -1000000 ≤ x) (h2 : x ≤ 1000000) (h3 : -1000000 ≤ y) (h4 : y ≤ 1000000) : sp_i x ≤ sp_i y ↔ x ≤ y := by
  rw [Int32.le_iff_toInt_le, sp_iT h1 h2, sp_iT h3 h4]
theorem sp_ilt {x y : Int} (h1 : -1000000 ≤ x) (h2 : x ≤ 1000000) (h3 : -1000000 ≤ y) (h4 : y ≤ 1000000) : sp_i x < sp_i y ↔ x < y := by
  rw [Int32.lt_iff_toInt_lt, sp_iT h1 h2, sp_iT h3 h4]
theorem sp_half {k : Int} (h1 : -100000 ≤ k) (h2 : k ≤ 100000) : sp_i (2 * k) / nI 2 = sp_i k := by
  apply Int32.toInt_inj.mp
  rw [Int32.toInt_div_of_ne_right _ _ (by decide), sp_iT (by omega) (by omega), sp_iT (by omega) (by omega), nI_toInt (by decide)]
  exact Int.mul_tdiv_cancel_left k (by decide)
theorem sp_even (k : Int) : sp_i (2 * k) &&& nI 1 = nI 0 := by
  rw [pk_and (sp_i (2 * k)) (m := nI 1) 1 (by decide)]
  congr 1
  unfold sp_i
  rw [Int32.toBitVec_ofInt, BitVec.toNat_ofInt]
  omega
theorem sp_cmp0 {r : Nat} (h : r < 2 ^ 63) : lg_cmp (lN r) (lN 0) ≤ 0 ↔ r = 0 := by
  by_cases e : r = 0
  · subst e
    simp [lg_cmp]
  · have h1 : lN 0 < lN r := (pk_lLT (by decide) h).mpr (by omega)
    simp only [lg_cmp, h1, if_true, e, iff_false]
    decide
theorem sp_cmpE (x : Int64) : lg_cmp x x = 0 := by simp [lg_cmp]
section
variable {p : Program} {l : Launch} {e : Env} {R : Room} {s : State} {m : MethodId} {args : Array Value} {below : List Frame} {meth : Method} {c : Code} {H : Heap} {locs : List Loc} {cells slots : Nat} {Q : State → Prop}
variable {cc : ByteArray} {pc : Nat} {ls : Array Slot} {rest : List Value} {D : va_G} {cl : List vw_C} {A : Nat → Prop} {a : Nat} {tys : List (ClassId × FieldType)} {ws : va_W} {H0 : Heap}
theorem sp_topi {x y : Int32} (h : x = y) (k : W p l e R s m args below meth c H locs cells slots Q (F0 m pc ls (.int y :: rest))) : W p l e R s m args below meth c H locs cells slots Q (F0 m pc ls (.int x :: rest)) := by rw [h]; exact k
theorem sp_topl {x y : Int64} (h : x = y) (k : W p l e R s m args below meth c H locs cells slots Q (F0 m pc ls (.long y :: rest))) : W p l e R s m args below meth c H locs cells slots Q (F0 m pc ls (.long x :: rest)) := by rw [h]; exact k
theorem sp_lald (hexec : p.tables.exec = Jvm.exec) (hb : c.code = cc) (hK : va_K D cl tys s) (hP : va_P D cl ws H) (q0 t0 : Nat) {cA : ClassId} {n : Nat} {f : Nat → Int64} (ha : ws[q0]? = some (a, .inl (cA, n, .inr (.inl f)))) (ht : tys[t0]? = some (cA, .long)) {i : Nat} {y : Int64} (hi : i < n) (hn : n ≤ 1024) (hy : f i = y) (hdg : decode cc pc = .ok (.laload, 1))
    (kk : W p l e R s m args below meth c H locs cells slots Q (F0 m (pc + 1) ls (.long y :: rest))) : W p l e R s m args below meth c H locs cells slots Q (F0 m pc ls (.int (nI i) :: .ref a :: rest)) := by
  refine va_lald hexec hb hK hP q0 t0 ha ht (vp_in_nI hi (by omega)) hdg ?_
  rw [nI_clamp (by omega), hy]
  exact kk
theorem sp_last (hexec : p.tables.exec = Jvm.exec) (hb : c.code = cc) (hK : va_K D cl tys s) (hP : va_P D cl ws H) (hD : va_D A ws) (hS : va_S A H0 H locs) (q0 t0 : Nat) {cA : ClassId} {n : Nat} {f : Nat → Int64} (ha : ws[q0]? = some (a, .inl (cA, n, .inr (.inl f)))) (ht : tys[t0]? = some (cA, .long)) {i : Nat} {x : Int64} {ws' : va_W} (hi : i < n) (hn : n ≤ 1024) (hw : ws.set q0 (a, .inl (cA, n, .inr (.inl (vp_updL f i x)))) = ws') (hdg : decode cc pc = .ok (.lastore, 1))
    (kk : ∀ (H1 : Heap) (locs1 : List Loc), va_P D cl ws' H1 → va_D A ws' → va_S A H0 H1 locs1 → W p l e R s m args below meth c H1 locs1 cells slots Q (F0 m (pc + 1) ls rest)) : W p l e R s m args below meth c H locs cells slots Q (F0 m pc ls (.long x :: .int (nI i) :: .ref a :: rest)) := by
  refine va_last hexec hb hK hP hD hS q0 t0 ha ht (vp_in_nI hi (by omega)) hdg (fun H1 locs1 hP1 hD1 hS1 => ?_)
  rw [nI_clamp (by omega), hw] at hP1 hD1
  exact kk H1 locs1 hP1 hD1 hS1
end
end
section
-- ===== PART A: goes FIRST, ahead of the names: the tables' words, and 'selects' of the private methods out of them =====
/-- a private method of a class that the tables say can be made, by its rows of tables_1 -/
def lw_okq (q : MethodName × Nat) : Prop := (q.1.cls ≠ "java/lang/invoke/MethodHandle" ∧ q.1.cls ≠ "java/lang/invoke/VarHandle") ∧ Cond.instantiable q.1.cls q.2 ∈ tables_1 ∧ Cond.privateMethod q.1 ∈ tables_1 ∧ Cond.instanceMethod q.1 ∈ tables_1
set_option maxRecDepth 100000
theorem lw_p0 : lw_okq (⟨"StepPaths", "endingAt", "(I)J"⟩, 3) := ⟨⟨by decide +kernel, by decide +kernel⟩, List.mem_of_getElem? (i := 5) rfl, List.mem_of_getElem? (i := 42) rfl, List.mem_of_getElem? (i := 43) rfl⟩
def lw_privs_1 : List (MethodName × Nat) := [(⟨"StepPaths", "endingAt", "(I)J"⟩, 3)]
theorem lw_r1 : ∀ q ∈ lw_privs_1, lw_okq q := List.forall_mem_cons.mpr ⟨lw_p0, fun _ h => absurd h List.not_mem_nil⟩
def lw_privs : List (MethodName × Nat) := lw_privs_1
def lw_tbl : List Cond := k2_sels lw_privs ++ tables_1
theorem lw_privs_ok : ∀ q ∈ lw_privs, lw_okq q := lw_r1
-- ===== ONE list of words for every method: the tables' words that hold all through a run =====
def lw_all : List Cond := lw_tbl.filter goodWord
/-- a word of the tables by its place: claim/WORDS.tsv -/
theorem lw_w {w : Cond} (i : Nat) (h : lw_tbl[i]? = some w) (g : goodWord w = true) : w ∈ lw_all := List.mem_filter.mpr ⟨List.mem_of_getElem? h, g⟩
theorem lw_all_tbl {w : Cond} (h : w ∈ lw_all) : w ∈ lw_tbl := (List.mem_filter.mp h).1
theorem lw_self : GoodIn lw_all lw_all := fun w h => ⟨h, good_of_word (List.mem_filter.mp h).2⟩
/-- a class's field words, by their places -/
theorem lw_in (ws : List Cond) (ps : List Nat) (hp : ws = ps.filterMap (fun i => lw_tbl[i]?)) (hg : ws.all goodWord = true) : ∀ w ∈ ws, w ∈ lw_all := by
  intro w h
  have h1 := List.all_eq_true.mp hg w h
  rw [hp] at h
  obtain ⟨i, -, hi⟩ := List.mem_filterMap.mp h
  exact lw_w i hi h1
/-- the words of a contract for the method y with code b, L locals, answer r -/
abbrev ws_ (y : MethodName) (b : ByteArray) (L : Nat) (r : Option FieldType) : List Cond := Cond.code y b L r :: lw_all
theorem lw_meth {y : MethodName} {b : ByteArray} {L : Nat} {r : Option FieldType} (h : Cond.code y b L r ∈ lw_all) : GoodIn lw_all (ws_ y b L r) := by
  intro w hw
  rcases List.mem_cons.mp hw with e | e
  · rw [e]
    exact lw_self _ h
  · exact lw_self _ e
theorem lw_app {a c : List Cond} (ha : ∀ w ∈ a, w ∈ lw_all) (hc : GoodIn lw_all c) : GoodIn lw_all (a ++ c) := by
  intro w hw
  rcases List.mem_append.mp hw with e | e
  · exact lw_self w (ha w e)
  · exact hc w e
/-- what a call through an object asks: cwV n hts (lw_V ..) -/
theorem lw_V {own : String} {idx : Nat} {C : String} {y : MethodName} {b : ByteArray} {L : Nat} {r : Option FieldType} (h1 : Cond.methodLink own idx y ∈ lw_all) (h2 : Cond.instanceMethod y ∈ lw_all) (h3 : Cond.selects C y y ∈ lw_all) (h4 : Cond.initialized C ∈ lw_all) (h5 : Cond.code y b L r ∈ lw_all) : GoodIn lw_all (wsV own idx C y (ws_ y b L r)) := by
  refine lw_app ?_ (lw_meth h5)
  intro w hw
  simp only [List.mem_cons, List.not_mem_nil, or_false] at hw
  rcases hw with e | e | e | e
  · rw [e]; exact h1
  · rw [e]; exact h2
  · rw [e]; exact h3
  · rw [e]; exact h4
/-- what a static call asks: va_cwS n hts (lw_S ..) -/
theorem lw_S {own : String} {idx : Nat} {y : MethodName} {b : ByteArray} {L : Nat} {r : Option FieldType} (h1 : Cond.methodLink own idx y ∈ lw_all) (h2 : Cond.static y ∈ lw_all) (h3 : Cond.initialized y.cls ∈ lw_all) (h4 : Cond.code y b L r ∈ lw_all) : GoodIn lw_all (va_wsS own idx y (ws_ y b L r)) := by
  refine lw_app ?_ (lw_meth h4)
  intro w hw
  simp only [List.mem_cons, List.not_mem_nil, or_false] at hw
  rcases hw with e | e | e
  · rw [e]; exact h1
  · rw [e]; exact h2
  · rw [e]; exact h3
/-- the words of a contract for a method WITH HANDLERS (hh: its table) -/
abbrev wsW_ (y : MethodName) (b : ByteArray) (L : Nat) (r : Option FieldType) (hh : List (Nat × Nat × Nat × Nat)) : List Cond := Cond.codeWith y b L r hh :: lw_all
theorem lw_methW {y : MethodName} {b : ByteArray} {L : Nat} {r : Option FieldType} {hh : List (Nat × Nat × Nat × Nat)} (h : Cond.codeWith y b L r hh ∈ lw_all) : GoodIn lw_all (wsW_ y b L r hh) := by
  intro w hw
  rcases List.mem_cons.mp hw with e | e
  · rw [e]
    exact lw_self _ h
  · exact lw_self _ e
/-- any list of words by their places (lw_in), good -/
theorem lw_good {ws : List Cond} (h : ∀ w ∈ ws, w ∈ lw_all) : GoodIn lw_all ws := fun w hw => lw_self w (h w hw)
/-- what a call of a method with handlers asks: vx_cwVW n hts (lw_VW ..), vx_cwSW n hts (lw_SW ..) -/
theorem lw_VW {own : String} {idx : Nat} {C : String} {y : MethodName} {b : ByteArray} {L : Nat} {r : Option FieldType} {hh : List (Nat × Nat × Nat × Nat)} (h1 : Cond.methodLink own idx y ∈ lw_all) (h2 : Cond.instanceMethod y ∈ lw_all) (h3 : Cond.selects C y y ∈ lw_all) (h4 : Cond.initialized C ∈ lw_all) (h5 : Cond.codeWith y b L r hh ∈ lw_all) : GoodIn lw_all (wsV own idx C y (wsW_ y b L r hh)) := by
  refine lw_app ?_ (lw_methW h5)
  intro w hw
  simp only [List.mem_cons, List.not_mem_nil, or_false] at hw
  rcases hw with e | e | e | e
  · rw [e]; exact h1
  · rw [e]; exact h2
  · rw [e]; exact h3
  · rw [e]; exact h4
theorem lw_SW {own : String} {idx : Nat} {y : MethodName} {b : ByteArray} {L : Nat} {r : Option FieldType} {hh : List (Nat × Nat × Nat × Nat)} (h1 : Cond.methodLink own idx y ∈ lw_all) (h2 : Cond.static y ∈ lw_all) (h3 : Cond.initialized y.cls ∈ lw_all) (h4 : Cond.codeWith y b L r hh ∈ lw_all) : GoodIn lw_all (va_wsS own idx y (wsW_ y b L r hh)) := by
  refine lw_app ?_ (lw_methW h4)
  intro w hw
  simp only [List.mem_cons, List.not_mem_nil, or_false] at hw
  rcases hw with e | e | e
  · rw [e]; exact h1
  · rw [e]; exact h2
  · rw [e]; exact h3
/-- a word by its place in its run of the tables -/
theorem lw_at {r : List Cond} (hr : ∀ w ∈ r, w ∈ lw_tbl) {w : Cond} (i : Nat) (h : r[i]? = some w) : w ∈ lw_tbl := hr w (List.mem_of_getElem? h)
theorem lw_g {w : Cond} (h : w ∈ lw_tbl) (g : goodWord w = true) : w ∈ lw_all := List.mem_filter.mpr ⟨h, g⟩
theorem lw_ms : ∀ w ∈ k2_sels lw_privs, w ∈ lw_tbl := fun w h => show w ∈ k2_sels lw_privs ++ tables_1 from List.mem_append_left _ h
theorem lw_m0 : ∀ w ∈ tables_1, w ∈ lw_tbl := fun w h => show w ∈ k2_sels lw_privs ++ tables_1 from List.mem_append_right (k2_sels lw_privs) h
theorem qs0 : (Cond.selects "StepPaths" ⟨"StepPaths", "endingAt", "(I)J"⟩ ⟨"StepPaths", "endingAt", "(I)J"⟩) ∈ lw_all := lw_g (lw_at lw_ms 0 rfl) rfl
end
section
/-! java/lang/Object -/
set_option maxRecDepth 100000
def RJ0 : String := "java/lang/Object"
abbrev cJ0_init : ByteArray := object_method_1_code
def yJ0_init : MethodName := ⟨RJ0, "<init>", "()V"⟩
theorem dJ0_init_0 : decode cJ0_init 0 = .ok (.return_, 1) := by decide +kernel
theorem q11 : (Jvm.Cond.instanceMethod ({ cls := "java/lang/Object", name := "<init>", desc := "()V" } : Jvm.MethodName)) ∈ lw_all := lw_g (lw_at lw_m0 10 rfl) rfl
theorem q12 : (Jvm.Cond.code ({ cls := "java/lang/Object", name := "<init>", desc := "()V" } : Jvm.MethodName) object_method_1_code (1 : Nat) (Option.none : Option Jvm.ClassFile.FieldType)) ∈ lw_all := lw_g (lw_at lw_m0 11 rfl) rfl
/-! StepPaths -/
set_option maxRecDepth 100000
def RX0 : String := "StepPaths"
def TX0 : u_T := fun k => match k with
  | 0 => ("StepPaths", "choices", "LStepPaths$Choices;", true)
  | 1 => ("StepPaths", "up", "I", false)
  | _ => ("StepPaths", "down", "I", false)
def tyX0 : Nat → FieldType := fun k => match k with
  | 0 => .object "StepPaths$Choices"
  | 1 => .int
  | _ => .int
abbrev wsX00 : List Cond := u_ws RX0 TX0 3
theorem nmX0 : ∀ a, a < 3 → ∀ b, b < 3 → a ≠ b → (TX0 a).2.1 ≠ (TX0 b).2.1 := by decide +kernel
theorem tyX0_ok : ∀ k, k < 3 → parseFieldDescriptor (TX0 k).2.2.1 = some (tyX0 k) := by decide +kernel
abbrev cX0_init : ByteArray := prog_1_method_1_code
def yX0_init : MethodName := ⟨RX0, "<init>", "()V"⟩
theorem dX0_init_0 : decode cX0_init 0 = .ok (.aload_n 0, 1) := by decide +kernel
theorem dX0_init_1 : decode cX0_init 1 = .ok (.invokespecial 3, 3) := by decide +kernel
theorem dX0_init_4 : decode cX0_init 4 = .ok (.aload_n 0, 1) := by decide +kernel
theorem dX0_init_5 : decode cX0_init 5 = .ok (.new 9, 3) := by decide +kernel
theorem dX0_init_8 : decode cX0_init 8 = .ok (.dup, 1) := by decide +kernel
theorem dX0_init_9 : decode cX0_init 9 = .ok (.invokespecial 11, 3) := by decide +kernel
theorem dX0_init_12 : decode cX0_init 12 = .ok (.putfield 12, 3) := by decide +kernel
theorem dX0_init_15 : decode cX0_init 15 = .ok (.aload_n 0, 1) := by decide +kernel
theorem dX0_init_16 : decode cX0_init 16 = .ok (.iconst 3, 1) := by decide +kernel
theorem dX0_init_17 : decode cX0_init 17 = .ok (.putfield 16, 3) := by decide +kernel
theorem dX0_init_20 : decode cX0_init 20 = .ok (.aload_n 0, 1) := by decide +kernel
theorem dX0_init_21 : decode cX0_init 21 = .ok (.iconst 3, 1) := by decide +kernel
theorem dX0_init_22 : decode cX0_init 22 = .ok (.putfield 20, 3) := by decide +kernel
theorem dX0_init_25 : decode cX0_init 25 = .ok (.return_, 1) := by decide +kernel
abbrev cX0_load : ByteArray := prog_1_method_2_code
def yX0_load : MethodName := ⟨RX0, "load", "(II)V"⟩
theorem dX0_load_0 : decode cX0_load 0 = .ok (.aload_n 0, 1) := by decide +kernel
theorem dX0_load_1 : decode cX0_load 1 = .ok (.iload_n 1, 1) := by decide +kernel
theorem dX0_load_2 : decode cX0_load 2 = .ok (.bipush 15, 2) := by decide +kernel
theorem dX0_load_4 : decode cX0_load 4 = .ok (.iand, 1) := by decide +kernel
theorem dX0_load_5 : decode cX0_load 5 = .ok (.putfield 16, 3) := by decide +kernel
theorem dX0_load_8 : decode cX0_load 8 = .ok (.aload_n 0, 1) := by decide +kernel
theorem dX0_load_9 : decode cX0_load 9 = .ok (.iload_n 2, 1) := by decide +kernel
theorem dX0_load_10 : decode cX0_load 10 = .ok (.bipush 15, 2) := by decide +kernel
theorem dX0_load_12 : decode cX0_load 12 = .ok (.iand, 1) := by decide +kernel
theorem dX0_load_13 : decode cX0_load 13 = .ok (.putfield 20, 3) := by decide +kernel
theorem dX0_load_16 : decode cX0_load 16 = .ok (.return_, 1) := by decide +kernel
abbrev cX0_all : ByteArray := prog_1_method_4_code
def yX0_all : MethodName := ⟨RX0, "all", "()J"⟩
theorem dX0_all_0 : decode cX0_all 0 = .ok (.aload_n 0, 1) := by decide +kernel
theorem dX0_all_1 : decode cX0_all 1 = .ok (.aload_n 0, 1) := by decide +kernel
theorem dX0_all_2 : decode cX0_all 2 = .ok (.getfield 16, 3) := by decide +kernel
theorem dX0_all_5 : decode cX0_all 5 = .ok (.aload_n 0, 1) := by decide +kernel
theorem dX0_all_6 : decode cX0_all 6 = .ok (.getfield 20, 3) := by decide +kernel
theorem dX0_all_9 : decode cX0_all 9 = .ok (.isub, 1) := by decide +kernel
theorem dX0_all_10 : decode cX0_all 10 = .ok (.invokevirtual 27, 3) := by decide +kernel
theorem dX0_all_13 : decode cX0_all 13 = .ok (.lreturn, 1) := by decide +kernel
abbrev cX0_endingAt : ByteArray := prog_1_method_3_code
def yX0_endingAt : MethodName := ⟨RX0, "endingAt", "(I)J"⟩
theorem dX0_endingAt_0 : decode cX0_endingAt 0 = .ok (.aload_n 0, 1) := by decide +kernel
theorem dX0_endingAt_1 : decode cX0_endingAt 1 = .ok (.getfield 16, 3) := by decide +kernel
theorem dX0_endingAt_4 : decode cX0_endingAt 4 = .ok (.aload_n 0, 1) := by decide +kernel
theorem dX0_endingAt_5 : decode cX0_endingAt 5 = .ok (.getfield 20, 3) := by decide +kernel
theorem dX0_endingAt_8 : decode cX0_endingAt 8 = .ok (.iadd, 1) := by decide +kernel
theorem dX0_endingAt_9 : decode cX0_endingAt 9 = .ok (.istore_n 2, 1) := by decide +kernel
theorem dX0_endingAt_10 : decode cX0_endingAt 10 = .ok (.iload_n 2, 1) := by decide +kernel
theorem dX0_endingAt_11 : decode cX0_endingAt 11 = .ok (.iload_n 1, 1) := by decide +kernel
theorem dX0_endingAt_12 : decode cX0_endingAt 12 = .ok (.iadd, 1) := by decide +kernel
theorem dX0_endingAt_13 : decode cX0_endingAt 13 = .ok (.iconst 1, 1) := by decide +kernel
theorem dX0_endingAt_14 : decode cX0_endingAt 14 = .ok (.iand, 1) := by decide +kernel
theorem dX0_endingAt_15 : decode cX0_endingAt 15 = .ok (.ifCond .eq 7, 3) := by decide +kernel
theorem dX0_endingAt_18 : decode cX0_endingAt 18 = .ok (.lconst 0, 1) := by decide +kernel
theorem dX0_endingAt_19 : decode cX0_endingAt 19 = .ok (.goto 16, 3) := by decide +kernel
theorem dX0_endingAt_22 : decode cX0_endingAt 22 = .ok (.aload_n 0, 1) := by decide +kernel
theorem dX0_endingAt_23 : decode cX0_endingAt 23 = .ok (.getfield 12, 3) := by decide +kernel
theorem dX0_endingAt_26 : decode cX0_endingAt 26 = .ok (.iload_n 2, 1) := by decide +kernel
theorem dX0_endingAt_27 : decode cX0_endingAt 27 = .ok (.iload_n 2, 1) := by decide +kernel
theorem dX0_endingAt_28 : decode cX0_endingAt 28 = .ok (.iload_n 1, 1) := by decide +kernel
theorem dX0_endingAt_29 : decode cX0_endingAt 29 = .ok (.iadd, 1) := by decide +kernel
theorem dX0_endingAt_30 : decode cX0_endingAt 30 = .ok (.iconst 2, 1) := by decide +kernel
theorem dX0_endingAt_31 : decode cX0_endingAt 31 = .ok (.idiv, 1) := by decide +kernel
theorem dX0_endingAt_32 : decode cX0_endingAt 32 = .ok (.invokevirtual 23, 3) := by decide +kernel
theorem dX0_endingAt_35 : decode cX0_endingAt 35 = .ok (.lreturn, 1) := by decide +kernel
abbrev cX0_above : ByteArray := prog_1_method_5_code
def yX0_above : MethodName := ⟨RX0, "above", "(I)J"⟩
theorem dX0_above_0 : decode cX0_above 0 = .ok (.iload_n 1, 1) := by decide +kernel
theorem dX0_above_1 : decode cX0_above 1 = .ok (.bipush 15, 2) := by decide +kernel
theorem dX0_above_3 : decode cX0_above 3 = .ok (.iand, 1) := by decide +kernel
theorem dX0_above_4 : decode cX0_above 4 = .ok (.ineg, 1) := by decide +kernel
theorem dX0_above_5 : decode cX0_above 5 = .ok (.iconst 1, 1) := by decide +kernel
theorem dX0_above_6 : decode cX0_above 6 = .ok (.isub, 1) := by decide +kernel
theorem dX0_above_7 : decode cX0_above 7 = .ok (.istore_n 2, 1) := by decide +kernel
theorem dX0_above_8 : decode cX0_above 8 = .ok (.aload_n 0, 1) := by decide +kernel
theorem dX0_above_9 : decode cX0_above 9 = .ok (.getfield 16, 3) := by decide +kernel
theorem dX0_above_12 : decode cX0_above 12 = .ok (.aload_n 0, 1) := by decide +kernel
theorem dX0_above_13 : decode cX0_above 13 = .ok (.getfield 20, 3) := by decide +kernel
theorem dX0_above_16 : decode cX0_above 16 = .ok (.isub, 1) := by decide +kernel
theorem dX0_above_17 : decode cX0_above 17 = .ok (.istore_n 3, 1) := by decide +kernel
theorem dX0_above_18 : decode cX0_above 18 = .ok (.iload_n 3, 1) := by decide +kernel
theorem dX0_above_19 : decode cX0_above 19 = .ok (.iload_n 2, 1) := by decide +kernel
theorem dX0_above_20 : decode cX0_above 20 = .ok (.if_icmp .gt 7, 3) := by decide +kernel
theorem dX0_above_23 : decode cX0_above 23 = .ok (.lconst 0, 1) := by decide +kernel
theorem dX0_above_24 : decode cX0_above 24 = .ok (.goto 17, 3) := by decide +kernel
theorem dX0_above_27 : decode cX0_above 27 = .ok (.aload_n 0, 1) := by decide +kernel
theorem dX0_above_28 : decode cX0_above 28 = .ok (.invokevirtual 31, 3) := by decide +kernel
theorem dX0_above_31 : decode cX0_above 31 = .ok (.aload_n 0, 1) := by decide +kernel
theorem dX0_above_32 : decode cX0_above 32 = .ok (.iconst 2, 1) := by decide +kernel
theorem dX0_above_33 : decode cX0_above 33 = .ok (.iload_n 2, 1) := by decide +kernel
theorem dX0_above_34 : decode cX0_above 34 = .ok (.imul, 1) := by decide +kernel
theorem dX0_above_35 : decode cX0_above 35 = .ok (.iload_n 3, 1) := by decide +kernel
theorem dX0_above_36 : decode cX0_above 36 = .ok (.isub, 1) := by decide +kernel
theorem dX0_above_37 : decode cX0_above 37 = .ok (.invokevirtual 27, 3) := by decide +kernel
theorem dX0_above_40 : decode cX0_above 40 = .ok (.lsub, 1) := by decide +kernel
theorem dX0_above_41 : decode cX0_above 41 = .ok (.lreturn, 1) := by decide +kernel
abbrev cX0_between : ByteArray := prog_1_method_6_code
def yX0_between : MethodName := ⟨RX0, "between", "(II)J"⟩
theorem dX0_between_0 : decode cX0_between 0 = .ok (.iload_n 1, 1) := by decide +kernel
theorem dX0_between_1 : decode cX0_between 1 = .ok (.bipush 15, 2) := by decide +kernel
theorem dX0_between_3 : decode cX0_between 3 = .ok (.iand, 1) := by decide +kernel
theorem dX0_between_4 : decode cX0_between 4 = .ok (.ineg, 1) := by decide +kernel
theorem dX0_between_5 : decode cX0_between 5 = .ok (.iconst 1, 1) := by decide +kernel
theorem dX0_between_6 : decode cX0_between 6 = .ok (.isub, 1) := by decide +kernel
theorem dX0_between_7 : decode cX0_between 7 = .ok (.istore_n 3, 1) := by decide +kernel
theorem dX0_between_8 : decode cX0_between 8 = .ok (.iload_n 2, 1) := by decide +kernel
theorem dX0_between_9 : decode cX0_between 9 = .ok (.bipush 15, 2) := by decide +kernel
theorem dX0_between_11 : decode cX0_between 11 = .ok (.iand, 1) := by decide +kernel
theorem dX0_between_12 : decode cX0_between 12 = .ok (.iconst 1, 1) := by decide +kernel
theorem dX0_between_13 : decode cX0_between 13 = .ok (.iadd, 1) := by decide +kernel
theorem dX0_between_14 : decode cX0_between 14 = .ok (.istore 4, 2) := by decide +kernel
theorem dX0_between_16 : decode cX0_between 16 = .ok (.aload_n 0, 1) := by decide +kernel
theorem dX0_between_17 : decode cX0_between 17 = .ok (.getfield 16, 3) := by decide +kernel
theorem dX0_between_20 : decode cX0_between 20 = .ok (.aload_n 0, 1) := by decide +kernel
theorem dX0_between_21 : decode cX0_between 21 = .ok (.getfield 20, 3) := by decide +kernel
theorem dX0_between_24 : decode cX0_between 24 = .ok (.isub, 1) := by decide +kernel
theorem dX0_between_25 : decode cX0_between 25 = .ok (.istore 5, 2) := by decide +kernel
theorem dX0_between_27 : decode cX0_between 27 = .ok (.iconst 2, 1) := by decide +kernel
theorem dX0_between_28 : decode cX0_between 28 = .ok (.iload 4, 2) := by decide +kernel
theorem dX0_between_30 : decode cX0_between 30 = .ok (.iload_n 3, 1) := by decide +kernel
theorem dX0_between_31 : decode cX0_between 31 = .ok (.isub, 1) := by decide +kernel
theorem dX0_between_32 : decode cX0_between 32 = .ok (.imul, 1) := by decide +kernel
theorem dX0_between_33 : decode cX0_between 33 = .ok (.istore 6, 2) := by decide +kernel
theorem dX0_between_35 : decode cX0_between 35 = .ok (.aload_n 0, 1) := by decide +kernel
theorem dX0_between_36 : decode cX0_between 36 = .ok (.getfield 16, 3) := by decide +kernel
theorem dX0_between_39 : decode cX0_between 39 = .ok (.aload_n 0, 1) := by decide +kernel
theorem dX0_between_40 : decode cX0_between 40 = .ok (.getfield 20, 3) := by decide +kernel
theorem dX0_between_43 : decode cX0_between 43 = .ok (.iadd, 1) := by decide +kernel
theorem dX0_between_44 : decode cX0_between 44 = .ok (.istore 7, 2) := by decide +kernel
theorem dX0_between_46 : decode cX0_between 46 = .ok (.iload 5, 2) := by decide +kernel
theorem dX0_between_48 : decode cX0_between 48 = .ok (.iload_n 3, 1) := by decide +kernel
theorem dX0_between_49 : decode cX0_between 49 = .ok (.if_icmp .le 10, 3) := by decide +kernel
theorem dX0_between_52 : decode cX0_between 52 = .ok (.iload 5, 2) := by decide +kernel
theorem dX0_between_54 : decode cX0_between 54 = .ok (.iload 4, 2) := by decide +kernel
theorem dX0_between_56 : decode cX0_between 56 = .ok (.if_icmp .lt 5, 3) := by decide +kernel
theorem dX0_between_59 : decode cX0_between 59 = .ok (.lconst 0, 1) := by decide +kernel
theorem dX0_between_60 : decode cX0_between 60 = .ok (.lreturn, 1) := by decide +kernel
theorem dX0_between_61 : decode cX0_between 61 = .ok (.lconst 0, 1) := by decide +kernel
theorem dX0_between_62 : decode cX0_between 62 = .ok (.lstore 8, 2) := by decide +kernel
theorem dX0_between_64 : decode cX0_between 64 = .ok (.iload 7, 2) := by decide +kernel
theorem dX0_between_66 : decode cX0_between 66 = .ok (.iload 6, 2) := by decide +kernel
theorem dX0_between_68 : decode cX0_between 68 = .ok (.idiv, 1) := by decide +kernel
theorem dX0_between_69 : decode cX0_between 69 = .ok (.ineg, 1) := by decide +kernel
theorem dX0_between_70 : decode cX0_between 70 = .ok (.iconst 2, 1) := by decide +kernel
theorem dX0_between_71 : decode cX0_between 71 = .ok (.isub, 1) := by decide +kernel
theorem dX0_between_72 : decode cX0_between 72 = .ok (.istore 10, 2) := by decide +kernel
theorem dX0_between_74 : decode cX0_between 74 = .ok (.iload 10, 2) := by decide +kernel
theorem dX0_between_76 : decode cX0_between 76 = .ok (.iload 7, 2) := by decide +kernel
theorem dX0_between_78 : decode cX0_between 78 = .ok (.iload 6, 2) := by decide +kernel
theorem dX0_between_80 : decode cX0_between 80 = .ok (.idiv, 1) := by decide +kernel
theorem dX0_between_81 : decode cX0_between 81 = .ok (.iconst 2, 1) := by decide +kernel
theorem dX0_between_82 : decode cX0_between 82 = .ok (.iadd, 1) := by decide +kernel
theorem dX0_between_83 : decode cX0_between 83 = .ok (.if_icmp .gt 43, 3) := by decide +kernel
theorem dX0_between_86 : decode cX0_between 86 = .ok (.lload 8, 2) := by decide +kernel
theorem dX0_between_88 : decode cX0_between 88 = .ok (.aload_n 0, 1) := by decide +kernel
theorem dX0_between_89 : decode cX0_between 89 = .ok (.iload 5, 2) := by decide +kernel
theorem dX0_between_91 : decode cX0_between 91 = .ok (.iload 10, 2) := by decide +kernel
theorem dX0_between_93 : decode cX0_between 93 = .ok (.iload 6, 2) := by decide +kernel
theorem dX0_between_95 : decode cX0_between 95 = .ok (.imul, 1) := by decide +kernel
theorem dX0_between_96 : decode cX0_between 96 = .ok (.iadd, 1) := by decide +kernel
theorem dX0_between_97 : decode cX0_between 97 = .ok (.invokevirtual 27, 3) := by decide +kernel
theorem dX0_between_100 : decode cX0_between 100 = .ok (.aload_n 0, 1) := by decide +kernel
theorem dX0_between_101 : decode cX0_between 101 = .ok (.iconst 2, 1) := by decide +kernel
theorem dX0_between_102 : decode cX0_between 102 = .ok (.iload_n 3, 1) := by decide +kernel
theorem dX0_between_103 : decode cX0_between 103 = .ok (.imul, 1) := by decide +kernel
theorem dX0_between_104 : decode cX0_between 104 = .ok (.iload 5, 2) := by decide +kernel
theorem dX0_between_106 : decode cX0_between 106 = .ok (.isub, 1) := by decide +kernel
theorem dX0_between_107 : decode cX0_between 107 = .ok (.iload 10, 2) := by decide +kernel
theorem dX0_between_109 : decode cX0_between 109 = .ok (.iload 6, 2) := by decide +kernel
theorem dX0_between_111 : decode cX0_between 111 = .ok (.imul, 1) := by decide +kernel
theorem dX0_between_112 : decode cX0_between 112 = .ok (.iadd, 1) := by decide +kernel
theorem dX0_between_113 : decode cX0_between 113 = .ok (.invokevirtual 27, 3) := by decide +kernel
theorem dX0_between_116 : decode cX0_between 116 = .ok (.lsub, 1) := by decide +kernel
theorem dX0_between_117 : decode cX0_between 117 = .ok (.ladd, 1) := by decide +kernel
theorem dX0_between_118 : decode cX0_between 118 = .ok (.lstore 8, 2) := by decide +kernel
theorem dX0_between_120 : decode cX0_between 120 = .ok (.iinc 10 1, 3) := by decide +kernel
theorem dX0_between_123 : decode cX0_between 123 = .ok (.goto (-49), 3) := by decide +kernel
theorem dX0_between_126 : decode cX0_between 126 = .ok (.lload 8, 2) := by decide +kernel
theorem dX0_between_128 : decode cX0_between 128 = .ok (.lreturn, 1) := by decide +kernel
abbrev cX0_apart : ByteArray := prog_1_method_7_code
def yX0_apart : MethodName := ⟨RX0, "apart", "()J"⟩
theorem dX0_apart_0 : decode cX0_apart 0 = .ok (.aload_n 0, 1) := by decide +kernel
theorem dX0_apart_1 : decode cX0_apart 1 = .ok (.getfield 16, 3) := by decide +kernel
theorem dX0_apart_4 : decode cX0_apart 4 = .ok (.aload_n 0, 1) := by decide +kernel
theorem dX0_apart_5 : decode cX0_apart 5 = .ok (.getfield 20, 3) := by decide +kernel
theorem dX0_apart_8 : decode cX0_apart 8 = .ok (.iadd, 1) := by decide +kernel
theorem dX0_apart_9 : decode cX0_apart 9 = .ok (.istore_n 1, 1) := by decide +kernel
theorem dX0_apart_10 : decode cX0_apart 10 = .ok (.aload_n 0, 1) := by decide +kernel
theorem dX0_apart_11 : decode cX0_apart 11 = .ok (.getfield 12, 3) := by decide +kernel
theorem dX0_apart_14 : decode cX0_apart 14 = .ok (.iload_n 1, 1) := by decide +kernel
theorem dX0_apart_15 : decode cX0_apart 15 = .ok (.aload_n 0, 1) := by decide +kernel
theorem dX0_apart_16 : decode cX0_apart 16 = .ok (.getfield 16, 3) := by decide +kernel
theorem dX0_apart_19 : decode cX0_apart 19 = .ok (.invokevirtual 23, 3) := by decide +kernel
theorem dX0_apart_22 : decode cX0_apart 22 = .ok (.lstore_n 2, 1) := by decide +kernel
theorem dX0_apart_23 : decode cX0_apart 23 = .ok (.aload_n 0, 1) := by decide +kernel
theorem dX0_apart_24 : decode cX0_apart 24 = .ok (.getfield 12, 3) := by decide +kernel
theorem dX0_apart_27 : decode cX0_apart 27 = .ok (.iload_n 1, 1) := by decide +kernel
theorem dX0_apart_28 : decode cX0_apart 28 = .ok (.aload_n 0, 1) := by decide +kernel
theorem dX0_apart_29 : decode cX0_apart 29 = .ok (.getfield 16, 3) := by decide +kernel
theorem dX0_apart_32 : decode cX0_apart 32 = .ok (.iconst 1, 1) := by decide +kernel
theorem dX0_apart_33 : decode cX0_apart 33 = .ok (.iadd, 1) := by decide +kernel
theorem dX0_apart_34 : decode cX0_apart 34 = .ok (.invokevirtual 23, 3) := by decide +kernel
theorem dX0_apart_37 : decode cX0_apart 37 = .ok (.lstore 4, 2) := by decide +kernel
theorem dX0_apart_39 : decode cX0_apart 39 = .ok (.aload_n 0, 1) := by decide +kernel
theorem dX0_apart_40 : decode cX0_apart 40 = .ok (.getfield 12, 3) := by decide +kernel
theorem dX0_apart_43 : decode cX0_apart 43 = .ok (.iload_n 1, 1) := by decide +kernel
theorem dX0_apart_44 : decode cX0_apart 44 = .ok (.aload_n 0, 1) := by decide +kernel
theorem dX0_apart_45 : decode cX0_apart 45 = .ok (.getfield 16, 3) := by decide +kernel
theorem dX0_apart_48 : decode cX0_apart 48 = .ok (.iconst 1, 1) := by decide +kernel
theorem dX0_apart_49 : decode cX0_apart 49 = .ok (.isub, 1) := by decide +kernel
theorem dX0_apart_50 : decode cX0_apart 50 = .ok (.invokevirtual 23, 3) := by decide +kernel
theorem dX0_apart_53 : decode cX0_apart 53 = .ok (.lstore 6, 2) := by decide +kernel
theorem dX0_apart_55 : decode cX0_apart 55 = .ok (.lload_n 2, 1) := by decide +kernel
theorem dX0_apart_56 : decode cX0_apart 56 = .ok (.lload_n 2, 1) := by decide +kernel
theorem dX0_apart_57 : decode cX0_apart 57 = .ok (.lmul, 1) := by decide +kernel
theorem dX0_apart_58 : decode cX0_apart 58 = .ok (.lload 4, 2) := by decide +kernel
theorem dX0_apart_60 : decode cX0_apart 60 = .ok (.lload 6, 2) := by decide +kernel
theorem dX0_apart_62 : decode cX0_apart 62 = .ok (.lmul, 1) := by decide +kernel
theorem dX0_apart_63 : decode cX0_apart 63 = .ok (.lsub, 1) := by decide +kernel
theorem dX0_apart_64 : decode cX0_apart 64 = .ok (.lreturn, 1) := by decide +kernel
theorem q2 : (Jvm.Cond.initialized "StepPaths") ∈ lw_all := lw_g (lw_at lw_m0 1 rfl) rfl
theorem q6 : (Jvm.Cond.instantiable "StepPaths" (3 : Nat)) ∈ lw_all := lw_g (lw_at lw_m0 5 rfl) rfl
theorem q8 : (Jvm.Cond.instanceMethod ({ cls := "StepPaths", name := "<init>", desc := "()V" } : Jvm.MethodName)) ∈ lw_all := lw_g (lw_at lw_m0 7 rfl) rfl
theorem q9 : (Jvm.Cond.code ({ cls := "StepPaths", name := "<init>", desc := "()V" } : Jvm.MethodName) prog_1_method_1_code (1 : Nat) (Option.none : Option Jvm.ClassFile.FieldType)) ∈ lw_all := lw_g (lw_at lw_m0 8 rfl) rfl
theorem q10 : (Jvm.Cond.methodLink "StepPaths" (3 : Nat) ({ cls := "java/lang/Object", name := "<init>", desc := "()V" } : Jvm.MethodName)) ∈ lw_all := lw_g (lw_at lw_m0 9 rfl) rfl
theorem q13 : (Jvm.Cond.classLink "StepPaths" (9 : Nat) "StepPaths$Choices") ∈ lw_all := lw_g (lw_at lw_m0 12 rfl) rfl
theorem q15 : (Jvm.Cond.methodLink "StepPaths" (11 : Nat) ({ cls := "StepPaths$Choices", name := "<init>", desc := "()V" } : Jvm.MethodName)) ∈ lw_all := lw_g (lw_at lw_m0 14 rfl) rfl
theorem q24 : (Jvm.Cond.fieldLink "StepPaths" (12 : Nat) "StepPaths" "choices" "LStepPaths$Choices;") ∈ lw_all := lw_g (lw_at lw_m0 23 rfl) rfl
theorem q25 : (Jvm.Cond.fieldLink "StepPaths" (16 : Nat) "StepPaths" "up" "I") ∈ lw_all := lw_g (lw_at lw_m0 24 rfl) rfl
theorem q26 : (Jvm.Cond.fieldLink "StepPaths" (20 : Nat) "StepPaths" "down" "I") ∈ lw_all := lw_g (lw_at lw_m0 25 rfl) rfl
theorem q27 : (Jvm.Cond.laysFinal "StepPaths" "StepPaths" "choices" "LStepPaths$Choices;") ∈ lw_all := lw_g (lw_at lw_m0 26 rfl) rfl
theorem q28 : (Jvm.Cond.soleField "StepPaths" "choices") ∈ lw_all := lw_g (lw_at lw_m0 27 rfl) rfl
theorem q29 : (Jvm.Cond.lays "StepPaths" "StepPaths" "up" "I") ∈ lw_all := lw_g (lw_at lw_m0 28 rfl) rfl
theorem q30 : (Jvm.Cond.soleField "StepPaths" "up") ∈ lw_all := lw_g (lw_at lw_m0 29 rfl) rfl
theorem q31 : (Jvm.Cond.lays "StepPaths" "StepPaths" "down" "I") ∈ lw_all := lw_g (lw_at lw_m0 30 rfl) rfl
theorem q32 : (Jvm.Cond.soleField "StepPaths" "down") ∈ lw_all := lw_g (lw_at lw_m0 31 rfl) rfl
theorem q33 : (Jvm.Cond.superclass "StepPaths" "java/lang/Object") ∈ lw_all := lw_g (lw_at lw_m0 32 rfl) rfl
theorem q35 : (Jvm.Cond.instanceMethod ({ cls := "StepPaths", name := "load", desc := "(II)V" } : Jvm.MethodName)) ∈ lw_all := lw_g (lw_at lw_m0 34 rfl) rfl
theorem q36 : (Jvm.Cond.selects "StepPaths" ({ cls := "StepPaths", name := "load", desc := "(II)V" } : Jvm.MethodName) ({ cls := "StepPaths", name := "load", desc := "(II)V" } : Jvm.MethodName)) ∈ lw_all := lw_g (lw_at lw_m0 35 rfl) rfl
theorem q37 : (Jvm.Cond.code ({ cls := "StepPaths", name := "load", desc := "(II)V" } : Jvm.MethodName) prog_1_method_2_code (3 : Nat) (Option.none : Option Jvm.ClassFile.FieldType)) ∈ lw_all := lw_g (lw_at lw_m0 36 rfl) rfl
theorem q39 : (Jvm.Cond.instanceMethod ({ cls := "StepPaths", name := "all", desc := "()J" } : Jvm.MethodName)) ∈ lw_all := lw_g (lw_at lw_m0 38 rfl) rfl
theorem q40 : (Jvm.Cond.selects "StepPaths" ({ cls := "StepPaths", name := "all", desc := "()J" } : Jvm.MethodName) ({ cls := "StepPaths", name := "all", desc := "()J" } : Jvm.MethodName)) ∈ lw_all := lw_g (lw_at lw_m0 39 rfl) rfl
theorem q41 : (Jvm.Cond.code ({ cls := "StepPaths", name := "all", desc := "()J" } : Jvm.MethodName) prog_1_method_4_code (1 : Nat) (Option.some Jvm.ClassFile.FieldType.long)) ∈ lw_all := lw_g (lw_at lw_m0 40 rfl) rfl
theorem q42 : (Jvm.Cond.methodLink "StepPaths" (27 : Nat) ({ cls := "StepPaths", name := "endingAt", desc := "(I)J" } : Jvm.MethodName)) ∈ lw_all := lw_g (lw_at lw_m0 41 rfl) rfl
theorem q43 : (Jvm.Cond.privateMethod ({ cls := "StepPaths", name := "endingAt", desc := "(I)J" } : Jvm.MethodName)) ∈ lw_tbl := lw_at lw_m0 42 rfl
theorem q44 : (Jvm.Cond.instanceMethod ({ cls := "StepPaths", name := "endingAt", desc := "(I)J" } : Jvm.MethodName)) ∈ lw_all := lw_g (lw_at lw_m0 43 rfl) rfl
theorem q45 : (Jvm.Cond.code ({ cls := "StepPaths", name := "endingAt", desc := "(I)J" } : Jvm.MethodName) prog_1_method_3_code (3 : Nat) (Option.some Jvm.ClassFile.FieldType.long)) ∈ lw_all := lw_g (lw_at lw_m0 44 rfl) rfl
theorem q46 : (Jvm.Cond.methodLink "StepPaths" (23 : Nat) ({ cls := "StepPaths$Choices", name := "of", desc := "(II)J" } : Jvm.MethodName)) ∈ lw_all := lw_g (lw_at lw_m0 45 rfl) rfl
theorem q51 : (Jvm.Cond.instanceMethod ({ cls := "StepPaths", name := "above", desc := "(I)J" } : Jvm.MethodName)) ∈ lw_all := lw_g (lw_at lw_m0 50 rfl) rfl
theorem q52 : (Jvm.Cond.selects "StepPaths" ({ cls := "StepPaths", name := "above", desc := "(I)J" } : Jvm.MethodName) ({ cls := "StepPaths", name := "above", desc := "(I)J" } : Jvm.MethodName)) ∈ lw_all := lw_g (lw_at lw_m0 51 rfl) rfl
theorem q53 : (Jvm.Cond.code ({ cls := "StepPaths", name := "above", desc := "(I)J" } : Jvm.MethodName) prog_1_method_5_code (4 : Nat) (Option.some Jvm.ClassFile.FieldType.long)) ∈ lw_all := lw_g (lw_at lw_m0 52 rfl) rfl
theorem q54 : (Jvm.Cond.methodLink "StepPaths" (31 : Nat) ({ cls := "StepPaths", name := "all", desc := "()J" } : Jvm.MethodName)) ∈ lw_all := lw_g (lw_at lw_m0 53 rfl) rfl
theorem q56 : (Jvm.Cond.instanceMethod ({ cls := "StepPaths", name := "between", desc := "(II)J" } : Jvm.MethodName)) ∈ lw_all := lw_g (lw_at lw_m0 55 rfl) rfl
theorem q57 : (Jvm.Cond.selects "StepPaths" ({ cls := "StepPaths", name := "between", desc := "(II)J" } : Jvm.MethodName) ({ cls := "StepPaths", name := "between", desc := "(II)J" } : Jvm.MethodName)) ∈ lw_all := lw_g (lw_at lw_m0 56 rfl) rfl
theorem q58 : (Jvm.Cond.code ({ cls := "StepPaths", name := "between", desc := "(II)J" } : Jvm.MethodName) prog_1_method_6_code (11 : Nat) (Option.some Jvm.ClassFile.FieldType.long)) ∈ lw_all := lw_g (lw_at lw_m0 57 rfl) rfl
theorem q60 : (Jvm.Cond.instanceMethod ({ cls := "StepPaths", name := "apart", desc := "()J" } : Jvm.MethodName)) ∈ lw_all := lw_g (lw_at lw_m0 59 rfl) rfl
theorem q61 : (Jvm.Cond.selects "StepPaths" ({ cls := "StepPaths", name := "apart", desc := "()J" } : Jvm.MethodName) ({ cls := "StepPaths", name := "apart", desc := "()J" } : Jvm.MethodName)) ∈ lw_all := lw_g (lw_at lw_m0 60 rfl) rfl
theorem q62 : (Jvm.Cond.code ({ cls := "StepPaths", name := "apart", desc := "()J" } : Jvm.MethodName) prog_1_method_7_code (8 : Nat) (Option.some Jvm.ClassFile.FieldType.long)) ∈ lw_all := lw_g (lw_at lw_m0 61 rfl) rfl
theorem in_X0 : ∀ w ∈ wsX00, w ∈ lw_all := lw_in wsX00 [27, 29, 31] (by decide +kernel) (by decide +kernel)
/-! StepPaths$Choices -/
set_option maxRecDepth 100000
def RX1 : String := "StepPaths$Choices"
def TX1 : u_T := fun k => match k with
  | _ => ("StepPaths$Choices", "ways", "[J", true)
def tyX1 : Nat → FieldType := fun k => match k with
  | _ => .array .long
abbrev wsX10 : List Cond := u_ws RX1 TX1 1
theorem nmX1 : ∀ a, a < 1 → ∀ b, b < 1 → a ≠ b → (TX1 a).2.1 ≠ (TX1 b).2.1 := by decide +kernel
theorem tyX1_ok : ∀ k, k < 1 → parseFieldDescriptor (TX1 k).2.2.1 = some (tyX1 k) := by decide +kernel
abbrev cX1_init : ByteArray := prog_2_method_1_code
def yX1_init : MethodName := ⟨RX1, "<init>", "()V"⟩
theorem dX1_init_0 : decode cX1_init 0 = .ok (.aload_n 0, 1) := by decide +kernel
theorem dX1_init_1 : decode cX1_init 1 = .ok (.invokespecial 3, 3) := by decide +kernel
theorem dX1_init_4 : decode cX1_init 4 = .ok (.aload_n 0, 1) := by decide +kernel
theorem dX1_init_5 : decode cX1_init 5 = .ok (.sipush 961, 3) := by decide +kernel
theorem dX1_init_8 : decode cX1_init 8 = .ok (.newarray .long, 2) := by decide +kernel
theorem dX1_init_10 : decode cX1_init 10 = .ok (.putfield 9, 3) := by decide +kernel
theorem dX1_init_13 : decode cX1_init 13 = .ok (.iconst 0, 1) := by decide +kernel
theorem dX1_init_14 : decode cX1_init 14 = .ok (.istore_n 1, 1) := by decide +kernel
theorem dX1_init_15 : decode cX1_init 15 = .ok (.iload_n 1, 1) := by decide +kernel
theorem dX1_init_16 : decode cX1_init 16 = .ok (.bipush 31, 2) := by decide +kernel
theorem dX1_init_18 : decode cX1_init 18 = .ok (.if_icmp .ge 75, 3) := by decide +kernel
theorem dX1_init_21 : decode cX1_init 21 = .ok (.iconst 0, 1) := by decide +kernel
theorem dX1_init_22 : decode cX1_init 22 = .ok (.istore_n 2, 1) := by decide +kernel
theorem dX1_init_23 : decode cX1_init 23 = .ok (.iload_n 2, 1) := by decide +kernel
theorem dX1_init_24 : decode cX1_init 24 = .ok (.iload_n 1, 1) := by decide +kernel
theorem dX1_init_25 : decode cX1_init 25 = .ok (.if_icmp .gt 62, 3) := by decide +kernel
theorem dX1_init_28 : decode cX1_init 28 = .ok (.aload_n 0, 1) := by decide +kernel
theorem dX1_init_29 : decode cX1_init 29 = .ok (.getfield 9, 3) := by decide +kernel
theorem dX1_init_32 : decode cX1_init 32 = .ok (.bipush 31, 2) := by decide +kernel
theorem dX1_init_34 : decode cX1_init 34 = .ok (.iload_n 1, 1) := by decide +kernel
theorem dX1_init_35 : decode cX1_init 35 = .ok (.imul, 1) := by decide +kernel
theorem dX1_init_36 : decode cX1_init 36 = .ok (.iload_n 2, 1) := by decide +kernel
theorem dX1_init_37 : decode cX1_init 37 = .ok (.iadd, 1) := by decide +kernel
theorem dX1_init_38 : decode cX1_init 38 = .ok (.iload_n 2, 1) := by decide +kernel
theorem dX1_init_39 : decode cX1_init 39 = .ok (.ifCond .eq 8, 3) := by decide +kernel
theorem dX1_init_42 : decode cX1_init 42 = .ok (.iload_n 2, 1) := by decide +kernel
theorem dX1_init_43 : decode cX1_init 43 = .ok (.iload_n 1, 1) := by decide +kernel
theorem dX1_init_44 : decode cX1_init 44 = .ok (.if_icmp .ne 7, 3) := by decide +kernel
theorem dX1_init_47 : decode cX1_init 47 = .ok (.lconst 1, 1) := by decide +kernel
theorem dX1_init_48 : decode cX1_init 48 = .ok (.goto 32, 3) := by decide +kernel
theorem dX1_init_51 : decode cX1_init 51 = .ok (.aload_n 0, 1) := by decide +kernel
theorem dX1_init_52 : decode cX1_init 52 = .ok (.getfield 9, 3) := by decide +kernel
theorem dX1_init_55 : decode cX1_init 55 = .ok (.bipush 31, 2) := by decide +kernel
theorem dX1_init_57 : decode cX1_init 57 = .ok (.iload_n 1, 1) := by decide +kernel
theorem dX1_init_58 : decode cX1_init 58 = .ok (.iconst 1, 1) := by decide +kernel
theorem dX1_init_59 : decode cX1_init 59 = .ok (.isub, 1) := by decide +kernel
theorem dX1_init_60 : decode cX1_init 60 = .ok (.imul, 1) := by decide +kernel
theorem dX1_init_61 : decode cX1_init 61 = .ok (.iload_n 2, 1) := by decide +kernel
theorem dX1_init_62 : decode cX1_init 62 = .ok (.iadd, 1) := by decide +kernel
theorem dX1_init_63 : decode cX1_init 63 = .ok (.iconst 1, 1) := by decide +kernel
theorem dX1_init_64 : decode cX1_init 64 = .ok (.isub, 1) := by decide +kernel
theorem dX1_init_65 : decode cX1_init 65 = .ok (.laload, 1) := by decide +kernel
theorem dX1_init_66 : decode cX1_init 66 = .ok (.aload_n 0, 1) := by decide +kernel
theorem dX1_init_67 : decode cX1_init 67 = .ok (.getfield 9, 3) := by decide +kernel
theorem dX1_init_70 : decode cX1_init 70 = .ok (.bipush 31, 2) := by decide +kernel
theorem dX1_init_72 : decode cX1_init 72 = .ok (.iload_n 1, 1) := by decide +kernel
theorem dX1_init_73 : decode cX1_init 73 = .ok (.iconst 1, 1) := by decide +kernel
theorem dX1_init_74 : decode cX1_init 74 = .ok (.isub, 1) := by decide +kernel
theorem dX1_init_75 : decode cX1_init 75 = .ok (.imul, 1) := by decide +kernel
theorem dX1_init_76 : decode cX1_init 76 = .ok (.iload_n 2, 1) := by decide +kernel
theorem dX1_init_77 : decode cX1_init 77 = .ok (.iadd, 1) := by decide +kernel
theorem dX1_init_78 : decode cX1_init 78 = .ok (.laload, 1) := by decide +kernel
theorem dX1_init_79 : decode cX1_init 79 = .ok (.ladd, 1) := by decide +kernel
theorem dX1_init_80 : decode cX1_init 80 = .ok (.lastore, 1) := by decide +kernel
theorem dX1_init_81 : decode cX1_init 81 = .ok (.iinc 2 1, 3) := by decide +kernel
theorem dX1_init_84 : decode cX1_init 84 = .ok (.goto (-61), 3) := by decide +kernel
theorem dX1_init_87 : decode cX1_init 87 = .ok (.iinc 1 1, 3) := by decide +kernel
theorem dX1_init_90 : decode cX1_init 90 = .ok (.goto (-75), 3) := by decide +kernel
theorem dX1_init_93 : decode cX1_init 93 = .ok (.return_, 1) := by decide +kernel
abbrev cX1_of : ByteArray := prog_2_method_2_code
def yX1_of : MethodName := ⟨RX1, "of", "(II)J"⟩
theorem dX1_of_0 : decode cX1_of 0 = .ok (.iload_n 2, 1) := by decide +kernel
theorem dX1_of_1 : decode cX1_of 1 = .ok (.ifCond .lt 8, 3) := by decide +kernel
theorem dX1_of_4 : decode cX1_of 4 = .ok (.iload_n 2, 1) := by decide +kernel
theorem dX1_of_5 : decode cX1_of 5 = .ok (.iload_n 1, 1) := by decide +kernel
theorem dX1_of_6 : decode cX1_of 6 = .ok (.if_icmp .le 7, 3) := by decide +kernel
theorem dX1_of_9 : decode cX1_of 9 = .ok (.lconst 0, 1) := by decide +kernel
theorem dX1_of_10 : decode cX1_of 10 = .ok (.goto 14, 3) := by decide +kernel
theorem dX1_of_13 : decode cX1_of 13 = .ok (.aload_n 0, 1) := by decide +kernel
theorem dX1_of_14 : decode cX1_of 14 = .ok (.getfield 9, 3) := by decide +kernel
theorem dX1_of_17 : decode cX1_of 17 = .ok (.bipush 31, 2) := by decide +kernel
theorem dX1_of_19 : decode cX1_of 19 = .ok (.iload_n 1, 1) := by decide +kernel
theorem dX1_of_20 : decode cX1_of 20 = .ok (.imul, 1) := by decide +kernel
theorem dX1_of_21 : decode cX1_of 21 = .ok (.iload_n 2, 1) := by decide +kernel
theorem dX1_of_22 : decode cX1_of 22 = .ok (.iadd, 1) := by decide +kernel
theorem dX1_of_23 : decode cX1_of 23 = .ok (.laload, 1) := by decide +kernel
theorem dX1_of_24 : decode cX1_of 24 = .ok (.lreturn, 1) := by decide +kernel
theorem q3 : (Jvm.Cond.initialized "StepPaths$Choices") ∈ lw_all := lw_g (lw_at lw_m0 2 rfl) rfl
theorem q14 : (Jvm.Cond.instantiable "StepPaths$Choices" (1 : Nat)) ∈ lw_all := lw_g (lw_at lw_m0 13 rfl) rfl
theorem q16 : (Jvm.Cond.instanceMethod ({ cls := "StepPaths$Choices", name := "<init>", desc := "()V" } : Jvm.MethodName)) ∈ lw_all := lw_g (lw_at lw_m0 15 rfl) rfl
theorem q17 : (Jvm.Cond.code ({ cls := "StepPaths$Choices", name := "<init>", desc := "()V" } : Jvm.MethodName) prog_2_method_1_code (3 : Nat) (Option.none : Option Jvm.ClassFile.FieldType)) ∈ lw_all := lw_g (lw_at lw_m0 16 rfl) rfl
theorem q18 : (Jvm.Cond.methodLink "StepPaths$Choices" (3 : Nat) ({ cls := "java/lang/Object", name := "<init>", desc := "()V" } : Jvm.MethodName)) ∈ lw_all := lw_g (lw_at lw_m0 17 rfl) rfl
theorem q19 : (Jvm.Cond.fieldLink "StepPaths$Choices" (9 : Nat) "StepPaths$Choices" "ways" "[J") ∈ lw_all := lw_g (lw_at lw_m0 18 rfl) rfl
theorem q20 : (Jvm.Cond.laysFinal "StepPaths$Choices" "StepPaths$Choices" "ways" "[J") ∈ lw_all := lw_g (lw_at lw_m0 19 rfl) rfl
theorem q21 : (Jvm.Cond.soleField "StepPaths$Choices" "ways") ∈ lw_all := lw_g (lw_at lw_m0 20 rfl) rfl
theorem q22 : (Jvm.Cond.superclass "StepPaths$Choices" "java/lang/Object") ∈ lw_all := lw_g (lw_at lw_m0 21 rfl) rfl
theorem q47 : (Jvm.Cond.instanceMethod ({ cls := "StepPaths$Choices", name := "of", desc := "(II)J" } : Jvm.MethodName)) ∈ lw_all := lw_g (lw_at lw_m0 46 rfl) rfl
theorem q48 : (Jvm.Cond.selects "StepPaths$Choices" ({ cls := "StepPaths$Choices", name := "of", desc := "(II)J" } : Jvm.MethodName) ({ cls := "StepPaths$Choices", name := "of", desc := "(II)J" } : Jvm.MethodName)) ∈ lw_all := lw_g (lw_at lw_m0 47 rfl) rfl
theorem q49 : (Jvm.Cond.code ({ cls := "StepPaths$Choices", name := "of", desc := "(II)J" } : Jvm.MethodName) prog_2_method_2_code (3 : Nat) (Option.some Jvm.ClassFile.FieldType.long)) ∈ lw_all := lw_g (lw_at lw_m0 48 rfl) rfl
theorem in_X1 : ∀ w ∈ wsX10, w ∈ lw_all := lw_in wsX10 [20] (by decide +kernel) (by decide +kernel)
end
section
/-! StepPathsModel -/
set_option maxRecDepth 100000
def RX2 : String := "StepPathsModel"
def TX2 : u_T := fun k => match k with
  | 0 => ("StepPathsModel", "a", "I", false)
  | 1 => ("StepPathsModel", "b", "I", false)
  | 2 => ("StepPathsModel", "row", "[J", true)
  | 3 => ("StepPathsModel", "next", "[J", true)
  | 4 => ("StepPathsModel", "two", "[J", true)
  | _ => ("StepPathsModel", "then", "[J", true)
def tyX2 : Nat → FieldType := fun k => match k with
  | 0 => .int
  | 1 => .int
  | 2 => .array .long
  | 3 => .array .long
  | 4 => .array .long
  | _ => .array .long
abbrev wsX20 : List Cond := u_ws RX2 TX2 6
theorem nmX2 : ∀ a, a < 6 → ∀ b, b < 6 → a ≠ b → (TX2 a).2.1 ≠ (TX2 b).2.1 := by decide +kernel
theorem tyX2_ok : ∀ k, k < 6 → parseFieldDescriptor (TX2 k).2.2.1 = some (tyX2 k) := by decide +kernel
abbrev cX2_init : ByteArray := prog_4_method_1_code
def yX2_init : MethodName := ⟨RX2, "<init>", "()V"⟩
theorem dX2_init_0 : decode cX2_init 0 = .ok (.aload_n 0, 1) := by decide +kernel
theorem dX2_init_1 : decode cX2_init 1 = .ok (.invokespecial 1, 3) := by decide +kernel
theorem dX2_init_4 : decode cX2_init 4 = .ok (.aload_n 0, 1) := by decide +kernel
theorem dX2_init_5 : decode cX2_init 5 = .ok (.iconst 3, 1) := by decide +kernel
theorem dX2_init_6 : decode cX2_init 6 = .ok (.putfield 7, 3) := by decide +kernel
theorem dX2_init_9 : decode cX2_init 9 = .ok (.aload_n 0, 1) := by decide +kernel
theorem dX2_init_10 : decode cX2_init 10 = .ok (.iconst 3, 1) := by decide +kernel
theorem dX2_init_11 : decode cX2_init 11 = .ok (.putfield 13, 3) := by decide +kernel
theorem dX2_init_14 : decode cX2_init 14 = .ok (.aload_n 0, 1) := by decide +kernel
theorem dX2_init_15 : decode cX2_init 15 = .ok (.bipush 64, 2) := by decide +kernel
theorem dX2_init_17 : decode cX2_init 17 = .ok (.newarray .long, 2) := by decide +kernel
theorem dX2_init_19 : decode cX2_init 19 = .ok (.putfield 16, 3) := by decide +kernel
theorem dX2_init_22 : decode cX2_init 22 = .ok (.aload_n 0, 1) := by decide +kernel
theorem dX2_init_23 : decode cX2_init 23 = .ok (.bipush 64, 2) := by decide +kernel
theorem dX2_init_25 : decode cX2_init 25 = .ok (.newarray .long, 2) := by decide +kernel
theorem dX2_init_27 : decode cX2_init 27 = .ok (.putfield 20, 3) := by decide +kernel
theorem dX2_init_30 : decode cX2_init 30 = .ok (.aload_n 0, 1) := by decide +kernel
theorem dX2_init_31 : decode cX2_init 31 = .ok (.sipush 1024, 3) := by decide +kernel
theorem dX2_init_34 : decode cX2_init 34 = .ok (.newarray .long, 2) := by decide +kernel
theorem dX2_init_36 : decode cX2_init 36 = .ok (.putfield 23, 3) := by decide +kernel
theorem dX2_init_39 : decode cX2_init 39 = .ok (.aload_n 0, 1) := by decide +kernel
theorem dX2_init_40 : decode cX2_init 40 = .ok (.sipush 1024, 3) := by decide +kernel
theorem dX2_init_43 : decode cX2_init 43 = .ok (.newarray .long, 2) := by decide +kernel
theorem dX2_init_45 : decode cX2_init 45 = .ok (.putfield 26, 3) := by decide +kernel
theorem dX2_init_48 : decode cX2_init 48 = .ok (.return_, 1) := by decide +kernel
abbrev cX2_load : ByteArray := prog_4_method_2_code
def yX2_load : MethodName := ⟨RX2, "load", "(II)V"⟩
theorem dX2_load_0 : decode cX2_load 0 = .ok (.aload_n 0, 1) := by decide +kernel
theorem dX2_load_1 : decode cX2_load 1 = .ok (.iload_n 1, 1) := by decide +kernel
theorem dX2_load_2 : decode cX2_load 2 = .ok (.bipush 15, 2) := by decide +kernel
theorem dX2_load_4 : decode cX2_load 4 = .ok (.iand, 1) := by decide +kernel
theorem dX2_load_5 : decode cX2_load 5 = .ok (.putfield 7, 3) := by decide +kernel
theorem dX2_load_8 : decode cX2_load 8 = .ok (.aload_n 0, 1) := by decide +kernel
theorem dX2_load_9 : decode cX2_load 9 = .ok (.iload_n 2, 1) := by decide +kernel
theorem dX2_load_10 : decode cX2_load 10 = .ok (.bipush 15, 2) := by decide +kernel
theorem dX2_load_12 : decode cX2_load 12 = .ok (.iand, 1) := by decide +kernel
theorem dX2_load_13 : decode cX2_load 13 = .ok (.putfield 13, 3) := by decide +kernel
theorem dX2_load_16 : decode cX2_load 16 = .ok (.return_, 1) := by decide +kernel
abbrev cX2_above : ByteArray := prog_4_method_3_code
def yX2_above : MethodName := ⟨RX2, "above", "(I)J"⟩
theorem dX2_above_0 : decode cX2_above 0 = .ok (.iload_n 1, 1) := by decide +kernel
theorem dX2_above_1 : decode cX2_above 1 = .ok (.bipush 15, 2) := by decide +kernel
theorem dX2_above_3 : decode cX2_above 3 = .ok (.iand, 1) := by decide +kernel
theorem dX2_above_4 : decode cX2_above 4 = .ok (.istore_n 2, 1) := by decide +kernel
theorem dX2_above_5 : decode cX2_above 5 = .ok (.iconst 0, 1) := by decide +kernel
theorem dX2_above_6 : decode cX2_above 6 = .ok (.istore_n 3, 1) := by decide +kernel
theorem dX2_above_7 : decode cX2_above 7 = .ok (.iload_n 3, 1) := by decide +kernel
theorem dX2_above_8 : decode cX2_above 8 = .ok (.bipush 64, 2) := by decide +kernel
theorem dX2_above_10 : decode cX2_above 10 = .ok (.if_icmp .ge 24, 3) := by decide +kernel
theorem dX2_above_13 : decode cX2_above 13 = .ok (.aload_n 0, 1) := by decide +kernel
theorem dX2_above_14 : decode cX2_above 14 = .ok (.getfield 16, 3) := by decide +kernel
theorem dX2_above_17 : decode cX2_above 17 = .ok (.iload_n 3, 1) := by decide +kernel
theorem dX2_above_18 : decode cX2_above 18 = .ok (.iload_n 3, 1) := by decide +kernel
theorem dX2_above_19 : decode cX2_above 19 = .ok (.ifCond .ne 7, 3) := by decide +kernel
theorem dX2_above_22 : decode cX2_above 22 = .ok (.lconst 1, 1) := by decide +kernel
theorem dX2_above_23 : decode cX2_above 23 = .ok (.goto 4, 3) := by decide +kernel
theorem dX2_above_26 : decode cX2_above 26 = .ok (.lconst 0, 1) := by decide +kernel
theorem dX2_above_27 : decode cX2_above 27 = .ok (.lastore, 1) := by decide +kernel
theorem dX2_above_28 : decode cX2_above 28 = .ok (.iinc 3 1, 3) := by decide +kernel
theorem dX2_above_31 : decode cX2_above 31 = .ok (.goto (-24), 3) := by decide +kernel
theorem dX2_above_34 : decode cX2_above 34 = .ok (.iconst 0, 1) := by decide +kernel
theorem dX2_above_35 : decode cX2_above 35 = .ok (.istore_n 3, 1) := by decide +kernel
theorem dX2_above_36 : decode cX2_above 36 = .ok (.iload_n 3, 1) := by decide +kernel
theorem dX2_above_37 : decode cX2_above 37 = .ok (.aload_n 0, 1) := by decide +kernel
theorem dX2_above_38 : decode cX2_above 38 = .ok (.getfield 7, 3) := by decide +kernel
theorem dX2_above_41 : decode cX2_above 41 = .ok (.aload_n 0, 1) := by decide +kernel
theorem dX2_above_42 : decode cX2_above 42 = .ok (.getfield 13, 3) := by decide +kernel
theorem dX2_above_45 : decode cX2_above 45 = .ok (.iadd, 1) := by decide +kernel
theorem dX2_above_46 : decode cX2_above 46 = .ok (.if_icmp .ge 183, 3) := by decide +kernel
theorem dX2_above_49 : decode cX2_above 49 = .ok (.iconst 0, 1) := by decide +kernel
theorem dX2_above_50 : decode cX2_above 50 = .ok (.istore 4, 2) := by decide +kernel
theorem dX2_above_52 : decode cX2_above 52 = .ok (.iload 4, 2) := by decide +kernel
theorem dX2_above_54 : decode cX2_above 54 = .ok (.bipush 64, 2) := by decide +kernel
theorem dX2_above_56 : decode cX2_above 56 = .ok (.if_icmp .ge 17, 3) := by decide +kernel
theorem dX2_above_59 : decode cX2_above 59 = .ok (.aload_n 0, 1) := by decide +kernel
theorem dX2_above_60 : decode cX2_above 60 = .ok (.getfield 20, 3) := by decide +kernel
theorem dX2_above_63 : decode cX2_above 63 = .ok (.iload 4, 2) := by decide +kernel
theorem dX2_above_65 : decode cX2_above 65 = .ok (.lconst 0, 1) := by decide +kernel
theorem dX2_above_66 : decode cX2_above 66 = .ok (.lastore, 1) := by decide +kernel
theorem dX2_above_67 : decode cX2_above 67 = .ok (.iinc 4 1, 3) := by decide +kernel
theorem dX2_above_70 : decode cX2_above 70 = .ok (.goto (-18), 3) := by decide +kernel
theorem dX2_above_73 : decode cX2_above 73 = .ok (.iconst 0, 1) := by decide +kernel
theorem dX2_above_74 : decode cX2_above 74 = .ok (.istore 4, 2) := by decide +kernel
theorem dX2_above_76 : decode cX2_above 76 = .ok (.iload 4, 2) := by decide +kernel
theorem dX2_above_78 : decode cX2_above 78 = .ok (.aload_n 0, 1) := by decide +kernel
theorem dX2_above_79 : decode cX2_above 79 = .ok (.getfield 7, 3) := by decide +kernel
theorem dX2_above_82 : decode cX2_above 82 = .ok (.if_icmp .gt 111, 3) := by decide +kernel
theorem dX2_above_85 : decode cX2_above 85 = .ok (.iload 4, 2) := by decide +kernel
theorem dX2_above_87 : decode cX2_above 87 = .ok (.iload_n 3, 1) := by decide +kernel
theorem dX2_above_88 : decode cX2_above 88 = .ok (.if_icmp .gt 105, 3) := by decide +kernel
theorem dX2_above_91 : decode cX2_above 91 = .ok (.aload_n 0, 1) := by decide +kernel
theorem dX2_above_92 : decode cX2_above 92 = .ok (.getfield 16, 3) := by decide +kernel
theorem dX2_above_95 : decode cX2_above 95 = .ok (.iload 4, 2) := by decide +kernel
theorem dX2_above_97 : decode cX2_above 97 = .ok (.laload, 1) := by decide +kernel
theorem dX2_above_98 : decode cX2_above 98 = .ok (.lconst 0, 1) := by decide +kernel
theorem dX2_above_99 : decode cX2_above 99 = .ok (.lcmp, 1) := by decide +kernel
theorem dX2_above_100 : decode cX2_above 100 = .ok (.ifCond .le 87, 3) := by decide +kernel
theorem dX2_above_103 : decode cX2_above 103 = .ok (.iload_n 3, 1) := by decide +kernel
theorem dX2_above_104 : decode cX2_above 104 = .ok (.iload 4, 2) := by decide +kernel
theorem dX2_above_106 : decode cX2_above 106 = .ok (.isub, 1) := by decide +kernel
theorem dX2_above_107 : decode cX2_above 107 = .ok (.istore 5, 2) := by decide +kernel
theorem dX2_above_109 : decode cX2_above 109 = .ok (.iload 4, 2) := by decide +kernel
theorem dX2_above_111 : decode cX2_above 111 = .ok (.aload_n 0, 1) := by decide +kernel
theorem dX2_above_112 : decode cX2_above 112 = .ok (.getfield 7, 3) := by decide +kernel
theorem dX2_above_115 : decode cX2_above 115 = .ok (.if_icmp .ge 29, 3) := by decide +kernel
theorem dX2_above_118 : decode cX2_above 118 = .ok (.aload_n 0, 1) := by decide +kernel
theorem dX2_above_119 : decode cX2_above 119 = .ok (.getfield 20, 3) := by decide +kernel
theorem dX2_above_122 : decode cX2_above 122 = .ok (.iload 4, 2) := by decide +kernel
theorem dX2_above_124 : decode cX2_above 124 = .ok (.iconst 1, 1) := by decide +kernel
theorem dX2_above_125 : decode cX2_above 125 = .ok (.iadd, 1) := by decide +kernel
theorem dX2_above_126 : decode cX2_above 126 = .ok (.aload_n 0, 1) := by decide +kernel
theorem dX2_above_127 : decode cX2_above 127 = .ok (.getfield 20, 3) := by decide +kernel
theorem dX2_above_130 : decode cX2_above 130 = .ok (.iload 4, 2) := by decide +kernel
theorem dX2_above_132 : decode cX2_above 132 = .ok (.iconst 1, 1) := by decide +kernel
theorem dX2_above_133 : decode cX2_above 133 = .ok (.iadd, 1) := by decide +kernel
theorem dX2_above_134 : decode cX2_above 134 = .ok (.laload, 1) := by decide +kernel
theorem dX2_above_135 : decode cX2_above 135 = .ok (.aload_n 0, 1) := by decide +kernel
theorem dX2_above_136 : decode cX2_above 136 = .ok (.getfield 16, 3) := by decide +kernel
theorem dX2_above_139 : decode cX2_above 139 = .ok (.iload 4, 2) := by decide +kernel
theorem dX2_above_141 : decode cX2_above 141 = .ok (.laload, 1) := by decide +kernel
theorem dX2_above_142 : decode cX2_above 142 = .ok (.ladd, 1) := by decide +kernel
theorem dX2_above_143 : decode cX2_above 143 = .ok (.lastore, 1) := by decide +kernel
theorem dX2_above_144 : decode cX2_above 144 = .ok (.iload 5, 2) := by decide +kernel
theorem dX2_above_146 : decode cX2_above 146 = .ok (.aload_n 0, 1) := by decide +kernel
theorem dX2_above_147 : decode cX2_above 147 = .ok (.getfield 13, 3) := by decide +kernel
theorem dX2_above_150 : decode cX2_above 150 = .ok (.if_icmp .ge 37, 3) := by decide +kernel
theorem dX2_above_153 : decode cX2_above 153 = .ok (.iload 4, 2) := by decide +kernel
theorem dX2_above_155 : decode cX2_above 155 = .ok (.iload 5, 2) := by decide +kernel
theorem dX2_above_157 : decode cX2_above 157 = .ok (.isub, 1) := by decide +kernel
theorem dX2_above_158 : decode cX2_above 158 = .ok (.iconst 1, 1) := by decide +kernel
theorem dX2_above_159 : decode cX2_above 159 = .ok (.isub, 1) := by decide +kernel
theorem dX2_above_160 : decode cX2_above 160 = .ok (.iload_n 2, 1) := by decide +kernel
theorem dX2_above_161 : decode cX2_above 161 = .ok (.ineg, 1) := by decide +kernel
theorem dX2_above_162 : decode cX2_above 162 = .ok (.if_icmp .lt 25, 3) := by decide +kernel
theorem dX2_above_165 : decode cX2_above 165 = .ok (.aload_n 0, 1) := by decide +kernel
theorem dX2_above_166 : decode cX2_above 166 = .ok (.getfield 20, 3) := by decide +kernel
theorem dX2_above_169 : decode cX2_above 169 = .ok (.iload 4, 2) := by decide +kernel
theorem dX2_above_171 : decode cX2_above 171 = .ok (.aload_n 0, 1) := by decide +kernel
theorem dX2_above_172 : decode cX2_above 172 = .ok (.getfield 20, 3) := by decide +kernel
theorem dX2_above_175 : decode cX2_above 175 = .ok (.iload 4, 2) := by decide +kernel
theorem dX2_above_177 : decode cX2_above 177 = .ok (.laload, 1) := by decide +kernel
theorem dX2_above_178 : decode cX2_above 178 = .ok (.aload_n 0, 1) := by decide +kernel
theorem dX2_above_179 : decode cX2_above 179 = .ok (.getfield 16, 3) := by decide +kernel
theorem dX2_above_182 : decode cX2_above 182 = .ok (.iload 4, 2) := by decide +kernel
theorem dX2_above_184 : decode cX2_above 184 = .ok (.laload, 1) := by decide +kernel
theorem dX2_above_185 : decode cX2_above 185 = .ok (.ladd, 1) := by decide +kernel
theorem dX2_above_186 : decode cX2_above 186 = .ok (.lastore, 1) := by decide +kernel
theorem dX2_above_187 : decode cX2_above 187 = .ok (.iinc 4 1, 3) := by decide +kernel
theorem dX2_above_190 : decode cX2_above 190 = .ok (.goto (-114), 3) := by decide +kernel
theorem dX2_above_193 : decode cX2_above 193 = .ok (.iconst 0, 1) := by decide +kernel
theorem dX2_above_194 : decode cX2_above 194 = .ok (.istore 4, 2) := by decide +kernel
theorem dX2_above_196 : decode cX2_above 196 = .ok (.iload 4, 2) := by decide +kernel
theorem dX2_above_198 : decode cX2_above 198 = .ok (.bipush 64, 2) := by decide +kernel
theorem dX2_above_200 : decode cX2_above 200 = .ok (.if_icmp .ge 23, 3) := by decide +kernel
theorem dX2_above_203 : decode cX2_above 203 = .ok (.aload_n 0, 1) := by decide +kernel
theorem dX2_above_204 : decode cX2_above 204 = .ok (.getfield 16, 3) := by decide +kernel
theorem dX2_above_207 : decode cX2_above 207 = .ok (.iload 4, 2) := by decide +kernel
theorem dX2_above_209 : decode cX2_above 209 = .ok (.aload_n 0, 1) := by decide +kernel
theorem dX2_above_210 : decode cX2_above 210 = .ok (.getfield 20, 3) := by decide +kernel
theorem dX2_above_213 : decode cX2_above 213 = .ok (.iload 4, 2) := by decide +kernel
theorem dX2_above_215 : decode cX2_above 215 = .ok (.laload, 1) := by decide +kernel
theorem dX2_above_216 : decode cX2_above 216 = .ok (.lastore, 1) := by decide +kernel
theorem dX2_above_217 : decode cX2_above 217 = .ok (.iinc 4 1, 3) := by decide +kernel
theorem dX2_above_220 : decode cX2_above 220 = .ok (.goto (-24), 3) := by decide +kernel
theorem dX2_above_223 : decode cX2_above 223 = .ok (.iinc 3 1, 3) := by decide +kernel
theorem dX2_above_226 : decode cX2_above 226 = .ok (.goto (-190), 3) := by decide +kernel
theorem dX2_above_229 : decode cX2_above 229 = .ok (.aload_n 0, 1) := by decide +kernel
theorem dX2_above_230 : decode cX2_above 230 = .ok (.getfield 16, 3) := by decide +kernel
theorem dX2_above_233 : decode cX2_above 233 = .ok (.aload_n 0, 1) := by decide +kernel
theorem dX2_above_234 : decode cX2_above 234 = .ok (.getfield 7, 3) := by decide +kernel
theorem dX2_above_237 : decode cX2_above 237 = .ok (.laload, 1) := by decide +kernel
theorem dX2_above_238 : decode cX2_above 238 = .ok (.lreturn, 1) := by decide +kernel
abbrev cX2_all : ByteArray := prog_4_method_4_code
def yX2_all : MethodName := ⟨RX2, "all", "()J"⟩
theorem dX2_all_0 : decode cX2_all 0 = .ok (.iconst 0, 1) := by decide +kernel
theorem dX2_all_1 : decode cX2_all 1 = .ok (.istore_n 1, 1) := by decide +kernel
theorem dX2_all_2 : decode cX2_all 2 = .ok (.iload_n 1, 1) := by decide +kernel
theorem dX2_all_3 : decode cX2_all 3 = .ok (.bipush 64, 2) := by decide +kernel
theorem dX2_all_5 : decode cX2_all 5 = .ok (.if_icmp .ge 24, 3) := by decide +kernel
theorem dX2_all_8 : decode cX2_all 8 = .ok (.aload_n 0, 1) := by decide +kernel
theorem dX2_all_9 : decode cX2_all 9 = .ok (.getfield 16, 3) := by decide +kernel
theorem dX2_all_12 : decode cX2_all 12 = .ok (.iload_n 1, 1) := by decide +kernel
theorem dX2_all_13 : decode cX2_all 13 = .ok (.iload_n 1, 1) := by decide +kernel
theorem dX2_all_14 : decode cX2_all 14 = .ok (.ifCond .gt 7, 3) := by decide +kernel
theorem dX2_all_17 : decode cX2_all 17 = .ok (.lconst 1, 1) := by decide +kernel
theorem dX2_all_18 : decode cX2_all 18 = .ok (.goto 4, 3) := by decide +kernel
theorem dX2_all_21 : decode cX2_all 21 = .ok (.lconst 0, 1) := by decide +kernel
theorem dX2_all_22 : decode cX2_all 22 = .ok (.lastore, 1) := by decide +kernel
theorem dX2_all_23 : decode cX2_all 23 = .ok (.iinc 1 1, 3) := by decide +kernel
theorem dX2_all_26 : decode cX2_all 26 = .ok (.goto (-24), 3) := by decide +kernel
theorem dX2_all_29 : decode cX2_all 29 = .ok (.iconst 0, 1) := by decide +kernel
theorem dX2_all_30 : decode cX2_all 30 = .ok (.istore_n 1, 1) := by decide +kernel
theorem dX2_all_31 : decode cX2_all 31 = .ok (.iload_n 1, 1) := by decide +kernel
theorem dX2_all_32 : decode cX2_all 32 = .ok (.aload_n 0, 1) := by decide +kernel
theorem dX2_all_33 : decode cX2_all 33 = .ok (.getfield 7, 3) := by decide +kernel
theorem dX2_all_36 : decode cX2_all 36 = .ok (.aload_n 0, 1) := by decide +kernel
theorem dX2_all_37 : decode cX2_all 37 = .ok (.getfield 13, 3) := by decide +kernel
theorem dX2_all_40 : decode cX2_all 40 = .ok (.iadd, 1) := by decide +kernel
theorem dX2_all_41 : decode cX2_all 41 = .ok (.if_icmp .ge 139, 3) := by decide +kernel
theorem dX2_all_44 : decode cX2_all 44 = .ok (.iconst 0, 1) := by decide +kernel
theorem dX2_all_45 : decode cX2_all 45 = .ok (.istore_n 2, 1) := by decide +kernel
theorem dX2_all_46 : decode cX2_all 46 = .ok (.iload_n 2, 1) := by decide +kernel
theorem dX2_all_47 : decode cX2_all 47 = .ok (.bipush 64, 2) := by decide +kernel
theorem dX2_all_49 : decode cX2_all 49 = .ok (.if_icmp .ge 16, 3) := by decide +kernel
theorem dX2_all_52 : decode cX2_all 52 = .ok (.aload_n 0, 1) := by decide +kernel
theorem dX2_all_53 : decode cX2_all 53 = .ok (.getfield 20, 3) := by decide +kernel
theorem dX2_all_56 : decode cX2_all 56 = .ok (.iload_n 2, 1) := by decide +kernel
theorem dX2_all_57 : decode cX2_all 57 = .ok (.lconst 0, 1) := by decide +kernel
theorem dX2_all_58 : decode cX2_all 58 = .ok (.lastore, 1) := by decide +kernel
theorem dX2_all_59 : decode cX2_all 59 = .ok (.iinc 2 1, 3) := by decide +kernel
theorem dX2_all_62 : decode cX2_all 62 = .ok (.goto (-16), 3) := by decide +kernel
theorem dX2_all_65 : decode cX2_all 65 = .ok (.iconst 0, 1) := by decide +kernel
theorem dX2_all_66 : decode cX2_all 66 = .ok (.istore_n 2, 1) := by decide +kernel
theorem dX2_all_67 : decode cX2_all 67 = .ok (.iload_n 2, 1) := by decide +kernel
theorem dX2_all_68 : decode cX2_all 68 = .ok (.aload_n 0, 1) := by decide +kernel
theorem dX2_all_69 : decode cX2_all 69 = .ok (.getfield 7, 3) := by decide +kernel
theorem dX2_all_72 : decode cX2_all 72 = .ok (.if_icmp .gt 76, 3) := by decide +kernel
theorem dX2_all_75 : decode cX2_all 75 = .ok (.iload_n 2, 1) := by decide +kernel
theorem dX2_all_76 : decode cX2_all 76 = .ok (.iload_n 1, 1) := by decide +kernel
theorem dX2_all_77 : decode cX2_all 77 = .ok (.if_icmp .gt 71, 3) := by decide +kernel
theorem dX2_all_80 : decode cX2_all 80 = .ok (.iload_n 1, 1) := by decide +kernel
theorem dX2_all_81 : decode cX2_all 81 = .ok (.iload_n 2, 1) := by decide +kernel
theorem dX2_all_82 : decode cX2_all 82 = .ok (.isub, 1) := by decide +kernel
theorem dX2_all_83 : decode cX2_all 83 = .ok (.istore_n 3, 1) := by decide +kernel
theorem dX2_all_84 : decode cX2_all 84 = .ok (.iload_n 2, 1) := by decide +kernel
theorem dX2_all_85 : decode cX2_all 85 = .ok (.aload_n 0, 1) := by decide +kernel
theorem dX2_all_86 : decode cX2_all 86 = .ok (.getfield 7, 3) := by decide +kernel
theorem dX2_all_89 : decode cX2_all 89 = .ok (.if_icmp .ge 26, 3) := by decide +kernel
theorem dX2_all_92 : decode cX2_all 92 = .ok (.aload_n 0, 1) := by decide +kernel
theorem dX2_all_93 : decode cX2_all 93 = .ok (.getfield 20, 3) := by decide +kernel
theorem dX2_all_96 : decode cX2_all 96 = .ok (.iload_n 2, 1) := by decide +kernel
theorem dX2_all_97 : decode cX2_all 97 = .ok (.iconst 1, 1) := by decide +kernel
theorem dX2_all_98 : decode cX2_all 98 = .ok (.iadd, 1) := by decide +kernel
theorem dX2_all_99 : decode cX2_all 99 = .ok (.aload_n 0, 1) := by decide +kernel
theorem dX2_all_100 : decode cX2_all 100 = .ok (.getfield 20, 3) := by decide +kernel
theorem dX2_all_103 : decode cX2_all 103 = .ok (.iload_n 2, 1) := by decide +kernel
theorem dX2_all_104 : decode cX2_all 104 = .ok (.iconst 1, 1) := by decide +kernel
theorem dX2_all_105 : decode cX2_all 105 = .ok (.iadd, 1) := by decide +kernel
theorem dX2_all_106 : decode cX2_all 106 = .ok (.laload, 1) := by decide +kernel
theorem dX2_all_107 : decode cX2_all 107 = .ok (.aload_n 0, 1) := by decide +kernel
theorem dX2_all_108 : decode cX2_all 108 = .ok (.getfield 16, 3) := by decide +kernel
theorem dX2_all_111 : decode cX2_all 111 = .ok (.iload_n 2, 1) := by decide +kernel
theorem dX2_all_112 : decode cX2_all 112 = .ok (.laload, 1) := by decide +kernel
theorem dX2_all_113 : decode cX2_all 113 = .ok (.ladd, 1) := by decide +kernel
theorem dX2_all_114 : decode cX2_all 114 = .ok (.lastore, 1) := by decide +kernel
theorem dX2_all_115 : decode cX2_all 115 = .ok (.iload_n 3, 1) := by decide +kernel
theorem dX2_all_116 : decode cX2_all 116 = .ok (.aload_n 0, 1) := by decide +kernel
theorem dX2_all_117 : decode cX2_all 117 = .ok (.getfield 13, 3) := by decide +kernel
theorem dX2_all_120 : decode cX2_all 120 = .ok (.if_icmp .ge 22, 3) := by decide +kernel
theorem dX2_all_123 : decode cX2_all 123 = .ok (.aload_n 0, 1) := by decide +kernel
theorem dX2_all_124 : decode cX2_all 124 = .ok (.getfield 20, 3) := by decide +kernel
theorem dX2_all_127 : decode cX2_all 127 = .ok (.iload_n 2, 1) := by decide +kernel
theorem dX2_all_128 : decode cX2_all 128 = .ok (.aload_n 0, 1) := by decide +kernel
theorem dX2_all_129 : decode cX2_all 129 = .ok (.getfield 20, 3) := by decide +kernel
theorem dX2_all_132 : decode cX2_all 132 = .ok (.iload_n 2, 1) := by decide +kernel
theorem dX2_all_133 : decode cX2_all 133 = .ok (.laload, 1) := by decide +kernel
theorem dX2_all_134 : decode cX2_all 134 = .ok (.aload_n 0, 1) := by decide +kernel
theorem dX2_all_135 : decode cX2_all 135 = .ok (.getfield 16, 3) := by decide +kernel
theorem dX2_all_138 : decode cX2_all 138 = .ok (.iload_n 2, 1) := by decide +kernel
theorem dX2_all_139 : decode cX2_all 139 = .ok (.laload, 1) := by decide +kernel
theorem dX2_all_140 : decode cX2_all 140 = .ok (.ladd, 1) := by decide +kernel
theorem dX2_all_141 : decode cX2_all 141 = .ok (.lastore, 1) := by decide +kernel
theorem dX2_all_142 : decode cX2_all 142 = .ok (.iinc 2 1, 3) := by decide +kernel
theorem dX2_all_145 : decode cX2_all 145 = .ok (.goto (-78), 3) := by decide +kernel
theorem dX2_all_148 : decode cX2_all 148 = .ok (.iconst 0, 1) := by decide +kernel
theorem dX2_all_149 : decode cX2_all 149 = .ok (.istore_n 2, 1) := by decide +kernel
theorem dX2_all_150 : decode cX2_all 150 = .ok (.iload_n 2, 1) := by decide +kernel
theorem dX2_all_151 : decode cX2_all 151 = .ok (.bipush 64, 2) := by decide +kernel
theorem dX2_all_153 : decode cX2_all 153 = .ok (.if_icmp .ge 21, 3) := by decide +kernel
theorem dX2_all_156 : decode cX2_all 156 = .ok (.aload_n 0, 1) := by decide +kernel
theorem dX2_all_157 : decode cX2_all 157 = .ok (.getfield 16, 3) := by decide +kernel
theorem dX2_all_160 : decode cX2_all 160 = .ok (.iload_n 2, 1) := by decide +kernel
theorem dX2_all_161 : decode cX2_all 161 = .ok (.aload_n 0, 1) := by decide +kernel
theorem dX2_all_162 : decode cX2_all 162 = .ok (.getfield 20, 3) := by decide +kernel
theorem dX2_all_165 : decode cX2_all 165 = .ok (.iload_n 2, 1) := by decide +kernel
theorem dX2_all_166 : decode cX2_all 166 = .ok (.laload, 1) := by decide +kernel
theorem dX2_all_167 : decode cX2_all 167 = .ok (.lastore, 1) := by decide +kernel
theorem dX2_all_168 : decode cX2_all 168 = .ok (.iinc 2 1, 3) := by decide +kernel
theorem dX2_all_171 : decode cX2_all 171 = .ok (.goto (-21), 3) := by decide +kernel
theorem dX2_all_174 : decode cX2_all 174 = .ok (.iinc 1 1, 3) := by decide +kernel
theorem dX2_all_177 : decode cX2_all 177 = .ok (.goto (-146), 3) := by decide +kernel
theorem dX2_all_180 : decode cX2_all 180 = .ok (.aload_n 0, 1) := by decide +kernel
theorem dX2_all_181 : decode cX2_all 181 = .ok (.getfield 16, 3) := by decide +kernel
theorem dX2_all_184 : decode cX2_all 184 = .ok (.aload_n 0, 1) := by decide +kernel
theorem dX2_all_185 : decode cX2_all 185 = .ok (.getfield 7, 3) := by decide +kernel
theorem dX2_all_188 : decode cX2_all 188 = .ok (.laload, 1) := by decide +kernel
theorem dX2_all_189 : decode cX2_all 189 = .ok (.lreturn, 1) := by decide +kernel
abbrev cX2_between : ByteArray := prog_4_method_5_code
def yX2_between : MethodName := ⟨RX2, "between", "(II)J"⟩
theorem dX2_between_0 : decode cX2_between 0 = .ok (.iload_n 1, 1) := by decide +kernel
theorem dX2_between_1 : decode cX2_between 1 = .ok (.bipush 15, 2) := by decide +kernel
theorem dX2_between_3 : decode cX2_between 3 = .ok (.iand, 1) := by decide +kernel
theorem dX2_between_4 : decode cX2_between 4 = .ok (.istore_n 3, 1) := by decide +kernel
theorem dX2_between_5 : decode cX2_between 5 = .ok (.iload_n 2, 1) := by decide +kernel
theorem dX2_between_6 : decode cX2_between 6 = .ok (.bipush 15, 2) := by decide +kernel
theorem dX2_between_8 : decode cX2_between 8 = .ok (.iand, 1) := by decide +kernel
theorem dX2_between_9 : decode cX2_between 9 = .ok (.istore 4, 2) := by decide +kernel
theorem dX2_between_11 : decode cX2_between 11 = .ok (.iconst 0, 1) := by decide +kernel
theorem dX2_between_12 : decode cX2_between 12 = .ok (.istore 5, 2) := by decide +kernel
theorem dX2_between_14 : decode cX2_between 14 = .ok (.iload 5, 2) := by decide +kernel
theorem dX2_between_16 : decode cX2_between 16 = .ok (.bipush 64, 2) := by decide +kernel
theorem dX2_between_18 : decode cX2_between 18 = .ok (.if_icmp .ge 26, 3) := by decide +kernel
theorem dX2_between_21 : decode cX2_between 21 = .ok (.aload_n 0, 1) := by decide +kernel
theorem dX2_between_22 : decode cX2_between 22 = .ok (.getfield 16, 3) := by decide +kernel
theorem dX2_between_25 : decode cX2_between 25 = .ok (.iload 5, 2) := by decide +kernel
theorem dX2_between_27 : decode cX2_between 27 = .ok (.iload 5, 2) := by decide +kernel
theorem dX2_between_29 : decode cX2_between 29 = .ok (.ifCond .ne 7, 3) := by decide +kernel
theorem dX2_between_32 : decode cX2_between 32 = .ok (.lconst 1, 1) := by decide +kernel
theorem dX2_between_33 : decode cX2_between 33 = .ok (.goto 4, 3) := by decide +kernel
theorem dX2_between_36 : decode cX2_between 36 = .ok (.lconst 0, 1) := by decide +kernel
theorem dX2_between_37 : decode cX2_between 37 = .ok (.lastore, 1) := by decide +kernel
theorem dX2_between_38 : decode cX2_between 38 = .ok (.iinc 5 1, 3) := by decide +kernel
theorem dX2_between_41 : decode cX2_between 41 = .ok (.goto (-27), 3) := by decide +kernel
theorem dX2_between_44 : decode cX2_between 44 = .ok (.iconst 0, 1) := by decide +kernel
theorem dX2_between_45 : decode cX2_between 45 = .ok (.istore 5, 2) := by decide +kernel
theorem dX2_between_47 : decode cX2_between 47 = .ok (.iload 5, 2) := by decide +kernel
theorem dX2_between_49 : decode cX2_between 49 = .ok (.aload_n 0, 1) := by decide +kernel
theorem dX2_between_50 : decode cX2_between 50 = .ok (.getfield 7, 3) := by decide +kernel
theorem dX2_between_53 : decode cX2_between 53 = .ok (.aload_n 0, 1) := by decide +kernel
theorem dX2_between_54 : decode cX2_between 54 = .ok (.getfield 13, 3) := by decide +kernel
theorem dX2_between_57 : decode cX2_between 57 = .ok (.iadd, 1) := by decide +kernel
theorem dX2_between_58 : decode cX2_between 58 = .ok (.if_icmp .ge 197, 3) := by decide +kernel
theorem dX2_between_61 : decode cX2_between 61 = .ok (.iconst 0, 1) := by decide +kernel
theorem dX2_between_62 : decode cX2_between 62 = .ok (.istore 6, 2) := by decide +kernel
theorem dX2_between_64 : decode cX2_between 64 = .ok (.iload 6, 2) := by decide +kernel
theorem dX2_between_66 : decode cX2_between 66 = .ok (.bipush 64, 2) := by decide +kernel
theorem dX2_between_68 : decode cX2_between 68 = .ok (.if_icmp .ge 17, 3) := by decide +kernel
theorem dX2_between_71 : decode cX2_between 71 = .ok (.aload_n 0, 1) := by decide +kernel
theorem dX2_between_72 : decode cX2_between 72 = .ok (.getfield 20, 3) := by decide +kernel
theorem dX2_between_75 : decode cX2_between 75 = .ok (.iload 6, 2) := by decide +kernel
theorem dX2_between_77 : decode cX2_between 77 = .ok (.lconst 0, 1) := by decide +kernel
theorem dX2_between_78 : decode cX2_between 78 = .ok (.lastore, 1) := by decide +kernel
theorem dX2_between_79 : decode cX2_between 79 = .ok (.iinc 6 1, 3) := by decide +kernel
theorem dX2_between_82 : decode cX2_between 82 = .ok (.goto (-18), 3) := by decide +kernel
theorem dX2_between_85 : decode cX2_between 85 = .ok (.iconst 0, 1) := by decide +kernel
theorem dX2_between_86 : decode cX2_between 86 = .ok (.istore 6, 2) := by decide +kernel
theorem dX2_between_88 : decode cX2_between 88 = .ok (.iload 6, 2) := by decide +kernel
theorem dX2_between_90 : decode cX2_between 90 = .ok (.aload_n 0, 1) := by decide +kernel
theorem dX2_between_91 : decode cX2_between 91 = .ok (.getfield 7, 3) := by decide +kernel
theorem dX2_between_94 : decode cX2_between 94 = .ok (.if_icmp .gt 125, 3) := by decide +kernel
theorem dX2_between_97 : decode cX2_between 97 = .ok (.iload 6, 2) := by decide +kernel
theorem dX2_between_99 : decode cX2_between 99 = .ok (.iload 5, 2) := by decide +kernel
theorem dX2_between_101 : decode cX2_between 101 = .ok (.if_icmp .gt 118, 3) := by decide +kernel
theorem dX2_between_104 : decode cX2_between 104 = .ok (.aload_n 0, 1) := by decide +kernel
theorem dX2_between_105 : decode cX2_between 105 = .ok (.getfield 16, 3) := by decide +kernel
theorem dX2_between_108 : decode cX2_between 108 = .ok (.iload 6, 2) := by decide +kernel
theorem dX2_between_110 : decode cX2_between 110 = .ok (.laload, 1) := by decide +kernel
theorem dX2_between_111 : decode cX2_between 111 = .ok (.lconst 0, 1) := by decide +kernel
theorem dX2_between_112 : decode cX2_between 112 = .ok (.lcmp, 1) := by decide +kernel
theorem dX2_between_113 : decode cX2_between 113 = .ok (.ifCond .le 100, 3) := by decide +kernel
theorem dX2_between_116 : decode cX2_between 116 = .ok (.iload 5, 2) := by decide +kernel
theorem dX2_between_118 : decode cX2_between 118 = .ok (.iload 6, 2) := by decide +kernel
theorem dX2_between_120 : decode cX2_between 120 = .ok (.isub, 1) := by decide +kernel
theorem dX2_between_121 : decode cX2_between 121 = .ok (.istore 7, 2) := by decide +kernel
theorem dX2_between_123 : decode cX2_between 123 = .ok (.iload 6, 2) := by decide +kernel
theorem dX2_between_125 : decode cX2_between 125 = .ok (.aload_n 0, 1) := by decide +kernel
theorem dX2_between_126 : decode cX2_between 126 = .ok (.getfield 7, 3) := by decide +kernel
theorem dX2_between_129 : decode cX2_between 129 = .ok (.if_icmp .ge 41, 3) := by decide +kernel
theorem dX2_between_132 : decode cX2_between 132 = .ok (.iload 6, 2) := by decide +kernel
theorem dX2_between_134 : decode cX2_between 134 = .ok (.iconst 1, 1) := by decide +kernel
theorem dX2_between_135 : decode cX2_between 135 = .ok (.iadd, 1) := by decide +kernel
theorem dX2_between_136 : decode cX2_between 136 = .ok (.iload 7, 2) := by decide +kernel
theorem dX2_between_138 : decode cX2_between 138 = .ok (.isub, 1) := by decide +kernel
theorem dX2_between_139 : decode cX2_between 139 = .ok (.iload 4, 2) := by decide +kernel
theorem dX2_between_141 : decode cX2_between 141 = .ok (.if_icmp .gt 29, 3) := by decide +kernel
theorem dX2_between_144 : decode cX2_between 144 = .ok (.aload_n 0, 1) := by decide +kernel
theorem dX2_between_145 : decode cX2_between 145 = .ok (.getfield 20, 3) := by decide +kernel
theorem dX2_between_148 : decode cX2_between 148 = .ok (.iload 6, 2) := by decide +kernel
theorem dX2_between_150 : decode cX2_between 150 = .ok (.iconst 1, 1) := by decide +kernel
theorem dX2_between_151 : decode cX2_between 151 = .ok (.iadd, 1) := by decide +kernel
theorem dX2_between_152 : decode cX2_between 152 = .ok (.aload_n 0, 1) := by decide +kernel
theorem dX2_between_153 : decode cX2_between 153 = .ok (.getfield 20, 3) := by decide +kernel
theorem dX2_between_156 : decode cX2_between 156 = .ok (.iload 6, 2) := by decide +kernel
theorem dX2_between_158 : decode cX2_between 158 = .ok (.iconst 1, 1) := by decide +kernel
theorem dX2_between_159 : decode cX2_between 159 = .ok (.iadd, 1) := by decide +kernel
theorem dX2_between_160 : decode cX2_between 160 = .ok (.laload, 1) := by decide +kernel
theorem dX2_between_161 : decode cX2_between 161 = .ok (.aload_n 0, 1) := by decide +kernel
theorem dX2_between_162 : decode cX2_between 162 = .ok (.getfield 16, 3) := by decide +kernel
theorem dX2_between_165 : decode cX2_between 165 = .ok (.iload 6, 2) := by decide +kernel
theorem dX2_between_167 : decode cX2_between 167 = .ok (.laload, 1) := by decide +kernel
theorem dX2_between_168 : decode cX2_between 168 = .ok (.ladd, 1) := by decide +kernel
theorem dX2_between_169 : decode cX2_between 169 = .ok (.lastore, 1) := by decide +kernel
theorem dX2_between_170 : decode cX2_between 170 = .ok (.iload 7, 2) := by decide +kernel
theorem dX2_between_172 : decode cX2_between 172 = .ok (.aload_n 0, 1) := by decide +kernel
theorem dX2_between_173 : decode cX2_between 173 = .ok (.getfield 13, 3) := by decide +kernel
theorem dX2_between_176 : decode cX2_between 176 = .ok (.if_icmp .ge 37, 3) := by decide +kernel
theorem dX2_between_179 : decode cX2_between 179 = .ok (.iload 6, 2) := by decide +kernel
theorem dX2_between_181 : decode cX2_between 181 = .ok (.iload 7, 2) := by decide +kernel
theorem dX2_between_183 : decode cX2_between 183 = .ok (.isub, 1) := by decide +kernel
theorem dX2_between_184 : decode cX2_between 184 = .ok (.iconst 1, 1) := by decide +kernel
theorem dX2_between_185 : decode cX2_between 185 = .ok (.isub, 1) := by decide +kernel
theorem dX2_between_186 : decode cX2_between 186 = .ok (.iload_n 3, 1) := by decide +kernel
theorem dX2_between_187 : decode cX2_between 187 = .ok (.ineg, 1) := by decide +kernel
theorem dX2_between_188 : decode cX2_between 188 = .ok (.if_icmp .lt 25, 3) := by decide +kernel
theorem dX2_between_191 : decode cX2_between 191 = .ok (.aload_n 0, 1) := by decide +kernel
theorem dX2_between_192 : decode cX2_between 192 = .ok (.getfield 20, 3) := by decide +kernel
theorem dX2_between_195 : decode cX2_between 195 = .ok (.iload 6, 2) := by decide +kernel
theorem dX2_between_197 : decode cX2_between 197 = .ok (.aload_n 0, 1) := by decide +kernel
theorem dX2_between_198 : decode cX2_between 198 = .ok (.getfield 20, 3) := by decide +kernel
theorem dX2_between_201 : decode cX2_between 201 = .ok (.iload 6, 2) := by decide +kernel
theorem dX2_between_203 : decode cX2_between 203 = .ok (.laload, 1) := by decide +kernel
theorem dX2_between_204 : decode cX2_between 204 = .ok (.aload_n 0, 1) := by decide +kernel
theorem dX2_between_205 : decode cX2_between 205 = .ok (.getfield 16, 3) := by decide +kernel
theorem dX2_between_208 : decode cX2_between 208 = .ok (.iload 6, 2) := by decide +kernel
theorem dX2_between_210 : decode cX2_between 210 = .ok (.laload, 1) := by decide +kernel
theorem dX2_between_211 : decode cX2_between 211 = .ok (.ladd, 1) := by decide +kernel
theorem dX2_between_212 : decode cX2_between 212 = .ok (.lastore, 1) := by decide +kernel
theorem dX2_between_213 : decode cX2_between 213 = .ok (.iinc 6 1, 3) := by decide +kernel
theorem dX2_between_216 : decode cX2_between 216 = .ok (.goto (-128), 3) := by decide +kernel
theorem dX2_between_219 : decode cX2_between 219 = .ok (.iconst 0, 1) := by decide +kernel
theorem dX2_between_220 : decode cX2_between 220 = .ok (.istore 6, 2) := by decide +kernel
theorem dX2_between_222 : decode cX2_between 222 = .ok (.iload 6, 2) := by decide +kernel
theorem dX2_between_224 : decode cX2_between 224 = .ok (.bipush 64, 2) := by decide +kernel
theorem dX2_between_226 : decode cX2_between 226 = .ok (.if_icmp .ge 23, 3) := by decide +kernel
theorem dX2_between_229 : decode cX2_between 229 = .ok (.aload_n 0, 1) := by decide +kernel
theorem dX2_between_230 : decode cX2_between 230 = .ok (.getfield 16, 3) := by decide +kernel
theorem dX2_between_233 : decode cX2_between 233 = .ok (.iload 6, 2) := by decide +kernel
theorem dX2_between_235 : decode cX2_between 235 = .ok (.aload_n 0, 1) := by decide +kernel
theorem dX2_between_236 : decode cX2_between 236 = .ok (.getfield 20, 3) := by decide +kernel
theorem dX2_between_239 : decode cX2_between 239 = .ok (.iload 6, 2) := by decide +kernel
theorem dX2_between_241 : decode cX2_between 241 = .ok (.laload, 1) := by decide +kernel
theorem dX2_between_242 : decode cX2_between 242 = .ok (.lastore, 1) := by decide +kernel
theorem dX2_between_243 : decode cX2_between 243 = .ok (.iinc 6 1, 3) := by decide +kernel
theorem dX2_between_246 : decode cX2_between 246 = .ok (.goto (-24), 3) := by decide +kernel
theorem dX2_between_249 : decode cX2_between 249 = .ok (.iinc 5 1, 3) := by decide +kernel
theorem dX2_between_252 : decode cX2_between 252 = .ok (.goto (-205), 3) := by decide +kernel
theorem dX2_between_255 : decode cX2_between 255 = .ok (.aload_n 0, 1) := by decide +kernel
theorem dX2_between_256 : decode cX2_between 256 = .ok (.getfield 16, 3) := by decide +kernel
theorem dX2_between_259 : decode cX2_between 259 = .ok (.aload_n 0, 1) := by decide +kernel
theorem dX2_between_260 : decode cX2_between 260 = .ok (.getfield 7, 3) := by decide +kernel
theorem dX2_between_263 : decode cX2_between 263 = .ok (.laload, 1) := by decide +kernel
theorem dX2_between_264 : decode cX2_between 264 = .ok (.lreturn, 1) := by decide +kernel
abbrev cX2_apart : ByteArray := prog_4_method_6_code
def yX2_apart : MethodName := ⟨RX2, "apart", "()J"⟩
theorem dX2_apart_0 : decode cX2_apart 0 = .ok (.iconst 0, 1) := by decide +kernel
theorem dX2_apart_1 : decode cX2_apart 1 = .ok (.istore_n 1, 1) := by decide +kernel
theorem dX2_apart_2 : decode cX2_apart 2 = .ok (.iload_n 1, 1) := by decide +kernel
theorem dX2_apart_3 : decode cX2_apart 3 = .ok (.sipush 1024, 3) := by decide +kernel
theorem dX2_apart_6 : decode cX2_apart 6 = .ok (.if_icmp .ge 16, 3) := by decide +kernel
theorem dX2_apart_9 : decode cX2_apart 9 = .ok (.aload_n 0, 1) := by decide +kernel
theorem dX2_apart_10 : decode cX2_apart 10 = .ok (.getfield 23, 3) := by decide +kernel
theorem dX2_apart_13 : decode cX2_apart 13 = .ok (.iload_n 1, 1) := by decide +kernel
theorem dX2_apart_14 : decode cX2_apart 14 = .ok (.lconst 0, 1) := by decide +kernel
theorem dX2_apart_15 : decode cX2_apart 15 = .ok (.lastore, 1) := by decide +kernel
theorem dX2_apart_16 : decode cX2_apart 16 = .ok (.iinc 1 1, 3) := by decide +kernel
theorem dX2_apart_19 : decode cX2_apart 19 = .ok (.goto (-17), 3) := by decide +kernel
theorem dX2_apart_22 : decode cX2_apart 22 = .ok (.aload_n 0, 1) := by decide +kernel
theorem dX2_apart_23 : decode cX2_apart 23 = .ok (.getfield 23, 3) := by decide +kernel
theorem dX2_apart_26 : decode cX2_apart 26 = .ok (.iconst 1, 1) := by decide +kernel
theorem dX2_apart_27 : decode cX2_apart 27 = .ok (.lconst 1, 1) := by decide +kernel
theorem dX2_apart_28 : decode cX2_apart 28 = .ok (.lastore, 1) := by decide +kernel
theorem dX2_apart_29 : decode cX2_apart 29 = .ok (.iconst 0, 1) := by decide +kernel
theorem dX2_apart_30 : decode cX2_apart 30 = .ok (.istore_n 1, 1) := by decide +kernel
theorem dX2_apart_31 : decode cX2_apart 31 = .ok (.iload_n 1, 1) := by decide +kernel
theorem dX2_apart_32 : decode cX2_apart 32 = .ok (.aload_n 0, 1) := by decide +kernel
theorem dX2_apart_33 : decode cX2_apart 33 = .ok (.getfield 7, 3) := by decide +kernel
theorem dX2_apart_36 : decode cX2_apart 36 = .ok (.aload_n 0, 1) := by decide +kernel
theorem dX2_apart_37 : decode cX2_apart 37 = .ok (.getfield 13, 3) := by decide +kernel
theorem dX2_apart_40 : decode cX2_apart 40 = .ok (.iadd, 1) := by decide +kernel
theorem dX2_apart_41 : decode cX2_apart 41 = .ok (.if_icmp .ge 229, 3) := by decide +kernel
theorem dX2_apart_44 : decode cX2_apart 44 = .ok (.iconst 0, 1) := by decide +kernel
theorem dX2_apart_45 : decode cX2_apart 45 = .ok (.istore_n 2, 1) := by decide +kernel
theorem dX2_apart_46 : decode cX2_apart 46 = .ok (.iload_n 2, 1) := by decide +kernel
theorem dX2_apart_47 : decode cX2_apart 47 = .ok (.sipush 1024, 3) := by decide +kernel
theorem dX2_apart_50 : decode cX2_apart 50 = .ok (.if_icmp .ge 16, 3) := by decide +kernel
theorem dX2_apart_53 : decode cX2_apart 53 = .ok (.aload_n 0, 1) := by decide +kernel
theorem dX2_apart_54 : decode cX2_apart 54 = .ok (.getfield 26, 3) := by decide +kernel
theorem dX2_apart_57 : decode cX2_apart 57 = .ok (.iload_n 2, 1) := by decide +kernel
theorem dX2_apart_58 : decode cX2_apart 58 = .ok (.lconst 0, 1) := by decide +kernel
theorem dX2_apart_59 : decode cX2_apart 59 = .ok (.lastore, 1) := by decide +kernel
theorem dX2_apart_60 : decode cX2_apart 60 = .ok (.iinc 2 1, 3) := by decide +kernel
theorem dX2_apart_63 : decode cX2_apart 63 = .ok (.goto (-17), 3) := by decide +kernel
theorem dX2_apart_66 : decode cX2_apart 66 = .ok (.iconst 0, 1) := by decide +kernel
theorem dX2_apart_67 : decode cX2_apart 67 = .ok (.istore_n 2, 1) := by decide +kernel
theorem dX2_apart_68 : decode cX2_apart 68 = .ok (.iload_n 2, 1) := by decide +kernel
theorem dX2_apart_69 : decode cX2_apart 69 = .ok (.aload_n 0, 1) := by decide +kernel
theorem dX2_apart_70 : decode cX2_apart 70 = .ok (.getfield 7, 3) := by decide +kernel
theorem dX2_apart_73 : decode cX2_apart 73 = .ok (.if_icmp .gt 164, 3) := by decide +kernel
theorem dX2_apart_76 : decode cX2_apart 76 = .ok (.iload_n 2, 1) := by decide +kernel
theorem dX2_apart_77 : decode cX2_apart 77 = .ok (.iconst 1, 1) := by decide +kernel
theorem dX2_apart_78 : decode cX2_apart 78 = .ok (.iadd, 1) := by decide +kernel
theorem dX2_apart_79 : decode cX2_apart 79 = .ok (.istore_n 3, 1) := by decide +kernel
theorem dX2_apart_80 : decode cX2_apart 80 = .ok (.iload_n 3, 1) := by decide +kernel
theorem dX2_apart_81 : decode cX2_apart 81 = .ok (.aload_n 0, 1) := by decide +kernel
theorem dX2_apart_82 : decode cX2_apart 82 = .ok (.getfield 7, 3) := by decide +kernel
theorem dX2_apart_85 : decode cX2_apart 85 = .ok (.iconst 1, 1) := by decide +kernel
theorem dX2_apart_86 : decode cX2_apart 86 = .ok (.iadd, 1) := by decide +kernel
theorem dX2_apart_87 : decode cX2_apart 87 = .ok (.if_icmp .gt 144, 3) := by decide +kernel
theorem dX2_apart_90 : decode cX2_apart 90 = .ok (.aload_n 0, 1) := by decide +kernel
theorem dX2_apart_91 : decode cX2_apart 91 = .ok (.getfield 23, 3) := by decide +kernel
theorem dX2_apart_94 : decode cX2_apart 94 = .ok (.bipush 32, 2) := by decide +kernel
theorem dX2_apart_96 : decode cX2_apart 96 = .ok (.iload_n 2, 1) := by decide +kernel
theorem dX2_apart_97 : decode cX2_apart 97 = .ok (.imul, 1) := by decide +kernel
theorem dX2_apart_98 : decode cX2_apart 98 = .ok (.iload_n 3, 1) := by decide +kernel
theorem dX2_apart_99 : decode cX2_apart 99 = .ok (.iadd, 1) := by decide +kernel
theorem dX2_apart_100 : decode cX2_apart 100 = .ok (.laload, 1) := by decide +kernel
theorem dX2_apart_101 : decode cX2_apart 101 = .ok (.lstore 4, 2) := by decide +kernel
theorem dX2_apart_103 : decode cX2_apart 103 = .ok (.lload 4, 2) := by decide +kernel
theorem dX2_apart_105 : decode cX2_apart 105 = .ok (.lconst 0, 1) := by decide +kernel
theorem dX2_apart_106 : decode cX2_apart 106 = .ok (.lcmp, 1) := by decide +kernel
theorem dX2_apart_107 : decode cX2_apart 107 = .ok (.ifCond .le 118, 3) := by decide +kernel
theorem dX2_apart_110 : decode cX2_apart 110 = .ok (.iconst 0, 1) := by decide +kernel
theorem dX2_apart_111 : decode cX2_apart 111 = .ok (.istore 6, 2) := by decide +kernel
theorem dX2_apart_113 : decode cX2_apart 113 = .ok (.iload 6, 2) := by decide +kernel
theorem dX2_apart_115 : decode cX2_apart 115 = .ok (.iconst 4, 1) := by decide +kernel
theorem dX2_apart_116 : decode cX2_apart 116 = .ok (.if_icmp .ge 109, 3) := by decide +kernel
theorem dX2_apart_119 : decode cX2_apart 119 = .ok (.iload_n 2, 1) := by decide +kernel
theorem dX2_apart_120 : decode cX2_apart 120 = .ok (.iload 6, 2) := by decide +kernel
theorem dX2_apart_122 : decode cX2_apart 122 = .ok (.iconst 1, 1) := by decide +kernel
theorem dX2_apart_123 : decode cX2_apart 123 = .ok (.iand, 1) := by decide +kernel
theorem dX2_apart_124 : decode cX2_apart 124 = .ok (.iadd, 1) := by decide +kernel
theorem dX2_apart_125 : decode cX2_apart 125 = .ok (.istore 7, 2) := by decide +kernel
theorem dX2_apart_127 : decode cX2_apart 127 = .ok (.iload_n 3, 1) := by decide +kernel
theorem dX2_apart_128 : decode cX2_apart 128 = .ok (.iload 6, 2) := by decide +kernel
theorem dX2_apart_130 : decode cX2_apart 130 = .ok (.iconst 1, 1) := by decide +kernel
theorem dX2_apart_131 : decode cX2_apart 131 = .ok (.ishr, 1) := by decide +kernel
theorem dX2_apart_132 : decode cX2_apart 132 = .ok (.iadd, 1) := by decide +kernel
theorem dX2_apart_133 : decode cX2_apart 133 = .ok (.istore 8, 2) := by decide +kernel
theorem dX2_apart_135 : decode cX2_apart 135 = .ok (.iload 7, 2) := by decide +kernel
theorem dX2_apart_137 : decode cX2_apart 137 = .ok (.aload_n 0, 1) := by decide +kernel
theorem dX2_apart_138 : decode cX2_apart 138 = .ok (.getfield 7, 3) := by decide +kernel
theorem dX2_apart_141 : decode cX2_apart 141 = .ok (.if_icmp .gt 78, 3) := by decide +kernel
theorem dX2_apart_144 : decode cX2_apart 144 = .ok (.iload 8, 2) := by decide +kernel
theorem dX2_apart_146 : decode cX2_apart 146 = .ok (.aload_n 0, 1) := by decide +kernel
theorem dX2_apart_147 : decode cX2_apart 147 = .ok (.getfield 7, 3) := by decide +kernel
theorem dX2_apart_150 : decode cX2_apart 150 = .ok (.iconst 1, 1) := by decide +kernel
theorem dX2_apart_151 : decode cX2_apart 151 = .ok (.iadd, 1) := by decide +kernel
theorem dX2_apart_152 : decode cX2_apart 152 = .ok (.if_icmp .gt 67, 3) := by decide +kernel
theorem dX2_apart_155 : decode cX2_apart 155 = .ok (.iload_n 1, 1) := by decide +kernel
theorem dX2_apart_156 : decode cX2_apart 156 = .ok (.iconst 1, 1) := by decide +kernel
theorem dX2_apart_157 : decode cX2_apart 157 = .ok (.iadd, 1) := by decide +kernel
theorem dX2_apart_158 : decode cX2_apart 158 = .ok (.iload 7, 2) := by decide +kernel
theorem dX2_apart_160 : decode cX2_apart 160 = .ok (.isub, 1) := by decide +kernel
theorem dX2_apart_161 : decode cX2_apart 161 = .ok (.aload_n 0, 1) := by decide +kernel
theorem dX2_apart_162 : decode cX2_apart 162 = .ok (.getfield 13, 3) := by decide +kernel
theorem dX2_apart_165 : decode cX2_apart 165 = .ok (.if_icmp .gt 54, 3) := by decide +kernel
theorem dX2_apart_168 : decode cX2_apart 168 = .ok (.iload_n 1, 1) := by decide +kernel
theorem dX2_apart_169 : decode cX2_apart 169 = .ok (.iconst 1, 1) := by decide +kernel
theorem dX2_apart_170 : decode cX2_apart 170 = .ok (.iadd, 1) := by decide +kernel
theorem dX2_apart_171 : decode cX2_apart 171 = .ok (.iload 8, 2) := by decide +kernel
theorem dX2_apart_173 : decode cX2_apart 173 = .ok (.iconst 1, 1) := by decide +kernel
theorem dX2_apart_174 : decode cX2_apart 174 = .ok (.isub, 1) := by decide +kernel
theorem dX2_apart_175 : decode cX2_apart 175 = .ok (.isub, 1) := by decide +kernel
theorem dX2_apart_176 : decode cX2_apart 176 = .ok (.aload_n 0, 1) := by decide +kernel
theorem dX2_apart_177 : decode cX2_apart 177 = .ok (.getfield 13, 3) := by decide +kernel
theorem dX2_apart_180 : decode cX2_apart 180 = .ok (.if_icmp .gt 39, 3) := by decide +kernel
theorem dX2_apart_183 : decode cX2_apart 183 = .ok (.iload 7, 2) := by decide +kernel
theorem dX2_apart_185 : decode cX2_apart 185 = .ok (.iload 8, 2) := by decide +kernel
theorem dX2_apart_187 : decode cX2_apart 187 = .ok (.if_icmp .ge 32, 3) := by decide +kernel
theorem dX2_apart_190 : decode cX2_apart 190 = .ok (.aload_n 0, 1) := by decide +kernel
theorem dX2_apart_191 : decode cX2_apart 191 = .ok (.getfield 26, 3) := by decide +kernel
theorem dX2_apart_194 : decode cX2_apart 194 = .ok (.bipush 32, 2) := by decide +kernel
theorem dX2_apart_196 : decode cX2_apart 196 = .ok (.iload 7, 2) := by decide +kernel
theorem dX2_apart_198 : decode cX2_apart 198 = .ok (.imul, 1) := by decide +kernel
theorem dX2_apart_199 : decode cX2_apart 199 = .ok (.iload 8, 2) := by decide +kernel
theorem dX2_apart_201 : decode cX2_apart 201 = .ok (.iadd, 1) := by decide +kernel
theorem dX2_apart_202 : decode cX2_apart 202 = .ok (.aload_n 0, 1) := by decide +kernel
theorem dX2_apart_203 : decode cX2_apart 203 = .ok (.getfield 26, 3) := by decide +kernel
theorem dX2_apart_206 : decode cX2_apart 206 = .ok (.bipush 32, 2) := by decide +kernel
theorem dX2_apart_208 : decode cX2_apart 208 = .ok (.iload 7, 2) := by decide +kernel
theorem dX2_apart_210 : decode cX2_apart 210 = .ok (.imul, 1) := by decide +kernel
theorem dX2_apart_211 : decode cX2_apart 211 = .ok (.iload 8, 2) := by decide +kernel
theorem dX2_apart_213 : decode cX2_apart 213 = .ok (.iadd, 1) := by decide +kernel
theorem dX2_apart_214 : decode cX2_apart 214 = .ok (.laload, 1) := by decide +kernel
theorem dX2_apart_215 : decode cX2_apart 215 = .ok (.lload 4, 2) := by decide +kernel
theorem dX2_apart_217 : decode cX2_apart 217 = .ok (.ladd, 1) := by decide +kernel
theorem dX2_apart_218 : decode cX2_apart 218 = .ok (.lastore, 1) := by decide +kernel
theorem dX2_apart_219 : decode cX2_apart 219 = .ok (.iinc 6 1, 3) := by decide +kernel
theorem dX2_apart_222 : decode cX2_apart 222 = .ok (.goto (-109), 3) := by decide +kernel
theorem dX2_apart_225 : decode cX2_apart 225 = .ok (.iinc 3 1, 3) := by decide +kernel
theorem dX2_apart_228 : decode cX2_apart 228 = .ok (.goto (-148), 3) := by decide +kernel
theorem dX2_apart_231 : decode cX2_apart 231 = .ok (.iinc 2 1, 3) := by decide +kernel
theorem dX2_apart_234 : decode cX2_apart 234 = .ok (.goto (-166), 3) := by decide +kernel
theorem dX2_apart_237 : decode cX2_apart 237 = .ok (.iconst 0, 1) := by decide +kernel
theorem dX2_apart_238 : decode cX2_apart 238 = .ok (.istore_n 2, 1) := by decide +kernel
theorem dX2_apart_239 : decode cX2_apart 239 = .ok (.iload_n 2, 1) := by decide +kernel
theorem dX2_apart_240 : decode cX2_apart 240 = .ok (.sipush 1024, 3) := by decide +kernel
theorem dX2_apart_243 : decode cX2_apart 243 = .ok (.if_icmp .ge 21, 3) := by decide +kernel
theorem dX2_apart_246 : decode cX2_apart 246 = .ok (.aload_n 0, 1) := by decide +kernel
theorem dX2_apart_247 : decode cX2_apart 247 = .ok (.getfield 23, 3) := by decide +kernel
theorem dX2_apart_250 : decode cX2_apart 250 = .ok (.iload_n 2, 1) := by decide +kernel
theorem dX2_apart_251 : decode cX2_apart 251 = .ok (.aload_n 0, 1) := by decide +kernel
theorem dX2_apart_252 : decode cX2_apart 252 = .ok (.getfield 26, 3) := by decide +kernel
theorem dX2_apart_255 : decode cX2_apart 255 = .ok (.iload_n 2, 1) := by decide +kernel
theorem dX2_apart_256 : decode cX2_apart 256 = .ok (.laload, 1) := by decide +kernel
theorem dX2_apart_257 : decode cX2_apart 257 = .ok (.lastore, 1) := by decide +kernel
theorem dX2_apart_258 : decode cX2_apart 258 = .ok (.iinc 2 1, 3) := by decide +kernel
theorem dX2_apart_261 : decode cX2_apart 261 = .ok (.goto (-22), 3) := by decide +kernel
theorem dX2_apart_264 : decode cX2_apart 264 = .ok (.iinc 1 1, 3) := by decide +kernel
theorem dX2_apart_267 : decode cX2_apart 267 = .ok (.goto (-236), 3) := by decide +kernel
theorem dX2_apart_270 : decode cX2_apart 270 = .ok (.aload_n 0, 1) := by decide +kernel
theorem dX2_apart_271 : decode cX2_apart 271 = .ok (.getfield 23, 3) := by decide +kernel
theorem dX2_apart_274 : decode cX2_apart 274 = .ok (.bipush 32, 2) := by decide +kernel
theorem dX2_apart_276 : decode cX2_apart 276 = .ok (.aload_n 0, 1) := by decide +kernel
theorem dX2_apart_277 : decode cX2_apart 277 = .ok (.getfield 7, 3) := by decide +kernel
theorem dX2_apart_280 : decode cX2_apart 280 = .ok (.imul, 1) := by decide +kernel
theorem dX2_apart_281 : decode cX2_apart 281 = .ok (.aload_n 0, 1) := by decide +kernel
theorem dX2_apart_282 : decode cX2_apart 282 = .ok (.getfield 7, 3) := by decide +kernel
theorem dX2_apart_285 : decode cX2_apart 285 = .ok (.iadd, 1) := by decide +kernel
theorem dX2_apart_286 : decode cX2_apart 286 = .ok (.iconst 1, 1) := by decide +kernel
theorem dX2_apart_287 : decode cX2_apart 287 = .ok (.iadd, 1) := by decide +kernel
theorem dX2_apart_288 : decode cX2_apart 288 = .ok (.laload, 1) := by decide +kernel
theorem dX2_apart_289 : decode cX2_apart 289 = .ok (.lreturn, 1) := by decide +kernel
theorem q4 : (Jvm.Cond.initialized "StepPathsModel") ∈ lw_all := lw_g (lw_at lw_m0 3 rfl) rfl
theorem q64 : (Jvm.Cond.instantiable "StepPathsModel" (6 : Nat)) ∈ lw_all := lw_g (lw_at lw_m0 63 rfl) rfl
theorem q66 : (Jvm.Cond.instanceMethod ({ cls := "StepPathsModel", name := "<init>", desc := "()V" } : Jvm.MethodName)) ∈ lw_all := lw_g (lw_at lw_m0 65 rfl) rfl
theorem q67 : (Jvm.Cond.code ({ cls := "StepPathsModel", name := "<init>", desc := "()V" } : Jvm.MethodName) prog_4_method_1_code (1 : Nat) (Option.none : Option Jvm.ClassFile.FieldType)) ∈ lw_all := lw_g (lw_at lw_m0 66 rfl) rfl
theorem q68 : (Jvm.Cond.methodLink "StepPathsModel" (1 : Nat) ({ cls := "java/lang/Object", name := "<init>", desc := "()V" } : Jvm.MethodName)) ∈ lw_all := lw_g (lw_at lw_m0 67 rfl) rfl
theorem q69 : (Jvm.Cond.fieldLink "StepPathsModel" (7 : Nat) "StepPathsModel" "a" "I") ∈ lw_all := lw_g (lw_at lw_m0 68 rfl) rfl
theorem q70 : (Jvm.Cond.fieldLink "StepPathsModel" (13 : Nat) "StepPathsModel" "b" "I") ∈ lw_all := lw_g (lw_at lw_m0 69 rfl) rfl
theorem q71 : (Jvm.Cond.fieldLink "StepPathsModel" (16 : Nat) "StepPathsModel" "row" "[J") ∈ lw_all := lw_g (lw_at lw_m0 70 rfl) rfl
theorem q72 : (Jvm.Cond.fieldLink "StepPathsModel" (20 : Nat) "StepPathsModel" "next" "[J") ∈ lw_all := lw_g (lw_at lw_m0 71 rfl) rfl
theorem q73 : (Jvm.Cond.fieldLink "StepPathsModel" (23 : Nat) "StepPathsModel" "two" "[J") ∈ lw_all := lw_g (lw_at lw_m0 72 rfl) rfl
theorem q74 : (Jvm.Cond.fieldLink "StepPathsModel" (26 : Nat) "StepPathsModel" "then" "[J") ∈ lw_all := lw_g (lw_at lw_m0 73 rfl) rfl
theorem q75 : (Jvm.Cond.lays "StepPathsModel" "StepPathsModel" "a" "I") ∈ lw_all := lw_g (lw_at lw_m0 74 rfl) rfl
theorem q76 : (Jvm.Cond.soleField "StepPathsModel" "a") ∈ lw_all := lw_g (lw_at lw_m0 75 rfl) rfl
theorem q77 : (Jvm.Cond.lays "StepPathsModel" "StepPathsModel" "b" "I") ∈ lw_all := lw_g (lw_at lw_m0 76 rfl) rfl
theorem q78 : (Jvm.Cond.soleField "StepPathsModel" "b") ∈ lw_all := lw_g (lw_at lw_m0 77 rfl) rfl
theorem q79 : (Jvm.Cond.laysFinal "StepPathsModel" "StepPathsModel" "row" "[J") ∈ lw_all := lw_g (lw_at lw_m0 78 rfl) rfl
theorem q80 : (Jvm.Cond.soleField "StepPathsModel" "row") ∈ lw_all := lw_g (lw_at lw_m0 79 rfl) rfl
theorem q81 : (Jvm.Cond.laysFinal "StepPathsModel" "StepPathsModel" "next" "[J") ∈ lw_all := lw_g (lw_at lw_m0 80 rfl) rfl
theorem q82 : (Jvm.Cond.soleField "StepPathsModel" "next") ∈ lw_all := lw_g (lw_at lw_m0 81 rfl) rfl
theorem q83 : (Jvm.Cond.laysFinal "StepPathsModel" "StepPathsModel" "two" "[J") ∈ lw_all := lw_g (lw_at lw_m0 82 rfl) rfl
theorem q84 : (Jvm.Cond.soleField "StepPathsModel" "two") ∈ lw_all := lw_g (lw_at lw_m0 83 rfl) rfl
theorem q85 : (Jvm.Cond.laysFinal "StepPathsModel" "StepPathsModel" "then" "[J") ∈ lw_all := lw_g (lw_at lw_m0 84 rfl) rfl
theorem q86 : (Jvm.Cond.soleField "StepPathsModel" "then") ∈ lw_all := lw_g (lw_at lw_m0 85 rfl) rfl
theorem q87 : (Jvm.Cond.superclass "StepPathsModel" "java/lang/Object") ∈ lw_all := lw_g (lw_at lw_m0 86 rfl) rfl
theorem q89 : (Jvm.Cond.instanceMethod ({ cls := "StepPathsModel", name := "load", desc := "(II)V" } : Jvm.MethodName)) ∈ lw_all := lw_g (lw_at lw_m0 88 rfl) rfl
theorem q90 : (Jvm.Cond.selects "StepPathsModel" ({ cls := "StepPathsModel", name := "load", desc := "(II)V" } : Jvm.MethodName) ({ cls := "StepPathsModel", name := "load", desc := "(II)V" } : Jvm.MethodName)) ∈ lw_all := lw_g (lw_at lw_m0 89 rfl) rfl
theorem q91 : (Jvm.Cond.code ({ cls := "StepPathsModel", name := "load", desc := "(II)V" } : Jvm.MethodName) prog_4_method_2_code (3 : Nat) (Option.none : Option Jvm.ClassFile.FieldType)) ∈ lw_all := lw_g (lw_at lw_m0 90 rfl) rfl
theorem q93 : (Jvm.Cond.instanceMethod ({ cls := "StepPathsModel", name := "above", desc := "(I)J" } : Jvm.MethodName)) ∈ lw_all := lw_g (lw_at lw_m0 92 rfl) rfl
theorem q94 : (Jvm.Cond.selects "StepPathsModel" ({ cls := "StepPathsModel", name := "above", desc := "(I)J" } : Jvm.MethodName) ({ cls := "StepPathsModel", name := "above", desc := "(I)J" } : Jvm.MethodName)) ∈ lw_all := lw_g (lw_at lw_m0 93 rfl) rfl
theorem q95 : (Jvm.Cond.code ({ cls := "StepPathsModel", name := "above", desc := "(I)J" } : Jvm.MethodName) prog_4_method_3_code (6 : Nat) (Option.some Jvm.ClassFile.FieldType.long)) ∈ lw_all := lw_g (lw_at lw_m0 94 rfl) rfl
theorem q97 : (Jvm.Cond.instanceMethod ({ cls := "StepPathsModel", name := "all", desc := "()J" } : Jvm.MethodName)) ∈ lw_all := lw_g (lw_at lw_m0 96 rfl) rfl
theorem q98 : (Jvm.Cond.selects "StepPathsModel" ({ cls := "StepPathsModel", name := "all", desc := "()J" } : Jvm.MethodName) ({ cls := "StepPathsModel", name := "all", desc := "()J" } : Jvm.MethodName)) ∈ lw_all := lw_g (lw_at lw_m0 97 rfl) rfl
theorem q99 : (Jvm.Cond.code ({ cls := "StepPathsModel", name := "all", desc := "()J" } : Jvm.MethodName) prog_4_method_4_code (4 : Nat) (Option.some Jvm.ClassFile.FieldType.long)) ∈ lw_all := lw_g (lw_at lw_m0 98 rfl) rfl
theorem q101 : (Jvm.Cond.instanceMethod ({ cls := "StepPathsModel", name := "between", desc := "(II)J" } : Jvm.MethodName)) ∈ lw_all := lw_g (lw_at lw_m0 100 rfl) rfl
theorem q102 : (Jvm.Cond.selects "StepPathsModel" ({ cls := "StepPathsModel", name := "between", desc := "(II)J" } : Jvm.MethodName) ({ cls := "StepPathsModel", name := "between", desc := "(II)J" } : Jvm.MethodName)) ∈ lw_all := lw_g (lw_at lw_m0 101 rfl) rfl
theorem q103 : (Jvm.Cond.code ({ cls := "StepPathsModel", name := "between", desc := "(II)J" } : Jvm.MethodName) prog_4_method_5_code (8 : Nat) (Option.some Jvm.ClassFile.FieldType.long)) ∈ lw_all := lw_g (lw_at lw_m0 102 rfl) rfl
theorem q105 : (Jvm.Cond.instanceMethod ({ cls := "StepPathsModel", name := "apart", desc := "()J" } : Jvm.MethodName)) ∈ lw_all := lw_g (lw_at lw_m0 104 rfl) rfl
theorem q106 : (Jvm.Cond.selects "StepPathsModel" ({ cls := "StepPathsModel", name := "apart", desc := "()J" } : Jvm.MethodName) ({ cls := "StepPathsModel", name := "apart", desc := "()J" } : Jvm.MethodName)) ∈ lw_all := lw_g (lw_at lw_m0 105 rfl) rfl
theorem q107 : (Jvm.Cond.code ({ cls := "StepPathsModel", name := "apart", desc := "()J" } : Jvm.MethodName) prog_4_method_6_code (9 : Nat) (Option.some Jvm.ClassFile.FieldType.long)) ∈ lw_all := lw_g (lw_at lw_m0 106 rfl) rfl
theorem in_X2 : ∀ w ∈ wsX20, w ∈ lw_all := lw_in wsX20 [75, 77, 79, 81, 83, 85] (by decide +kernel) (by decide +kernel)
end
section
theorem q23 : (Jvm.Cond.arrayClass Jvm.ClassFile.FieldType.long) ∈ lw_all := lw_g (lw_at lw_m0 22 rfl) rfl
set_option maxRecDepth 100000
theorem q1 : (Jvm.Cond.initialized "StepPathsLaw") ∈ lw_all := lw_g (lw_at lw_m0 0 rfl) rfl
set_option maxRecDepth 100000
theorem q5 : (Jvm.Cond.classLink "StepPathsLaw" (7 : Nat) "StepPaths") ∈ lw_all := lw_g (lw_at lw_m0 4 rfl) rfl
theorem q7 : (Jvm.Cond.methodLink "StepPathsLaw" (9 : Nat) ({ cls := "StepPaths", name := "<init>", desc := "()V" } : Jvm.MethodName)) ∈ lw_all := lw_g (lw_at lw_m0 6 rfl) rfl
theorem q34 : (Jvm.Cond.methodLink "StepPathsLaw" (13 : Nat) ({ cls := "StepPaths", name := "load", desc := "(II)V" } : Jvm.MethodName)) ∈ lw_all := lw_g (lw_at lw_m0 33 rfl) rfl
theorem q38 : (Jvm.Cond.methodLink "StepPathsLaw" (18 : Nat) ({ cls := "StepPaths", name := "all", desc := "()J" } : Jvm.MethodName)) ∈ lw_all := lw_g (lw_at lw_m0 37 rfl) rfl
theorem q50 : (Jvm.Cond.methodLink "StepPathsLaw" (23 : Nat) ({ cls := "StepPaths", name := "above", desc := "(I)J" } : Jvm.MethodName)) ∈ lw_all := lw_g (lw_at lw_m0 49 rfl) rfl
theorem q55 : (Jvm.Cond.methodLink "StepPathsLaw" (28 : Nat) ({ cls := "StepPaths", name := "between", desc := "(II)J" } : Jvm.MethodName)) ∈ lw_all := lw_g (lw_at lw_m0 54 rfl) rfl
theorem q59 : (Jvm.Cond.methodLink "StepPathsLaw" (33 : Nat) ({ cls := "StepPaths", name := "apart", desc := "()J" } : Jvm.MethodName)) ∈ lw_all := lw_g (lw_at lw_m0 58 rfl) rfl
theorem q63 : (Jvm.Cond.classLink "StepPathsLaw" (10 : Nat) "StepPathsModel") ∈ lw_all := lw_g (lw_at lw_m0 62 rfl) rfl
theorem q65 : (Jvm.Cond.methodLink "StepPathsLaw" (12 : Nat) ({ cls := "StepPathsModel", name := "<init>", desc := "()V" } : Jvm.MethodName)) ∈ lw_all := lw_g (lw_at lw_m0 64 rfl) rfl
theorem q88 : (Jvm.Cond.methodLink "StepPathsLaw" (17 : Nat) ({ cls := "StepPathsModel", name := "load", desc := "(II)V" } : Jvm.MethodName)) ∈ lw_all := lw_g (lw_at lw_m0 87 rfl) rfl
theorem q92 : (Jvm.Cond.methodLink "StepPathsLaw" (27 : Nat) ({ cls := "StepPathsModel", name := "above", desc := "(I)J" } : Jvm.MethodName)) ∈ lw_all := lw_g (lw_at lw_m0 91 rfl) rfl
theorem q96 : (Jvm.Cond.methodLink "StepPathsLaw" (22 : Nat) ({ cls := "StepPathsModel", name := "all", desc := "()J" } : Jvm.MethodName)) ∈ lw_all := lw_g (lw_at lw_m0 95 rfl) rfl
theorem q100 : (Jvm.Cond.methodLink "StepPathsLaw" (32 : Nat) ({ cls := "StepPathsModel", name := "between", desc := "(II)J" } : Jvm.MethodName)) ∈ lw_all := lw_g (lw_at lw_m0 99 rfl) rfl
theorem q104 : (Jvm.Cond.methodLink "StepPathsLaw" (36 : Nat) ({ cls := "StepPathsModel", name := "apart", desc := "()J" } : Jvm.MethodName)) ∈ lw_all := lw_g (lw_at lw_m0 103 rfl) rfl
/-! the law's own entry -/
set_option maxRecDepth 100000
abbrev cL_law : ByteArray := code
theorem dL_law_0 : decode cL_law 0 = .ok (.new 7, 3) := by decide +kernel
theorem dL_law_3 : decode cL_law 3 = .ok (.dup, 1) := by decide +kernel
theorem dL_law_4 : decode cL_law 4 = .ok (.invokespecial 9, 3) := by decide +kernel
theorem dL_law_7 : decode cL_law 7 = .ok (.astore_n 1, 1) := by decide +kernel
theorem dL_law_8 : decode cL_law 8 = .ok (.new 10, 3) := by decide +kernel
theorem dL_law_11 : decode cL_law 11 = .ok (.dup, 1) := by decide +kernel
theorem dL_law_12 : decode cL_law 12 = .ok (.invokespecial 12, 3) := by decide +kernel
theorem dL_law_15 : decode cL_law 15 = .ok (.astore_n 2, 1) := by decide +kernel
theorem dL_law_16 : decode cL_law 16 = .ok (.iconst 0, 1) := by decide +kernel
theorem dL_law_17 : decode cL_law 17 = .ok (.istore_n 3, 1) := by decide +kernel
theorem dL_law_18 : decode cL_law 18 = .ok (.iload_n 3, 1) := by decide +kernel
theorem dL_law_19 : decode cL_law 19 = .ok (.aload_n 0, 1) := by decide +kernel
theorem dL_law_20 : decode cL_law 20 = .ok (.arraylength, 1) := by decide +kernel
theorem dL_law_21 : decode cL_law 21 = .ok (.iconst 3, 1) := by decide +kernel
theorem dL_law_22 : decode cL_law 22 = .ok (.isub, 1) := by decide +kernel
theorem dL_law_23 : decode cL_law 23 = .ok (.if_icmp .gt 168, 3) := by decide +kernel
theorem dL_law_26 : decode cL_law 26 = .ok (.aload_n 0, 1) := by decide +kernel
theorem dL_law_27 : decode cL_law 27 = .ok (.iload_n 3, 1) := by decide +kernel
theorem dL_law_28 : decode cL_law 28 = .ok (.iaload, 1) := by decide +kernel
theorem dL_law_29 : decode cL_law 29 = .ok (.bipush 7, 2) := by decide +kernel
theorem dL_law_31 : decode cL_law 31 = .ok (.iand, 1) := by decide +kernel
theorem dL_law_32 : decode cL_law 32 = .ok (.tableswitch 153 0 4 #[36, 67, 81, 105, 139], 36) := by decide +kernel
theorem dL_law_68 : decode cL_law 68 = .ok (.aload_n 1, 1) := by decide +kernel
theorem dL_law_69 : decode cL_law 69 = .ok (.aload_n 0, 1) := by decide +kernel
theorem dL_law_70 : decode cL_law 70 = .ok (.iload_n 3, 1) := by decide +kernel
theorem dL_law_71 : decode cL_law 71 = .ok (.iconst 1, 1) := by decide +kernel
theorem dL_law_72 : decode cL_law 72 = .ok (.iadd, 1) := by decide +kernel
theorem dL_law_73 : decode cL_law 73 = .ok (.iaload, 1) := by decide +kernel
theorem dL_law_74 : decode cL_law 74 = .ok (.aload_n 0, 1) := by decide +kernel
theorem dL_law_75 : decode cL_law 75 = .ok (.iload_n 3, 1) := by decide +kernel
theorem dL_law_76 : decode cL_law 76 = .ok (.iconst 2, 1) := by decide +kernel
theorem dL_law_77 : decode cL_law 77 = .ok (.iadd, 1) := by decide +kernel
theorem dL_law_78 : decode cL_law 78 = .ok (.iaload, 1) := by decide +kernel
theorem dL_law_79 : decode cL_law 79 = .ok (.invokevirtual 13, 3) := by decide +kernel
theorem dL_law_82 : decode cL_law 82 = .ok (.aload_n 2, 1) := by decide +kernel
theorem dL_law_83 : decode cL_law 83 = .ok (.aload_n 0, 1) := by decide +kernel
theorem dL_law_84 : decode cL_law 84 = .ok (.iload_n 3, 1) := by decide +kernel
theorem dL_law_85 : decode cL_law 85 = .ok (.iconst 1, 1) := by decide +kernel
theorem dL_law_86 : decode cL_law 86 = .ok (.iadd, 1) := by decide +kernel
theorem dL_law_87 : decode cL_law 87 = .ok (.iaload, 1) := by decide +kernel
theorem dL_law_88 : decode cL_law 88 = .ok (.aload_n 0, 1) := by decide +kernel
theorem dL_law_89 : decode cL_law 89 = .ok (.iload_n 3, 1) := by decide +kernel
theorem dL_law_90 : decode cL_law 90 = .ok (.iconst 2, 1) := by decide +kernel
theorem dL_law_91 : decode cL_law 91 = .ok (.iadd, 1) := by decide +kernel
theorem dL_law_92 : decode cL_law 92 = .ok (.iaload, 1) := by decide +kernel
theorem dL_law_93 : decode cL_law 93 = .ok (.invokevirtual 17, 3) := by decide +kernel
theorem dL_law_96 : decode cL_law 96 = .ok (.goto 89, 3) := by decide +kernel
theorem dL_law_99 : decode cL_law 99 = .ok (.aload_n 1, 1) := by decide +kernel
theorem dL_law_100 : decode cL_law 100 = .ok (.invokevirtual 18, 3) := by decide +kernel
theorem dL_law_103 : decode cL_law 103 = .ok (.aload_n 2, 1) := by decide +kernel
theorem dL_law_104 : decode cL_law 104 = .ok (.invokevirtual 22, 3) := by decide +kernel
theorem dL_law_107 : decode cL_law 107 = .ok (.lcmp, 1) := by decide +kernel
theorem dL_law_108 : decode cL_law 108 = .ok (.ifCond .eq 77, 3) := by decide +kernel
theorem dL_law_111 : decode cL_law 111 = .ok (.iconst 0, 1) := by decide +kernel
theorem dL_law_112 : decode cL_law 112 = .ok (.ireturn, 1) := by decide +kernel
theorem dL_law_113 : decode cL_law 113 = .ok (.aload_n 1, 1) := by decide +kernel
theorem dL_law_114 : decode cL_law 114 = .ok (.aload_n 0, 1) := by decide +kernel
theorem dL_law_115 : decode cL_law 115 = .ok (.iload_n 3, 1) := by decide +kernel
theorem dL_law_116 : decode cL_law 116 = .ok (.iconst 1, 1) := by decide +kernel
theorem dL_law_117 : decode cL_law 117 = .ok (.iadd, 1) := by decide +kernel
theorem dL_law_118 : decode cL_law 118 = .ok (.iaload, 1) := by decide +kernel
theorem dL_law_119 : decode cL_law 119 = .ok (.invokevirtual 23, 3) := by decide +kernel
theorem dL_law_122 : decode cL_law 122 = .ok (.aload_n 2, 1) := by decide +kernel
theorem dL_law_123 : decode cL_law 123 = .ok (.aload_n 0, 1) := by decide +kernel
theorem dL_law_124 : decode cL_law 124 = .ok (.iload_n 3, 1) := by decide +kernel
theorem dL_law_125 : decode cL_law 125 = .ok (.iconst 1, 1) := by decide +kernel
theorem dL_law_126 : decode cL_law 126 = .ok (.iadd, 1) := by decide +kernel
theorem dL_law_127 : decode cL_law 127 = .ok (.iaload, 1) := by decide +kernel
theorem dL_law_128 : decode cL_law 128 = .ok (.invokevirtual 27, 3) := by decide +kernel
theorem dL_law_131 : decode cL_law 131 = .ok (.lcmp, 1) := by decide +kernel
theorem dL_law_132 : decode cL_law 132 = .ok (.ifCond .eq 53, 3) := by decide +kernel
theorem dL_law_135 : decode cL_law 135 = .ok (.iconst 0, 1) := by decide +kernel
theorem dL_law_136 : decode cL_law 136 = .ok (.ireturn, 1) := by decide +kernel
theorem dL_law_137 : decode cL_law 137 = .ok (.aload_n 1, 1) := by decide +kernel
theorem dL_law_138 : decode cL_law 138 = .ok (.aload_n 0, 1) := by decide +kernel
theorem dL_law_139 : decode cL_law 139 = .ok (.iload_n 3, 1) := by decide +kernel
theorem dL_law_140 : decode cL_law 140 = .ok (.iconst 1, 1) := by decide +kernel
theorem dL_law_141 : decode cL_law 141 = .ok (.iadd, 1) := by decide +kernel
theorem dL_law_142 : decode cL_law 142 = .ok (.iaload, 1) := by decide +kernel
theorem dL_law_143 : decode cL_law 143 = .ok (.aload_n 0, 1) := by decide +kernel
theorem dL_law_144 : decode cL_law 144 = .ok (.iload_n 3, 1) := by decide +kernel
theorem dL_law_145 : decode cL_law 145 = .ok (.iconst 2, 1) := by decide +kernel
theorem dL_law_146 : decode cL_law 146 = .ok (.iadd, 1) := by decide +kernel
theorem dL_law_147 : decode cL_law 147 = .ok (.iaload, 1) := by decide +kernel
theorem dL_law_148 : decode cL_law 148 = .ok (.invokevirtual 28, 3) := by decide +kernel
theorem dL_law_151 : decode cL_law 151 = .ok (.aload_n 2, 1) := by decide +kernel
theorem dL_law_152 : decode cL_law 152 = .ok (.aload_n 0, 1) := by decide +kernel
theorem dL_law_153 : decode cL_law 153 = .ok (.iload_n 3, 1) := by decide +kernel
theorem dL_law_154 : decode cL_law 154 = .ok (.iconst 1, 1) := by decide +kernel
theorem dL_law_155 : decode cL_law 155 = .ok (.iadd, 1) := by decide +kernel
theorem dL_law_156 : decode cL_law 156 = .ok (.iaload, 1) := by decide +kernel
theorem dL_law_157 : decode cL_law 157 = .ok (.aload_n 0, 1) := by decide +kernel
theorem dL_law_158 : decode cL_law 158 = .ok (.iload_n 3, 1) := by decide +kernel
theorem dL_law_159 : decode cL_law 159 = .ok (.iconst 2, 1) := by decide +kernel
theorem dL_law_160 : decode cL_law 160 = .ok (.iadd, 1) := by decide +kernel
theorem dL_law_161 : decode cL_law 161 = .ok (.iaload, 1) := by decide +kernel
theorem dL_law_162 : decode cL_law 162 = .ok (.invokevirtual 32, 3) := by decide +kernel
theorem dL_law_165 : decode cL_law 165 = .ok (.lcmp, 1) := by decide +kernel
theorem dL_law_166 : decode cL_law 166 = .ok (.ifCond .eq 19, 3) := by decide +kernel
theorem dL_law_169 : decode cL_law 169 = .ok (.iconst 0, 1) := by decide +kernel
theorem dL_law_170 : decode cL_law 170 = .ok (.ireturn, 1) := by decide +kernel
theorem dL_law_171 : decode cL_law 171 = .ok (.aload_n 1, 1) := by decide +kernel
theorem dL_law_172 : decode cL_law 172 = .ok (.invokevirtual 33, 3) := by decide +kernel
theorem dL_law_175 : decode cL_law 175 = .ok (.aload_n 2, 1) := by decide +kernel
theorem dL_law_176 : decode cL_law 176 = .ok (.invokevirtual 36, 3) := by decide +kernel
theorem dL_law_179 : decode cL_law 179 = .ok (.lcmp, 1) := by decide +kernel
theorem dL_law_180 : decode cL_law 180 = .ok (.ifCond .eq 5, 3) := by decide +kernel
theorem dL_law_183 : decode cL_law 183 = .ok (.iconst 0, 1) := by decide +kernel
theorem dL_law_184 : decode cL_law 184 = .ok (.ireturn, 1) := by decide +kernel
theorem dL_law_185 : decode cL_law 185 = .ok (.iinc 3 3, 3) := by decide +kernel
theorem dL_law_188 : decode cL_law 188 = .ok (.goto (-170), 3) := by decide +kernel
theorem dL_law_191 : decode cL_law 191 = .ok (.iconst 1, 1) := by decide +kernel
theorem dL_law_192 : decode cL_law 192 = .ok (.ireturn, 1) := by decide +kernel
end
section
/-! the classes of the worlds; a few more numbers -/
abbrev vwCl : List vw_C := [(RX0, TX0, 3), (RX1, TX1, 1), (RX2, TX2, 6)]
theorem sp_i0 : sp_i 0 = 0 := by decide
theorem sp_bumpE {L : Nat} {nx : Nat → Int64} {g g' : Nat → Nat} {k r r' : Nat} (h : ∀ j, j < L → nx j = lN (g j)) (hg : ∀ j, g' j = g j + if j = k then r else 0) (hr : r = r') : ∀ j, j < L → vp_updL nx k (lN (g k + r')) j = lN (g' j) := by
  subst hr
  exact sp_bump h hg
/-- the triangle of sums -/
def sp_tri (f : Nat → Int64) : Prop := ∀ n k : Nat, n ≤ 30 → k ≤ n → f (31 * n + k) = sp_l (sp_C n k)
/-- the triangle's rows above n, and k places of row n -/
def sp_tri2 (n k : Nat) (f : Nat → Int64) : Prop := ∀ n' k' : Nat, (n' < n ∧ k' ≤ n') ∨ (n' = n ∧ k' < k) → f (31 * n' + k') = sp_l (sp_C n' k')
theorem sp_tri_put {n k : Nat} {f : Nat → Int64} {x : Int64} (hn : n ≤ 30) (hk : k ≤ n) (h : sp_tri2 n k f) (hx : x = sp_l (sp_C n k)) : sp_tri2 n (k + 1) (vp_updL f (31 * n + k) x) := by
  intro n' k' hq
  by_cases e : 31 * n' + k' = 31 * n + k
  · have e1 : n' = n := by omega
    have e2 : k' = k := by omega
    subst e1; subst e2
    rw [pk_uLs, hx]
  · rw [pk_uLn e]
    exact h n' k' (by omega)
theorem sp_tri_row {n : Nat} {f : Nat → Int64} (h : sp_tri2 n (n + 1) f) : sp_tri2 (n + 1) 0 f := fun n' k' hq => h n' k' (by omega)
theorem sp_tri_all {f : Nat → Int64} (h : sp_tri2 31 0 f) : sp_tri f := fun n k hn hk => h n k (by omega)
theorem sp_tri_0 (f : Nat → Int64) : sp_tri2 0 0 f := fun n' k' hq => by omega
theorem sp_C_mid {n k : Nat} (hn : 1 ≤ n) (hk : 1 ≤ k) : sp_C n k = sp_C (n - 1) ((k - 1 : Nat) : Int) + sp_C (n - 1) k := by
  obtain ⟨n, rfl⟩ : ∃ n0, n = n0 + 1 := ⟨n - 1, by omega⟩
  rw [sp_Cs, show ((k - 1 : Nat) : Int) = (k : Int) - 1 by omega, show n + 1 - 1 = n by omega]
  omega
end
section
/-- behind Choices(): one array of 961 longs; u: its place, its class, its contents -/
abbrev sp_BX1_init (dC : Nat → ClassId) (dI : Nat → Nat → Nat) (A : Nat → Prop) (h0 : Nat) (u : Nat × ClassId × (Nat → Int64)) (t : State) : Prop := va_P (dC, dI) vwCl [(h0, .inr (1, [.ref u.1])), (u.1, .inl (u.2.1, 961, .inr (.inl u.2.2)))] t.heap ∧ va_K (dC, dI) vwCl [(u.2.1, .long)] t ∧ va_D A [(h0, .inr (1, [.ref u.1])), (u.1, .inl (u.2.1, 961, .inr (.inl u.2.2)))]
/-- behind Choices.of: nothing has changed -/
abbrev sp_BX1_of (dC : Nat → ClassId) (dI : Nat → Nat → Nat) (A : Nat → Prop) (h1 h2 : Nat) (cA : ClassId) (f : Nat → Int64) (_ : Unit) (t : State) : Prop := va_P (dC, dI) vwCl [(h1, .inr (1, [.ref h2])), (h2, .inl (cA, 961, .inr (.inl (f))))] t.heap ∧ va_K (dC, dI) vwCl [(cA, .long)] t ∧ va_D A [(h1, .inr (1, [.ref h2])), (h2, .inl (cA, 961, .inr (.inl (f))))]
set_option maxHeartbeats 4000000 in
set_option maxRecDepth 100000 in
/-- Choices.of(n, k): how many ways; 0 if k is out of the row -/
theorem met_of (l : Launch) (dC : Nat → ClassId) (dI : Nat → Nat → Nat) (h1 h2 : Nat) (cA : ClassId) (f : Nat → Int64) (n : Nat) (κ : Int) (sz : Nat) (hf : sp_tri f) (hn : n ≤ 30) (hk1 : -100000 ≤ κ) (hk2 : κ ≤ 100000) : Met l yX1_of (ws_ yX1_of cX1_of 3 (some .long)) ({ frames := 0, cells := 0, slots := 0, locals := 0 }) (va_Pc [.ref h1, .int (nI n), .int (sp_i (κ))] (fun U => U.heap.size = sz ∧ va_P (dC, dI) vwCl [(h1, .inr (1, [.ref h2])), (h2, .inl (cA, 961, .inr (.inl (f))))] U.heap ∧ va_K (dC, dI) vwCl [(cA, .long)] U ∧ va_D (fun _ => True) [(h1, .inr (1, [.ref h2])), (h2, .inl (cA, 961, .inr (.inl (f))))])) (va_Ql (fun (r : Int64) (_ : Unit) => r = sp_l (sp_C n κ)) (sp_BX1_of dC dI (va_A [(h1, .inr (1, [.ref h2])), (h2, .inl (cA, 961, .inr (.inl (f))))] sz) h1 h2 cA f) (va_A [(h1, .inr (1, [.ref h2])), (h2, .inl (cA, 961, .inr (.inl (f))))] sz)) 0 0 (va_A [(h1, .inr (1, [.ref h2])), (h2, .inl (cA, 961, .inr (.inl (f))))] sz) := by
  refine Met.ofW (cc := cX1_of) (maxL := 3) (ret := (some .long)) (by decide) rfl ?_
  intro p e s m args below meth c s₁ B hml hv
  obtain ⟨rfl, hsz, hP, hK, hD0⟩ := hv
  have hx := B.exec
  have hb := B.bytes
  have hr := B.returns
  have hts := atoms_spec (ws := (ws_ yX1_of cX1_of 3 (some .long))) B.pre
  have hts : ∀ w ∈ lw_all, w.before _ s = true := fun w h => hts w (List.mem_cons_of_mem _ h)
  have hown : s.vm.findClass RX1 = some m.cls := findClass_of_methodNamed B.named
  have hlocks := B.notSynchronized
  subst hsz
  have hD := hD0.self (sz := s.heap.size)
  generalize hAe : va_A [(h1, .inr (1, [.ref h2])), (h2, .inl (cA, 961, .inr (.inl (f))))] s.heap.size = A at hD ⊢
  have hA : ∀ q : Nat, s.heap.size ≤ q → A q := fun q h => by rw [← hAe]; exact Or.inr h
  have hS : va_S A s.heap s.heap [] := va_S.rf
  have hP : va_P (dC, dI) vwCl [(h1, .inr (1, [.ref h2])), (h2, .inl (cA, 961, .inr (.inl (f))))] s.heap := hP
  have hl := lv_entry ([.ref h1, .int (nI n), .int (sp_i (κ))]) (n := 3) (Nat.le_of_ble_eq_true rfl)
  rw [lg_entry_eq]
  generalize (lg_sl ([.ref h1, .int (nI n), .int (sp_i (κ))]) ++ List.replicate (3 - (lg_sl ([.ref h1, .int (nI n), .int (sp_i (κ))])).length) Slot.unset).toArray = ls at hl ⊢
  have hl : lv_has ls 3 [(0, .ref h1), (1, .int (nI n)), (2, .int (sp_i (κ)))] := hl
  refine lv_iload_n hx hb dX1_of_0 rfl (lv_at hl 2 rfl) ?_
  refine lv_if_lt (tgt := 9) hx hb dX1_of_1 (by decide) (fun hc => ?_) (fun hc => ?_)
  · rw [← sp_i0] at hc
    have hc : κ < 0 := (sp_ilt (by omega) (by omega) (by omega) (by omega)).mp hc
    refine lv_lconst (v := (sp_l (0))) hx hb dX1_of_9 (by decide) ?_
    refine lv_goto (tgt := 24) hx hb dX1_of_10 (by decide) ?_
    exact W.lret (v := (sp_l 0)) hx hb hr (fun t ht hW => ⟨⟨(sp_l 0), (), rfl, (by rw [sp_C_neg n κ (by omega)]), by rw [ht]; exact hP, va_K.moved hW.alike hK, hD⟩, hS.F ht⟩) hS.2.2 dX1_of_24
  · rw [← sp_i0] at hc
    have hc : ¬ κ < 0 := fun h9 => hc ((sp_ilt (by omega) (by omega) (by omega) (by omega)).mpr h9)
    refine lv_iload_n hx hb dX1_of_4 rfl (lv_at hl 2 rfl) ?_
    refine lv_iload_n hx hb dX1_of_5 rfl (lv_at hl 1 rfl) ?_
    refine lv_icmp_le (tgt := 13) hx hb dX1_of_6 (by decide) (fun hc => ?_) (fun hc => ?_)
    · rw [sp_ni] at hc
      have hc : κ ≤ ((n : Nat) : Int) := (sp_ile (by omega) (by omega) (by omega) (by omega)).mp hc
      obtain ⟨k, rfl⟩ : ∃ k : Nat, κ = (k : Int) := ⟨κ.toNat, by omega⟩
      refine lv_aload_n hx hb dX1_of_13 rfl (lv_at hl 0 rfl) ?_
      refine va_get (D := (dC, dI)) (ci := 1) (v := .ref h2) (C := RX1) (T := TX1) (N := 1) hx hb hts in_X1 hown hK hP 0 rfl rfl 0 (by decide) (hts _ q19) (fun _ h9 => h9) rfl dX1_of_14 ?_
      refine lv_bipush (v := (nI 31)) hx hb dX1_of_17 (by decide) ?_
      refine lv_iload_n hx hb dX1_of_19 rfl (lv_at hl 1 rfl) ?_
      refine lv_imul hx hb dX1_of_20 ?_
      refine sp_topi (y := (nI (31 * n))) (pk_mul _ _) ?_
      refine lv_iload_n hx hb dX1_of_21 rfl (lv_at hl 2 rfl) ?_
      refine lv_iadd hx hb dX1_of_22 ?_
      refine sp_topi (y := (nI (31 * n + k))) (by rw [← sp_ni, nI_add]) ?_
      refine sp_lald (i := 31 * n + k) (y := (sp_l (sp_C n k))) hx hb hK hP 1 0 rfl rfl (by omega) (by decide) (hf n k hn (by omega)) dX1_of_23 ?_
      exact W.lret (v := (sp_l (sp_C n k))) hx hb hr (fun t ht hW => ⟨⟨(sp_l (sp_C n k)), (), rfl, rfl, by rw [ht]; exact hP, va_K.moved hW.alike hK, hD⟩, hS.F ht⟩) hS.2.2 dX1_of_24
    · rw [sp_ni] at hc
      have hc : ¬ κ ≤ ((n : Nat) : Int) := fun h9 => hc ((sp_ile (by omega) (by omega) (by omega) (by omega)).mpr h9)
      refine lv_lconst (v := (sp_l (0))) hx hb dX1_of_9 (by decide) ?_
      refine lv_goto (tgt := 24) hx hb dX1_of_10 (by decide) ?_
      exact W.lret (v := (sp_l 0)) hx hb hr (fun t ht hW => ⟨⟨(sp_l 0), (), rfl, (by rw [sp_C_big n κ (by omega)]), by rw [ht]; exact hP, va_K.moved hW.alike hK, hD⟩, hS.F ht⟩) hS.2.2 dX1_of_24
set_option maxHeartbeats 4000000 in
set_option maxRecDepth 100000 in
/-- Choices(): the triangle of sums -/
theorem met_Choices (l : Launch) (dC : Nat → ClassId) (dI : Nat → Nat → Nat) (h0 : Nat) (sz : Nat)  : Met l yX1_init (ws_ yX1_init cX1_init 3 none) ({ frames := 1, cells := 1, slots := 961, locals := 12 }) (va_Pc [.ref h0] (fun U => U.heap.size = sz ∧ va_P (dC, dI) vwCl [(h0, .inr (1, [.null]))] U.heap ∧ va_K (dC, dI) vwCl [] U ∧ va_D (fun _ => True) [(h0, .inr (1, [.null]))])) (va_Qv (fun u : Nat × ClassId × (Nat → Int64) => sp_tri u.2.2) (sp_BX1_init dC dI (va_A [(h0, .inr (1, [.null]))] sz) h0) (va_A [(h0, .inr (1, [.null]))] sz)) 1 961 (va_A [(h0, .inr (1, [.null]))] sz) := by
  refine Met.ofW (cc := cX1_init) (maxL := 3) (ret := none) (by decide) rfl ?_
  intro p e s m args below meth c s₁ B hml hv
  obtain ⟨rfl, hsz, hP, hK, hD0⟩ := hv
  have hx := B.exec
  have hb := B.bytes
  have hr := B.returns
  have hts := atoms_spec (ws := (ws_ yX1_init cX1_init 3 none)) B.pre
  have hts : ∀ w ∈ lw_all, w.before _ s = true := fun w h => hts w (List.mem_cons_of_mem _ h)
  have hown : s.vm.findClass RX1 = some m.cls := findClass_of_methodNamed B.named
  have hlocks := B.notSynchronized
  have hin : meth.name = "<init>" := (name_of_methodNamed B.named B.method).1
  subst hsz
  have hD := hD0.self (sz := s.heap.size)
  generalize hAe : va_A [(h0, .inr (1, [.null]))] s.heap.size = A at hD ⊢
  have hA : ∀ q : Nat, s.heap.size ≤ q → A q := fun q h => by rw [← hAe]; exact Or.inr h
  have hS : va_S A s.heap s.heap [] := va_S.rf
  have hP : va_P (dC, dI) vwCl [(h0, .inr (1, [.null]))] s.heap := hP
  have hl := lv_entry ([.ref h0]) (n := 3) (Nat.le_of_ble_eq_true rfl)
  rw [lg_entry_eq]
  generalize (lg_sl ([.ref h0]) ++ List.replicate (3 - (lg_sl ([.ref h0])).length) Slot.unset).toArray = ls at hl ⊢
  have hl : lv_has ls 3 [(0, .ref h0)] := hl
  refine lv_aload_n hx hb dX1_init_0 rfl (lv_at hl 0 rfl) ?_
  refine W.objInit hx hb hown (hts _ q18) (hts _ q11) (hts _ q12) rfl (by rw [hml]; exact hl.1) rfl dX1_init_1 (Nat.le_of_ble_eq_true rfl) (Nat.le_of_ble_eq_true rfl) ?_
  refine W.eq (g2 := F0 m 4 ls []) rfl ?_
  refine lv_aload_n hx hb dX1_init_4 rfl (lv_at hl 0 rfl) ?_
  refine lv_sipush (v := (nI 961)) hx hb dX1_init_5 (by decide) ?_
  refine va_newa (atype := .long) (ty := .long) (N' := 961) (a0 := (961, .inr (.inl (fun _ => 0)))) hx hb (hts _ q23) rfl hK hP hD hS hA (fun cA => rfl) (by decide) (by decide) (by decide) (Nat.le_of_ble_eq_true rfl) (Nat.le_of_ble_eq_true rfl) dX1_init_8 (fun h2 cA H hK hP hD hS => ?_)
  have hK : va_K (dC, dI) vwCl [(cA, .long)] s := hK
  have hP : va_P (dC, dI) vwCl [(h0, .inr (1, [.null])), (h2, .inl (cA, 961, .inr (.inl (fun _ => 0))))] H := hP
  have hD : va_D A [(h0, .inr (1, [.null])), (h2, .inl (cA, 961, .inr (.inl (fun _ => 0))))] := hD
  refine W.widen (k := 1) (n := 961) (by omega) (by omega) ?_
  refine va_putF (D := (dC, dI)) (ci := 1) (v := .ref h2) (ty := .array .long) (C := RX1) (T := TX1) (N := 1) hx hb hts in_X1 tyX1 tyX1_ok nmX1 hown hK hP hD hS 0 rfl rfl 0 (by decide) (hts _ q19) (fun _ h9 => h9) rfl hin rfl (by decide +kernel) rfl rfl (Nat.le_of_ble_eq_true rfl) dX1_init_10 (fun H locs hP hD hS => ?_)
  have hP : va_P (dC, dI) vwCl [(h0, .inr (1, [.ref h2])), (h2, .inl (cA, 961, .inr (.inl (fun _ => 0))))] H := hP
  have hD : va_D A [(h0, .inr (1, [.ref h2])), (h2, .inl (cA, 961, .inr (.inl (fun _ => 0))))] := hD
  have hout : ∀ (i n : Nat) (f : Nat → Int64), n ≤ 31 → 31 < n + i → sp_tri2 n 0 f → ∀ (H : Heap) (locs : List Loc), va_P (dC, dI) vwCl [(h0, .inr (1, [.ref h2])), (h2, .inl (cA, 961, .inr (.inl (f))))] H → va_D A [(h0, .inr (1, [.ref h2])), (h2, .inl (cA, 961, .inr (.inl (f))))] → va_S A s.heap H locs → ∀ (ls : Array Slot), lv_has ls 3 [(0, .ref h0), (1, .int (nI n))] → W p l e (headSpec (ws_ yX1_init cX1_init 3 none) ({ frames := 1, cells := 1, slots := 961, locals := 12 })).room s m ([.ref h0] : List Value).toArray below meth c H locs 1 961 (MQ below (va_Qv (fun u : Nat × ClassId × (Nat → Int64) => sp_tri u.2.2) (sp_BX1_init dC dI A h0) A) ([.ref h0] : List Value).toArray s 1 961 A) (F0 m 15 ls []) := by
    intro i
    induction i with
    | zero => intro n f h1 h2; exact absurd h2 (by omega)
    | succ i ih =>
      intro n f hn hi hf H locs hP hD hS ls hl
      refine lv_iload_n hx hb dX1_init_15 rfl (lv_at hl 1 rfl) ?_
      refine lv_bipush (v := (nI 31)) hx hb dX1_init_16 (by decide) ?_
      refine lv_icmp_ge (tgt := 93) hx hb dX1_init_18 (by decide) (fun hc => ?_) (fun hc => ?_)
      · have hc : 31 ≤ n := (nI_leI (by omega) (by omega)).mp hc
        have en : n = 31 := by omega
        subst en
        exact W.vret hx hb hr (fun t ht hW => ⟨⟨(h2, cA, f), rfl, sp_tri_all hf, by rw [ht]; exact hP, va_K.moved hW.alike hK, hD⟩, hS.F ht⟩) hS.2.2 dX1_init_93
      · have hc : ¬ 31 ≤ n := fun h9 => hc ((nI_leI (by omega) (by omega)).mpr h9)
        have hin2 : ∀ (j k : Nat) (f : Nat → Int64), k ≤ n + 1 → n + 1 < k + j → sp_tri2 n k f → ∀ (H : Heap) (locs : List Loc), va_P (dC, dI) vwCl [(h0, .inr (1, [.ref h2])), (h2, .inl (cA, 961, .inr (.inl (f))))] H → va_D A [(h0, .inr (1, [.ref h2])), (h2, .inl (cA, 961, .inr (.inl (f))))] → va_S A s.heap H locs → ∀ (ls : Array Slot), lv_has ls 3 [(0, .ref h0), (1, .int (nI n)), (2, .int (nI k))] → W p l e (headSpec (ws_ yX1_init cX1_init 3 none) ({ frames := 1, cells := 1, slots := 961, locals := 12 })).room s m ([.ref h0] : List Value).toArray below meth c H locs 1 961 (MQ below (va_Qv (fun u : Nat × ClassId × (Nat → Int64) => sp_tri u.2.2) (sp_BX1_init dC dI A h0) A) ([.ref h0] : List Value).toArray s 1 961 A) (F0 m 23 ls []) := by
          intro j
          induction j with
          | zero => intro k f h1 h2; exact absurd h2 (by omega)
          | succ j jh =>
            intro k f hk hj hf H locs hP hD hS ls hl
            refine lv_iload_n hx hb dX1_init_23 rfl (lv_at hl 2 rfl) ?_
            refine lv_iload_n hx hb dX1_init_24 rfl (lv_at hl 1 rfl) ?_
            refine lv_icmp_gt (tgt := 87) hx hb dX1_init_25 (by decide) (fun hc => ?_) (fun hc => ?_)
            · have hc : n < k := (nI_ltI (by omega) (by omega)).mp hc
              have ek : k = n + 1 := by omega
              rw [ek] at hf
              refine lv_iinc (v := (nI (n + 1))) (lv' := [(1, .int (nI (n + 1))), (0, .ref h0), (2, .int (nI k))]) hx hb dX1_init_87 hl (k := 1) rfl (nI_add _ _) (by decide) rfl (fun ls hl => ?_)
              refine lv_goto (tgt := 15) hx hb dX1_init_90 (by decide) ?_
              exact ih (n + 1) f (by omega) (by omega) (sp_tri_row hf) H locs hP hD hS _ (lv_sub hl [1, 0] rfl)
            · have hc : ¬ n < k := fun h9 => hc ((nI_ltI (by omega) (by omega)).mpr h9)
              have htail : ∀ x : Int64, x = sp_l (sp_C n k) → ∀ (ls : Array Slot), lv_has ls 3 [(0, .ref h0), (1, .int (nI n)), (2, .int (nI k))] → W p l e (headSpec (ws_ yX1_init cX1_init 3 none) ({ frames := 1, cells := 1, slots := 961, locals := 12 })).room s m ([.ref h0] : List Value).toArray below meth c H locs 1 961 (MQ below (va_Qv (fun u : Nat × ClassId × (Nat → Int64) => sp_tri u.2.2) (sp_BX1_init dC dI A h0) A) ([.ref h0] : List Value).toArray s 1 961 A) (F0 m 80 ls [.long x, .int (nI (31 * n + k)), .ref h2]) := by
                intro x hx1 ls hl
                refine sp_last (i := 31 * n + k) (ws' := [(h0, .inr (1, [.ref h2])), (h2, .inl (cA, 961, .inr (.inl (vp_updL f (31 * n + k) ((x))))))]) hx hb hK hP hD hS 1 0 rfl rfl (by omega) (by decide) rfl dX1_init_80 (fun H locs hP hD hS => ?_)
                refine lv_iinc (v := (nI (k + 1))) (lv' := [(2, .int (nI (k + 1))), (0, .ref h0), (1, .int (nI n))]) hx hb dX1_init_81 hl (k := 2) rfl (nI_add _ _) (by decide) rfl (fun ls hl => ?_)
                refine lv_goto (tgt := 23) hx hb dX1_init_84 (by decide) ?_
                exact jh (k + 1) (vp_updL f (31 * n + k) (x)) (by omega) (by omega) (sp_tri_put (by omega) (by omega) hf hx1) H locs hP hD hS _ (lv_sub hl [1, 2, 0] rfl)
              refine lv_aload_n hx hb dX1_init_28 rfl (lv_at hl 0 rfl) ?_
              refine va_get (D := (dC, dI)) (ci := 1) (v := .ref h2) (C := RX1) (T := TX1) (N := 1) hx hb hts in_X1 hown hK hP 0 rfl rfl 0 (by decide) (hts _ q19) (fun _ h9 => h9) rfl dX1_init_29 ?_
              refine lv_bipush (v := (nI 31)) hx hb dX1_init_32 (by decide) ?_
              refine lv_iload_n hx hb dX1_init_34 rfl (lv_at hl 1 rfl) ?_
              refine lv_imul hx hb dX1_init_35 ?_
              refine sp_topi (y := (nI (31 * n))) (pk_mul _ _) ?_
              refine lv_iload_n hx hb dX1_init_36 rfl (lv_at hl 2 rfl) ?_
              refine lv_iadd hx hb dX1_init_37 ?_
              refine sp_topi (y := (nI (31 * n + k))) (nI_add _ _) ?_
              refine lv_iload_n hx hb dX1_init_38 rfl (lv_at hl 2 rfl) ?_
              refine lv_if_eq (tgt := 47) hx hb dX1_init_39 (by decide) (fun hc => ?_) (fun hc => ?_)
              · rw [← nI_0] at hc
                have hc : k = 0 := (nI_eq (by omega) (by omega)).mp hc
                refine lv_lconst (v := (sp_l (1))) hx hb dX1_init_47 (by decide) ?_
                refine lv_goto (tgt := 80) hx hb dX1_init_48 (by decide) ?_
                exact htail (sp_l 1) (by rw [hc]; exact congrArg sp_l (sp_C_first n).symm) _ (lv_sub hl [0, 1, 2] rfl)
              · rw [← nI_0] at hc
                have hc : ¬ k = 0 := fun h9 => hc ((nI_eq (by omega) (by omega)).mpr h9)
                refine lv_iload_n hx hb dX1_init_42 rfl (lv_at hl 2 rfl) ?_
                refine lv_iload_n hx hb dX1_init_43 rfl (lv_at hl 1 rfl) ?_
                refine lv_icmp_ne (tgt := 51) hx hb dX1_init_44 (by decide) (fun hc => ?_) (fun hc => ?_)
                · have hc : ¬ k = n := fun h9 => hc ((nI_eq (by omega) (by omega)).mpr h9)
                  refine lv_aload_n hx hb dX1_init_51 rfl (lv_at hl 0 rfl) ?_
                  refine va_get (D := (dC, dI)) (ci := 1) (v := .ref h2) (C := RX1) (T := TX1) (N := 1) hx hb hts in_X1 hown hK hP 0 rfl rfl 0 (by decide) (hts _ q19) (fun _ h9 => h9) rfl dX1_init_52 ?_
                  refine lv_bipush (v := (nI 31)) hx hb dX1_init_55 (by decide) ?_
                  refine lv_iload_n hx hb dX1_init_57 rfl (lv_at hl 1 rfl) ?_
                  refine lv_iconst (v := (nI 1)) hx hb dX1_init_58 (by decide) ?_
                  refine lv_isub hx hb dX1_init_59 ?_
                  refine sp_topi (y := (nI (n - 1))) (pk_sub (by omega)) ?_
                  refine lv_imul hx hb dX1_init_60 ?_
                  refine sp_topi (y := (nI (31 * (n - 1)))) (pk_mul _ _) ?_
                  refine lv_iload_n hx hb dX1_init_61 rfl (lv_at hl 2 rfl) ?_
                  refine lv_iadd hx hb dX1_init_62 ?_
                  refine sp_topi (y := (nI (31 * (n - 1) + k))) (nI_add _ _) ?_
                  refine lv_iconst (v := (nI 1)) hx hb dX1_init_63 (by decide) ?_
                  refine lv_isub hx hb dX1_init_64 ?_
                  refine sp_topi (y := (nI (31 * (n - 1) + (k - 1)))) (by rw [pk_sub (by omega)]; exact congrArg nI (by omega)) ?_
                  refine sp_lald (i := 31 * (n - 1) + (k - 1)) (y := (sp_l (sp_C (n - 1) ((k - 1 : Nat) : Int)))) hx hb hK hP 1 0 rfl rfl (by omega) (by decide) (hf (n - 1) (k - 1) (by omega)) dX1_init_65 ?_
                  refine lv_aload_n hx hb dX1_init_66 rfl (lv_at hl 0 rfl) ?_
                  refine va_get (D := (dC, dI)) (ci := 1) (v := .ref h2) (C := RX1) (T := TX1) (N := 1) hx hb hts in_X1 hown hK hP 0 rfl rfl 0 (by decide) (hts _ q19) (fun _ h9 => h9) rfl dX1_init_67 ?_
                  refine lv_bipush (v := (nI 31)) hx hb dX1_init_70 (by decide) ?_
                  refine lv_iload_n hx hb dX1_init_72 rfl (lv_at hl 1 rfl) ?_
                  refine lv_iconst (v := (nI 1)) hx hb dX1_init_73 (by decide) ?_
                  refine lv_isub hx hb dX1_init_74 ?_
                  refine sp_topi (y := (nI (n - 1))) (pk_sub (by omega)) ?_
                  refine lv_imul hx hb dX1_init_75 ?_
                  refine sp_topi (y := (nI (31 * (n - 1)))) (pk_mul _ _) ?_
                  refine lv_iload_n hx hb dX1_init_76 rfl (lv_at hl 2 rfl) ?_
                  refine lv_iadd hx hb dX1_init_77 ?_
                  refine sp_topi (y := (nI (31 * (n - 1) + k))) (nI_add _ _) ?_
                  refine sp_lald (i := 31 * (n - 1) + k) (y := (sp_l (sp_C (n - 1) k))) hx hb hK hP 1 0 rfl rfl (by omega) (by decide) (hf (n - 1) k (by omega)) dX1_init_78 ?_
                  refine lv_ladd hx hb dX1_init_79 ?_
                  refine sp_topl (y := (sp_l ((sp_C (n - 1) ((k - 1 : Nat) : Int)) + (sp_C (n - 1) k)))) (sp_ladd _ _) ?_
                  exact htail (sp_l ((sp_C (n - 1) ((k - 1 : Nat) : Int)) + (sp_C (n - 1) k))) (congrArg sp_l (sp_C_mid (by omega) (by omega)).symm) _ (lv_sub hl [0, 1, 2] rfl)
                · have hc : k = n := (nI_eq (by omega) (by omega)).mp hc
                  refine lv_lconst (v := (sp_l (1))) hx hb dX1_init_47 (by decide) ?_
                  refine lv_goto (tgt := 80) hx hb dX1_init_48 (by decide) ?_
                  exact htail (sp_l 1) (by rw [hc, sp_C_last]) _ (lv_sub hl [0, 1, 2] rfl)
        refine lv_iconst (v := (nI 0)) hx hb dX1_init_21 (by decide) ?_
        refine lv_istore_n (lv' := [(2, .int (nI 0)), (0, .ref h0), (1, .int (nI n))]) hx hb dX1_init_22 rfl hl (by decide) rfl (fun ls hl => ?_)
        exact hin2 (n + 2) 0 f (by omega) (by omega) hf H locs hP hD hS _ (lv_sub hl [1, 2, 0] rfl)
  refine lv_iconst (v := (nI 0)) hx hb dX1_init_13 (by decide) ?_
  refine lv_istore_n (lv' := [(1, .int (nI 0)), (0, .ref h0)]) hx hb dX1_init_14 rfl hl (by decide) rfl (fun ls hl => ?_)
  exact hout 32 0 (fun _ => 0) (by omega) (by omega) (sp_tri_0 _) H locs hP hD hS _ (lv_sub hl [1, 0] rfl)
end
section
/-- a StepPaths with its triangle: up = a, down = b -/
abbrev sp_BX0 (dC : Nat → ClassId) (dI : Nat → Nat → Nat) (A : Nat → Prop) (h0 h1 h2 : Nat) (cA : ClassId) (f : Nat → Int64) (a b : Nat) (_ : Unit) (t : State) : Prop := va_P (dC, dI) vwCl [(h0, .inr (0, [.ref h1, .int (nI a), .int (nI b)])), (h1, .inr (1, [.ref h2])), (h2, .inl (cA, 961, .inr (.inl (f))))] t.heap ∧ va_K (dC, dI) vwCl [(cA, .long)] t ∧ va_D A [(h0, .inr (0, [.ref h1, .int (nI a), .int (nI b)])), (h1, .inr (1, [.ref h2])), (h2, .inl (cA, 961, .inr (.inl (f))))]
/-- behind StepPaths(): up = down = 3 -/
abbrev sp_BX0_init (dC : Nat → ClassId) (dI : Nat → Nat → Nat) (A : Nat → Prop) (h0 : Nat) (u : Nat × Nat × ClassId × (Nat → Int64)) (t : State) : Prop := va_P (dC, dI) vwCl [(h0, .inr (0, [.ref u.1, .int (nI 3), .int (nI 3)])), (u.1, .inr (1, [.ref u.2.1])), (u.2.1, .inl (u.2.2.1, 961, .inr (.inl (u.2.2.2))))] t.heap ∧ va_K (dC, dI) vwCl [(u.2.2.1, .long)] t ∧ va_D A [(h0, .inr (0, [.ref u.1, .int (nI 3), .int (nI 3)])), (u.1, .inr (1, [.ref u.2.1])), (u.2.1, .inl (u.2.2.1, 961, .inr (.inl (u.2.2.2))))]
set_option maxHeartbeats 4000000 in
set_option maxRecDepth 100000 in
/-- StepPaths(): a triangle, up = down = 3 -/
theorem met_StepPaths (l : Launch) (dC : Nat → ClassId) (dI : Nat → Nat → Nat) (h0 : Nat) (sz : Nat)  : Met l yX0_init (ws_ yX0_init cX0_init 1 none) ({ frames := 2, cells := 2, slots := 962, locals := 34 }) (va_Pc [.ref h0] (fun U => U.heap.size = sz ∧ va_P (dC, dI) vwCl [(h0, .inr (0, [.null, .int (0), .int (0)]))] U.heap ∧ va_K (dC, dI) vwCl [] U ∧ va_D (fun _ => True) [(h0, .inr (0, [.null, .int (0), .int (0)]))])) (va_Qv (fun u : Nat × Nat × ClassId × (Nat → Int64) => sp_tri u.2.2.2) (sp_BX0_init dC dI (va_A [(h0, .inr (0, [.null, .int (0), .int (0)]))] sz) h0) (va_A [(h0, .inr (0, [.null, .int (0), .int (0)]))] sz)) 2 962 (va_A [(h0, .inr (0, [.null, .int (0), .int (0)]))] sz) := by
  refine Met.ofW (cc := cX0_init) (maxL := 1) (ret := none) (by decide) rfl ?_
  intro p e s m args below meth c s₁ B hml hv
  obtain ⟨rfl, hsz, hP, hK, hD0⟩ := hv
  have hx := B.exec
  have hb := B.bytes
  have hr := B.returns
  have hts := atoms_spec (ws := (ws_ yX0_init cX0_init 1 none)) B.pre
  have hts : ∀ w ∈ lw_all, w.before _ s = true := fun w h => hts w (List.mem_cons_of_mem _ h)
  have hown : s.vm.findClass RX0 = some m.cls := findClass_of_methodNamed B.named
  have hlocks := B.notSynchronized
  have hin : meth.name = "<init>" := (name_of_methodNamed B.named B.method).1
  subst hsz
  have hD := hD0.self (sz := s.heap.size)
  generalize hAe : va_A [(h0, .inr (0, [.null, .int (0), .int (0)]))] s.heap.size = A at hD ⊢
  have hA : ∀ q : Nat, s.heap.size ≤ q → A q := fun q h => by rw [← hAe]; exact Or.inr h
  have hS : va_S A s.heap s.heap [] := va_S.rf
  have hP : va_P (dC, dI) vwCl [(h0, .inr (0, [.null, .int (0), .int (0)]))] s.heap := hP
  have hl := lv_entry ([.ref h0]) (n := 1) (Nat.le_of_ble_eq_true rfl)
  rw [lg_entry_eq]
  generalize (lg_sl ([.ref h0]) ++ List.replicate (1 - (lg_sl ([.ref h0])).length) Slot.unset).toArray = ls at hl ⊢
  have hl : lv_has ls 1 [(0, .ref h0)] := hl
  refine lv_aload_n hx hb dX0_init_0 rfl (lv_at hl 0 rfl) ?_
  refine W.objInit hx hb hown (hts _ q10) (hts _ q11) (hts _ q12) rfl (by rw [hml]; exact hl.1) rfl dX0_init_1 (Nat.le_of_ble_eq_true rfl) (Nat.le_of_ble_eq_true rfl) ?_
  refine W.eq (g2 := F0 m 4 ls []) rfl ?_
  refine lv_aload_n hx hb dX0_init_4 rfl (lv_at hl 0 rfl) ?_
  refine va_new (ci := 1) (fs := [.null]) (C := RX1) (T := TX1) (N := 1) hx hb hts in_X1 tyX1 tyX1_ok hown (hts _ q13) (hts _ q14) (hts _ q3) hK hP hD hS hA rfl (fun j hj => by rcases (show j = 0 by omega) with rfl; rfl) (Nat.le_of_ble_eq_true rfl) (Nat.le_of_ble_eq_true rfl) dX0_init_5 (fun h1 H hP hD hS => ?_)
  have hP : va_P (dC, dI) vwCl [(h0, .inr (0, [.null, .int (0), .int (0)])), (h1, .inr (1, [.null]))] H := hP
  have hD : va_D A [(h0, .inr (0, [.null, .int (0), .int (0)])), (h1, .inr (1, [.null]))] := hD
  refine W.widen (k := 1) (n := 1) (by omega) (by omega) ?_
  refine lv_dup hx hb dX0_init_8 rfl ?_
  have hPc := hP.sub (ws' := [(h1, .inr (1, [.null]))]) [1] rfl
  have hDc := hD.sub (ws' := [(h1, .inr (1, [.null]))]) [1] (by decide) rfl
  have hKc := hK.sub (tys' := []) [] rfl
  have hFc := va_free (wc := [(h1, .inr (1, [.null]))]) hD hS hA [1] rfl
  refine va_callv (va_runI (As := []) (rest := [.ref h1, .ref h0]) ⟨hx, hb, hml, hown, hts⟩ (met_Choices l dC dI h1 H.size) (cwI 0 hts (lw_meth q17) rfl rfl rfl (hts _ q3) (hts _ q15) (hts _ q16) rfl (by decide +kernel) ⟨Nat.le_of_ble_eq_true rfl, Nat.le_of_ble_eq_true rfl⟩) ⟨fun a U g mk q => by obtain ⟨q0, q1, qP, qK, qD⟩ := q; exact ⟨q0, q1, qP, va_K.moved (u := U) (U := U.calling g mk a) (Vm.Alike.refl U.vm) qK, qD⟩, fun U hU hW => ⟨rfl, by rw [hU], by rw [hU]; exact hPc, va_K.moved hW.alike hKc, hDc.weaken (fun _ _ _ _ => trivial)⟩⟩ rfl rfl hl.1 rfl (lv_room (Nat.le_of_ble_eq_true rfl)) dX0_init_9 ⟨Nat.le_of_ble_eq_true rfl, Nat.le_of_ble_eq_true rfl⟩) hS (fun q _ h => hFc q h) hFc (fun u t H1 locs ht hvm hw hB hz1 hk1 hS => ?_)
  obtain ⟨h2, cA, f⟩ := u
  obtain ⟨hP1, hK1, hD1⟩ := hB
  rw [ht] at hP1
  have hK1 := va_K.moved hvm.symm hK1
  have hK := hK.app hK1
  have hK : va_K (dC, dI) vwCl [(cA, .long)] s := hK
  obtain ⟨hP, hD⟩ := va_join (wr := [(h0, .inr (0, [.null, .int (0), .int (0)]))]) (w1 := [(h1, .inr (1, [.ref h2])), (h2, .inl (cA, 961, .inr (.inl (f))))]) hP hD [1] [0] rfl rfl (by decide) (by decide) hk1 hFc hP1 hD1
  generalize H1 = H at hP hS ⊢
  have hP := hP.sub (ws' := [(h0, .inr (0, [.null, .int (0), .int (0)])), (h1, .inr (1, [.ref h2])), (h2, .inl (cA, 961, .inr (.inl (f))))]) [0, 1, 2] rfl
  have hD := hD.sub (ws' := [(h0, .inr (0, [.null, .int (0), .int (0)])), (h1, .inr (1, [.ref h2])), (h2, .inl (cA, 961, .inr (.inl (f))))]) [0, 1, 2] (by decide) rfl
  have hw : sp_tri f := hw
  refine va_putF (D := (dC, dI)) (ci := 0) (v := .ref h1) (ty := .object "StepPaths$Choices") (C := RX0) (T := TX0) (N := 3) hx hb hts in_X0 tyX0 tyX0_ok nmX0 hown hK hP hD hS 0 rfl rfl 0 (by decide) (hts _ q24) (fun _ h9 => h9) rfl hin rfl (by decide +kernel) rfl rfl (Nat.le_of_ble_eq_true rfl) dX0_init_12 (fun H locs hP hD hS => ?_)
  have hP : va_P (dC, dI) vwCl [(h0, .inr (0, [.ref h1, .int (0), .int (0)])), (h1, .inr (1, [.ref h2])), (h2, .inl (cA, 961, .inr (.inl (f))))] H := hP
  have hD : va_D A [(h0, .inr (0, [.ref h1, .int (0), .int (0)])), (h1, .inr (1, [.ref h2])), (h2, .inl (cA, 961, .inr (.inl (f))))] := hD
  refine lv_aload_n hx hb dX0_init_15 rfl (lv_at hl 0 rfl) ?_
  refine lv_iconst (v := (nI 3)) hx hb dX0_init_16 (by decide) ?_
  refine va_put (D := (dC, dI)) (ci := 0) (v := .int (nI 3)) (ty := .int) (C := RX0) (T := TX0) (N := 3) hx hb hts in_X0 tyX0 tyX0_ok nmX0 hown hK hP hD hS 0 rfl rfl 1 (by decide) (hts _ q25) (fun _ h9 => h9) rfl (by decide +kernel) rfl rfl (Nat.le_of_ble_eq_true rfl) dX0_init_17 (fun H locs hP hD hS => ?_)
  have hP : va_P (dC, dI) vwCl [(h0, .inr (0, [.ref h1, .int (nI 3), .int (0)])), (h1, .inr (1, [.ref h2])), (h2, .inl (cA, 961, .inr (.inl (f))))] H := hP
  have hD : va_D A [(h0, .inr (0, [.ref h1, .int (nI 3), .int (0)])), (h1, .inr (1, [.ref h2])), (h2, .inl (cA, 961, .inr (.inl (f))))] := hD
  refine lv_aload_n hx hb dX0_init_20 rfl (lv_at hl 0 rfl) ?_
  refine lv_iconst (v := (nI 3)) hx hb dX0_init_21 (by decide) ?_
  refine va_put (D := (dC, dI)) (ci := 0) (v := .int (nI 3)) (ty := .int) (C := RX0) (T := TX0) (N := 3) hx hb hts in_X0 tyX0 tyX0_ok nmX0 hown hK hP hD hS 0 rfl rfl 2 (by decide) (hts _ q26) (fun _ h9 => h9) rfl (by decide +kernel) rfl rfl (Nat.le_of_ble_eq_true rfl) dX0_init_22 (fun H locs hP hD hS => ?_)
  have hP : va_P (dC, dI) vwCl [(h0, .inr (0, [.ref h1, .int (nI 3), .int (nI 3)])), (h1, .inr (1, [.ref h2])), (h2, .inl (cA, 961, .inr (.inl (f))))] H := hP
  have hD : va_D A [(h0, .inr (0, [.ref h1, .int (nI 3), .int (nI 3)])), (h1, .inr (1, [.ref h2])), (h2, .inl (cA, 961, .inr (.inl (f))))] := hD
  refine W.widen (k := 2) (n := 962) (by omega) (by omega) ?_
  exact W.vret hx hb hr (fun t ht hW => ⟨⟨(h1, h2, cA, f), rfl, hw, by rw [ht]; exact hP, va_K.moved hW.alike hK, hD⟩, hS.F ht⟩) hS.2.2 dX0_init_25
set_option maxHeartbeats 4000000 in
set_option maxRecDepth 100000 in
/-- StepPaths.load(x, y) -/
theorem met_load (l : Launch) (dC : Nat → ClassId) (dI : Nat → Nat → Nat) (h0 h1 h2 : Nat) (cA : ClassId) (f : Nat → Int64) (a b : Nat) (x y : Int32) (a2 b2 : Nat) (sz : Nat) (e1 : x &&& nI 15 = nI a2) (e2 : y &&& nI 15 = nI b2) : Met l yX0_load (ws_ yX0_load cX0_load 3 none) ({ frames := 0, cells := 0, slots := 0, locals := 0 }) (va_Pc [.ref h0, .int (x), .int (y)] (fun U => U.heap.size = sz ∧ va_P (dC, dI) vwCl [(h0, .inr (0, [.ref h1, .int (nI a), .int (nI b)])), (h1, .inr (1, [.ref h2])), (h2, .inl (cA, 961, .inr (.inl (f))))] U.heap ∧ va_K (dC, dI) vwCl [(cA, .long)] U ∧ va_D (fun _ => True) [(h0, .inr (0, [.ref h1, .int (nI a), .int (nI b)])), (h1, .inr (1, [.ref h2])), (h2, .inl (cA, 961, .inr (.inl (f))))])) (va_Qv (fun _ : Unit => True) (sp_BX0 dC dI (va_A [(h0, .inr (0, [.ref h1, .int (nI a), .int (nI b)])), (h1, .inr (1, [.ref h2])), (h2, .inl (cA, 961, .inr (.inl (f))))] sz) h0 h1 h2 cA f a2 b2) (va_A [(h0, .inr (0, [.ref h1, .int (nI a), .int (nI b)])), (h1, .inr (1, [.ref h2])), (h2, .inl (cA, 961, .inr (.inl (f))))] sz)) 0 0 (va_A [(h0, .inr (0, [.ref h1, .int (nI a), .int (nI b)])), (h1, .inr (1, [.ref h2])), (h2, .inl (cA, 961, .inr (.inl (f))))] sz) := by
  refine Met.ofW (cc := cX0_load) (maxL := 3) (ret := none) (by decide) rfl ?_
  intro p e s m args below meth c s₁ B hml hv
  obtain ⟨rfl, hsz, hP, hK, hD0⟩ := hv
  have hx := B.exec
  have hb := B.bytes
  have hr := B.returns
  have hts := atoms_spec (ws := (ws_ yX0_load cX0_load 3 none)) B.pre
  have hts : ∀ w ∈ lw_all, w.before _ s = true := fun w h => hts w (List.mem_cons_of_mem _ h)
  have hown : s.vm.findClass RX0 = some m.cls := findClass_of_methodNamed B.named
  have hlocks := B.notSynchronized
  subst hsz
  have hD := hD0.self (sz := s.heap.size)
  generalize hAe : va_A [(h0, .inr (0, [.ref h1, .int (nI a), .int (nI b)])), (h1, .inr (1, [.ref h2])), (h2, .inl (cA, 961, .inr (.inl (f))))] s.heap.size = A at hD ⊢
  have hA : ∀ q : Nat, s.heap.size ≤ q → A q := fun q h => by rw [← hAe]; exact Or.inr h
  have hS : va_S A s.heap s.heap [] := va_S.rf
  have hP : va_P (dC, dI) vwCl [(h0, .inr (0, [.ref h1, .int (nI a), .int (nI b)])), (h1, .inr (1, [.ref h2])), (h2, .inl (cA, 961, .inr (.inl (f))))] s.heap := hP
  have hl := lv_entry ([.ref h0, .int (x), .int (y)]) (n := 3) (Nat.le_of_ble_eq_true rfl)
  rw [lg_entry_eq]
  generalize (lg_sl ([.ref h0, .int (x), .int (y)]) ++ List.replicate (3 - (lg_sl ([.ref h0, .int (x), .int (y)])).length) Slot.unset).toArray = ls at hl ⊢
  have hl : lv_has ls 3 [(0, .ref h0), (1, .int (x)), (2, .int (y))] := hl
  refine lv_aload_n hx hb dX0_load_0 rfl (lv_at hl 0 rfl) ?_
  refine lv_iload_n hx hb dX0_load_1 rfl (lv_at hl 1 rfl) ?_
  refine lv_bipush (v := (nI 15)) hx hb dX0_load_2 (by decide) ?_
  refine lv_iand hx hb dX0_load_4 ?_
  refine sp_topi (y := (nI a2)) e1 ?_
  refine va_put (D := (dC, dI)) (ci := 0) (v := .int (nI a2)) (ty := .int) (C := RX0) (T := TX0) (N := 3) hx hb hts in_X0 tyX0 tyX0_ok nmX0 hown hK hP hD hS 0 rfl rfl 1 (by decide) (hts _ q25) (fun _ h9 => h9) rfl (by decide +kernel) rfl rfl (Nat.le_of_ble_eq_true rfl) dX0_load_5 (fun H locs hP hD hS => ?_)
  have hP : va_P (dC, dI) vwCl [(h0, .inr (0, [.ref h1, .int (nI a2), .int (nI b)])), (h1, .inr (1, [.ref h2])), (h2, .inl (cA, 961, .inr (.inl (f))))] H := hP
  have hD : va_D A [(h0, .inr (0, [.ref h1, .int (nI a2), .int (nI b)])), (h1, .inr (1, [.ref h2])), (h2, .inl (cA, 961, .inr (.inl (f))))] := hD
  refine lv_aload_n hx hb dX0_load_8 rfl (lv_at hl 0 rfl) ?_
  refine lv_iload_n hx hb dX0_load_9 rfl (lv_at hl 2 rfl) ?_
  refine lv_bipush (v := (nI 15)) hx hb dX0_load_10 (by decide) ?_
  refine lv_iand hx hb dX0_load_12 ?_
  refine sp_topi (y := (nI b2)) e2 ?_
  refine va_put (D := (dC, dI)) (ci := 0) (v := .int (nI b2)) (ty := .int) (C := RX0) (T := TX0) (N := 3) hx hb hts in_X0 tyX0 tyX0_ok nmX0 hown hK hP hD hS 0 rfl rfl 2 (by decide) (hts _ q26) (fun _ h9 => h9) rfl (by decide +kernel) rfl rfl (Nat.le_of_ble_eq_true rfl) dX0_load_13 (fun H locs hP hD hS => ?_)
  have hP : va_P (dC, dI) vwCl [(h0, .inr (0, [.ref h1, .int (nI a2), .int (nI b2)])), (h1, .inr (1, [.ref h2])), (h2, .inl (cA, 961, .inr (.inl (f))))] H := hP
  have hD : va_D A [(h0, .inr (0, [.ref h1, .int (nI a2), .int (nI b2)])), (h1, .inr (1, [.ref h2])), (h2, .inl (cA, 961, .inr (.inl (f))))] := hD
  exact W.vret hx hb hr (fun t ht hW => ⟨⟨(), rfl, trivial, by rw [ht]; exact hP, va_K.moved hW.alike hK, hD⟩, hS.F ht⟩) hS.2.2 dX0_load_16
set_option maxHeartbeats 4000000 in
set_option maxRecDepth 100000 in
/-- endingAt(2 κ - (a + b)): κ steps up of a + b -/
theorem met_endingAt (l : Launch) (dC : Nat → ClassId) (dI : Nat → Nat → Nat) (h0 h1 h2 : Nat) (cA : ClassId) (f : Nat → Int64) (a b : Nat) (κ : Int) (sz : Nat) (hf : sp_tri f) (ha : a ≤ 15) (hbb : b ≤ 15) (hk1 : -100000 ≤ κ) (hk2 : κ ≤ 100000) : Met l yX0_endingAt (ws_ yX0_endingAt cX0_endingAt 3 (some .long)) ({ frames := 1, cells := 0, slots := 0, locals := 22 }) (va_Pc [.ref h0, .int (sp_i (2 * κ - ((a + b : Nat) : Int)))] (fun U => U.heap.size = sz ∧ va_P (dC, dI) vwCl [(h0, .inr (0, [.ref h1, .int (nI a), .int (nI b)])), (h1, .inr (1, [.ref h2])), (h2, .inl (cA, 961, .inr (.inl (f))))] U.heap ∧ va_K (dC, dI) vwCl [(cA, .long)] U ∧ va_D (fun _ => True) [(h0, .inr (0, [.ref h1, .int (nI a), .int (nI b)])), (h1, .inr (1, [.ref h2])), (h2, .inl (cA, 961, .inr (.inl (f))))])) (va_Ql (fun (r : Int64) (_ : Unit) => r = sp_l (sp_C (a + b) κ)) (sp_BX0 dC dI (va_A [(h0, .inr (0, [.ref h1, .int (nI a), .int (nI b)])), (h1, .inr (1, [.ref h2])), (h2, .inl (cA, 961, .inr (.inl (f))))] sz) h0 h1 h2 cA f a b) (va_A [(h0, .inr (0, [.ref h1, .int (nI a), .int (nI b)])), (h1, .inr (1, [.ref h2])), (h2, .inl (cA, 961, .inr (.inl (f))))] sz)) 0 0 (va_A [(h0, .inr (0, [.ref h1, .int (nI a), .int (nI b)])), (h1, .inr (1, [.ref h2])), (h2, .inl (cA, 961, .inr (.inl (f))))] sz) := by
  refine Met.ofW (cc := cX0_endingAt) (maxL := 3) (ret := (some .long)) (by decide) rfl ?_
  intro p e s m args below meth c s₁ B hml hv
  obtain ⟨rfl, hsz, hP, hK, hD0⟩ := hv
  have hx := B.exec
  have hb := B.bytes
  have hr := B.returns
  have hts := atoms_spec (ws := (ws_ yX0_endingAt cX0_endingAt 3 (some .long))) B.pre
  have hts : ∀ w ∈ lw_all, w.before _ s = true := fun w h => hts w (List.mem_cons_of_mem _ h)
  have hown : s.vm.findClass RX0 = some m.cls := findClass_of_methodNamed B.named
  have hlocks := B.notSynchronized
  subst hsz
  have hD := hD0.self (sz := s.heap.size)
  generalize hAe : va_A [(h0, .inr (0, [.ref h1, .int (nI a), .int (nI b)])), (h1, .inr (1, [.ref h2])), (h2, .inl (cA, 961, .inr (.inl (f))))] s.heap.size = A at hD ⊢
  have hA : ∀ q : Nat, s.heap.size ≤ q → A q := fun q h => by rw [← hAe]; exact Or.inr h
  have hS : va_S A s.heap s.heap [] := va_S.rf
  have hP : va_P (dC, dI) vwCl [(h0, .inr (0, [.ref h1, .int (nI a), .int (nI b)])), (h1, .inr (1, [.ref h2])), (h2, .inl (cA, 961, .inr (.inl (f))))] s.heap := hP
  have hl := lv_entry ([.ref h0, .int (sp_i (2 * κ - ((a + b : Nat) : Int)))]) (n := 3) (Nat.le_of_ble_eq_true rfl)
  rw [lg_entry_eq]
  generalize (lg_sl ([.ref h0, .int (sp_i (2 * κ - ((a + b : Nat) : Int)))]) ++ List.replicate (3 - (lg_sl ([.ref h0, .int (sp_i (2 * κ - ((a + b : Nat) : Int)))])).length) Slot.unset).toArray = ls at hl ⊢
  have hl : lv_has ls 3 [(0, .ref h0), (1, .int (sp_i (2 * κ - ((a + b : Nat) : Int))))] := hl
  refine lv_aload_n hx hb dX0_endingAt_0 rfl (lv_at hl 0 rfl) ?_
  refine va_get (D := (dC, dI)) (ci := 0) (v := .int (nI a)) (C := RX0) (T := TX0) (N := 3) hx hb hts in_X0 hown hK hP 0 rfl rfl 1 (by decide) (hts _ q25) (fun _ h9 => h9) rfl dX0_endingAt_1 ?_
  refine lv_aload_n hx hb dX0_endingAt_4 rfl (lv_at hl 0 rfl) ?_
  refine va_get (D := (dC, dI)) (ci := 0) (v := .int (nI b)) (C := RX0) (T := TX0) (N := 3) hx hb hts in_X0 hown hK hP 0 rfl rfl 2 (by decide) (hts _ q26) (fun _ h9 => h9) rfl dX0_endingAt_5 ?_
  refine lv_iadd hx hb dX0_endingAt_8 ?_
  refine sp_topi (y := (nI (a + b))) (nI_add _ _) ?_
  refine lv_istore_n (lv' := [(2, .int (nI (a + b))), (0, .ref h0), (1, .int (sp_i (2 * κ - ((a + b : Nat) : Int))))]) hx hb dX0_endingAt_9 rfl hl (by decide) rfl (fun ls hl => ?_)
  refine lv_iload_n hx hb dX0_endingAt_10 rfl (lv_at hl 0 rfl) ?_
  refine lv_iload_n hx hb dX0_endingAt_11 rfl (lv_at hl 2 rfl) ?_
  refine lv_iadd hx hb dX0_endingAt_12 ?_
  refine sp_topi (y := (sp_i (2 * κ))) (by simp only [sp_ni, sp_iadd, sp_isub, sp_imul, sp_ineg] <;> exact congrArg sp_i (by omega)) ?_
  refine lv_iconst (v := (nI 1)) hx hb dX0_endingAt_13 (by decide) ?_
  refine lv_iand hx hb dX0_endingAt_14 ?_
  refine sp_topi (y := (nI 0)) (sp_even κ) ?_
  refine lv_if_eq (tgt := 22) hx hb dX0_endingAt_15 (by decide) (fun hc => ?_) (fun hc => ?_)
  · rw [← nI_0] at hc
    have hc : 0 = 0 := (nI_eq (by omega) (by omega)).mp hc
    refine lv_aload_n hx hb dX0_endingAt_22 rfl (lv_at hl 1 rfl) ?_
    refine va_get (D := (dC, dI)) (ci := 0) (v := .ref h1) (C := RX0) (T := TX0) (N := 3) hx hb hts in_X0 hown hK hP 0 rfl rfl 0 (by decide) (hts _ q24) (fun _ h9 => h9) rfl dX0_endingAt_23 ?_
    refine lv_iload_n hx hb dX0_endingAt_26 rfl (lv_at hl 0 rfl) ?_
    refine lv_iload_n hx hb dX0_endingAt_27 rfl (lv_at hl 0 rfl) ?_
    refine lv_iload_n hx hb dX0_endingAt_28 rfl (lv_at hl 2 rfl) ?_
    refine lv_iadd hx hb dX0_endingAt_29 ?_
    refine sp_topi (y := (sp_i (2 * κ))) (by simp only [sp_ni, sp_iadd, sp_isub, sp_imul, sp_ineg] <;> exact congrArg sp_i (by omega)) ?_
    refine lv_iconst (v := (nI 2)) hx hb dX0_endingAt_30 (by decide) ?_
    refine lv_idiv hx hb dX0_endingAt_31 (by decide) ?_
    refine sp_topi (y := (sp_i (κ))) (sp_half (by omega) (by omega)) ?_
    have hPc := hP.sub (ws' := [(h1, .inr (1, [.ref h2])), (h2, .inl (cA, 961, .inr (.inl (f))))]) [1, 2] rfl
    have hDc := hD.sub (ws' := [(h1, .inr (1, [.ref h2])), (h2, .inl (cA, 961, .inr (.inl (f))))]) [1, 2] (by decide) rfl
    have hKc := hK.sub (tys' := [(cA, .long)]) [0] rfl
    have hFc := va_free (wc := [(h1, .inr (1, [.ref h2])), (h2, .inl (cA, 961, .inr (.inl (f))))]) hD hS hA [1, 2] rfl
    refine va_calll (va_runV (As := [.int (nI (a + b)), .int (sp_i (κ))]) (rest := []) ⟨hx, hb, hml, hown, hts⟩ (met_of l dC dI h1 h2 cA f (a + b) (κ) s.heap.size hf (by omega) (by omega) (by omega)) (cwV 2 hts (lw_V q46 q47 q48 q3 q49) rfl rfl rfl (by decide +kernel) ⟨Nat.le_of_ble_eq_true rfl, Nat.le_of_ble_eq_true rfl⟩) ⟨fun a U g mk q => by obtain ⟨q0, q1, qP, qK, qD⟩ := q; exact ⟨q0, q1, qP, va_K.moved (u := U) (U := U.calling g mk a) (Vm.Alike.refl U.vm) qK, qD⟩, va_recv hKc hPc (ci := 1) (q0 := 0) rfl rfl, fun U hU hW => ⟨rfl, by rw [hU], by rw [hU]; exact hPc, va_K.moved hW.alike hKc, hDc.weaken (fun _ _ _ _ => trivial)⟩⟩ rfl rfl hl.1 rfl (lv_room (Nat.le_of_ble_eq_true rfl)) dX0_endingAt_32 ⟨Nat.zero_le _, Nat.zero_le _⟩) hS (fun q _ h => hFc q h) hFc (fun r1 u t H1 locs ht hvm hw hB hz1 hk1 hS => ?_)
    obtain ⟨hP1, hK1, hD1⟩ := hB
    rw [ht] at hP1
    obtain ⟨hP, hD⟩ := va_join (wr := [(h0, .inr (0, [.ref h1, .int (nI a), .int (nI b)]))]) (w1 := [(h1, .inr (1, [.ref h2])), (h2, .inl (cA, 961, .inr (.inl (f))))]) hP hD [1, 2] [0] rfl rfl (by decide) (by decide) hk1 hFc hP1 hD1
    generalize H1 = H at hP hS ⊢
    have hP := hP.sub (ws' := [(h0, .inr (0, [.ref h1, .int (nI a), .int (nI b)])), (h1, .inr (1, [.ref h2])), (h2, .inl (cA, 961, .inr (.inl (f))))]) [0, 1, 2] rfl
    have hD := hD.sub (ws' := [(h0, .inr (0, [.ref h1, .int (nI a), .int (nI b)])), (h1, .inr (1, [.ref h2])), (h2, .inl (cA, 961, .inr (.inl (f))))]) [0, 1, 2] (by decide) rfl
    exact W.lret (v := r1) hx hb hr (fun t ht hW => ⟨⟨r1, (), rfl, hw, by rw [ht]; exact hP, va_K.moved hW.alike hK, hD⟩, hS.F ht⟩) hS.2.2 dX0_endingAt_35
  · rw [← nI_0] at hc
    have hc : ¬ 0 = 0 := fun h9 => hc ((nI_eq (by omega) (by omega)).mpr h9)
    exact absurd rfl hc
set_option maxHeartbeats 4000000 in
set_option maxRecDepth 100000 in
/-- all(): a steps up of a + b -/
theorem met_all (l : Launch) (dC : Nat → ClassId) (dI : Nat → Nat → Nat) (h0 h1 h2 : Nat) (cA : ClassId) (f : Nat → Int64) (a b : Nat) (sz : Nat) (hf : sp_tri f) (ha : a ≤ 15) (hbb : b ≤ 15) : Met l yX0_all (ws_ yX0_all cX0_all 1 (some .long)) ({ frames := 2, cells := 0, slots := 0, locals := 44 }) (va_Pc [.ref h0] (fun U => U.heap.size = sz ∧ va_P (dC, dI) vwCl [(h0, .inr (0, [.ref h1, .int (nI a), .int (nI b)])), (h1, .inr (1, [.ref h2])), (h2, .inl (cA, 961, .inr (.inl (f))))] U.heap ∧ va_K (dC, dI) vwCl [(cA, .long)] U ∧ va_D (fun _ => True) [(h0, .inr (0, [.ref h1, .int (nI a), .int (nI b)])), (h1, .inr (1, [.ref h2])), (h2, .inl (cA, 961, .inr (.inl (f))))])) (va_Ql (fun (r : Int64) (_ : Unit) => r = sp_l (sp_C (a + b) a)) (sp_BX0 dC dI (va_A [(h0, .inr (0, [.ref h1, .int (nI a), .int (nI b)])), (h1, .inr (1, [.ref h2])), (h2, .inl (cA, 961, .inr (.inl (f))))] sz) h0 h1 h2 cA f a b) (va_A [(h0, .inr (0, [.ref h1, .int (nI a), .int (nI b)])), (h1, .inr (1, [.ref h2])), (h2, .inl (cA, 961, .inr (.inl (f))))] sz)) 0 0 (va_A [(h0, .inr (0, [.ref h1, .int (nI a), .int (nI b)])), (h1, .inr (1, [.ref h2])), (h2, .inl (cA, 961, .inr (.inl (f))))] sz) := by
  refine Met.ofW (cc := cX0_all) (maxL := 1) (ret := (some .long)) (by decide) rfl ?_
  intro p e s m args below meth c s₁ B hml hv
  obtain ⟨rfl, hsz, hP, hK, hD0⟩ := hv
  have hx := B.exec
  have hb := B.bytes
  have hr := B.returns
  have hts := atoms_spec (ws := (ws_ yX0_all cX0_all 1 (some .long))) B.pre
  have hts : ∀ w ∈ lw_all, w.before _ s = true := fun w h => hts w (List.mem_cons_of_mem _ h)
  have hown : s.vm.findClass RX0 = some m.cls := findClass_of_methodNamed B.named
  have hlocks := B.notSynchronized
  subst hsz
  have hD := hD0.self (sz := s.heap.size)
  generalize hAe : va_A [(h0, .inr (0, [.ref h1, .int (nI a), .int (nI b)])), (h1, .inr (1, [.ref h2])), (h2, .inl (cA, 961, .inr (.inl (f))))] s.heap.size = A at hD ⊢
  have hA : ∀ q : Nat, s.heap.size ≤ q → A q := fun q h => by rw [← hAe]; exact Or.inr h
  have hS : va_S A s.heap s.heap [] := va_S.rf
  have hP : va_P (dC, dI) vwCl [(h0, .inr (0, [.ref h1, .int (nI a), .int (nI b)])), (h1, .inr (1, [.ref h2])), (h2, .inl (cA, 961, .inr (.inl (f))))] s.heap := hP
  have hl := lv_entry ([.ref h0]) (n := 1) (Nat.le_of_ble_eq_true rfl)
  rw [lg_entry_eq]
  generalize (lg_sl ([.ref h0]) ++ List.replicate (1 - (lg_sl ([.ref h0])).length) Slot.unset).toArray = ls at hl ⊢
  have hl : lv_has ls 1 [(0, .ref h0)] := hl
  refine lv_aload_n hx hb dX0_all_0 rfl (lv_at hl 0 rfl) ?_
  refine lv_aload_n hx hb dX0_all_1 rfl (lv_at hl 0 rfl) ?_
  refine va_get (D := (dC, dI)) (ci := 0) (v := .int (nI a)) (C := RX0) (T := TX0) (N := 3) hx hb hts in_X0 hown hK hP 0 rfl rfl 1 (by decide) (hts _ q25) (fun _ h9 => h9) rfl dX0_all_2 ?_
  refine lv_aload_n hx hb dX0_all_5 rfl (lv_at hl 0 rfl) ?_
  refine va_get (D := (dC, dI)) (ci := 0) (v := .int (nI b)) (C := RX0) (T := TX0) (N := 3) hx hb hts in_X0 hown hK hP 0 rfl rfl 2 (by decide) (hts _ q26) (fun _ h9 => h9) rfl dX0_all_6 ?_
  refine lv_isub hx hb dX0_all_9 ?_
  refine sp_topi (y := (sp_i (2 * (a : Int) - ((a + b : Nat) : Int)))) (by simp only [sp_ni, sp_iadd, sp_isub, sp_imul, sp_ineg] <;> exact congrArg sp_i (by omega)) ?_
  have hPc := hP.sub (ws' := [(h0, .inr (0, [.ref h1, .int (nI a), .int (nI b)])), (h1, .inr (1, [.ref h2])), (h2, .inl (cA, 961, .inr (.inl (f))))]) [0, 1, 2] rfl
  have hDc := hD.sub (ws' := [(h0, .inr (0, [.ref h1, .int (nI a), .int (nI b)])), (h1, .inr (1, [.ref h2])), (h2, .inl (cA, 961, .inr (.inl (f))))]) [0, 1, 2] (by decide) rfl
  have hKc := hK.sub (tys' := [(cA, .long)]) [0] rfl
  have hFc := va_free (wc := [(h0, .inr (0, [.ref h1, .int (nI a), .int (nI b)])), (h1, .inr (1, [.ref h2])), (h2, .inl (cA, 961, .inr (.inl (f))))]) hD hS hA [0, 1, 2] rfl
  refine va_calll (va_runV (As := [.int (sp_i (2 * (a : Int) - ((a + b : Nat) : Int)))]) (rest := []) ⟨hx, hb, hml, hown, hts⟩ (met_endingAt l dC dI h0 h1 h2 cA f a b ((a : Int)) s.heap.size hf ha hbb (by omega) (by omega)) (cwV 1 hts (lw_V q42 q44 qs0 q2 q45) rfl rfl rfl (by decide +kernel) ⟨Nat.le_of_ble_eq_true rfl, Nat.le_of_ble_eq_true rfl⟩) ⟨fun a U g mk q => by obtain ⟨q0, q1, qP, qK, qD⟩ := q; exact ⟨q0, q1, qP, va_K.moved (u := U) (U := U.calling g mk a) (Vm.Alike.refl U.vm) qK, qD⟩, va_recv hKc hPc (ci := 0) (q0 := 0) rfl rfl, fun U hU hW => ⟨rfl, by rw [hU], by rw [hU]; exact hPc, va_K.moved hW.alike hKc, hDc.weaken (fun _ _ _ _ => trivial)⟩⟩ rfl rfl hl.1 rfl (lv_room (Nat.le_of_ble_eq_true rfl)) dX0_all_10 ⟨Nat.zero_le _, Nat.zero_le _⟩) hS (fun q _ h => hFc q h) hFc (fun r1 u t H1 locs ht hvm hw hB hz1 hk1 hS => ?_)
  obtain ⟨hP1, hK1, hD1⟩ := hB
  rw [ht] at hP1
  obtain ⟨hP, hD⟩ := va_join (wr := []) (w1 := [(h0, .inr (0, [.ref h1, .int (nI a), .int (nI b)])), (h1, .inr (1, [.ref h2])), (h2, .inl (cA, 961, .inr (.inl (f))))]) hP hD [0, 1, 2] [] rfl rfl (by decide) (by decide) hk1 hFc hP1 hD1
  generalize H1 = H at hP hS ⊢
  have hP := hP.sub (ws' := [(h0, .inr (0, [.ref h1, .int (nI a), .int (nI b)])), (h1, .inr (1, [.ref h2])), (h2, .inl (cA, 961, .inr (.inl (f))))]) [0, 1, 2] rfl
  have hD := hD.sub (ws' := [(h0, .inr (0, [.ref h1, .int (nI a), .int (nI b)])), (h1, .inr (1, [.ref h2])), (h2, .inl (cA, 961, .inr (.inl (f))))]) [0, 1, 2] (by decide) rfl
  exact W.lret (v := r1) hx hb hr (fun t ht hW => ⟨⟨r1, (), rfl, hw, by rw [ht]; exact hP, va_K.moved hW.alike hK, hD⟩, hS.F ht⟩) hS.2.2 dX0_all_13
set_option maxHeartbeats 4000000 in
set_option maxRecDepth 100000 in
/-- above(k): the paths that stay above the line -/
theorem met_above (l : Launch) (dC : Nat → ClassId) (dI : Nat → Nat → Nat) (h0 h1 h2 : Nat) (cA : ClassId) (f : Nat → Int64) (a b : Nat) (p0 : Int32) (mm : Nat) (sz : Nat) (hf : sp_tri f) (ha : a ≤ 15) (hbb : b ≤ 15) (hm : mm < 16) (em : p0 &&& nI 15 = nI mm) : Met l yX0_above (ws_ yX0_above cX0_above 4 (some .long)) ({ frames := 3, cells := 0, slots := 0, locals := 64 }) (va_Pc [.ref h0, .int (p0)] (fun U => U.heap.size = sz ∧ va_P (dC, dI) vwCl [(h0, .inr (0, [.ref h1, .int (nI a), .int (nI b)])), (h1, .inr (1, [.ref h2])), (h2, .inl (cA, 961, .inr (.inl (f))))] U.heap ∧ va_K (dC, dI) vwCl [(cA, .long)] U ∧ va_D (fun _ => True) [(h0, .inr (0, [.ref h1, .int (nI a), .int (nI b)])), (h1, .inr (1, [.ref h2])), (h2, .inl (cA, 961, .inr (.inl (f))))])) (va_Ql (fun (r : Int64) (_ : Unit) => r = lN (sp_R a b (-(mm : Int) - 1) 100 (a + b) a)) (sp_BX0 dC dI (va_A [(h0, .inr (0, [.ref h1, .int (nI a), .int (nI b)])), (h1, .inr (1, [.ref h2])), (h2, .inl (cA, 961, .inr (.inl (f))))] sz) h0 h1 h2 cA f a b) (va_A [(h0, .inr (0, [.ref h1, .int (nI a), .int (nI b)])), (h1, .inr (1, [.ref h2])), (h2, .inl (cA, 961, .inr (.inl (f))))] sz)) 0 0 (va_A [(h0, .inr (0, [.ref h1, .int (nI a), .int (nI b)])), (h1, .inr (1, [.ref h2])), (h2, .inl (cA, 961, .inr (.inl (f))))] sz) := by
  refine Met.ofW (cc := cX0_above) (maxL := 4) (ret := (some .long)) (by decide) rfl ?_
  intro p e s m args below meth c s₁ B hml hv
  obtain ⟨rfl, hsz, hP, hK, hD0⟩ := hv
  have hx := B.exec
  have hb := B.bytes
  have hr := B.returns
  have hts := atoms_spec (ws := (ws_ yX0_above cX0_above 4 (some .long))) B.pre
  have hts : ∀ w ∈ lw_all, w.before _ s = true := fun w h => hts w (List.mem_cons_of_mem _ h)
  have hown : s.vm.findClass RX0 = some m.cls := findClass_of_methodNamed B.named
  have hlocks := B.notSynchronized
  subst hsz
  have hD := hD0.self (sz := s.heap.size)
  generalize hAe : va_A [(h0, .inr (0, [.ref h1, .int (nI a), .int (nI b)])), (h1, .inr (1, [.ref h2])), (h2, .inl (cA, 961, .inr (.inl (f))))] s.heap.size = A at hD ⊢
  have hA : ∀ q : Nat, s.heap.size ≤ q → A q := fun q h => by rw [← hAe]; exact Or.inr h
  have hS : va_S A s.heap s.heap [] := va_S.rf
  have hP : va_P (dC, dI) vwCl [(h0, .inr (0, [.ref h1, .int (nI a), .int (nI b)])), (h1, .inr (1, [.ref h2])), (h2, .inl (cA, 961, .inr (.inl (f))))] s.heap := hP
  have hl := lv_entry ([.ref h0, .int (p0)]) (n := 4) (Nat.le_of_ble_eq_true rfl)
  rw [lg_entry_eq]
  generalize (lg_sl ([.ref h0, .int (p0)]) ++ List.replicate (4 - (lg_sl ([.ref h0, .int (p0)])).length) Slot.unset).toArray = ls at hl ⊢
  have hl : lv_has ls 4 [(0, .ref h0), (1, .int (p0))] := hl
  refine lv_iload_n hx hb dX0_above_0 rfl (lv_at hl 1 rfl) ?_
  refine lv_bipush (v := (nI 15)) hx hb dX0_above_1 (by decide) ?_
  refine lv_iand hx hb dX0_above_3 ?_
  refine sp_topi (y := (nI mm)) em ?_
  refine lv_ineg hx hb dX0_above_4 ?_
  refine sp_topi (y := (sp_i (-(mm : Int)))) (by simp only [sp_ni, sp_iadd, sp_isub, sp_imul, sp_ineg] <;> exact congrArg sp_i (by omega)) ?_
  refine lv_iconst (v := (nI 1)) hx hb dX0_above_5 (by decide) ?_
  refine lv_isub hx hb dX0_above_6 ?_
  refine sp_topi (y := (sp_i (-(mm : Int) - 1))) (by simp only [sp_ni, sp_iadd, sp_isub, sp_imul, sp_ineg] <;> exact congrArg sp_i (by omega)) ?_
  refine lv_istore_n (lv' := [(2, .int (sp_i (-(mm : Int) - 1))), (0, .ref h0), (1, .int (p0))]) hx hb dX0_above_7 rfl hl (by decide) rfl (fun ls hl => ?_)
  refine lv_aload_n hx hb dX0_above_8 rfl (lv_at hl 1 rfl) ?_
  refine va_get (D := (dC, dI)) (ci := 0) (v := .int (nI a)) (C := RX0) (T := TX0) (N := 3) hx hb hts in_X0 hown hK hP 0 rfl rfl 1 (by decide) (hts _ q25) (fun _ h9 => h9) rfl dX0_above_9 ?_
  refine lv_aload_n hx hb dX0_above_12 rfl (lv_at hl 1 rfl) ?_
  refine va_get (D := (dC, dI)) (ci := 0) (v := .int (nI b)) (C := RX0) (T := TX0) (N := 3) hx hb hts in_X0 hown hK hP 0 rfl rfl 2 (by decide) (hts _ q26) (fun _ h9 => h9) rfl dX0_above_13 ?_
  refine lv_isub hx hb dX0_above_16 ?_
  refine sp_topi (y := (sp_i ((a : Int) - b))) (by simp only [sp_ni, sp_iadd, sp_isub, sp_imul, sp_ineg] <;> exact congrArg sp_i (by omega)) ?_
  refine lv_istore_n (lv' := [(3, .int (sp_i ((a : Int) - b))), (2, .int (sp_i (-(mm : Int) - 1))), (0, .ref h0), (1, .int (p0))]) hx hb dX0_above_17 rfl hl (by decide) rfl (fun ls hl => ?_)
  refine lv_iload_n hx hb dX0_above_18 rfl (lv_at hl 0 rfl) ?_
  refine lv_iload_n hx hb dX0_above_19 rfl (lv_at hl 1 rfl) ?_
  refine lv_icmp_gt (tgt := 27) hx hb dX0_above_20 (by decide) (fun hc => ?_) (fun hc => ?_)
  · have hc : -(mm : Int) - 1 < (a : Int) - b := (sp_ilt (by omega) (by omega) (by omega) (by omega)).mp hc
    refine lv_aload_n hx hb dX0_above_27 rfl (lv_at hl 2 rfl) ?_
    have hPc := hP.sub (ws' := [(h0, .inr (0, [.ref h1, .int (nI a), .int (nI b)])), (h1, .inr (1, [.ref h2])), (h2, .inl (cA, 961, .inr (.inl (f))))]) [0, 1, 2] rfl
    have hDc := hD.sub (ws' := [(h0, .inr (0, [.ref h1, .int (nI a), .int (nI b)])), (h1, .inr (1, [.ref h2])), (h2, .inl (cA, 961, .inr (.inl (f))))]) [0, 1, 2] (by decide) rfl
    have hKc := hK.sub (tys' := [(cA, .long)]) [0] rfl
    have hFc := va_free (wc := [(h0, .inr (0, [.ref h1, .int (nI a), .int (nI b)])), (h1, .inr (1, [.ref h2])), (h2, .inl (cA, 961, .inr (.inl (f))))]) hD hS hA [0, 1, 2] rfl
    refine va_calll (va_runV (As := []) (rest := []) ⟨hx, hb, hml, hown, hts⟩ (met_all l dC dI h0 h1 h2 cA f a b s.heap.size hf ha hbb) (cwV 0 hts (lw_V q54 q39 q40 q2 q41) rfl rfl rfl (by decide +kernel) ⟨Nat.le_of_ble_eq_true rfl, Nat.le_of_ble_eq_true rfl⟩) ⟨fun a U g mk q => by obtain ⟨q0, q1, qP, qK, qD⟩ := q; exact ⟨q0, q1, qP, va_K.moved (u := U) (U := U.calling g mk a) (Vm.Alike.refl U.vm) qK, qD⟩, va_recv hKc hPc (ci := 0) (q0 := 0) rfl rfl, fun U hU hW => ⟨rfl, by rw [hU], by rw [hU]; exact hPc, va_K.moved hW.alike hKc, hDc.weaken (fun _ _ _ _ => trivial)⟩⟩ rfl rfl hl.1 rfl (lv_room (Nat.le_of_ble_eq_true rfl)) dX0_above_28 ⟨Nat.zero_le _, Nat.zero_le _⟩) hS (fun q _ h => hFc q h) hFc (fun r1 u t H1 locs ht hvm hw1 hB hz1 hk1 hS => ?_)
    obtain ⟨hP1, hK1, hD1⟩ := hB
    rw [ht] at hP1
    obtain ⟨hP, hD⟩ := va_join (wr := []) (w1 := [(h0, .inr (0, [.ref h1, .int (nI a), .int (nI b)])), (h1, .inr (1, [.ref h2])), (h2, .inl (cA, 961, .inr (.inl (f))))]) hP hD [0, 1, 2] [] rfl rfl (by decide) (by decide) hk1 hFc hP1 hD1
    generalize H1 = H at hP hS ⊢
    have hP := hP.sub (ws' := [(h0, .inr (0, [.ref h1, .int (nI a), .int (nI b)])), (h1, .inr (1, [.ref h2])), (h2, .inl (cA, 961, .inr (.inl (f))))]) [0, 1, 2] rfl
    have hD := hD.sub (ws' := [(h0, .inr (0, [.ref h1, .int (nI a), .int (nI b)])), (h1, .inr (1, [.ref h2])), (h2, .inl (cA, 961, .inr (.inl (f))))]) [0, 1, 2] (by decide) rfl
    have hw1 : r1 = sp_l (sp_C (a + b) a) := hw1
    subst hw1
    refine lv_aload_n hx hb dX0_above_31 rfl (lv_at hl 2 rfl) ?_
    refine lv_iconst (v := (nI 2)) hx hb dX0_above_32 (by decide) ?_
    refine lv_iload_n hx hb dX0_above_33 rfl (lv_at hl 1 rfl) ?_
    refine lv_imul hx hb dX0_above_34 ?_
    refine sp_topi (y := (sp_i (2 * (-(mm : Int) - 1)))) (by simp only [sp_ni, sp_iadd, sp_isub, sp_imul, sp_ineg] <;> exact congrArg sp_i (by omega)) ?_
    refine lv_iload_n hx hb dX0_above_35 rfl (lv_at hl 0 rfl) ?_
    refine lv_isub hx hb dX0_above_36 ?_
    refine sp_topi (y := (sp_i (2 * ((b : Int) + (-(mm : Int) - 1)) - ((a + b : Nat) : Int)))) (by simp only [sp_ni, sp_iadd, sp_isub, sp_imul, sp_ineg] <;> exact congrArg sp_i (by omega)) ?_
    have hPc := hP.sub (ws' := [(h0, .inr (0, [.ref h1, .int (nI a), .int (nI b)])), (h1, .inr (1, [.ref h2])), (h2, .inl (cA, 961, .inr (.inl (f))))]) [0, 1, 2] rfl
    have hDc := hD.sub (ws' := [(h0, .inr (0, [.ref h1, .int (nI a), .int (nI b)])), (h1, .inr (1, [.ref h2])), (h2, .inl (cA, 961, .inr (.inl (f))))]) [0, 1, 2] (by decide) rfl
    have hKc := hK.sub (tys' := [(cA, .long)]) [0] rfl
    have hFc := va_free (wc := [(h0, .inr (0, [.ref h1, .int (nI a), .int (nI b)])), (h1, .inr (1, [.ref h2])), (h2, .inl (cA, 961, .inr (.inl (f))))]) hD hS hA [0, 1, 2] rfl
    refine va_calll (va_runV (As := [.int (sp_i (2 * ((b : Int) + (-(mm : Int) - 1)) - ((a + b : Nat) : Int)))]) (rest := [.long (sp_l (sp_C (a + b) a))]) ⟨hx, hb, hml, hown, hts⟩ (met_endingAt l dC dI h0 h1 h2 cA f a b ((b : Int) + (-(mm : Int) - 1)) H.size hf ha hbb (by omega) (by omega)) (cwV 1 hts (lw_V q42 q44 qs0 q2 q45) rfl rfl rfl (by decide +kernel) ⟨Nat.le_of_ble_eq_true rfl, Nat.le_of_ble_eq_true rfl⟩) ⟨fun a U g mk q => by obtain ⟨q0, q1, qP, qK, qD⟩ := q; exact ⟨q0, q1, qP, va_K.moved (u := U) (U := U.calling g mk a) (Vm.Alike.refl U.vm) qK, qD⟩, va_recv hKc hPc (ci := 0) (q0 := 0) rfl rfl, fun U hU hW => ⟨rfl, by rw [hU], by rw [hU]; exact hPc, va_K.moved hW.alike hKc, hDc.weaken (fun _ _ _ _ => trivial)⟩⟩ rfl rfl hl.1 rfl (lv_room (Nat.le_of_ble_eq_true rfl)) dX0_above_37 ⟨Nat.zero_le _, Nat.zero_le _⟩) hS (fun q _ h => hFc q h) hFc (fun r2 u t H1 locs ht hvm hw2 hB hz1 hk1 hS => ?_)
    obtain ⟨hP1, hK1, hD1⟩ := hB
    rw [ht] at hP1
    obtain ⟨hP, hD⟩ := va_join (wr := []) (w1 := [(h0, .inr (0, [.ref h1, .int (nI a), .int (nI b)])), (h1, .inr (1, [.ref h2])), (h2, .inl (cA, 961, .inr (.inl (f))))]) hP hD [0, 1, 2] [] rfl rfl (by decide) (by decide) hk1 hFc hP1 hD1
    generalize H1 = H at hP hS ⊢
    have hP := hP.sub (ws' := [(h0, .inr (0, [.ref h1, .int (nI a), .int (nI b)])), (h1, .inr (1, [.ref h2])), (h2, .inl (cA, 961, .inr (.inl (f))))]) [0, 1, 2] rfl
    have hD := hD.sub (ws' := [(h0, .inr (0, [.ref h1, .int (nI a), .int (nI b)])), (h1, .inr (1, [.ref h2])), (h2, .inl (cA, 961, .inr (.inl (f))))]) [0, 1, 2] (by decide) rfl
    have hw2 : r2 = sp_l (sp_C (a + b) ((b : Int) + (-(mm : Int) - 1))) := hw2
    subst hw2
    refine lv_lsub hx hb dX0_above_40 ?_
    refine sp_topl (y := (sp_l ((sp_C (a + b) a) - (sp_C (a + b) ((b : Int) + (-(mm : Int) - 1)))))) (sp_lsub _ _) ?_
    exact W.lret (v := (sp_l ((sp_C (a + b) a) - (sp_C (a + b) ((b : Int) + (-(mm : Int) - 1)))))) hx hb hr (fun t ht hW => ⟨⟨(sp_l ((sp_C (a + b) a) - (sp_C (a + b) ((b : Int) + (-(mm : Int) - 1))))), (), rfl, (sp_nle ((sp_above ha hbb (by omega) (by omega)).1 (by omega))).symm, by rw [ht]; exact hP, va_K.moved hW.alike hK, hD⟩, hS.F ht⟩) hS.2.2 dX0_above_41
  · have hc : ¬ -(mm : Int) - 1 < (a : Int) - b := fun h9 => hc ((sp_ilt (by omega) (by omega) (by omega) (by omega)).mpr h9)
    refine lv_lconst (v := (lN (0))) hx hb dX0_above_23 (by decide) ?_
    refine lv_goto (tgt := 41) hx hb dX0_above_24 (by decide) ?_
    exact W.lret (v := (lN 0)) hx hb hr (fun t ht hW => ⟨⟨(lN 0), (), rfl, (by rw [(sp_above ha hbb (by omega) (by omega)).2 (by omega)]), by rw [ht]; exact hP, va_K.moved hW.alike hK, hD⟩, hS.F ht⟩) hS.2.2 dX0_above_41
set_option maxHeartbeats 4000000 in
set_option maxRecDepth 100000 in
/-- apart(): the pairs that never meet -/
theorem met_apart (l : Launch) (dC : Nat → ClassId) (dI : Nat → Nat → Nat) (h0 h1 h2 : Nat) (cA : ClassId) (f : Nat → Int64) (a b : Nat) (sz : Nat) (hf : sp_tri f) (ha : a ≤ 15) (hbb : b ≤ 15) : Met l yX0_apart (ws_ yX0_apart cX0_apart 8 (some .long)) ({ frames := 1, cells := 0, slots := 0, locals := 22 }) (va_Pc [.ref h0] (fun U => U.heap.size = sz ∧ va_P (dC, dI) vwCl [(h0, .inr (0, [.ref h1, .int (nI a), .int (nI b)])), (h1, .inr (1, [.ref h2])), (h2, .inl (cA, 961, .inr (.inl (f))))] U.heap ∧ va_K (dC, dI) vwCl [(cA, .long)] U ∧ va_D (fun _ => True) [(h0, .inr (0, [.ref h1, .int (nI a), .int (nI b)])), (h1, .inr (1, [.ref h2])), (h2, .inl (cA, 961, .inr (.inl (f))))])) (va_Ql (fun (r : Int64) (_ : Unit) => r = lN (sp_T a b (a + b) a (a + 1))) (sp_BX0 dC dI (va_A [(h0, .inr (0, [.ref h1, .int (nI a), .int (nI b)])), (h1, .inr (1, [.ref h2])), (h2, .inl (cA, 961, .inr (.inl (f))))] sz) h0 h1 h2 cA f a b) (va_A [(h0, .inr (0, [.ref h1, .int (nI a), .int (nI b)])), (h1, .inr (1, [.ref h2])), (h2, .inl (cA, 961, .inr (.inl (f))))] sz)) 0 0 (va_A [(h0, .inr (0, [.ref h1, .int (nI a), .int (nI b)])), (h1, .inr (1, [.ref h2])), (h2, .inl (cA, 961, .inr (.inl (f))))] sz) := by
  refine Met.ofW (cc := cX0_apart) (maxL := 8) (ret := (some .long)) (by decide) rfl ?_
  intro p e s m args below meth c s₁ B hml hv
  obtain ⟨rfl, hsz, hP, hK, hD0⟩ := hv
  have hx := B.exec
  have hb := B.bytes
  have hr := B.returns
  have hts := atoms_spec (ws := (ws_ yX0_apart cX0_apart 8 (some .long))) B.pre
  have hts : ∀ w ∈ lw_all, w.before _ s = true := fun w h => hts w (List.mem_cons_of_mem _ h)
  have hown : s.vm.findClass RX0 = some m.cls := findClass_of_methodNamed B.named
  have hlocks := B.notSynchronized
  subst hsz
  have hD := hD0.self (sz := s.heap.size)
  generalize hAe : va_A [(h0, .inr (0, [.ref h1, .int (nI a), .int (nI b)])), (h1, .inr (1, [.ref h2])), (h2, .inl (cA, 961, .inr (.inl (f))))] s.heap.size = A at hD ⊢
  have hA : ∀ q : Nat, s.heap.size ≤ q → A q := fun q h => by rw [← hAe]; exact Or.inr h
  have hS : va_S A s.heap s.heap [] := va_S.rf
  have hP : va_P (dC, dI) vwCl [(h0, .inr (0, [.ref h1, .int (nI a), .int (nI b)])), (h1, .inr (1, [.ref h2])), (h2, .inl (cA, 961, .inr (.inl (f))))] s.heap := hP
  have hl := lv_entry ([.ref h0]) (n := 8) (Nat.le_of_ble_eq_true rfl)
  rw [lg_entry_eq]
  generalize (lg_sl ([.ref h0]) ++ List.replicate (8 - (lg_sl ([.ref h0])).length) Slot.unset).toArray = ls at hl ⊢
  have hl : lv_has ls 8 [(0, .ref h0)] := hl
  refine lv_aload_n hx hb dX0_apart_0 rfl (lv_at hl 0 rfl) ?_
  refine va_get (D := (dC, dI)) (ci := 0) (v := .int (nI a)) (C := RX0) (T := TX0) (N := 3) hx hb hts in_X0 hown hK hP 0 rfl rfl 1 (by decide) (hts _ q25) (fun _ h9 => h9) rfl dX0_apart_1 ?_
  refine lv_aload_n hx hb dX0_apart_4 rfl (lv_at hl 0 rfl) ?_
  refine va_get (D := (dC, dI)) (ci := 0) (v := .int (nI b)) (C := RX0) (T := TX0) (N := 3) hx hb hts in_X0 hown hK hP 0 rfl rfl 2 (by decide) (hts _ q26) (fun _ h9 => h9) rfl dX0_apart_5 ?_
  refine lv_iadd hx hb dX0_apart_8 ?_
  refine sp_topi (y := (nI (a + b))) (nI_add _ _) ?_
  refine lv_istore_n (lv' := [(1, .int (nI (a + b))), (0, .ref h0)]) hx hb dX0_apart_9 rfl hl (by decide) rfl (fun ls hl => ?_)
  refine lv_aload_n hx hb dX0_apart_10 rfl (lv_at hl 1 rfl) ?_
  refine va_get (D := (dC, dI)) (ci := 0) (v := .ref h1) (C := RX0) (T := TX0) (N := 3) hx hb hts in_X0 hown hK hP 0 rfl rfl 0 (by decide) (hts _ q24) (fun _ h9 => h9) rfl dX0_apart_11 ?_
  refine lv_iload_n hx hb dX0_apart_14 rfl (lv_at hl 0 rfl) ?_
  refine lv_aload_n hx hb dX0_apart_15 rfl (lv_at hl 1 rfl) ?_
  refine va_get (D := (dC, dI)) (ci := 0) (v := .int (nI a)) (C := RX0) (T := TX0) (N := 3) hx hb hts in_X0 hown hK hP 0 rfl rfl 1 (by decide) (hts _ q25) (fun _ h9 => h9) rfl dX0_apart_16 ?_
  refine sp_topi (y := (sp_i ((a : Int)))) (sp_ni a) ?_
  have hPc := hP.sub (ws' := [(h1, .inr (1, [.ref h2])), (h2, .inl (cA, 961, .inr (.inl (f))))]) [1, 2] rfl
  have hDc := hD.sub (ws' := [(h1, .inr (1, [.ref h2])), (h2, .inl (cA, 961, .inr (.inl (f))))]) [1, 2] (by decide) rfl
  have hKc := hK.sub (tys' := [(cA, .long)]) [0] rfl
  have hFc := va_free (wc := [(h1, .inr (1, [.ref h2])), (h2, .inl (cA, 961, .inr (.inl (f))))]) hD hS hA [1, 2] rfl
  refine va_calll (va_runV (As := [.int (nI (a + b)), .int (sp_i ((a : Int)))]) (rest := []) ⟨hx, hb, hml, hown, hts⟩ (met_of l dC dI h1 h2 cA f (a + b) ((a : Int)) s.heap.size hf (by omega) (by omega) (by omega)) (cwV 2 hts (lw_V q46 q47 q48 q3 q49) rfl rfl rfl (by decide +kernel) ⟨Nat.le_of_ble_eq_true rfl, Nat.le_of_ble_eq_true rfl⟩) ⟨fun a U g mk q => by obtain ⟨q0, q1, qP, qK, qD⟩ := q; exact ⟨q0, q1, qP, va_K.moved (u := U) (U := U.calling g mk a) (Vm.Alike.refl U.vm) qK, qD⟩, va_recv hKc hPc (ci := 1) (q0 := 0) rfl rfl, fun U hU hW => ⟨rfl, by rw [hU], by rw [hU]; exact hPc, va_K.moved hW.alike hKc, hDc.weaken (fun _ _ _ _ => trivial)⟩⟩ rfl rfl hl.1 rfl (lv_room (Nat.le_of_ble_eq_true rfl)) dX0_apart_19 ⟨Nat.zero_le _, Nat.zero_le _⟩) hS (fun q _ h => hFc q h) hFc (fun r1 u t H1 locs ht hvm hw1 hB hz1 hk1 hS => ?_)
  obtain ⟨hP1, hK1, hD1⟩ := hB
  rw [ht] at hP1
  obtain ⟨hP, hD⟩ := va_join (wr := [(h0, .inr (0, [.ref h1, .int (nI a), .int (nI b)]))]) (w1 := [(h1, .inr (1, [.ref h2])), (h2, .inl (cA, 961, .inr (.inl (f))))]) hP hD [1, 2] [0] rfl rfl (by decide) (by decide) hk1 hFc hP1 hD1
  generalize H1 = H at hP hS ⊢
  have hP := hP.sub (ws' := [(h0, .inr (0, [.ref h1, .int (nI a), .int (nI b)])), (h1, .inr (1, [.ref h2])), (h2, .inl (cA, 961, .inr (.inl (f))))]) [0, 1, 2] rfl
  have hD := hD.sub (ws' := [(h0, .inr (0, [.ref h1, .int (nI a), .int (nI b)])), (h1, .inr (1, [.ref h2])), (h2, .inl (cA, 961, .inr (.inl (f))))]) [0, 1, 2] (by decide) rfl
  have hw1 : r1 = sp_l (sp_C (a + b) (a : Int)) := hw1
  subst hw1
  refine lv_lstore_n (lv' := [(2, .long (sp_l (sp_C (a + b) (a : Int)))), (1, .int (nI (a + b))), (0, .ref h0)]) hx hb dX0_apart_22 rfl hl (by decide) rfl (fun ls hl => ?_)
  refine lv_aload_n hx hb dX0_apart_23 rfl (lv_at hl 2 rfl) ?_
  refine va_get (D := (dC, dI)) (ci := 0) (v := .ref h1) (C := RX0) (T := TX0) (N := 3) hx hb hts in_X0 hown hK hP 0 rfl rfl 0 (by decide) (hts _ q24) (fun _ h9 => h9) rfl dX0_apart_24 ?_
  refine lv_iload_n hx hb dX0_apart_27 rfl (lv_at hl 1 rfl) ?_
  refine lv_aload_n hx hb dX0_apart_28 rfl (lv_at hl 2 rfl) ?_
  refine va_get (D := (dC, dI)) (ci := 0) (v := .int (nI a)) (C := RX0) (T := TX0) (N := 3) hx hb hts in_X0 hown hK hP 0 rfl rfl 1 (by decide) (hts _ q25) (fun _ h9 => h9) rfl dX0_apart_29 ?_
  refine lv_iconst (v := (nI 1)) hx hb dX0_apart_32 (by decide) ?_
  refine lv_iadd hx hb dX0_apart_33 ?_
  refine sp_topi (y := (sp_i ((a : Int) + 1))) (by simp only [sp_ni, sp_iadd, sp_isub, sp_imul, sp_ineg] <;> exact congrArg sp_i (by omega)) ?_
  have hPc := hP.sub (ws' := [(h1, .inr (1, [.ref h2])), (h2, .inl (cA, 961, .inr (.inl (f))))]) [1, 2] rfl
  have hDc := hD.sub (ws' := [(h1, .inr (1, [.ref h2])), (h2, .inl (cA, 961, .inr (.inl (f))))]) [1, 2] (by decide) rfl
  have hKc := hK.sub (tys' := [(cA, .long)]) [0] rfl
  have hFc := va_free (wc := [(h1, .inr (1, [.ref h2])), (h2, .inl (cA, 961, .inr (.inl (f))))]) hD hS hA [1, 2] rfl
  refine va_calll (va_runV (As := [.int (nI (a + b)), .int (sp_i ((a : Int) + 1))]) (rest := []) ⟨hx, hb, hml, hown, hts⟩ (met_of l dC dI h1 h2 cA f (a + b) ((a : Int) + 1) H.size hf (by omega) (by omega) (by omega)) (cwV 2 hts (lw_V q46 q47 q48 q3 q49) rfl rfl rfl (by decide +kernel) ⟨Nat.le_of_ble_eq_true rfl, Nat.le_of_ble_eq_true rfl⟩) ⟨fun a U g mk q => by obtain ⟨q0, q1, qP, qK, qD⟩ := q; exact ⟨q0, q1, qP, va_K.moved (u := U) (U := U.calling g mk a) (Vm.Alike.refl U.vm) qK, qD⟩, va_recv hKc hPc (ci := 1) (q0 := 0) rfl rfl, fun U hU hW => ⟨rfl, by rw [hU], by rw [hU]; exact hPc, va_K.moved hW.alike hKc, hDc.weaken (fun _ _ _ _ => trivial)⟩⟩ rfl rfl hl.1 rfl (lv_room (Nat.le_of_ble_eq_true rfl)) dX0_apart_34 ⟨Nat.zero_le _, Nat.zero_le _⟩) hS (fun q _ h => hFc q h) hFc (fun r2 u t H1 locs ht hvm hw2 hB hz1 hk1 hS => ?_)
  obtain ⟨hP1, hK1, hD1⟩ := hB
  rw [ht] at hP1
  obtain ⟨hP, hD⟩ := va_join (wr := [(h0, .inr (0, [.ref h1, .int (nI a), .int (nI b)]))]) (w1 := [(h1, .inr (1, [.ref h2])), (h2, .inl (cA, 961, .inr (.inl (f))))]) hP hD [1, 2] [0] rfl rfl (by decide) (by decide) hk1 hFc hP1 hD1
  generalize H1 = H at hP hS ⊢
  have hP := hP.sub (ws' := [(h0, .inr (0, [.ref h1, .int (nI a), .int (nI b)])), (h1, .inr (1, [.ref h2])), (h2, .inl (cA, 961, .inr (.inl (f))))]) [0, 1, 2] rfl
  have hD := hD.sub (ws' := [(h0, .inr (0, [.ref h1, .int (nI a), .int (nI b)])), (h1, .inr (1, [.ref h2])), (h2, .inl (cA, 961, .inr (.inl (f))))]) [0, 1, 2] (by decide) rfl
  have hw2 : r2 = sp_l (sp_C (a + b) ((a : Int) + 1)) := hw2
  subst hw2
  refine lv_lstore (lv' := [(4, .long (sp_l (sp_C (a + b) ((a : Int) + 1)))), (2, .long (sp_l (sp_C (a + b) (a : Int)))), (1, .int (nI (a + b))), (0, .ref h0)]) hx hb dX0_apart_37 hl (by decide) rfl (fun ls hl => ?_)
  refine lv_aload_n hx hb dX0_apart_39 rfl (lv_at hl 3 rfl) ?_
  refine va_get (D := (dC, dI)) (ci := 0) (v := .ref h1) (C := RX0) (T := TX0) (N := 3) hx hb hts in_X0 hown hK hP 0 rfl rfl 0 (by decide) (hts _ q24) (fun _ h9 => h9) rfl dX0_apart_40 ?_
  refine lv_iload_n hx hb dX0_apart_43 rfl (lv_at hl 2 rfl) ?_
  refine lv_aload_n hx hb dX0_apart_44 rfl (lv_at hl 3 rfl) ?_
  refine va_get (D := (dC, dI)) (ci := 0) (v := .int (nI a)) (C := RX0) (T := TX0) (N := 3) hx hb hts in_X0 hown hK hP 0 rfl rfl 1 (by decide) (hts _ q25) (fun _ h9 => h9) rfl dX0_apart_45 ?_
  refine lv_iconst (v := (nI 1)) hx hb dX0_apart_48 (by decide) ?_
  refine lv_isub hx hb dX0_apart_49 ?_
  refine sp_topi (y := (sp_i ((a : Int) - 1))) (by simp only [sp_ni, sp_iadd, sp_isub, sp_imul, sp_ineg] <;> exact congrArg sp_i (by omega)) ?_
  have hPc := hP.sub (ws' := [(h1, .inr (1, [.ref h2])), (h2, .inl (cA, 961, .inr (.inl (f))))]) [1, 2] rfl
  have hDc := hD.sub (ws' := [(h1, .inr (1, [.ref h2])), (h2, .inl (cA, 961, .inr (.inl (f))))]) [1, 2] (by decide) rfl
  have hKc := hK.sub (tys' := [(cA, .long)]) [0] rfl
  have hFc := va_free (wc := [(h1, .inr (1, [.ref h2])), (h2, .inl (cA, 961, .inr (.inl (f))))]) hD hS hA [1, 2] rfl
  refine va_calll (va_runV (As := [.int (nI (a + b)), .int (sp_i ((a : Int) - 1))]) (rest := []) ⟨hx, hb, hml, hown, hts⟩ (met_of l dC dI h1 h2 cA f (a + b) ((a : Int) - 1) H.size hf (by omega) (by omega) (by omega)) (cwV 2 hts (lw_V q46 q47 q48 q3 q49) rfl rfl rfl (by decide +kernel) ⟨Nat.le_of_ble_eq_true rfl, Nat.le_of_ble_eq_true rfl⟩) ⟨fun a U g mk q => by obtain ⟨q0, q1, qP, qK, qD⟩ := q; exact ⟨q0, q1, qP, va_K.moved (u := U) (U := U.calling g mk a) (Vm.Alike.refl U.vm) qK, qD⟩, va_recv hKc hPc (ci := 1) (q0 := 0) rfl rfl, fun U hU hW => ⟨rfl, by rw [hU], by rw [hU]; exact hPc, va_K.moved hW.alike hKc, hDc.weaken (fun _ _ _ _ => trivial)⟩⟩ rfl rfl hl.1 rfl (lv_room (Nat.le_of_ble_eq_true rfl)) dX0_apart_50 ⟨Nat.zero_le _, Nat.zero_le _⟩) hS (fun q _ h => hFc q h) hFc (fun r3 u t H1 locs ht hvm hw3 hB hz1 hk1 hS => ?_)
  obtain ⟨hP1, hK1, hD1⟩ := hB
  rw [ht] at hP1
  obtain ⟨hP, hD⟩ := va_join (wr := [(h0, .inr (0, [.ref h1, .int (nI a), .int (nI b)]))]) (w1 := [(h1, .inr (1, [.ref h2])), (h2, .inl (cA, 961, .inr (.inl (f))))]) hP hD [1, 2] [0] rfl rfl (by decide) (by decide) hk1 hFc hP1 hD1
  generalize H1 = H at hP hS ⊢
  have hP := hP.sub (ws' := [(h0, .inr (0, [.ref h1, .int (nI a), .int (nI b)])), (h1, .inr (1, [.ref h2])), (h2, .inl (cA, 961, .inr (.inl (f))))]) [0, 1, 2] rfl
  have hD := hD.sub (ws' := [(h0, .inr (0, [.ref h1, .int (nI a), .int (nI b)])), (h1, .inr (1, [.ref h2])), (h2, .inl (cA, 961, .inr (.inl (f))))]) [0, 1, 2] (by decide) rfl
  have hw3 : r3 = sp_l (sp_C (a + b) ((a : Int) - 1)) := hw3
  subst hw3
  refine lv_lstore (lv' := [(6, .long (sp_l (sp_C (a + b) ((a : Int) - 1)))), (4, .long (sp_l (sp_C (a + b) ((a : Int) + 1)))), (2, .long (sp_l (sp_C (a + b) (a : Int)))), (1, .int (nI (a + b))), (0, .ref h0)]) hx hb dX0_apart_53 hl (by decide) rfl (fun ls hl => ?_)
  refine lv_lload_n hx hb dX0_apart_55 rfl (lv_at hl 2 rfl) ?_
  refine lv_lload_n hx hb dX0_apart_56 rfl (lv_at hl 2 rfl) ?_
  refine lv_lmul hx hb dX0_apart_57 ?_
  refine sp_topl (y := (sp_l ((sp_C (a + b) (a : Int)) * (sp_C (a + b) (a : Int))))) (sp_lmul _ _) ?_
  refine lv_lload hx hb dX0_apart_58 (lv_at hl 1 rfl) ?_
  refine lv_lload hx hb dX0_apart_60 (lv_at hl 0 rfl) ?_
  refine lv_lmul hx hb dX0_apart_62 ?_
  refine sp_topl (y := (sp_l ((sp_C (a + b) ((a : Int) + 1)) * (sp_C (a + b) ((a : Int) - 1))))) (sp_lmul _ _) ?_
  refine lv_lsub hx hb dX0_apart_63 ?_
  refine sp_topl (y := (sp_l (((sp_C (a + b) (a : Int)) * (sp_C (a + b) (a : Int))) - ((sp_C (a + b) ((a : Int) + 1)) * (sp_C (a + b) ((a : Int) - 1)))))) (sp_lsub _ _) ?_
  exact W.lret (v := (sp_l (((sp_C (a + b) (a : Int)) * (sp_C (a + b) (a : Int))) - ((sp_C (a + b) ((a : Int) + 1)) * (sp_C (a + b) ((a : Int) - 1)))))) hx hb hr (fun t ht hW => ⟨⟨(sp_l (((sp_C (a + b) (a : Int)) * (sp_C (a + b) (a : Int))) - ((sp_C (a + b) ((a : Int) + 1)) * (sp_C (a + b) ((a : Int) - 1))))), (), rfl, (sp_nle (sp_apart a b)).symm, by rw [ht]; exact hP, va_K.moved hW.alike hK, hD⟩, hS.F ht⟩) hS.2.2 dX0_apart_64
end
section
set_option maxHeartbeats 4000000 in
set_option maxRecDepth 100000 in
/-- between(k, q): the paths between two lines -/
theorem met_between (l : Launch) (dC : Nat → ClassId) (dI : Nat → Nat → Nat) (h0 h1 h2 : Nat) (cA : ClassId) (f : Nat → Int64) (a b : Nat) (p0 p1 : Int32) (mm qq : Nat) (sz : Nat) (hf : sp_tri f) (ha : a ≤ 15) (hbb : b ≤ 15) (hm : mm < 16) (em : p0 &&& nI 15 = nI mm) (hq : qq < 16) (eq : p1 &&& nI 15 = nI qq) : Met l yX0_between (ws_ yX0_between cX0_between 11 (some .long)) ({ frames := 2, cells := 0, slots := 0, locals := 44 }) (va_Pc [.ref h0, .int (p0), .int (p1)] (fun U => U.heap.size = sz ∧ va_P (dC, dI) vwCl [(h0, .inr (0, [.ref h1, .int (nI a), .int (nI b)])), (h1, .inr (1, [.ref h2])), (h2, .inl (cA, 961, .inr (.inl (f))))] U.heap ∧ va_K (dC, dI) vwCl [(cA, .long)] U ∧ va_D (fun _ => True) [(h0, .inr (0, [.ref h1, .int (nI a), .int (nI b)])), (h1, .inr (1, [.ref h2])), (h2, .inl (cA, 961, .inr (.inl (f))))])) (va_Ql (fun (r : Int64) (_ : Unit) => r = lN (sp_R a b (-(mm : Int) - 1) ((qq : Int) + 1) (a + b) a)) (sp_BX0 dC dI (va_A [(h0, .inr (0, [.ref h1, .int (nI a), .int (nI b)])), (h1, .inr (1, [.ref h2])), (h2, .inl (cA, 961, .inr (.inl (f))))] sz) h0 h1 h2 cA f a b) (va_A [(h0, .inr (0, [.ref h1, .int (nI a), .int (nI b)])), (h1, .inr (1, [.ref h2])), (h2, .inl (cA, 961, .inr (.inl (f))))] sz)) 0 0 (va_A [(h0, .inr (0, [.ref h1, .int (nI a), .int (nI b)])), (h1, .inr (1, [.ref h2])), (h2, .inl (cA, 961, .inr (.inl (f))))] sz) := by
  refine Met.ofW (cc := cX0_between) (maxL := 11) (ret := (some .long)) (by decide) rfl ?_
  intro p e s m args below meth c s₁ B hml hv
  obtain ⟨rfl, hsz, hP, hK, hD0⟩ := hv
  have hx := B.exec
  have hb := B.bytes
  have hr := B.returns
  have hts := atoms_spec (ws := (ws_ yX0_between cX0_between 11 (some .long))) B.pre
  have hts : ∀ w ∈ lw_all, w.before _ s = true := fun w h => hts w (List.mem_cons_of_mem _ h)
  have hown : s.vm.findClass RX0 = some m.cls := findClass_of_methodNamed B.named
  have hlocks := B.notSynchronized
  subst hsz
  have hD := hD0.self (sz := s.heap.size)
  generalize hAe : va_A [(h0, .inr (0, [.ref h1, .int (nI a), .int (nI b)])), (h1, .inr (1, [.ref h2])), (h2, .inl (cA, 961, .inr (.inl (f))))] s.heap.size = A at hD ⊢
  have hA : ∀ q : Nat, s.heap.size ≤ q → A q := fun q h => by rw [← hAe]; exact Or.inr h
  have hS : va_S A s.heap s.heap [] := va_S.rf
  have hP : va_P (dC, dI) vwCl [(h0, .inr (0, [.ref h1, .int (nI a), .int (nI b)])), (h1, .inr (1, [.ref h2])), (h2, .inl (cA, 961, .inr (.inl (f))))] s.heap := hP
  have hl := lv_entry ([.ref h0, .int (p0), .int (p1)]) (n := 11) (Nat.le_of_ble_eq_true rfl)
  rw [lg_entry_eq]
  generalize (lg_sl ([.ref h0, .int (p0), .int (p1)]) ++ List.replicate (11 - (lg_sl ([.ref h0, .int (p0), .int (p1)])).length) Slot.unset).toArray = ls at hl ⊢
  have hl : lv_has ls 11 [(0, .ref h0), (1, .int (p0)), (2, .int (p1))] := hl
  obtain ⟨w, hw0⟩ : ∃ w : Nat, w = qq + mm + 2 := ⟨_, rfl⟩
  obtain ⟨d, hd⟩ : ∃ d : Nat, d = (a + b) / (2 * w) := ⟨_, rfl⟩
  have hd3 : d ≤ 30 := by rw [hd]; exact Nat.le_trans (Nat.div_le_self _ _) (by omega)
  have hd1 : 2 * w * d ≤ a + b := by rw [hd]; exact Nat.mul_div_le _ _
  have hd2 : a + b < 2 * w * (d + 1) := by rw [hd]; exact Nat.lt_mul_div_succ _ (by omega)
  rw [Nat.mul_add, Nat.mul_one, Nat.mul_assoc] at hd2
  rw [Nat.mul_assoc] at hd1
  have hTw : ((d + 2 : Nat) : Int) * (w : Int) = ((w * d + 2 * w : Nat) : Int) := by rw [← Int.natCast_mul, Nat.add_mul, Nat.mul_comm d w]
  refine lv_iload_n hx hb dX0_between_0 rfl (lv_at hl 1 rfl) ?_
  refine lv_bipush (v := (nI 15)) hx hb dX0_between_1 (by decide) ?_
  refine lv_iand hx hb dX0_between_3 ?_
  refine sp_topi (y := (nI mm)) em ?_
  refine lv_ineg hx hb dX0_between_4 ?_
  refine sp_topi (y := (sp_i (-(mm : Int)))) (by simp only [sp_ni, sp_iadd, sp_isub, sp_imul, sp_ineg] <;> exact congrArg sp_i (by omega)) ?_
  refine lv_iconst (v := (nI 1)) hx hb dX0_between_5 (by decide) ?_
  refine lv_isub hx hb dX0_between_6 ?_
  refine sp_topi (y := (sp_i (-(mm : Int) - 1))) (by simp only [sp_ni, sp_iadd, sp_isub, sp_imul, sp_ineg] <;> exact congrArg sp_i (by omega)) ?_
  refine lv_istore_n (lv' := [(3, .int (sp_i (-(mm : Int) - 1))), (0, .ref h0), (1, .int (p0)), (2, .int (p1))]) hx hb dX0_between_7 rfl hl (by decide) rfl (fun ls hl => ?_)
  refine lv_iload_n hx hb dX0_between_8 rfl (lv_at hl 3 rfl) ?_
  refine lv_bipush (v := (nI 15)) hx hb dX0_between_9 (by decide) ?_
  refine lv_iand hx hb dX0_between_11 ?_
  refine sp_topi (y := (nI qq)) eq ?_
  refine lv_iconst (v := (nI 1)) hx hb dX0_between_12 (by decide) ?_
  refine lv_iadd hx hb dX0_between_13 ?_
  refine sp_topi (y := (sp_i ((qq : Int) + 1))) (by simp only [sp_ni, sp_iadd, sp_isub, sp_imul, sp_ineg] <;> exact congrArg sp_i (by omega)) ?_
  refine lv_istore (lv' := [(4, .int (sp_i ((qq : Int) + 1))), (3, .int (sp_i (-(mm : Int) - 1))), (0, .ref h0), (1, .int (p0)), (2, .int (p1))]) hx hb dX0_between_14 hl (by decide) rfl (fun ls hl => ?_)
  refine lv_aload_n hx hb dX0_between_16 rfl (lv_at hl 2 rfl) ?_
  refine va_get (D := (dC, dI)) (ci := 0) (v := .int (nI a)) (C := RX0) (T := TX0) (N := 3) hx hb hts in_X0 hown hK hP 0 rfl rfl 1 (by decide) (hts _ q25) (fun _ h9 => h9) rfl dX0_between_17 ?_
  refine lv_aload_n hx hb dX0_between_20 rfl (lv_at hl 2 rfl) ?_
  refine va_get (D := (dC, dI)) (ci := 0) (v := .int (nI b)) (C := RX0) (T := TX0) (N := 3) hx hb hts in_X0 hown hK hP 0 rfl rfl 2 (by decide) (hts _ q26) (fun _ h9 => h9) rfl dX0_between_21 ?_
  refine lv_isub hx hb dX0_between_24 ?_
  refine sp_topi (y := (sp_i ((a : Int) - b))) (by simp only [sp_ni, sp_iadd, sp_isub, sp_imul, sp_ineg] <;> exact congrArg sp_i (by omega)) ?_
  refine lv_istore (lv' := [(5, .int (sp_i ((a : Int) - b))), (4, .int (sp_i ((qq : Int) + 1))), (3, .int (sp_i (-(mm : Int) - 1))), (0, .ref h0), (1, .int (p0)), (2, .int (p1))]) hx hb dX0_between_25 hl (by decide) rfl (fun ls hl => ?_)
  refine lv_iconst (v := (nI 2)) hx hb dX0_between_27 (by decide) ?_
  refine lv_iload hx hb dX0_between_28 (lv_at hl 1 rfl) ?_
  refine lv_iload_n hx hb dX0_between_30 rfl (lv_at hl 2 rfl) ?_
  refine lv_isub hx hb dX0_between_31 ?_
  refine sp_topi (y := (nI w)) (by rw [sp_isub]; exact sp_nie (by omega)) ?_
  refine lv_imul hx hb dX0_between_32 ?_
  refine sp_topi (y := (nI (2 * w))) (pk_mul _ _) ?_
  refine lv_istore (lv' := [(6, .int (nI (2 * w))), (5, .int (sp_i ((a : Int) - b))), (4, .int (sp_i ((qq : Int) + 1))), (3, .int (sp_i (-(mm : Int) - 1))), (0, .ref h0), (1, .int (p0)), (2, .int (p1))]) hx hb dX0_between_33 hl (by decide) rfl (fun ls hl => ?_)
  refine lv_aload_n hx hb dX0_between_35 rfl (lv_at hl 4 rfl) ?_
  refine va_get (D := (dC, dI)) (ci := 0) (v := .int (nI a)) (C := RX0) (T := TX0) (N := 3) hx hb hts in_X0 hown hK hP 0 rfl rfl 1 (by decide) (hts _ q25) (fun _ h9 => h9) rfl dX0_between_36 ?_
  refine lv_aload_n hx hb dX0_between_39 rfl (lv_at hl 4 rfl) ?_
  refine va_get (D := (dC, dI)) (ci := 0) (v := .int (nI b)) (C := RX0) (T := TX0) (N := 3) hx hb hts in_X0 hown hK hP 0 rfl rfl 2 (by decide) (hts _ q26) (fun _ h9 => h9) rfl dX0_between_40 ?_
  refine lv_iadd hx hb dX0_between_43 ?_
  refine sp_topi (y := (nI (a + b))) (nI_add _ _) ?_
  refine lv_istore (lv' := [(7, .int (nI (a + b))), (6, .int (nI (2 * w))), (5, .int (sp_i ((a : Int) - b))), (4, .int (sp_i ((qq : Int) + 1))), (3, .int (sp_i (-(mm : Int) - 1))), (0, .ref h0), (1, .int (p0)), (2, .int (p1))]) hx hb dX0_between_44 hl (by decide) rfl (fun ls hl => ?_)
  refine lv_iload hx hb dX0_between_46 (lv_at hl 2 rfl) ?_
  refine lv_iload_n hx hb dX0_between_48 rfl (lv_at hl 4 rfl) ?_
  refine lv_icmp_le (tgt := 59) hx hb dX0_between_49 (by decide) (fun hc => ?_) (fun hc => ?_)
  · have hc : (a : Int) - b ≤ -(mm : Int) - 1 := (sp_ile (by omega) (by omega) (by omega) (by omega)).mp hc
    refine lv_lconst (v := (lN (0))) hx hb dX0_between_59 (by first | rfl | decide) ?_
    exact W.lret (v := (lN 0)) hx hb hr (fun t ht hW => ⟨⟨(lN 0), (), rfl, (by rw [(sp_between (a := a) (b := b) (T := d + 2) (w := (w : Int)) (lo := -(mm : Int) - 1) (hi := (qq : Int) + 1) (by omega) (by omega) (by omega) (by rw [hTw]; omega)).2 (by omega)]), by rw [ht]; exact hP, va_K.moved hW.alike hK, hD⟩, hS.F ht⟩) hS.2.2 dX0_between_60
  · have hc : ¬ (a : Int) - b ≤ -(mm : Int) - 1 := fun h9 => hc ((sp_ile (by omega) (by omega) (by omega) (by omega)).mpr h9)
    refine lv_iload hx hb dX0_between_52 (lv_at hl 2 rfl) ?_
    refine lv_iload hx hb dX0_between_54 (lv_at hl 3 rfl) ?_
    refine lv_icmp_lt (tgt := 61) hx hb dX0_between_56 (by decide) (fun hc2 => ?_) (fun hc2 => ?_)
    · have hc2 : (a : Int) - b < (qq : Int) + 1 := (sp_ilt (by omega) (by omega) (by omega) (by omega)).mp hc2
      have hloop : ∀ (n i : Nat), i ≤ 2 * (d + 2) + 1 → 2 * (d + 2) + 1 < i + n → ∀ (H : Heap) (locs : List Loc), va_P (dC, dI) vwCl [(h0, .inr (0, [.ref h1, .int (nI a), .int (nI b)])), (h1, .inr (1, [.ref h2])), (h2, .inl (cA, 961, .inr (.inl (f))))] H → va_D A [(h0, .inr (0, [.ref h1, .int (nI a), .int (nI b)])), (h1, .inr (1, [.ref h2])), (h2, .inl (cA, 961, .inr (.inl (f))))] → va_S A s.heap H locs → ∀ (ls : Array Slot), lv_has ls 11 [(0, .ref h0), (3, .int (sp_i (-(mm : Int) - 1))), (5, .int (sp_i ((a : Int) - b))), (6, .int (nI (2 * w))), (7, .int (nI (a + b))), (8, .long (sp_l (sp_S (fun t : Int => sp_C (a + b) (a + t * (w : Int)) - sp_C (a + b) (b + (-(mm : Int) - 1) + t * (w : Int))) (-((d + 2 : Nat) : Int)) (i)))), (10, .int (sp_i (-((d + 2 : Nat) : Int) + (i : Int))))] → W p l e (headSpec (ws_ yX0_between cX0_between 11 (some .long)) ({ frames := 2, cells := 0, slots := 0, locals := 44 })).room s m ([.ref h0, .int (p0), .int (p1)] : List Value).toArray below meth c H locs 0 0 (MQ below (va_Ql (fun (r : Int64) (_ : Unit) => r = lN (sp_R a b (-(mm : Int) - 1) ((qq : Int) + 1) (a + b) a)) (sp_BX0 dC dI A h0 h1 h2 cA f a b) A) ([.ref h0, .int (p0), .int (p1)] : List Value).toArray s 0 0 A) (F0 m 74 ls []) := by
        intro n
        induction n with
        | zero => intro i h1 h2; exact absurd h2 (by omega)
        | succ n ih =>
          intro i hi hn H locs hP hD hS ls hl
          refine lv_iload hx hb dX0_between_74 (lv_at hl 6 rfl) ?_
          refine lv_iload hx hb dX0_between_76 (lv_at hl 4 rfl) ?_
          refine lv_iload hx hb dX0_between_78 (lv_at hl 3 rfl) ?_
          refine lv_idiv hx hb dX0_between_80 (nI_ne0 (by omega) (by omega)) ?_
          refine sp_topi (y := (nI d)) (by rw [pk_div (by omega) (by omega) (by omega), ← hd]) ?_
          refine lv_iconst (v := (nI 2)) hx hb dX0_between_81 (by decide) ?_
          refine lv_iadd hx hb dX0_between_82 ?_
          refine sp_topi (y := (sp_i (((d + 2 : Nat) : Int)))) (by simp only [sp_ni, sp_iadd, sp_isub, sp_imul, sp_ineg] <;> exact congrArg sp_i (by omega)) ?_
          refine lv_icmp_gt (tgt := 126) hx hb dX0_between_83 (by decide) (fun hc => ?_) (fun hc => ?_)
          · have hc : ((d + 2 : Nat) : Int) < -((d + 2 : Nat) : Int) + (i : Int) := (sp_ilt (by omega) (by omega) (by omega) (by omega)).mp hc
            have ei : i = 2 * (d + 2) + 1 := by omega
            subst ei
            refine lv_lload hx hb dX0_between_126 (lv_at hl 5 rfl) ?_
            exact W.lret (v := (sp_l (sp_S (fun t : Int => sp_C (a + b) (a + t * (w : Int)) - sp_C (a + b) (b + (-(mm : Int) - 1) + t * (w : Int))) (-((d + 2 : Nat) : Int)) (2 * (d + 2) + 1)))) hx hb hr (fun t ht hW => ⟨⟨(sp_l (sp_S (fun t : Int => sp_C (a + b) (a + t * (w : Int)) - sp_C (a + b) (b + (-(mm : Int) - 1) + t * (w : Int))) (-((d + 2 : Nat) : Int)) (2 * (d + 2) + 1))), (), rfl, (sp_nle ((sp_between (a := a) (b := b) (T := d + 2) (w := (w : Int)) (lo := -(mm : Int) - 1) (hi := (qq : Int) + 1) (by omega) (by omega) (by omega) (by rw [hTw]; omega)).1 ⟨by omega, by omega⟩)).symm, by rw [ht]; exact hP, va_K.moved hW.alike hK, hD⟩, hS.F ht⟩) hS.2.2 dX0_between_128
          · have hc : ¬ ((d + 2 : Nat) : Int) < -((d + 2 : Nat) : Int) + (i : Int) := fun h9 => hc ((sp_ilt (by omega) (by omega) (by omega) (by omega)).mpr h9)
            have hX1 := Int.mul_le_mul_of_nonneg_right (show (-((d + 2 : Nat) : Int) + i) ≤ ((d + 2 : Nat) : Int) by omega) (Int.natCast_nonneg w)
            have hX2 := Int.mul_le_mul_of_nonneg_right (show -((d + 2 : Nat) : Int) ≤ (-((d + 2 : Nat) : Int) + i) by omega) (Int.natCast_nonneg w)
            rw [Int.neg_mul, hTw] at hX2
            rw [hTw] at hX1
            refine lv_lload hx hb dX0_between_86 (lv_at hl 5 rfl) ?_
            refine lv_aload_n hx hb dX0_between_88 rfl (lv_at hl 0 rfl) ?_
            refine lv_iload hx hb dX0_between_89 (lv_at hl 2 rfl) ?_
            refine lv_iload hx hb dX0_between_91 (lv_at hl 6 rfl) ?_
            refine lv_iload hx hb dX0_between_93 (lv_at hl 3 rfl) ?_
            refine lv_imul hx hb dX0_between_95 ?_
            refine sp_topi (y := (sp_i (2 * ((-((d + 2 : Nat) : Int) + i) * (w : Int))))) (by rw [sp_ni, sp_imul]; exact congrArg sp_i (by rw [Int.natCast_mul, Int.mul_left_comm]; rfl)) ?_
            refine lv_iadd hx hb dX0_between_96 ?_
            refine sp_topi (y := (sp_i (2 * ((a : Int) + (-((d + 2 : Nat) : Int) + i) * (w : Int)) - ((a + b : Nat) : Int)))) (by simp only [sp_ni, sp_iadd, sp_isub, sp_imul, sp_ineg] <;> exact congrArg sp_i (by omega)) ?_
            have hPc := hP.sub (ws' := [(h0, .inr (0, [.ref h1, .int (nI a), .int (nI b)])), (h1, .inr (1, [.ref h2])), (h2, .inl (cA, 961, .inr (.inl (f))))]) [0, 1, 2] rfl
            have hDc := hD.sub (ws' := [(h0, .inr (0, [.ref h1, .int (nI a), .int (nI b)])), (h1, .inr (1, [.ref h2])), (h2, .inl (cA, 961, .inr (.inl (f))))]) [0, 1, 2] (by decide) rfl
            have hKc := hK.sub (tys' := [(cA, .long)]) [0] rfl
            have hFc := va_free (wc := [(h0, .inr (0, [.ref h1, .int (nI a), .int (nI b)])), (h1, .inr (1, [.ref h2])), (h2, .inl (cA, 961, .inr (.inl (f))))]) hD hS hA [0, 1, 2] rfl
            refine va_calll (va_runV (As := [.int (sp_i (2 * ((a : Int) + (-((d + 2 : Nat) : Int) + i) * (w : Int)) - ((a + b : Nat) : Int)))]) (rest := [.long (sp_l (sp_S (fun t : Int => sp_C (a + b) (a + t * (w : Int)) - sp_C (a + b) (b + (-(mm : Int) - 1) + t * (w : Int))) (-((d + 2 : Nat) : Int)) (i)))]) ⟨hx, hb, hml, hown, hts⟩ (met_endingAt l dC dI h0 h1 h2 cA f a b ((a : Int) + (-((d + 2 : Nat) : Int) + i) * (w : Int)) H.size hf ha hbb (by omega) (by omega)) (cwV 1 hts (lw_V q42 q44 qs0 q2 q45) rfl rfl rfl (by decide +kernel) ⟨Nat.le_of_ble_eq_true rfl, Nat.le_of_ble_eq_true rfl⟩) ⟨fun a U g mk q => by obtain ⟨q0, q1, qP, qK, qD⟩ := q; exact ⟨q0, q1, qP, va_K.moved (u := U) (U := U.calling g mk a) (Vm.Alike.refl U.vm) qK, qD⟩, va_recv hKc hPc (ci := 0) (q0 := 0) rfl rfl, fun U hU hW => ⟨rfl, by rw [hU], by rw [hU]; exact hPc, va_K.moved hW.alike hKc, hDc.weaken (fun _ _ _ _ => trivial)⟩⟩ rfl rfl hl.1 rfl (lv_room (Nat.le_of_ble_eq_true rfl)) dX0_between_97 ⟨Nat.zero_le _, Nat.zero_le _⟩) hS (fun q _ h => hFc q h) hFc (fun r1 u t H1 locs ht hvm hw1 hB hz1 hk1 hS => ?_)
            obtain ⟨hP1, hK1, hD1⟩ := hB
            rw [ht] at hP1
            obtain ⟨hP, hD⟩ := va_join (wr := []) (w1 := [(h0, .inr (0, [.ref h1, .int (nI a), .int (nI b)])), (h1, .inr (1, [.ref h2])), (h2, .inl (cA, 961, .inr (.inl (f))))]) hP hD [0, 1, 2] [] rfl rfl (by decide) (by decide) hk1 hFc hP1 hD1
            generalize H1 = H at hP hS ⊢
            have hP := hP.sub (ws' := [(h0, .inr (0, [.ref h1, .int (nI a), .int (nI b)])), (h1, .inr (1, [.ref h2])), (h2, .inl (cA, 961, .inr (.inl (f))))]) [0, 1, 2] rfl
            have hD := hD.sub (ws' := [(h0, .inr (0, [.ref h1, .int (nI a), .int (nI b)])), (h1, .inr (1, [.ref h2])), (h2, .inl (cA, 961, .inr (.inl (f))))]) [0, 1, 2] (by decide) rfl
            have hw1 : r1 = sp_l (sp_C (a + b) ((a : Int) + (-((d + 2 : Nat) : Int) + i) * (w : Int))) := hw1
            subst hw1
            refine lv_aload_n hx hb dX0_between_100 rfl (lv_at hl 0 rfl) ?_
            refine lv_iconst (v := (nI 2)) hx hb dX0_between_101 (by decide) ?_
            refine lv_iload_n hx hb dX0_between_102 rfl (lv_at hl 1 rfl) ?_
            refine lv_imul hx hb dX0_between_103 ?_
            refine sp_topi (y := (sp_i (2 * (-(mm : Int) - 1)))) (by simp only [sp_ni, sp_iadd, sp_isub, sp_imul, sp_ineg] <;> exact congrArg sp_i (by omega)) ?_
            refine lv_iload hx hb dX0_between_104 (lv_at hl 2 rfl) ?_
            refine lv_isub hx hb dX0_between_106 ?_
            refine sp_topi (y := (sp_i (2 * (-(mm : Int) - 1) - ((a : Int) - b)))) (by simp only [sp_ni, sp_iadd, sp_isub, sp_imul, sp_ineg] <;> exact congrArg sp_i (by omega)) ?_
            refine lv_iload hx hb dX0_between_107 (lv_at hl 6 rfl) ?_
            refine lv_iload hx hb dX0_between_109 (lv_at hl 3 rfl) ?_
            refine lv_imul hx hb dX0_between_111 ?_
            refine sp_topi (y := (sp_i (2 * ((-((d + 2 : Nat) : Int) + i) * (w : Int))))) (by rw [sp_ni, sp_imul]; exact congrArg sp_i (by rw [Int.natCast_mul, Int.mul_left_comm]; rfl)) ?_
            refine lv_iadd hx hb dX0_between_112 ?_
            refine sp_topi (y := (sp_i (2 * ((b : Int) + (-(mm : Int) - 1) + (-((d + 2 : Nat) : Int) + i) * (w : Int)) - ((a + b : Nat) : Int)))) (by simp only [sp_ni, sp_iadd, sp_isub, sp_imul, sp_ineg] <;> exact congrArg sp_i (by omega)) ?_
            have hPc := hP.sub (ws' := [(h0, .inr (0, [.ref h1, .int (nI a), .int (nI b)])), (h1, .inr (1, [.ref h2])), (h2, .inl (cA, 961, .inr (.inl (f))))]) [0, 1, 2] rfl
            have hDc := hD.sub (ws' := [(h0, .inr (0, [.ref h1, .int (nI a), .int (nI b)])), (h1, .inr (1, [.ref h2])), (h2, .inl (cA, 961, .inr (.inl (f))))]) [0, 1, 2] (by decide) rfl
            have hKc := hK.sub (tys' := [(cA, .long)]) [0] rfl
            have hFc := va_free (wc := [(h0, .inr (0, [.ref h1, .int (nI a), .int (nI b)])), (h1, .inr (1, [.ref h2])), (h2, .inl (cA, 961, .inr (.inl (f))))]) hD hS hA [0, 1, 2] rfl
            refine va_calll (va_runV (As := [.int (sp_i (2 * ((b : Int) + (-(mm : Int) - 1) + (-((d + 2 : Nat) : Int) + i) * (w : Int)) - ((a + b : Nat) : Int)))]) (rest := [.long (sp_l (sp_C (a + b) ((a : Int) + (-((d + 2 : Nat) : Int) + i) * (w : Int)))), .long (sp_l (sp_S (fun t : Int => sp_C (a + b) (a + t * (w : Int)) - sp_C (a + b) (b + (-(mm : Int) - 1) + t * (w : Int))) (-((d + 2 : Nat) : Int)) (i)))]) ⟨hx, hb, hml, hown, hts⟩ (met_endingAt l dC dI h0 h1 h2 cA f a b ((b : Int) + (-(mm : Int) - 1) + (-((d + 2 : Nat) : Int) + i) * (w : Int)) H.size hf ha hbb (by omega) (by omega)) (cwV 1 hts (lw_V q42 q44 qs0 q2 q45) rfl rfl rfl (by decide +kernel) ⟨Nat.le_of_ble_eq_true rfl, Nat.le_of_ble_eq_true rfl⟩) ⟨fun a U g mk q => by obtain ⟨q0, q1, qP, qK, qD⟩ := q; exact ⟨q0, q1, qP, va_K.moved (u := U) (U := U.calling g mk a) (Vm.Alike.refl U.vm) qK, qD⟩, va_recv hKc hPc (ci := 0) (q0 := 0) rfl rfl, fun U hU hW => ⟨rfl, by rw [hU], by rw [hU]; exact hPc, va_K.moved hW.alike hKc, hDc.weaken (fun _ _ _ _ => trivial)⟩⟩ rfl rfl hl.1 rfl (lv_room (Nat.le_of_ble_eq_true rfl)) dX0_between_113 ⟨Nat.zero_le _, Nat.zero_le _⟩) hS (fun q _ h => hFc q h) hFc (fun r2 u t H1 locs ht hvm hw2 hB hz1 hk1 hS => ?_)
            obtain ⟨hP1, hK1, hD1⟩ := hB
            rw [ht] at hP1
            obtain ⟨hP, hD⟩ := va_join (wr := []) (w1 := [(h0, .inr (0, [.ref h1, .int (nI a), .int (nI b)])), (h1, .inr (1, [.ref h2])), (h2, .inl (cA, 961, .inr (.inl (f))))]) hP hD [0, 1, 2] [] rfl rfl (by decide) (by decide) hk1 hFc hP1 hD1
            generalize H1 = H at hP hS ⊢
            have hP := hP.sub (ws' := [(h0, .inr (0, [.ref h1, .int (nI a), .int (nI b)])), (h1, .inr (1, [.ref h2])), (h2, .inl (cA, 961, .inr (.inl (f))))]) [0, 1, 2] rfl
            have hD := hD.sub (ws' := [(h0, .inr (0, [.ref h1, .int (nI a), .int (nI b)])), (h1, .inr (1, [.ref h2])), (h2, .inl (cA, 961, .inr (.inl (f))))]) [0, 1, 2] (by decide) rfl
            have hw2 : r2 = sp_l (sp_C (a + b) ((b : Int) + (-(mm : Int) - 1) + (-((d + 2 : Nat) : Int) + i) * (w : Int))) := hw2
            subst hw2
            refine lv_lsub hx hb dX0_between_116 ?_
            refine sp_topl (y := (sp_l ((sp_C (a + b) ((a : Int) + (-((d + 2 : Nat) : Int) + i) * (w : Int))) - (sp_C (a + b) ((b : Int) + (-(mm : Int) - 1) + (-((d + 2 : Nat) : Int) + i) * (w : Int)))))) (sp_lsub _ _) ?_
            refine lv_ladd hx hb dX0_between_117 ?_
            refine sp_topl (y := (sp_l (sp_S (fun t : Int => sp_C (a + b) (a + t * (w : Int)) - sp_C (a + b) (b + (-(mm : Int) - 1) + t * (w : Int))) (-((d + 2 : Nat) : Int)) (i + 1)))) (sp_ladd _ _) ?_
            refine lv_lstore (lv' := [(8, .long (sp_l (sp_S (fun t : Int => sp_C (a + b) (a + t * (w : Int)) - sp_C (a + b) (b + (-(mm : Int) - 1) + t * (w : Int))) (-((d + 2 : Nat) : Int)) (i + 1)))), (0, .ref h0), (3, .int (sp_i (-(mm : Int) - 1))), (5, .int (sp_i ((a : Int) - b))), (6, .int (nI (2 * w))), (7, .int (nI (a + b))), (10, .int (sp_i (-((d + 2 : Nat) : Int) + (i : Int))))]) hx hb dX0_between_118 hl (by decide) rfl (fun ls hl => ?_)
            refine lv_iinc (v := (sp_i (-((d + 2 : Nat) : Int) + ((i + 1 : Nat) : Int)))) (lv' := [(10, .int (sp_i (-((d + 2 : Nat) : Int) + ((i + 1 : Nat) : Int)))), (8, .long (sp_l (sp_S (fun t : Int => sp_C (a + b) (a + t * (w : Int)) - sp_C (a + b) (b + (-(mm : Int) - 1) + t * (w : Int))) (-((d + 2 : Nat) : Int)) (i + 1)))), (0, .ref h0), (3, .int (sp_i (-(mm : Int) - 1))), (5, .int (sp_i ((a : Int) - b))), (6, .int (nI (2 * w))), (7, .int (nI (a + b)))]) hx hb dX0_between_120 hl (k := 6) rfl (by rw [show Int32.ofInt 1 = sp_i 1 from rfl, sp_iadd]; exact congrArg sp_i (by omega)) (by decide) rfl (fun ls hl => ?_)
            refine lv_goto (tgt := 74) hx hb dX0_between_123 (by decide) ?_
            exact ih (i + 1) (by omega) (by omega) H locs hP hD hS _ (lv_sub hl [2, 3, 4, 5, 6, 1, 0] rfl)
      refine lv_lconst (v := (sp_l (sp_S (fun t : Int => sp_C (a + b) (a + t * (w : Int)) - sp_C (a + b) (b + (-(mm : Int) - 1) + t * (w : Int))) (-((d + 2 : Nat) : Int)) (0)))) hx hb dX0_between_61 (by first | rfl | decide) ?_
      refine lv_lstore (lv' := [(8, .long (sp_l (sp_S (fun t : Int => sp_C (a + b) (a + t * (w : Int)) - sp_C (a + b) (b + (-(mm : Int) - 1) + t * (w : Int))) (-((d + 2 : Nat) : Int)) (0)))), (7, .int (nI (a + b))), (6, .int (nI (2 * w))), (5, .int (sp_i ((a : Int) - b))), (4, .int (sp_i ((qq : Int) + 1))), (3, .int (sp_i (-(mm : Int) - 1))), (0, .ref h0), (1, .int (p0)), (2, .int (p1))]) hx hb dX0_between_62 hl (by decide) rfl (fun ls hl => ?_)
      refine lv_iload hx hb dX0_between_64 (lv_at hl 1 rfl) ?_
      refine lv_iload hx hb dX0_between_66 (lv_at hl 2 rfl) ?_
      refine lv_idiv hx hb dX0_between_68 (nI_ne0 (by omega) (by omega)) ?_
      refine sp_topi (y := (nI d)) (by rw [pk_div (by omega) (by omega) (by omega), ← hd]) ?_
      refine lv_ineg hx hb dX0_between_69 ?_
      refine sp_topi (y := (sp_i (-(d : Int)))) (by simp only [sp_ni, sp_iadd, sp_isub, sp_imul, sp_ineg] <;> exact congrArg sp_i (by omega)) ?_
      refine lv_iconst (v := (nI 2)) hx hb dX0_between_70 (by decide) ?_
      refine lv_isub hx hb dX0_between_71 ?_
      refine sp_topi (y := (sp_i (-((d + 2 : Nat) : Int) + ((0 : Nat) : Int)))) (by simp only [sp_ni, sp_iadd, sp_isub, sp_imul, sp_ineg] <;> exact congrArg sp_i (by omega)) ?_
      refine lv_istore (lv' := [(10, .int (sp_i (-((d + 2 : Nat) : Int) + ((0 : Nat) : Int)))), (8, .long (sp_l (sp_S (fun t : Int => sp_C (a + b) (a + t * (w : Int)) - sp_C (a + b) (b + (-(mm : Int) - 1) + t * (w : Int))) (-((d + 2 : Nat) : Int)) (0)))), (7, .int (nI (a + b))), (6, .int (nI (2 * w))), (5, .int (sp_i ((a : Int) - b))), (4, .int (sp_i ((qq : Int) + 1))), (3, .int (sp_i (-(mm : Int) - 1))), (0, .ref h0), (1, .int (p0)), (2, .int (p1))]) hx hb dX0_between_72 hl (by decide) rfl (fun ls hl => ?_)
      exact hloop (2 * (d + 2) + 2) 0 (by omega) (by omega) s.heap _ hP hD hS _ (lv_sub hl [7, 6, 4, 3, 2, 1, 0] rfl)
    · have hc2 : ¬ (a : Int) - b < (qq : Int) + 1 := fun h9 => hc2 ((sp_ilt (by omega) (by omega) (by omega) (by omega)).mpr h9)
      refine lv_lconst (v := (lN (0))) hx hb dX0_between_59 (by first | rfl | decide) ?_
      exact W.lret (v := (lN 0)) hx hb hr (fun t ht hW => ⟨⟨(lN 0), (), rfl, (by rw [(sp_between (a := a) (b := b) (T := d + 2) (w := (w : Int)) (lo := -(mm : Int) - 1) (hi := (qq : Int) + 1) (by omega) (by omega) (by omega) (by rw [hTw]; omega)).2 (by omega)]), by rw [ht]; exact hP, va_K.moved hW.alike hK, hD⟩, hS.F ht⟩) hS.2.2 dX0_between_60
end
section
/-- behind StepPathsModel(): a = b = 3, four arrays of zeros -/
abbrev sp_BX2_init (dC : Nat → ClassId) (dI : Nat → Nat → Nat) (A : Nat → Prop) (h0 : Nat) (u : (Nat × Nat × Nat × Nat) × (ClassId × ClassId × ClassId × ClassId)) (t : State) : Prop := va_P (dC, dI) vwCl [(h0, .inr (2, [.int (nI 3), .int (nI 3), .ref u.1.1, .ref u.1.2.1, .ref u.1.2.2.1, .ref u.1.2.2.2])), (u.1.1, .inl (u.2.1, 64, .inr (.inl (fun _ => 0)))), (u.1.2.1, .inl (u.2.2.1, 64, .inr (.inl (fun _ => 0)))), (u.1.2.2.1, .inl (u.2.2.2.1, 1024, .inr (.inl (fun _ => 0)))), (u.1.2.2.2, .inl (u.2.2.2.2, 1024, .inr (.inl (fun _ => 0))))] t.heap ∧ va_K (dC, dI) vwCl [(u.2.1, .long), (u.2.2.1, .long), (u.2.2.2.1, .long), (u.2.2.2.2, .long)] t ∧ va_D A [(h0, .inr (2, [.int (nI 3), .int (nI 3), .ref u.1.1, .ref u.1.2.1, .ref u.1.2.2.1, .ref u.1.2.2.2])), (u.1.1, .inl (u.2.1, 64, .inr (.inl (fun _ => 0)))), (u.1.2.1, .inl (u.2.2.1, 64, .inr (.inl (fun _ => 0)))), (u.1.2.2.1, .inl (u.2.2.2.1, 1024, .inr (.inl (fun _ => 0)))), (u.1.2.2.2, .inl (u.2.2.2.2, 1024, .inr (.inl (fun _ => 0))))]
set_option maxHeartbeats 4000000 in
set_option maxRecDepth 100000 in
/-- StepPathsModel(): a = b = 3, four arrays of zeros -/
theorem met_Model (l : Launch) (dC : Nat → ClassId) (dI : Nat → Nat → Nat) (h0 : Nat) (sz : Nat)  : Met l yX2_init (ws_ yX2_init cX2_init 1 none) ({ frames := 1, cells := 4, slots := 2176, locals := 12 }) (va_Pc [.ref h0] (fun U => U.heap.size = sz ∧ va_P (dC, dI) vwCl [(h0, .inr (2, [.int (0), .int (0), .null, .null, .null, .null]))] U.heap ∧ va_K (dC, dI) vwCl [] U ∧ va_D (fun _ => True) [(h0, .inr (2, [.int (0), .int (0), .null, .null, .null, .null]))])) (va_Qv (fun _ : (Nat × Nat × Nat × Nat) × (ClassId × ClassId × ClassId × ClassId) => True) (sp_BX2_init dC dI (va_A [(h0, .inr (2, [.int (0), .int (0), .null, .null, .null, .null]))] sz) h0) (va_A [(h0, .inr (2, [.int (0), .int (0), .null, .null, .null, .null]))] sz)) 4 2176 (va_A [(h0, .inr (2, [.int (0), .int (0), .null, .null, .null, .null]))] sz) := by
  refine Met.ofW (cc := cX2_init) (maxL := 1) (ret := none) (by decide) rfl ?_
  intro p e s m args below meth c s₁ B hml hv
  obtain ⟨rfl, hsz, hP, hK, hD0⟩ := hv
  have hx := B.exec
  have hb := B.bytes
  have hr := B.returns
  have hts := atoms_spec (ws := (ws_ yX2_init cX2_init 1 none)) B.pre
  have hts : ∀ w ∈ lw_all, w.before _ s = true := fun w h => hts w (List.mem_cons_of_mem _ h)
  have hown : s.vm.findClass RX2 = some m.cls := findClass_of_methodNamed B.named
  have hlocks := B.notSynchronized
  have hin : meth.name = "<init>" := (name_of_methodNamed B.named B.method).1
  subst hsz
  have hD := hD0.self (sz := s.heap.size)
  generalize hAe : va_A [(h0, .inr (2, [.int (0), .int (0), .null, .null, .null, .null]))] s.heap.size = A at hD ⊢
  have hA : ∀ q : Nat, s.heap.size ≤ q → A q := fun q h => by rw [← hAe]; exact Or.inr h
  have hS : va_S A s.heap s.heap [] := va_S.rf
  have hP : va_P (dC, dI) vwCl [(h0, .inr (2, [.int (0), .int (0), .null, .null, .null, .null]))] s.heap := hP
  have hl := lv_entry ([.ref h0]) (n := 1) (Nat.le_of_ble_eq_true rfl)
  rw [lg_entry_eq]
  generalize (lg_sl ([.ref h0]) ++ List.replicate (1 - (lg_sl ([.ref h0])).length) Slot.unset).toArray = ls at hl ⊢
  have hl : lv_has ls 1 [(0, .ref h0)] := hl
  refine lv_aload_n hx hb dX2_init_0 rfl (lv_at hl 0 rfl) ?_
  refine W.objInit hx hb hown (hts _ q68) (hts _ q11) (hts _ q12) rfl (by rw [hml]; exact hl.1) rfl dX2_init_1 (Nat.le_of_ble_eq_true rfl) (Nat.le_of_ble_eq_true rfl) ?_
  refine W.eq (g2 := F0 m 4 ls []) rfl ?_
  refine lv_aload_n hx hb dX2_init_4 rfl (lv_at hl 0 rfl) ?_
  refine lv_iconst (v := (nI 3)) hx hb dX2_init_5 (by decide) ?_
  refine va_put (D := (dC, dI)) (ci := 2) (v := .int (nI 3)) (ty := .int) (C := RX2) (T := TX2) (N := 6) hx hb hts in_X2 tyX2 tyX2_ok nmX2 hown hK hP hD hS 0 rfl rfl 0 (by decide) (hts _ q69) (fun _ h9 => h9) rfl (by decide +kernel) rfl rfl (Nat.le_of_ble_eq_true rfl) dX2_init_6 (fun H locs hP hD hS => ?_)
  have hP : va_P (dC, dI) vwCl [(h0, .inr (2, [.int (nI 3), .int (0), .null, .null, .null, .null]))] H := hP
  have hD : va_D A [(h0, .inr (2, [.int (nI 3), .int (0), .null, .null, .null, .null]))] := hD
  refine lv_aload_n hx hb dX2_init_9 rfl (lv_at hl 0 rfl) ?_
  refine lv_iconst (v := (nI 3)) hx hb dX2_init_10 (by decide) ?_
  refine va_put (D := (dC, dI)) (ci := 2) (v := .int (nI 3)) (ty := .int) (C := RX2) (T := TX2) (N := 6) hx hb hts in_X2 tyX2 tyX2_ok nmX2 hown hK hP hD hS 0 rfl rfl 1 (by decide) (hts _ q70) (fun _ h9 => h9) rfl (by decide +kernel) rfl rfl (Nat.le_of_ble_eq_true rfl) dX2_init_11 (fun H locs hP hD hS => ?_)
  have hP : va_P (dC, dI) vwCl [(h0, .inr (2, [.int (nI 3), .int (nI 3), .null, .null, .null, .null]))] H := hP
  have hD : va_D A [(h0, .inr (2, [.int (nI 3), .int (nI 3), .null, .null, .null, .null]))] := hD
  refine lv_aload_n hx hb dX2_init_14 rfl (lv_at hl 0 rfl) ?_
  refine lv_bipush (v := (nI 64)) hx hb dX2_init_15 (by decide) ?_
  refine va_newa (atype := .long) (ty := .long) (N' := 64) (a0 := (64, .inr (.inl (fun _ => 0)))) hx hb (hts _ q23) rfl hK hP hD hS hA (fun cA => rfl) (by decide) (by decide) (by decide) (Nat.le_of_ble_eq_true rfl) (Nat.le_of_ble_eq_true rfl) dX2_init_17 (fun r1 c1 H hK hP hD hS => ?_)
  have hK : va_K (dC, dI) vwCl [(c1, .long)] s := hK
  have hP : va_P (dC, dI) vwCl [(h0, .inr (2, [.int (nI 3), .int (nI 3), .null, .null, .null, .null])), (r1, .inl (c1, 64, .inr (.inl (fun _ => 0))))] H := hP
  have hD : va_D A [(h0, .inr (2, [.int (nI 3), .int (nI 3), .null, .null, .null, .null])), (r1, .inl (c1, 64, .inr (.inl (fun _ => 0))))] := hD
  refine W.widen (k := 1) (n := 64) (by omega) (by omega) ?_
  refine va_putF (D := (dC, dI)) (ci := 2) (v := .ref r1) (ty := .array .long) (C := RX2) (T := TX2) (N := 6) hx hb hts in_X2 tyX2 tyX2_ok nmX2 hown hK hP hD hS 0 rfl rfl 2 (by decide) (hts _ q71) (fun _ h9 => h9) rfl hin rfl (by decide +kernel) rfl rfl (Nat.le_of_ble_eq_true rfl) dX2_init_19 (fun H locs hP hD hS => ?_)
  have hP : va_P (dC, dI) vwCl [(h0, .inr (2, [.int (nI 3), .int (nI 3), .ref r1, .null, .null, .null])), (r1, .inl (c1, 64, .inr (.inl (fun _ => 0))))] H := hP
  have hD : va_D A [(h0, .inr (2, [.int (nI 3), .int (nI 3), .ref r1, .null, .null, .null])), (r1, .inl (c1, 64, .inr (.inl (fun _ => 0))))] := hD
  refine lv_aload_n hx hb dX2_init_22 rfl (lv_at hl 0 rfl) ?_
  refine lv_bipush (v := (nI 64)) hx hb dX2_init_23 (by decide) ?_
  refine va_newa (atype := .long) (ty := .long) (N' := 64) (a0 := (64, .inr (.inl (fun _ => 0)))) hx hb (hts _ q23) rfl hK hP hD hS hA (fun cA => rfl) (by decide) (by decide) (by decide) (Nat.le_of_ble_eq_true rfl) (Nat.le_of_ble_eq_true rfl) dX2_init_25 (fun r2 c2 H hK hP hD hS => ?_)
  have hK : va_K (dC, dI) vwCl [(c1, .long), (c2, .long)] s := hK
  have hP : va_P (dC, dI) vwCl [(h0, .inr (2, [.int (nI 3), .int (nI 3), .ref r1, .null, .null, .null])), (r1, .inl (c1, 64, .inr (.inl (fun _ => 0)))), (r2, .inl (c2, 64, .inr (.inl (fun _ => 0))))] H := hP
  have hD : va_D A [(h0, .inr (2, [.int (nI 3), .int (nI 3), .ref r1, .null, .null, .null])), (r1, .inl (c1, 64, .inr (.inl (fun _ => 0)))), (r2, .inl (c2, 64, .inr (.inl (fun _ => 0))))] := hD
  refine W.widen (k := 2) (n := 128) (by omega) (by omega) ?_
  refine va_putF (D := (dC, dI)) (ci := 2) (v := .ref r2) (ty := .array .long) (C := RX2) (T := TX2) (N := 6) hx hb hts in_X2 tyX2 tyX2_ok nmX2 hown hK hP hD hS 0 rfl rfl 3 (by decide) (hts _ q72) (fun _ h9 => h9) rfl hin rfl (by decide +kernel) rfl rfl (Nat.le_of_ble_eq_true rfl) dX2_init_27 (fun H locs hP hD hS => ?_)
  have hP : va_P (dC, dI) vwCl [(h0, .inr (2, [.int (nI 3), .int (nI 3), .ref r1, .ref r2, .null, .null])), (r1, .inl (c1, 64, .inr (.inl (fun _ => 0)))), (r2, .inl (c2, 64, .inr (.inl (fun _ => 0))))] H := hP
  have hD : va_D A [(h0, .inr (2, [.int (nI 3), .int (nI 3), .ref r1, .ref r2, .null, .null])), (r1, .inl (c1, 64, .inr (.inl (fun _ => 0)))), (r2, .inl (c2, 64, .inr (.inl (fun _ => 0))))] := hD
  refine lv_aload_n hx hb dX2_init_30 rfl (lv_at hl 0 rfl) ?_
  refine lv_sipush (v := (nI 1024)) hx hb dX2_init_31 (by decide) ?_
  refine va_newa (atype := .long) (ty := .long) (N' := 1024) (a0 := (1024, .inr (.inl (fun _ => 0)))) hx hb (hts _ q23) rfl hK hP hD hS hA (fun cA => rfl) (by decide) (by decide) (by decide) (Nat.le_of_ble_eq_true rfl) (Nat.le_of_ble_eq_true rfl) dX2_init_34 (fun r3 c3 H hK hP hD hS => ?_)
  have hK : va_K (dC, dI) vwCl [(c1, .long), (c2, .long), (c3, .long)] s := hK
  have hP : va_P (dC, dI) vwCl [(h0, .inr (2, [.int (nI 3), .int (nI 3), .ref r1, .ref r2, .null, .null])), (r1, .inl (c1, 64, .inr (.inl (fun _ => 0)))), (r2, .inl (c2, 64, .inr (.inl (fun _ => 0)))), (r3, .inl (c3, 1024, .inr (.inl (fun _ => 0))))] H := hP
  have hD : va_D A [(h0, .inr (2, [.int (nI 3), .int (nI 3), .ref r1, .ref r2, .null, .null])), (r1, .inl (c1, 64, .inr (.inl (fun _ => 0)))), (r2, .inl (c2, 64, .inr (.inl (fun _ => 0)))), (r3, .inl (c3, 1024, .inr (.inl (fun _ => 0))))] := hD
  refine W.widen (k := 3) (n := 1152) (by omega) (by omega) ?_
  refine va_putF (D := (dC, dI)) (ci := 2) (v := .ref r3) (ty := .array .long) (C := RX2) (T := TX2) (N := 6) hx hb hts in_X2 tyX2 tyX2_ok nmX2 hown hK hP hD hS 0 rfl rfl 4 (by decide) (hts _ q73) (fun _ h9 => h9) rfl hin rfl (by decide +kernel) rfl rfl (Nat.le_of_ble_eq_true rfl) dX2_init_36 (fun H locs hP hD hS => ?_)
  have hP : va_P (dC, dI) vwCl [(h0, .inr (2, [.int (nI 3), .int (nI 3), .ref r1, .ref r2, .ref r3, .null])), (r1, .inl (c1, 64, .inr (.inl (fun _ => 0)))), (r2, .inl (c2, 64, .inr (.inl (fun _ => 0)))), (r3, .inl (c3, 1024, .inr (.inl (fun _ => 0))))] H := hP
  have hD : va_D A [(h0, .inr (2, [.int (nI 3), .int (nI 3), .ref r1, .ref r2, .ref r3, .null])), (r1, .inl (c1, 64, .inr (.inl (fun _ => 0)))), (r2, .inl (c2, 64, .inr (.inl (fun _ => 0)))), (r3, .inl (c3, 1024, .inr (.inl (fun _ => 0))))] := hD
  refine lv_aload_n hx hb dX2_init_39 rfl (lv_at hl 0 rfl) ?_
  refine lv_sipush (v := (nI 1024)) hx hb dX2_init_40 (by decide) ?_
  refine va_newa (atype := .long) (ty := .long) (N' := 1024) (a0 := (1024, .inr (.inl (fun _ => 0)))) hx hb (hts _ q23) rfl hK hP hD hS hA (fun cA => rfl) (by decide) (by decide) (by decide) (Nat.le_of_ble_eq_true rfl) (Nat.le_of_ble_eq_true rfl) dX2_init_43 (fun r4 c4 H hK hP hD hS => ?_)
  have hK : va_K (dC, dI) vwCl [(c1, .long), (c2, .long), (c3, .long), (c4, .long)] s := hK
  have hP : va_P (dC, dI) vwCl [(h0, .inr (2, [.int (nI 3), .int (nI 3), .ref r1, .ref r2, .ref r3, .null])), (r1, .inl (c1, 64, .inr (.inl (fun _ => 0)))), (r2, .inl (c2, 64, .inr (.inl (fun _ => 0)))), (r3, .inl (c3, 1024, .inr (.inl (fun _ => 0)))), (r4, .inl (c4, 1024, .inr (.inl (fun _ => 0))))] H := hP
  have hD : va_D A [(h0, .inr (2, [.int (nI 3), .int (nI 3), .ref r1, .ref r2, .ref r3, .null])), (r1, .inl (c1, 64, .inr (.inl (fun _ => 0)))), (r2, .inl (c2, 64, .inr (.inl (fun _ => 0)))), (r3, .inl (c3, 1024, .inr (.inl (fun _ => 0)))), (r4, .inl (c4, 1024, .inr (.inl (fun _ => 0))))] := hD
  refine W.widen (k := 4) (n := 2176) (by omega) (by omega) ?_
  refine va_putF (D := (dC, dI)) (ci := 2) (v := .ref r4) (ty := .array .long) (C := RX2) (T := TX2) (N := 6) hx hb hts in_X2 tyX2 tyX2_ok nmX2 hown hK hP hD hS 0 rfl rfl 5 (by decide) (hts _ q74) (fun _ h9 => h9) rfl hin rfl (by decide +kernel) rfl rfl (Nat.le_of_ble_eq_true rfl) dX2_init_45 (fun H locs hP hD hS => ?_)
  have hP : va_P (dC, dI) vwCl [(h0, .inr (2, [.int (nI 3), .int (nI 3), .ref r1, .ref r2, .ref r3, .ref r4])), (r1, .inl (c1, 64, .inr (.inl (fun _ => 0)))), (r2, .inl (c2, 64, .inr (.inl (fun _ => 0)))), (r3, .inl (c3, 1024, .inr (.inl (fun _ => 0)))), (r4, .inl (c4, 1024, .inr (.inl (fun _ => 0))))] H := hP
  have hD : va_D A [(h0, .inr (2, [.int (nI 3), .int (nI 3), .ref r1, .ref r2, .ref r3, .ref r4])), (r1, .inl (c1, 64, .inr (.inl (fun _ => 0)))), (r2, .inl (c2, 64, .inr (.inl (fun _ => 0)))), (r3, .inl (c3, 1024, .inr (.inl (fun _ => 0)))), (r4, .inl (c4, 1024, .inr (.inl (fun _ => 0))))] := hD
  exact W.vret hx hb hr (fun t ht hW => ⟨⟨((r1, r2, r3, r4), (c1, c2, c3, c4)), rfl, trivial, by rw [ht]; exact hP, va_K.moved hW.alike hK, hD⟩, hS.F ht⟩) hS.2.2 dX2_init_48
/-- a StepPathsModel alone: a, b -/
abbrev sp_BX2_load (dC : Nat → ClassId) (dI : Nat → Nat → Nat) (A : Nat → Prop) (h0 r1 r2 r3 r4 : Nat) (a b : Nat) (_ : Unit) (t : State) : Prop := va_P (dC, dI) vwCl [(h0, .inr (2, [.int (nI a), .int (nI b), .ref r1, .ref r2, .ref r3, .ref r4]))] t.heap ∧ va_K (dC, dI) vwCl [] t ∧ va_D A [(h0, .inr (2, [.int (nI a), .int (nI b), .ref r1, .ref r2, .ref r3, .ref r4]))]
set_option maxHeartbeats 4000000 in
set_option maxRecDepth 100000 in
/-- StepPathsModel.load(x, y) -/
theorem met_Mload (l : Launch) (dC : Nat → ClassId) (dI : Nat → Nat → Nat) (h0 r1 r2 r3 r4 : Nat) (a b : Nat) (x y : Int32) (a2 b2 : Nat) (sz : Nat) (e1 : x &&& nI 15 = nI a2) (e2 : y &&& nI 15 = nI b2) : Met l yX2_load (ws_ yX2_load cX2_load 3 none) ({ frames := 0, cells := 0, slots := 0, locals := 0 }) (va_Pc [.ref h0, .int (x), .int (y)] (fun U => U.heap.size = sz ∧ va_P (dC, dI) vwCl [(h0, .inr (2, [.int (nI a), .int (nI b), .ref r1, .ref r2, .ref r3, .ref r4]))] U.heap ∧ va_K (dC, dI) vwCl [] U ∧ va_D (fun _ => True) [(h0, .inr (2, [.int (nI a), .int (nI b), .ref r1, .ref r2, .ref r3, .ref r4]))])) (va_Qv (fun _ : Unit => True) (sp_BX2_load dC dI (va_A [(h0, .inr (2, [.int (nI a), .int (nI b), .ref r1, .ref r2, .ref r3, .ref r4]))] sz) h0 r1 r2 r3 r4 a2 b2) (va_A [(h0, .inr (2, [.int (nI a), .int (nI b), .ref r1, .ref r2, .ref r3, .ref r4]))] sz)) 0 0 (va_A [(h0, .inr (2, [.int (nI a), .int (nI b), .ref r1, .ref r2, .ref r3, .ref r4]))] sz) := by
  refine Met.ofW (cc := cX2_load) (maxL := 3) (ret := none) (by decide) rfl ?_
  intro p e s m args below meth c s₁ B hml hv
  obtain ⟨rfl, hsz, hP, hK, hD0⟩ := hv
  have hx := B.exec
  have hb := B.bytes
  have hr := B.returns
  have hts := atoms_spec (ws := (ws_ yX2_load cX2_load 3 none)) B.pre
  have hts : ∀ w ∈ lw_all, w.before _ s = true := fun w h => hts w (List.mem_cons_of_mem _ h)
  have hown : s.vm.findClass RX2 = some m.cls := findClass_of_methodNamed B.named
  have hlocks := B.notSynchronized
  subst hsz
  have hD := hD0.self (sz := s.heap.size)
  generalize hAe : va_A [(h0, .inr (2, [.int (nI a), .int (nI b), .ref r1, .ref r2, .ref r3, .ref r4]))] s.heap.size = A at hD ⊢
  have hA : ∀ q : Nat, s.heap.size ≤ q → A q := fun q h => by rw [← hAe]; exact Or.inr h
  have hS : va_S A s.heap s.heap [] := va_S.rf
  have hP : va_P (dC, dI) vwCl [(h0, .inr (2, [.int (nI a), .int (nI b), .ref r1, .ref r2, .ref r3, .ref r4]))] s.heap := hP
  have hl := lv_entry ([.ref h0, .int (x), .int (y)]) (n := 3) (Nat.le_of_ble_eq_true rfl)
  rw [lg_entry_eq]
  generalize (lg_sl ([.ref h0, .int (x), .int (y)]) ++ List.replicate (3 - (lg_sl ([.ref h0, .int (x), .int (y)])).length) Slot.unset).toArray = ls at hl ⊢
  have hl : lv_has ls 3 [(0, .ref h0), (1, .int (x)), (2, .int (y))] := hl
  refine lv_aload_n hx hb dX2_load_0 rfl (lv_at hl 0 rfl) ?_
  refine lv_iload_n hx hb dX2_load_1 rfl (lv_at hl 1 rfl) ?_
  refine lv_bipush (v := (nI 15)) hx hb dX2_load_2 (by decide) ?_
  refine lv_iand hx hb dX2_load_4 ?_
  refine sp_topi (y := (nI a2)) e1 ?_
  refine va_put (D := (dC, dI)) (ci := 2) (v := .int (nI a2)) (ty := .int) (C := RX2) (T := TX2) (N := 6) hx hb hts in_X2 tyX2 tyX2_ok nmX2 hown hK hP hD hS 0 rfl rfl 0 (by decide) (hts _ q69) (fun _ h9 => h9) rfl (by decide +kernel) rfl rfl (Nat.le_of_ble_eq_true rfl) dX2_load_5 (fun H locs hP hD hS => ?_)
  have hP : va_P (dC, dI) vwCl [(h0, .inr (2, [.int (nI a2), .int (nI b), .ref r1, .ref r2, .ref r3, .ref r4]))] H := hP
  have hD : va_D A [(h0, .inr (2, [.int (nI a2), .int (nI b), .ref r1, .ref r2, .ref r3, .ref r4]))] := hD
  refine lv_aload_n hx hb dX2_load_8 rfl (lv_at hl 0 rfl) ?_
  refine lv_iload_n hx hb dX2_load_9 rfl (lv_at hl 2 rfl) ?_
  refine lv_bipush (v := (nI 15)) hx hb dX2_load_10 (by decide) ?_
  refine lv_iand hx hb dX2_load_12 ?_
  refine sp_topi (y := (nI b2)) e2 ?_
  refine va_put (D := (dC, dI)) (ci := 2) (v := .int (nI b2)) (ty := .int) (C := RX2) (T := TX2) (N := 6) hx hb hts in_X2 tyX2 tyX2_ok nmX2 hown hK hP hD hS 0 rfl rfl 1 (by decide) (hts _ q70) (fun _ h9 => h9) rfl (by decide +kernel) rfl rfl (Nat.le_of_ble_eq_true rfl) dX2_load_13 (fun H locs hP hD hS => ?_)
  have hP : va_P (dC, dI) vwCl [(h0, .inr (2, [.int (nI a2), .int (nI b2), .ref r1, .ref r2, .ref r3, .ref r4]))] H := hP
  have hD : va_D A [(h0, .inr (2, [.int (nI a2), .int (nI b2), .ref r1, .ref r2, .ref r3, .ref r4]))] := hD
  exact W.vret hx hb hr (fun t ht hW => ⟨⟨(), rfl, trivial, by rw [ht]; exact hP, va_K.moved hW.alike hK, hD⟩, hS.F ht⟩) hS.2.2 dX2_load_16
/-- a StepPathsModel with its two rows -/
abbrev sp_BX2_row (dC : Nat → ClassId) (dI : Nat → Nat → Nat) (A : Nat → Prop) (h0 r1 r2 r3 r4 : Nat) (c1 c2 : ClassId) (a b : Nat) (u : (Nat → Int64) × (Nat → Int64)) (t : State) : Prop := va_P (dC, dI) vwCl [(h0, .inr (2, [.int (nI a), .int (nI b), .ref r1, .ref r2, .ref r3, .ref r4])), (r1, .inl (c1, 64, .inr (.inl (u.1)))), (r2, .inl (c2, 64, .inr (.inl (u.2))))] t.heap ∧ va_K (dC, dI) vwCl [(c1, .long), (c2, .long)] t ∧ va_D A [(h0, .inr (2, [.int (nI a), .int (nI b), .ref r1, .ref r2, .ref r3, .ref r4])), (r1, .inl (c1, 64, .inr (.inl (u.1)))), (r2, .inl (c2, 64, .inr (.inl (u.2))))]
end
section
set_option maxHeartbeats 4000000 in
set_option maxRecDepth 100000 in
/-- StepPathsModel.all(): by steps up -/
theorem met_Mall (l : Launch) (dC : Nat → ClassId) (dI : Nat → Nat → Nat) (h0 r1 r2 r3 r4 : Nat) (c1 c2 : ClassId) (row nx : Nat → Int64) (a b : Nat)  (sz : Nat) (ha : a ≤ 15) (hbb : b ≤ 15)  : Met l yX2_all (ws_ yX2_all cX2_all 4 (some .long)) ({ frames := 0, cells := 0, slots := 0, locals := 0 }) (va_Pc [.ref h0] (fun U => U.heap.size = sz ∧ va_P (dC, dI) vwCl [(h0, .inr (2, [.int (nI a), .int (nI b), .ref r1, .ref r2, .ref r3, .ref r4])), (r1, .inl (c1, 64, .inr (.inl (row)))), (r2, .inl (c2, 64, .inr (.inl (nx))))] U.heap ∧ va_K (dC, dI) vwCl [(c1, .long), (c2, .long)] U ∧ va_D (fun _ => True) [(h0, .inr (2, [.int (nI a), .int (nI b), .ref r1, .ref r2, .ref r3, .ref r4])), (r1, .inl (c1, 64, .inr (.inl (row)))), (r2, .inl (c2, 64, .inr (.inl (nx))))])) (va_Ql (fun (r : Int64) (_ : (Nat → Int64) × (Nat → Int64)) => r = lN (sp_R a b (-100) (100) (a + b) a)) (sp_BX2_row dC dI (va_A [(h0, .inr (2, [.int (nI a), .int (nI b), .ref r1, .ref r2, .ref r3, .ref r4])), (r1, .inl (c1, 64, .inr (.inl (row)))), (r2, .inl (c2, 64, .inr (.inl (nx))))] sz) h0 r1 r2 r3 r4 c1 c2 a b) (va_A [(h0, .inr (2, [.int (nI a), .int (nI b), .ref r1, .ref r2, .ref r3, .ref r4])), (r1, .inl (c1, 64, .inr (.inl (row)))), (r2, .inl (c2, 64, .inr (.inl (nx))))] sz)) 0 0 (va_A [(h0, .inr (2, [.int (nI a), .int (nI b), .ref r1, .ref r2, .ref r3, .ref r4])), (r1, .inl (c1, 64, .inr (.inl (row)))), (r2, .inl (c2, 64, .inr (.inl (nx))))] sz) := by
  refine Met.ofW (cc := cX2_all) (maxL := 4) (ret := (some .long)) (by decide) rfl ?_
  intro p e s m args below meth c s₁ B hml hv
  obtain ⟨rfl, hsz, hP, hK, hD0⟩ := hv
  have hx := B.exec
  have hb := B.bytes
  have hr := B.returns
  have hts := atoms_spec (ws := (ws_ yX2_all cX2_all 4 (some .long))) B.pre
  have hts : ∀ w ∈ lw_all, w.before _ s = true := fun w h => hts w (List.mem_cons_of_mem _ h)
  have hown : s.vm.findClass RX2 = some m.cls := findClass_of_methodNamed B.named
  have hlocks := B.notSynchronized
  subst hsz
  have hD := hD0.self (sz := s.heap.size)
  generalize hAe : va_A [(h0, .inr (2, [.int (nI a), .int (nI b), .ref r1, .ref r2, .ref r3, .ref r4])), (r1, .inl (c1, 64, .inr (.inl (row)))), (r2, .inl (c2, 64, .inr (.inl (nx))))] s.heap.size = A at hD ⊢
  have hA : ∀ q : Nat, s.heap.size ≤ q → A q := fun q h => by rw [← hAe]; exact Or.inr h
  have hS : va_S A s.heap s.heap [] := va_S.rf
  have hP : va_P (dC, dI) vwCl [(h0, .inr (2, [.int (nI a), .int (nI b), .ref r1, .ref r2, .ref r3, .ref r4])), (r1, .inl (c1, 64, .inr (.inl (row)))), (r2, .inl (c2, 64, .inr (.inl (nx))))] s.heap := hP
  have hl := lv_entry ([.ref h0]) (n := 4) (Nat.le_of_ble_eq_true rfl)
  rw [lg_entry_eq]
  generalize (lg_sl ([.ref h0]) ++ List.replicate (4 - (lg_sl ([.ref h0])).length) Slot.unset).toArray = ls at hl ⊢
  have hl : lv_has ls 4 [(0, .ref h0)] := hl
  have hexit : ∀ (row nx : Nat → Int64), (∀ j : Nat, j < 64 → row j = lN (sp_R a b (-100) (100) (a + b) j)) → ∀ (H : Heap) (locs : List Loc), va_P (dC, dI) vwCl [(h0, .inr (2, [.int (nI a), .int (nI b), .ref r1, .ref r2, .ref r3, .ref r4])), (r1, .inl (c1, 64, .inr (.inl (row)))), (r2, .inl (c2, 64, .inr (.inl (nx))))] H → va_D A [(h0, .inr (2, [.int (nI a), .int (nI b), .ref r1, .ref r2, .ref r3, .ref r4])), (r1, .inl (c1, 64, .inr (.inl (row)))), (r2, .inl (c2, 64, .inr (.inl (nx))))] → va_S A s.heap H locs → ∀ (ls : Array Slot), lv_has ls 4 [(0, .ref h0)] → W p l e (headSpec (ws_ yX2_all cX2_all 4 (some .long)) ({ frames := 0, cells := 0, slots := 0, locals := 0 })).room s m ([.ref h0] : List Value).toArray below meth c H locs 0 0 (MQ below (va_Ql (fun (r : Int64) (_ : (Nat → Int64) × (Nat → Int64)) => r = lN (sp_R a b (-100) (100) (a + b) a)) (sp_BX2_row dC dI A h0 r1 r2 r3 r4 c1 c2 a b) A) ([.ref h0] : List Value).toArray s 0 0 A) (F0 m 180 ls []) := by
    intro row nx hrow H locs hP hD hS ls hl
    refine lv_aload_n hx hb dX2_all_180 rfl (lv_at hl 0 rfl) ?_
    refine va_get (D := (dC, dI)) (ci := 2) (v := .ref r1) (C := RX2) (T := TX2) (N := 6) hx hb hts in_X2 hown hK hP 0 rfl rfl 2 (by decide) (hts _ q71) (fun _ h9 => h9) rfl dX2_all_181 ?_
    refine lv_aload_n hx hb dX2_all_184 rfl (lv_at hl 0 rfl) ?_
    refine va_get (D := (dC, dI)) (ci := 2) (v := .int (nI a)) (C := RX2) (T := TX2) (N := 6) hx hb hts in_X2 hown hK hP 0 rfl rfl 0 (by decide) (hts _ q69) (fun _ h9 => h9) rfl dX2_all_185 ?_
    refine sp_lald (i := a) (y := (lN (sp_R a b (-100) (100) (a + b) a))) hx hb hK hP 1 0 rfl rfl (by omega) (by decide) (hrow a (by omega)) dX2_all_188 ?_
    exact W.lret (v := (lN (sp_R a b (-100) (100) (a + b) a))) hx hb hr (fun t ht hW => ⟨⟨(lN (sp_R a b (-100) (100) (a + b) a)), (row, nx), rfl, rfl, by rw [ht]; exact hP, va_K.moved hW.alike hK, hD⟩, hS.F ht⟩) hS.2.2 dX2_all_189
  have hout : ∀ (n t : Nat) (row nx : Nat → Int64), t ≤ a + b → a + b < t + n → (∀ j : Nat, j < 64 → row j = lN (sp_R a b (-100) (100) (t) j)) → ∀ (H : Heap) (locs : List Loc), va_P (dC, dI) vwCl [(h0, .inr (2, [.int (nI a), .int (nI b), .ref r1, .ref r2, .ref r3, .ref r4])), (r1, .inl (c1, 64, .inr (.inl (row)))), (r2, .inl (c2, 64, .inr (.inl (nx))))] H → va_D A [(h0, .inr (2, [.int (nI a), .int (nI b), .ref r1, .ref r2, .ref r3, .ref r4])), (r1, .inl (c1, 64, .inr (.inl (row)))), (r2, .inl (c2, 64, .inr (.inl (nx))))] → va_S A s.heap H locs → ∀ (ls : Array Slot), lv_has ls 4 [(0, .ref h0), (1, .int (nI t))] → W p l e (headSpec (ws_ yX2_all cX2_all 4 (some .long)) ({ frames := 0, cells := 0, slots := 0, locals := 0 })).room s m ([.ref h0] : List Value).toArray below meth c H locs 0 0 (MQ below (va_Ql (fun (r : Int64) (_ : (Nat → Int64) × (Nat → Int64)) => r = lN (sp_R a b (-100) (100) (a + b) a)) (sp_BX2_row dC dI A h0 r1 r2 r3 r4 c1 c2 a b) A) ([.ref h0] : List Value).toArray s 0 0 A) (F0 m 31 ls []) := by
    intro n
    induction n with
    | zero => intro t row nx h1 h2; exact absurd h2 (by omega)
    | succ n ih =>
      intro t row nx ht hn hrow H locs hP hD hS ls hl
      refine lv_iload_n hx hb dX2_all_31 rfl (lv_at hl 1 rfl) ?_
      refine lv_aload_n hx hb dX2_all_32 rfl (lv_at hl 0 rfl) ?_
      refine va_get (D := (dC, dI)) (ci := 2) (v := .int (nI a)) (C := RX2) (T := TX2) (N := 6) hx hb hts in_X2 hown hK hP 0 rfl rfl 0 (by decide) (hts _ q69) (fun _ h9 => h9) rfl dX2_all_33 ?_
      refine lv_aload_n hx hb dX2_all_36 rfl (lv_at hl 0 rfl) ?_
      refine va_get (D := (dC, dI)) (ci := 2) (v := .int (nI b)) (C := RX2) (T := TX2) (N := 6) hx hb hts in_X2 hown hK hP 0 rfl rfl 1 (by decide) (hts _ q70) (fun _ h9 => h9) rfl dX2_all_37 ?_
      refine lv_iadd hx hb dX2_all_40 ?_
      refine sp_topi (y := (nI (a + b))) (nI_add _ _) ?_
      refine lv_icmp_ge (tgt := 180) hx hb dX2_all_41 (by decide) (fun hct => ?_) (fun hct => ?_)
      · have hct : a + b ≤ t := (nI_leI (by omega) (by omega)).mp hct
        have et : t = a + b := by omega
        rw [et] at hrow
        exact hexit row nx hrow H locs hP hD hS _ (lv_sub hl [0] rfl)
      · have hct : ¬ a + b ≤ t := fun h9 => hct ((nI_leI (by omega) (by omega)).mpr h9)
        have hcopy : ∀ (k v : Nat) (row nx : Nat → Int64), v ≤ 64 → 64 < v + k → (∀ j : Nat, j < 64 → nx j = lN (sp_R a b (-100) (100) (t + 1) j)) → (∀ j : Nat, j < v → row j = nx j) → ∀ (H : Heap) (locs : List Loc), va_P (dC, dI) vwCl [(h0, .inr (2, [.int (nI a), .int (nI b), .ref r1, .ref r2, .ref r3, .ref r4])), (r1, .inl (c1, 64, .inr (.inl (row)))), (r2, .inl (c2, 64, .inr (.inl (nx))))] H → va_D A [(h0, .inr (2, [.int (nI a), .int (nI b), .ref r1, .ref r2, .ref r3, .ref r4])), (r1, .inl (c1, 64, .inr (.inl (row)))), (r2, .inl (c2, 64, .inr (.inl (nx))))] → va_S A s.heap H locs → ∀ (ls : Array Slot), lv_has ls 4 [(0, .ref h0), (1, .int (nI t)), (2, .int (nI v))] → W p l e (headSpec (ws_ yX2_all cX2_all 4 (some .long)) ({ frames := 0, cells := 0, slots := 0, locals := 0 })).room s m ([.ref h0] : List Value).toArray below meth c H locs 0 0 (MQ below (va_Ql (fun (r : Int64) (_ : (Nat → Int64) × (Nat → Int64)) => r = lN (sp_R a b (-100) (100) (a + b) a)) (sp_BX2_row dC dI A h0 r1 r2 r3 r4 c1 c2 a b) A) ([.ref h0] : List Value).toArray s 0 0 A) (F0 m 150 ls []) := by
          intro k
          induction k with
          | zero => intro v row nx h1 h2; exact absurd h2 (by omega)
          | succ k kh =>
            intro v row nx hv hk hnx hrw H locs hP hD hS ls hl
            refine lv_iload_n hx hb dX2_all_150 rfl (lv_at hl 2 rfl) ?_
            refine lv_bipush (v := (nI 64)) hx hb dX2_all_151 (by decide) ?_
            refine lv_icmp_ge (tgt := 174) hx hb dX2_all_153 (by decide) (fun hc => ?_) (fun hc => ?_)
            · have hc : 64 ≤ v := (nI_leI (by omega) (by omega)).mp hc
              have ev : v = 64 := by omega
              rw [ev] at hrw
              refine lv_iinc (v := (nI (t + 1))) (lv' := [(1, .int (nI (t + 1))), (0, .ref h0), (2, .int (nI v))]) hx hb dX2_all_174 hl (k := 1) rfl (nI_add _ _) (by decide) rfl (fun ls hl => ?_)
              refine lv_goto (tgt := 31) hx hb dX2_all_177 (by decide) ?_
              exact ih (t + 1) row nx (by omega) (by omega) (fun j hj => (hrw j hj).trans (hnx j hj)) H locs hP hD hS _ (lv_sub hl [1, 0] rfl)
            · have hc : ¬ 64 ≤ v := fun h9 => hc ((nI_leI (by omega) (by omega)).mpr h9)
              refine lv_aload_n hx hb dX2_all_156 rfl (lv_at hl 0 rfl) ?_
              refine va_get (D := (dC, dI)) (ci := 2) (v := .ref r1) (C := RX2) (T := TX2) (N := 6) hx hb hts in_X2 hown hK hP 0 rfl rfl 2 (by decide) (hts _ q71) (fun _ h9 => h9) rfl dX2_all_157 ?_
              refine lv_iload_n hx hb dX2_all_160 rfl (lv_at hl 2 rfl) ?_
              refine lv_aload_n hx hb dX2_all_161 rfl (lv_at hl 0 rfl) ?_
              refine va_get (D := (dC, dI)) (ci := 2) (v := .ref r2) (C := RX2) (T := TX2) (N := 6) hx hb hts in_X2 hown hK hP 0 rfl rfl 3 (by decide) (hts _ q72) (fun _ h9 => h9) rfl dX2_all_162 ?_
              refine lv_iload_n hx hb dX2_all_165 rfl (lv_at hl 2 rfl) ?_
              refine sp_lald (i := v) (y := (nx (v))) hx hb hK hP 2 1 rfl rfl (by omega) (by decide) rfl dX2_all_166 ?_
              refine sp_last (i := v) (ws' := [(h0, .inr (2, [.int (nI a), .int (nI b), .ref r1, .ref r2, .ref r3, .ref r4])), (r1, .inl (c1, 64, .inr (.inl (vp_updL row (v) ((nx (v))))))), (r2, .inl (c2, 64, .inr (.inl (nx))))]) hx hb hK hP hD hS 1 0 rfl rfl (by omega) (by decide) rfl dX2_all_167 (fun H locs hP hD hS => ?_)
              refine lv_iinc (v := (nI (v + 1))) (lv' := [(2, .int (nI (v + 1))), (0, .ref h0), (1, .int (nI t))]) hx hb dX2_all_168 hl (k := 2) rfl (nI_add _ _) (by decide) rfl (fun ls hl => ?_)
              refine lv_goto (tgt := 150) hx hb dX2_all_171 (by decide) ?_
              exact kh (v + 1) (vp_updL row (v) (nx (v))) nx (by omega) (by omega) hnx (sp_fill (f := nx) hrw rfl) H locs hP hD hS _ (lv_sub hl [1, 2, 0] rfl)
        have hu : ∀ (k v : Nat) (nx : Nat → Int64), v ≤ min a t + 1 → min a t + 1 < v + k → (∀ j : Nat, j < 64 → nx j = lN (sp_N (sp_ru a (100) t (sp_R a b (-100) (100) (t))) (sp_rd b (-100) t (sp_R a b (-100) (100) (t))) (v) j)) → ∀ (H : Heap) (locs : List Loc), va_P (dC, dI) vwCl [(h0, .inr (2, [.int (nI a), .int (nI b), .ref r1, .ref r2, .ref r3, .ref r4])), (r1, .inl (c1, 64, .inr (.inl (row)))), (r2, .inl (c2, 64, .inr (.inl (nx))))] H → va_D A [(h0, .inr (2, [.int (nI a), .int (nI b), .ref r1, .ref r2, .ref r3, .ref r4])), (r1, .inl (c1, 64, .inr (.inl (row)))), (r2, .inl (c2, 64, .inr (.inl (nx))))] → va_S A s.heap H locs → ∀ (ls : Array Slot), lv_has ls 4 [(0, .ref h0), (1, .int (nI t)), (2, .int (nI v))] → W p l e (headSpec (ws_ yX2_all cX2_all 4 (some .long)) ({ frames := 0, cells := 0, slots := 0, locals := 0 })).room s m ([.ref h0] : List Value).toArray below meth c H locs 0 0 (MQ below (va_Ql (fun (r : Int64) (_ : (Nat → Int64) × (Nat → Int64)) => r = lN (sp_R a b (-100) (100) (a + b) a)) (sp_BX2_row dC dI A h0 r1 r2 r3 r4 c1 c2 a b) A) ([.ref h0] : List Value).toArray s 0 0 A) (F0 m 67 ls []) := by
          intro k
          induction k with
          | zero => intro v nx h1 h2; exact absurd h2 (by omega)
          | succ k kh =>
            intro v nx hv hk hnx H locs hP hD hS ls hl
            refine lv_iload_n hx hb dX2_all_67 rfl (lv_at hl 2 rfl) ?_
            refine lv_aload_n hx hb dX2_all_68 rfl (lv_at hl 0 rfl) ?_
            refine va_get (D := (dC, dI)) (ci := 2) (v := .int (nI a)) (C := RX2) (T := TX2) (N := 6) hx hb hts in_X2 hown hK hP 0 rfl rfl 0 (by decide) (hts _ q69) (fun _ h9 => h9) rfl dX2_all_69 ?_
            refine lv_icmp_gt (tgt := 148) hx hb dX2_all_72 (by decide) (fun hc => ?_) (fun hc => ?_)
            · have hc : a < v := (nI_ltI (by omega) (by omega)).mp hc
              have ev : v = min a t + 1 := by omega
              rw [ev] at hnx
              refine lv_iconst (v := (nI 0)) hx hb dX2_all_148 (by decide) ?_
              refine lv_istore_n (lv' := [(2, .int (nI 0)), (0, .ref h0), (1, .int (nI t))]) hx hb dX2_all_149 rfl hl (by decide) rfl (fun ls hl => ?_)
              exact hcopy 65 0 row nx (by omega) (by omega) hnx (fun j hj => by omega) H locs hP hD hS _ (lv_sub hl [1, 2, 0] rfl)
            · have hc : ¬ a < v := fun h9 => hc ((nI_ltI (by omega) (by omega)).mpr h9)
              refine lv_iload_n hx hb dX2_all_75 rfl (lv_at hl 2 rfl) ?_
              refine lv_iload_n hx hb dX2_all_76 rfl (lv_at hl 1 rfl) ?_
              refine lv_icmp_gt (tgt := 148) hx hb dX2_all_77 (by decide) (fun hc1 => ?_) (fun hc1 => ?_)
              · have hc1 : t < v := (nI_ltI (by omega) (by omega)).mp hc1
                have ev : v = min a t + 1 := by omega
                rw [ev] at hnx
                refine lv_iconst (v := (nI 0)) hx hb dX2_all_148 (by decide) ?_
                refine lv_istore_n (lv' := [(2, .int (nI 0)), (0, .ref h0), (1, .int (nI t))]) hx hb dX2_all_149 rfl hl (by decide) rfl (fun ls hl => ?_)
                exact hcopy 65 0 row nx (by omega) (by omega) hnx (fun j hj => by omega) H locs hP hD hS _ (lv_sub hl [1, 2, 0] rfl)
              · have hc1 : ¬ t < v := fun h9 => hc1 ((nI_ltI (by omega) (by omega)).mpr h9)
                have hrv := hrow v (by omega)
                have htail : ∀ (nx : Nat → Int64), (∀ j : Nat, j < 64 → nx j = lN (sp_N (sp_ru a (100) t (sp_R a b (-100) (100) (t))) (sp_rd b (-100) t (sp_R a b (-100) (100) (t))) (v + 1) j)) → ∀ (H : Heap) (locs : List Loc), va_P (dC, dI) vwCl [(h0, .inr (2, [.int (nI a), .int (nI b), .ref r1, .ref r2, .ref r3, .ref r4])), (r1, .inl (c1, 64, .inr (.inl (row)))), (r2, .inl (c2, 64, .inr (.inl (nx))))] H → va_D A [(h0, .inr (2, [.int (nI a), .int (nI b), .ref r1, .ref r2, .ref r3, .ref r4])), (r1, .inl (c1, 64, .inr (.inl (row)))), (r2, .inl (c2, 64, .inr (.inl (nx))))] → va_S A s.heap H locs → ∀ (ls : Array Slot), lv_has ls 4 [(0, .ref h0), (1, .int (nI t)), (2, .int (nI v))] → W p l e (headSpec (ws_ yX2_all cX2_all 4 (some .long)) ({ frames := 0, cells := 0, slots := 0, locals := 0 })).room s m ([.ref h0] : List Value).toArray below meth c H locs 0 0 (MQ below (va_Ql (fun (r : Int64) (_ : (Nat → Int64) × (Nat → Int64)) => r = lN (sp_R a b (-100) (100) (a + b) a)) (sp_BX2_row dC dI A h0 r1 r2 r3 r4 c1 c2 a b) A) ([.ref h0] : List Value).toArray s 0 0 A) (F0 m 142 ls []) := by
                  intro nx hnx H locs hP hD hS ls hl
                  refine lv_iinc (v := (nI (v + 1))) (lv' := [(2, .int (nI (v + 1))), (0, .ref h0), (1, .int (nI t))]) hx hb dX2_all_142 hl (k := 2) rfl (nI_add _ _) (by decide) rfl (fun ls hl => ?_)
                  refine lv_goto (tgt := 67) hx hb dX2_all_145 (by decide) ?_
                  exact kh (v + 1) nx (by omega) (by omega) hnx H locs hP hD hS _ (lv_sub hl [1, 2, 0] rfl)
                have hsec : ∀ (nx : Nat → Int64), (∀ j : Nat, j < 64 → nx j = lN (sp_M (sp_ru a (100) t (sp_R a b (-100) (100) (t))) (sp_rd b (-100) t (sp_R a b (-100) (100) (t))) v j)) → ∀ (H : Heap) (locs : List Loc), va_P (dC, dI) vwCl [(h0, .inr (2, [.int (nI a), .int (nI b), .ref r1, .ref r2, .ref r3, .ref r4])), (r1, .inl (c1, 64, .inr (.inl (row)))), (r2, .inl (c2, 64, .inr (.inl (nx))))] H → va_D A [(h0, .inr (2, [.int (nI a), .int (nI b), .ref r1, .ref r2, .ref r3, .ref r4])), (r1, .inl (c1, 64, .inr (.inl (row)))), (r2, .inl (c2, 64, .inr (.inl (nx))))] → va_S A s.heap H locs → ∀ (ls : Array Slot), lv_has ls 4 [(0, .ref h0), (1, .int (nI t)), (2, .int (nI v)), (3, .int (nI (t - v)))] → W p l e (headSpec (ws_ yX2_all cX2_all 4 (some .long)) ({ frames := 0, cells := 0, slots := 0, locals := 0 })).room s m ([.ref h0] : List Value).toArray below meth c H locs 0 0 (MQ below (va_Ql (fun (r : Int64) (_ : (Nat → Int64) × (Nat → Int64)) => r = lN (sp_R a b (-100) (100) (a + b) a)) (sp_BX2_row dC dI A h0 r1 r2 r3 r4 c1 c2 a b) A) ([.ref h0] : List Value).toArray s 0 0 A) (F0 m 115 ls []) := by
                  intro nx hnx H locs hP hD hS ls hl
                  refine lv_iload_n hx hb dX2_all_115 rfl (lv_at hl 3 rfl) ?_
                  refine lv_aload_n hx hb dX2_all_116 rfl (lv_at hl 0 rfl) ?_
                  refine va_get (D := (dC, dI)) (ci := 2) (v := .int (nI b)) (C := RX2) (T := TX2) (N := 6) hx hb hts in_X2 hown hK hP 0 rfl rfl 1 (by decide) (hts _ q70) (fun _ h9 => h9) rfl dX2_all_117 ?_
                  refine lv_icmp_ge (tgt := 142) hx hb dX2_all_120 (by decide) (fun hc4 => ?_) (fun hc4 => ?_)
                  · have hc4 : b ≤ t - v := (nI_leI (by omega) (by omega)).mp hc4
                    exact htail nx (sp_keep (k := v) (r := (sp_rd b (-100) t (sp_R a b (-100) (100) (t))) v) hnx (sp_N_s _ _ v) (if_neg (by omega))) H locs hP hD hS _ (lv_sub hl [0, 1, 2] rfl)
                  · have hc4 : ¬ b ≤ t - v := fun h9 => hc4 ((nI_leI (by omega) (by omega)).mpr h9)
                    refine lv_aload_n hx hb dX2_all_123 rfl (lv_at hl 0 rfl) ?_
                    refine va_get (D := (dC, dI)) (ci := 2) (v := .ref r2) (C := RX2) (T := TX2) (N := 6) hx hb hts in_X2 hown hK hP 0 rfl rfl 3 (by decide) (hts _ q72) (fun _ h9 => h9) rfl dX2_all_124 ?_
                    refine lv_iload_n hx hb dX2_all_127 rfl (lv_at hl 2 rfl) ?_
                    refine lv_aload_n hx hb dX2_all_128 rfl (lv_at hl 0 rfl) ?_
                    refine va_get (D := (dC, dI)) (ci := 2) (v := .ref r2) (C := RX2) (T := TX2) (N := 6) hx hb hts in_X2 hown hK hP 0 rfl rfl 3 (by decide) (hts _ q72) (fun _ h9 => h9) rfl dX2_all_129 ?_
                    refine lv_iload_n hx hb dX2_all_132 rfl (lv_at hl 2 rfl) ?_
                    refine sp_lald (i := v) (y := (lN (sp_M (sp_ru a (100) t (sp_R a b (-100) (100) (t))) (sp_rd b (-100) t (sp_R a b (-100) (100) (t))) v v))) hx hb hK hP 2 1 rfl rfl (by omega) (by decide) (hnx v (by omega)) dX2_all_133 ?_
                    refine lv_aload_n hx hb dX2_all_134 rfl (lv_at hl 0 rfl) ?_
                    refine va_get (D := (dC, dI)) (ci := 2) (v := .ref r1) (C := RX2) (T := TX2) (N := 6) hx hb hts in_X2 hown hK hP 0 rfl rfl 2 (by decide) (hts _ q71) (fun _ h9 => h9) rfl dX2_all_135 ?_
                    refine lv_iload_n hx hb dX2_all_138 rfl (lv_at hl 2 rfl) ?_
                    refine sp_lald (i := v) (y := (lN (sp_R a b (-100) (100) (t) v))) hx hb hK hP 1 0 rfl rfl (by omega) (by decide) hrv dX2_all_139 ?_
                    refine lv_ladd hx hb dX2_all_140 ?_
                    refine sp_topl (y := (lN (sp_M (sp_ru a (100) t (sp_R a b (-100) (100) (t))) (sp_rd b (-100) t (sp_R a b (-100) (100) (t))) v v + sp_R a b (-100) (100) (t) v))) (lN_add _ _) ?_
                    refine sp_last (i := v) (ws' := [(h0, .inr (2, [.int (nI a), .int (nI b), .ref r1, .ref r2, .ref r3, .ref r4])), (r1, .inl (c1, 64, .inr (.inl (row)))), (r2, .inl (c2, 64, .inr (.inl (vp_updL nx (v) ((lN (sp_M (sp_ru a (100) t (sp_R a b (-100) (100) (t))) (sp_rd b (-100) t (sp_R a b (-100) (100) (t))) v v + sp_R a b (-100) (100) (t) v)))))))]) hx hb hK hP hD hS 2 1 rfl rfl (by omega) (by decide) rfl dX2_all_141 (fun H locs hP hD hS => ?_)
                    exact htail (vp_updL nx (v) ((lN (sp_M (sp_ru a (100) t (sp_R a b (-100) (100) (t))) (sp_rd b (-100) t (sp_R a b (-100) (100) (t))) v v + sp_R a b (-100) (100) (t) v)))) (sp_bumpE (k := v) (r := (sp_rd b (-100) t (sp_R a b (-100) (100) (t))) v) hnx (sp_N_s _ _ v) (if_pos ⟨by omega, by omega⟩)) H locs hP hD hS _ (lv_sub hl [0, 1, 2] rfl)
                refine lv_iload_n hx hb dX2_all_80 rfl (lv_at hl 1 rfl) ?_
                refine lv_iload_n hx hb dX2_all_81 rfl (lv_at hl 2 rfl) ?_
                refine lv_isub hx hb dX2_all_82 ?_
                refine sp_topi (y := (nI (t - v))) (pk_sub (by omega)) ?_
                refine lv_istore_n (lv' := [(3, .int (nI (t - v))), (0, .ref h0), (1, .int (nI t)), (2, .int (nI v))]) hx hb dX2_all_83 rfl hl (by decide) rfl (fun ls hl => ?_)
                refine lv_iload_n hx hb dX2_all_84 rfl (lv_at hl 3 rfl) ?_
                refine lv_aload_n hx hb dX2_all_85 rfl (lv_at hl 1 rfl) ?_
                refine va_get (D := (dC, dI)) (ci := 2) (v := .int (nI a)) (C := RX2) (T := TX2) (N := 6) hx hb hts in_X2 hown hK hP 0 rfl rfl 0 (by decide) (hts _ q69) (fun _ h9 => h9) rfl dX2_all_86 ?_
                refine lv_icmp_ge (tgt := 115) hx hb dX2_all_89 (by decide) (fun hc2 => ?_) (fun hc2 => ?_)
                · have hc2 : a ≤ v := (nI_leI (by omega) (by omega)).mp hc2
                  exact hsec nx (sp_keep (k := v + 1) (r := (sp_ru a (100) t (sp_R a b (-100) (100) (t))) v) hnx (sp_M_e _ _ v) (if_neg (by omega))) H locs hP hD hS _ (lv_sub hl [1, 2, 3, 0] rfl)
                · have hc2 : ¬ a ≤ v := fun h9 => hc2 ((nI_leI (by omega) (by omega)).mpr h9)
                  refine lv_aload_n hx hb dX2_all_92 rfl (lv_at hl 1 rfl) ?_
                  refine va_get (D := (dC, dI)) (ci := 2) (v := .ref r2) (C := RX2) (T := TX2) (N := 6) hx hb hts in_X2 hown hK hP 0 rfl rfl 3 (by decide) (hts _ q72) (fun _ h9 => h9) rfl dX2_all_93 ?_
                  refine lv_iload_n hx hb dX2_all_96 rfl (lv_at hl 3 rfl) ?_
                  refine lv_iconst (v := (nI 1)) hx hb dX2_all_97 (by decide) ?_
                  refine lv_iadd hx hb dX2_all_98 ?_
                  refine sp_topi (y := (nI (v + 1))) (nI_add _ _) ?_
                  refine lv_aload_n hx hb dX2_all_99 rfl (lv_at hl 1 rfl) ?_
                  refine va_get (D := (dC, dI)) (ci := 2) (v := .ref r2) (C := RX2) (T := TX2) (N := 6) hx hb hts in_X2 hown hK hP 0 rfl rfl 3 (by decide) (hts _ q72) (fun _ h9 => h9) rfl dX2_all_100 ?_
                  refine lv_iload_n hx hb dX2_all_103 rfl (lv_at hl 3 rfl) ?_
                  refine lv_iconst (v := (nI 1)) hx hb dX2_all_104 (by decide) ?_
                  refine lv_iadd hx hb dX2_all_105 ?_
                  refine sp_topi (y := (nI (v + 1))) (nI_add _ _) ?_
                  refine sp_lald (i := v + 1) (y := (lN (sp_N (sp_ru a (100) t (sp_R a b (-100) (100) (t))) (sp_rd b (-100) t (sp_R a b (-100) (100) (t))) (v) (v + 1)))) hx hb hK hP 2 1 rfl rfl (by omega) (by decide) (hnx (v + 1) (by omega)) dX2_all_106 ?_
                  refine lv_aload_n hx hb dX2_all_107 rfl (lv_at hl 1 rfl) ?_
                  refine va_get (D := (dC, dI)) (ci := 2) (v := .ref r1) (C := RX2) (T := TX2) (N := 6) hx hb hts in_X2 hown hK hP 0 rfl rfl 2 (by decide) (hts _ q71) (fun _ h9 => h9) rfl dX2_all_108 ?_
                  refine lv_iload_n hx hb dX2_all_111 rfl (lv_at hl 3 rfl) ?_
                  refine sp_lald (i := v) (y := (lN (sp_R a b (-100) (100) (t) v))) hx hb hK hP 1 0 rfl rfl (by omega) (by decide) hrv dX2_all_112 ?_
                  refine lv_ladd hx hb dX2_all_113 ?_
                  refine sp_topl (y := (lN (sp_N (sp_ru a (100) t (sp_R a b (-100) (100) (t))) (sp_rd b (-100) t (sp_R a b (-100) (100) (t))) (v) (v + 1) + sp_R a b (-100) (100) (t) v))) (lN_add _ _) ?_
                  refine sp_last (i := v + 1) (ws' := [(h0, .inr (2, [.int (nI a), .int (nI b), .ref r1, .ref r2, .ref r3, .ref r4])), (r1, .inl (c1, 64, .inr (.inl (row)))), (r2, .inl (c2, 64, .inr (.inl (vp_updL nx (v + 1) ((lN (sp_N (sp_ru a (100) t (sp_R a b (-100) (100) (t))) (sp_rd b (-100) t (sp_R a b (-100) (100) (t))) (v) (v + 1) + sp_R a b (-100) (100) (t) v)))))))]) hx hb hK hP hD hS 2 1 rfl rfl (by omega) (by decide) rfl dX2_all_114 (fun H locs hP hD hS => ?_)
                  exact hsec (vp_updL nx (v + 1) ((lN (sp_N (sp_ru a (100) t (sp_R a b (-100) (100) (t))) (sp_rd b (-100) t (sp_R a b (-100) (100) (t))) (v) (v + 1) + sp_R a b (-100) (100) (t) v)))) (sp_bumpE (k := v + 1) (r := (sp_ru a (100) t (sp_R a b (-100) (100) (t))) v) hnx (sp_M_e _ _ v) (if_pos ⟨by omega, by omega⟩)) H locs hP hD hS _ (lv_sub hl [1, 2, 3, 0] rfl)
        have hz : ∀ (k v : Nat) (nx : Nat → Int64), v ≤ 64 → 64 < v + k → (∀ j : Nat, j < v → nx j = lN 0) → ∀ (H : Heap) (locs : List Loc), va_P (dC, dI) vwCl [(h0, .inr (2, [.int (nI a), .int (nI b), .ref r1, .ref r2, .ref r3, .ref r4])), (r1, .inl (c1, 64, .inr (.inl (row)))), (r2, .inl (c2, 64, .inr (.inl (nx))))] H → va_D A [(h0, .inr (2, [.int (nI a), .int (nI b), .ref r1, .ref r2, .ref r3, .ref r4])), (r1, .inl (c1, 64, .inr (.inl (row)))), (r2, .inl (c2, 64, .inr (.inl (nx))))] → va_S A s.heap H locs → ∀ (ls : Array Slot), lv_has ls 4 [(0, .ref h0), (1, .int (nI t)), (2, .int (nI v))] → W p l e (headSpec (ws_ yX2_all cX2_all 4 (some .long)) ({ frames := 0, cells := 0, slots := 0, locals := 0 })).room s m ([.ref h0] : List Value).toArray below meth c H locs 0 0 (MQ below (va_Ql (fun (r : Int64) (_ : (Nat → Int64) × (Nat → Int64)) => r = lN (sp_R a b (-100) (100) (a + b) a)) (sp_BX2_row dC dI A h0 r1 r2 r3 r4 c1 c2 a b) A) ([.ref h0] : List Value).toArray s 0 0 A) (F0 m 46 ls []) := by
          intro k
          induction k with
          | zero => intro v nx h1 h2; exact absurd h2 (by omega)
          | succ k kh =>
            intro v nx hv hk hnx H locs hP hD hS ls hl
            refine lv_iload_n hx hb dX2_all_46 rfl (lv_at hl 2 rfl) ?_
            refine lv_bipush (v := (nI 64)) hx hb dX2_all_47 (by decide) ?_
            refine lv_icmp_ge (tgt := 65) hx hb dX2_all_49 (by decide) (fun hc => ?_) (fun hc => ?_)
            · have hc : 64 ≤ v := (nI_leI (by omega) (by omega)).mp hc
              have ev : v = 64 := by omega
              rw [ev] at hnx
              refine lv_iconst (v := (nI 0)) hx hb dX2_all_65 (by decide) ?_
              refine lv_istore_n (lv' := [(2, .int (nI 0)), (0, .ref h0), (1, .int (nI t))]) hx hb dX2_all_66 rfl hl (by decide) rfl (fun ls hl => ?_)
              exact hu (min a t + 2) 0 nx (by omega) (by omega) (fun j hj => by rw [sp_N_0]; exact hnx j hj) H locs hP hD hS _ (lv_sub hl [1, 2, 0] rfl)
            · have hc : ¬ 64 ≤ v := fun h9 => hc ((nI_leI (by omega) (by omega)).mpr h9)
              refine lv_aload_n hx hb dX2_all_52 rfl (lv_at hl 0 rfl) ?_
              refine va_get (D := (dC, dI)) (ci := 2) (v := .ref r2) (C := RX2) (T := TX2) (N := 6) hx hb hts in_X2 hown hK hP 0 rfl rfl 3 (by decide) (hts _ q72) (fun _ h9 => h9) rfl dX2_all_53 ?_
              refine lv_iload_n hx hb dX2_all_56 rfl (lv_at hl 2 rfl) ?_
              refine lv_lconst (v := (lN (0))) hx hb dX2_all_57 (by first | rfl | decide) ?_
              refine sp_last (i := v) (ws' := [(h0, .inr (2, [.int (nI a), .int (nI b), .ref r1, .ref r2, .ref r3, .ref r4])), (r1, .inl (c1, 64, .inr (.inl (row)))), (r2, .inl (c2, 64, .inr (.inl (vp_updL nx (v) ((lN (0)))))))]) hx hb hK hP hD hS 2 1 rfl rfl (by omega) (by decide) rfl dX2_all_58 (fun H locs hP hD hS => ?_)
              refine lv_iinc (v := (nI (v + 1))) (lv' := [(2, .int (nI (v + 1))), (0, .ref h0), (1, .int (nI t))]) hx hb dX2_all_59 hl (k := 2) rfl (nI_add _ _) (by decide) rfl (fun ls hl => ?_)
              refine lv_goto (tgt := 46) hx hb dX2_all_62 (by decide) ?_
              exact kh (v + 1) (vp_updL nx (v) ((lN (0)))) (by omega) (by omega) (sp_fill (f := fun _ => lN 0) hnx rfl) H locs hP hD hS _ (lv_sub hl [1, 2, 0] rfl)
        refine lv_iconst (v := (nI 0)) hx hb dX2_all_44 (by decide) ?_
        refine lv_istore_n (lv' := [(2, .int (nI 0)), (0, .ref h0), (1, .int (nI t))]) hx hb dX2_all_45 rfl hl (by decide) rfl (fun ls hl => ?_)
        exact hz 65 0 nx (by omega) (by omega) (fun j hj => by omega) H locs hP hD hS _ (lv_sub hl [1, 2, 0] rfl)
  have hinit : ∀ (k v : Nat) (row : Nat → Int64), v ≤ 64 → 64 < v + k → (∀ j : Nat, j < v → row j = lN (if j = 0 then 1 else 0)) → ∀ (H : Heap) (locs : List Loc), va_P (dC, dI) vwCl [(h0, .inr (2, [.int (nI a), .int (nI b), .ref r1, .ref r2, .ref r3, .ref r4])), (r1, .inl (c1, 64, .inr (.inl (row)))), (r2, .inl (c2, 64, .inr (.inl (nx))))] H → va_D A [(h0, .inr (2, [.int (nI a), .int (nI b), .ref r1, .ref r2, .ref r3, .ref r4])), (r1, .inl (c1, 64, .inr (.inl (row)))), (r2, .inl (c2, 64, .inr (.inl (nx))))] → va_S A s.heap H locs → ∀ (ls : Array Slot), lv_has ls 4 [(0, .ref h0), (1, .int (nI v))] → W p l e (headSpec (ws_ yX2_all cX2_all 4 (some .long)) ({ frames := 0, cells := 0, slots := 0, locals := 0 })).room s m ([.ref h0] : List Value).toArray below meth c H locs 0 0 (MQ below (va_Ql (fun (r : Int64) (_ : (Nat → Int64) × (Nat → Int64)) => r = lN (sp_R a b (-100) (100) (a + b) a)) (sp_BX2_row dC dI A h0 r1 r2 r3 r4 c1 c2 a b) A) ([.ref h0] : List Value).toArray s 0 0 A) (F0 m 2 ls []) := by
    intro k
    induction k with
    | zero => intro v row h1 h2; exact absurd h2 (by omega)
    | succ k kh =>
      intro v row hv hk hrow H locs hP hD hS ls hl
      refine lv_iload_n hx hb dX2_all_2 rfl (lv_at hl 1 rfl) ?_
      refine lv_bipush (v := (nI 64)) hx hb dX2_all_3 (by decide) ?_
      refine lv_icmp_ge (tgt := 29) hx hb dX2_all_5 (by decide) (fun hc => ?_) (fun hc => ?_)
      · have hc : 64 ≤ v := (nI_leI (by omega) (by omega)).mp hc
        have ev : v = 64 := by omega
        rw [ev] at hrow
        refine lv_iconst (v := (nI 0)) hx hb dX2_all_29 (by decide) ?_
        refine lv_istore_n (lv' := [(1, .int (nI 0)), (0, .ref h0)]) hx hb dX2_all_30 rfl hl (by decide) rfl (fun ls hl => ?_)
        exact hout (a + b + 1) 0 row nx (by omega) (by omega) hrow H locs hP hD hS _ (lv_sub hl [1, 0] rfl)
      · have hc : ¬ 64 ≤ v := fun h9 => hc ((nI_leI (by omega) (by omega)).mpr h9)
        refine lv_aload_n hx hb dX2_all_8 rfl (lv_at hl 0 rfl) ?_
        refine va_get (D := (dC, dI)) (ci := 2) (v := .ref r1) (C := RX2) (T := TX2) (N := 6) hx hb hts in_X2 hown hK hP 0 rfl rfl 2 (by decide) (hts _ q71) (fun _ h9 => h9) rfl dX2_all_9 ?_
        refine lv_iload_n hx hb dX2_all_12 rfl (lv_at hl 1 rfl) ?_
        refine lv_iload_n hx hb dX2_all_13 rfl (lv_at hl 1 rfl) ?_
        refine lv_if_gt (tgt := 21) hx hb dX2_all_14 (by decide) (fun hc1 => ?_) (fun hc1 => ?_)
        · rw [← nI_0] at hc1
          have hc1 : 0 < v := (nI_ltI (by omega) (by omega)).mp hc1
          refine lv_lconst (v := (lN (0))) hx hb dX2_all_21 (by first | rfl | decide) ?_
          refine sp_last (i := v) (ws' := [(h0, .inr (2, [.int (nI a), .int (nI b), .ref r1, .ref r2, .ref r3, .ref r4])), (r1, .inl (c1, 64, .inr (.inl (vp_updL row (v) ((lN (0))))))), (r2, .inl (c2, 64, .inr (.inl (nx))))]) hx hb hK hP hD hS 1 0 rfl rfl (by omega) (by decide) rfl dX2_all_22 (fun H locs hP hD hS => ?_)
          refine lv_iinc (v := (nI (v + 1))) (lv' := [(1, .int (nI (v + 1))), (0, .ref h0)]) hx hb dX2_all_23 hl (k := 1) rfl (nI_add _ _) (by decide) rfl (fun ls hl => ?_)
          refine lv_goto (tgt := 2) hx hb dX2_all_26 (by decide) ?_
          exact kh (v + 1) (vp_updL row (v) ((lN (0)))) (by omega) (by omega) (sp_fill (f := fun j => lN (if j = 0 then 1 else 0)) hrow (by show lN 0 = lN (if v = 0 then 1 else 0); rw [if_neg (by omega)])) H locs hP hD hS _ (lv_sub hl [1, 0] rfl)
        · rw [← nI_0] at hc1
          have hc1 : ¬ 0 < v := fun h9 => hc1 ((nI_ltI (by omega) (by omega)).mpr h9)
          refine lv_lconst (v := (lN (1))) hx hb dX2_all_17 (by first | rfl | decide) ?_
          refine lv_goto (tgt := 22) hx hb dX2_all_18 (by decide) ?_
          refine sp_last (i := v) (ws' := [(h0, .inr (2, [.int (nI a), .int (nI b), .ref r1, .ref r2, .ref r3, .ref r4])), (r1, .inl (c1, 64, .inr (.inl (vp_updL row (v) ((lN (1))))))), (r2, .inl (c2, 64, .inr (.inl (nx))))]) hx hb hK hP hD hS 1 0 rfl rfl (by omega) (by decide) rfl dX2_all_22 (fun H locs hP hD hS => ?_)
          refine lv_iinc (v := (nI (v + 1))) (lv' := [(1, .int (nI (v + 1))), (0, .ref h0)]) hx hb dX2_all_23 hl (k := 1) rfl (nI_add _ _) (by decide) rfl (fun ls hl => ?_)
          refine lv_goto (tgt := 2) hx hb dX2_all_26 (by decide) ?_
          exact kh (v + 1) (vp_updL row (v) ((lN (1)))) (by omega) (by omega) (sp_fill (f := fun j => lN (if j = 0 then 1 else 0)) hrow (by show lN 1 = lN (if v = 0 then 1 else 0); rw [if_pos (by omega)])) H locs hP hD hS _ (lv_sub hl [1, 0] rfl)
  refine lv_iconst (v := (nI 0)) hx hb dX2_all_0 (by decide) ?_
  refine lv_istore_n (lv' := [(1, .int (nI 0)), (0, .ref h0)]) hx hb dX2_all_1 rfl hl (by decide) rfl (fun ls hl => ?_)
  exact hinit 65 0 row (by omega) (by omega) (fun j hj => by omega) s.heap _ hP hD hS _ (lv_sub hl [1, 0] rfl)
end
section
set_option maxHeartbeats 4000000 in
set_option maxRecDepth 100000 in
/-- StepPathsModel.above(k): by steps up, never below -/
theorem met_Mabove (l : Launch) (dC : Nat → ClassId) (dI : Nat → Nat → Nat) (h0 r1 r2 r3 r4 : Nat) (c1 c2 : ClassId) (row nx : Nat → Int64) (a b : Nat) (p0 : Int32) (mm : Nat) (sz : Nat) (ha : a ≤ 15) (hbb : b ≤ 15) (hm : mm < 16) (em : p0 &&& nI 15 = nI mm) : Met l yX2_above (ws_ yX2_above cX2_above 6 (some .long)) ({ frames := 0, cells := 0, slots := 0, locals := 0 }) (va_Pc [.ref h0, .int (p0)] (fun U => U.heap.size = sz ∧ va_P (dC, dI) vwCl [(h0, .inr (2, [.int (nI a), .int (nI b), .ref r1, .ref r2, .ref r3, .ref r4])), (r1, .inl (c1, 64, .inr (.inl (row)))), (r2, .inl (c2, 64, .inr (.inl (nx))))] U.heap ∧ va_K (dC, dI) vwCl [(c1, .long), (c2, .long)] U ∧ va_D (fun _ => True) [(h0, .inr (2, [.int (nI a), .int (nI b), .ref r1, .ref r2, .ref r3, .ref r4])), (r1, .inl (c1, 64, .inr (.inl (row)))), (r2, .inl (c2, 64, .inr (.inl (nx))))])) (va_Ql (fun (r : Int64) (_ : (Nat → Int64) × (Nat → Int64)) => r = lN (sp_R a b (-(mm : Int) - 1) (100) (a + b) a)) (sp_BX2_row dC dI (va_A [(h0, .inr (2, [.int (nI a), .int (nI b), .ref r1, .ref r2, .ref r3, .ref r4])), (r1, .inl (c1, 64, .inr (.inl (row)))), (r2, .inl (c2, 64, .inr (.inl (nx))))] sz) h0 r1 r2 r3 r4 c1 c2 a b) (va_A [(h0, .inr (2, [.int (nI a), .int (nI b), .ref r1, .ref r2, .ref r3, .ref r4])), (r1, .inl (c1, 64, .inr (.inl (row)))), (r2, .inl (c2, 64, .inr (.inl (nx))))] sz)) 0 0 (va_A [(h0, .inr (2, [.int (nI a), .int (nI b), .ref r1, .ref r2, .ref r3, .ref r4])), (r1, .inl (c1, 64, .inr (.inl (row)))), (r2, .inl (c2, 64, .inr (.inl (nx))))] sz) := by
  refine Met.ofW (cc := cX2_above) (maxL := 6) (ret := (some .long)) (by decide) rfl ?_
  intro p e s m args below meth c s₁ B hml hv
  obtain ⟨rfl, hsz, hP, hK, hD0⟩ := hv
  have hx := B.exec
  have hb := B.bytes
  have hr := B.returns
  have hts := atoms_spec (ws := (ws_ yX2_above cX2_above 6 (some .long))) B.pre
  have hts : ∀ w ∈ lw_all, w.before _ s = true := fun w h => hts w (List.mem_cons_of_mem _ h)
  have hown : s.vm.findClass RX2 = some m.cls := findClass_of_methodNamed B.named
  have hlocks := B.notSynchronized
  subst hsz
  have hD := hD0.self (sz := s.heap.size)
  generalize hAe : va_A [(h0, .inr (2, [.int (nI a), .int (nI b), .ref r1, .ref r2, .ref r3, .ref r4])), (r1, .inl (c1, 64, .inr (.inl (row)))), (r2, .inl (c2, 64, .inr (.inl (nx))))] s.heap.size = A at hD ⊢
  have hA : ∀ q : Nat, s.heap.size ≤ q → A q := fun q h => by rw [← hAe]; exact Or.inr h
  have hS : va_S A s.heap s.heap [] := va_S.rf
  have hP : va_P (dC, dI) vwCl [(h0, .inr (2, [.int (nI a), .int (nI b), .ref r1, .ref r2, .ref r3, .ref r4])), (r1, .inl (c1, 64, .inr (.inl (row)))), (r2, .inl (c2, 64, .inr (.inl (nx))))] s.heap := hP
  have hl := lv_entry ([.ref h0, .int (p0)]) (n := 6) (Nat.le_of_ble_eq_true rfl)
  rw [lg_entry_eq]
  generalize (lg_sl ([.ref h0, .int (p0)]) ++ List.replicate (6 - (lg_sl ([.ref h0, .int (p0)])).length) Slot.unset).toArray = ls at hl ⊢
  have hl : lv_has ls 6 [(0, .ref h0), (1, .int (p0))] := hl
  have hexit : ∀ (row nx : Nat → Int64), (∀ j : Nat, j < 64 → row j = lN (sp_R a b (-(mm : Int) - 1) (100) (a + b) j)) → ∀ (H : Heap) (locs : List Loc), va_P (dC, dI) vwCl [(h0, .inr (2, [.int (nI a), .int (nI b), .ref r1, .ref r2, .ref r3, .ref r4])), (r1, .inl (c1, 64, .inr (.inl (row)))), (r2, .inl (c2, 64, .inr (.inl (nx))))] H → va_D A [(h0, .inr (2, [.int (nI a), .int (nI b), .ref r1, .ref r2, .ref r3, .ref r4])), (r1, .inl (c1, 64, .inr (.inl (row)))), (r2, .inl (c2, 64, .inr (.inl (nx))))] → va_S A s.heap H locs → ∀ (ls : Array Slot), lv_has ls 6 [(0, .ref h0), (2, .int (nI mm))] → W p l e (headSpec (ws_ yX2_above cX2_above 6 (some .long)) ({ frames := 0, cells := 0, slots := 0, locals := 0 })).room s m ([.ref h0, .int (p0)] : List Value).toArray below meth c H locs 0 0 (MQ below (va_Ql (fun (r : Int64) (_ : (Nat → Int64) × (Nat → Int64)) => r = lN (sp_R a b (-(mm : Int) - 1) (100) (a + b) a)) (sp_BX2_row dC dI A h0 r1 r2 r3 r4 c1 c2 a b) A) ([.ref h0, .int (p0)] : List Value).toArray s 0 0 A) (F0 m 229 ls []) := by
    intro row nx hrow H locs hP hD hS ls hl
    refine lv_aload_n hx hb dX2_above_229 rfl (lv_at hl 0 rfl) ?_
    refine va_get (D := (dC, dI)) (ci := 2) (v := .ref r1) (C := RX2) (T := TX2) (N := 6) hx hb hts in_X2 hown hK hP 0 rfl rfl 2 (by decide) (hts _ q71) (fun _ h9 => h9) rfl dX2_above_230 ?_
    refine lv_aload_n hx hb dX2_above_233 rfl (lv_at hl 0 rfl) ?_
    refine va_get (D := (dC, dI)) (ci := 2) (v := .int (nI a)) (C := RX2) (T := TX2) (N := 6) hx hb hts in_X2 hown hK hP 0 rfl rfl 0 (by decide) (hts _ q69) (fun _ h9 => h9) rfl dX2_above_234 ?_
    refine sp_lald (i := a) (y := (lN (sp_R a b (-(mm : Int) - 1) (100) (a + b) a))) hx hb hK hP 1 0 rfl rfl (by omega) (by decide) (hrow a (by omega)) dX2_above_237 ?_
    exact W.lret (v := (lN (sp_R a b (-(mm : Int) - 1) (100) (a + b) a))) hx hb hr (fun t ht hW => ⟨⟨(lN (sp_R a b (-(mm : Int) - 1) (100) (a + b) a)), (row, nx), rfl, rfl, by rw [ht]; exact hP, va_K.moved hW.alike hK, hD⟩, hS.F ht⟩) hS.2.2 dX2_above_238
  have hout : ∀ (n t : Nat) (row nx : Nat → Int64), t ≤ a + b → a + b < t + n → (∀ j : Nat, j < 64 → row j = lN (sp_R a b (-(mm : Int) - 1) (100) (t) j)) → ∀ (H : Heap) (locs : List Loc), va_P (dC, dI) vwCl [(h0, .inr (2, [.int (nI a), .int (nI b), .ref r1, .ref r2, .ref r3, .ref r4])), (r1, .inl (c1, 64, .inr (.inl (row)))), (r2, .inl (c2, 64, .inr (.inl (nx))))] H → va_D A [(h0, .inr (2, [.int (nI a), .int (nI b), .ref r1, .ref r2, .ref r3, .ref r4])), (r1, .inl (c1, 64, .inr (.inl (row)))), (r2, .inl (c2, 64, .inr (.inl (nx))))] → va_S A s.heap H locs → ∀ (ls : Array Slot), lv_has ls 6 [(0, .ref h0), (2, .int (nI mm)), (3, .int (nI t))] → W p l e (headSpec (ws_ yX2_above cX2_above 6 (some .long)) ({ frames := 0, cells := 0, slots := 0, locals := 0 })).room s m ([.ref h0, .int (p0)] : List Value).toArray below meth c H locs 0 0 (MQ below (va_Ql (fun (r : Int64) (_ : (Nat → Int64) × (Nat → Int64)) => r = lN (sp_R a b (-(mm : Int) - 1) (100) (a + b) a)) (sp_BX2_row dC dI A h0 r1 r2 r3 r4 c1 c2 a b) A) ([.ref h0, .int (p0)] : List Value).toArray s 0 0 A) (F0 m 36 ls []) := by
    intro n
    induction n with
    | zero => intro t row nx h1 h2; exact absurd h2 (by omega)
    | succ n ih =>
      intro t row nx ht hn hrow H locs hP hD hS ls hl
      refine lv_iload_n hx hb dX2_above_36 rfl (lv_at hl 2 rfl) ?_
      refine lv_aload_n hx hb dX2_above_37 rfl (lv_at hl 0 rfl) ?_
      refine va_get (D := (dC, dI)) (ci := 2) (v := .int (nI a)) (C := RX2) (T := TX2) (N := 6) hx hb hts in_X2 hown hK hP 0 rfl rfl 0 (by decide) (hts _ q69) (fun _ h9 => h9) rfl dX2_above_38 ?_
      refine lv_aload_n hx hb dX2_above_41 rfl (lv_at hl 0 rfl) ?_
      refine va_get (D := (dC, dI)) (ci := 2) (v := .int (nI b)) (C := RX2) (T := TX2) (N := 6) hx hb hts in_X2 hown hK hP 0 rfl rfl 1 (by decide) (hts _ q70) (fun _ h9 => h9) rfl dX2_above_42 ?_
      refine lv_iadd hx hb dX2_above_45 ?_
      refine sp_topi (y := (nI (a + b))) (nI_add _ _) ?_
      refine lv_icmp_ge (tgt := 229) hx hb dX2_above_46 (by decide) (fun hct => ?_) (fun hct => ?_)
      · have hct : a + b ≤ t := (nI_leI (by omega) (by omega)).mp hct
        have et : t = a + b := by omega
        rw [et] at hrow
        exact hexit row nx hrow H locs hP hD hS _ (lv_sub hl [0, 1] rfl)
      · have hct : ¬ a + b ≤ t := fun h9 => hct ((nI_leI (by omega) (by omega)).mpr h9)
        have hcopy : ∀ (k v : Nat) (row nx : Nat → Int64), v ≤ 64 → 64 < v + k → (∀ j : Nat, j < 64 → nx j = lN (sp_R a b (-(mm : Int) - 1) (100) (t + 1) j)) → (∀ j : Nat, j < v → row j = nx j) → ∀ (H : Heap) (locs : List Loc), va_P (dC, dI) vwCl [(h0, .inr (2, [.int (nI a), .int (nI b), .ref r1, .ref r2, .ref r3, .ref r4])), (r1, .inl (c1, 64, .inr (.inl (row)))), (r2, .inl (c2, 64, .inr (.inl (nx))))] H → va_D A [(h0, .inr (2, [.int (nI a), .int (nI b), .ref r1, .ref r2, .ref r3, .ref r4])), (r1, .inl (c1, 64, .inr (.inl (row)))), (r2, .inl (c2, 64, .inr (.inl (nx))))] → va_S A s.heap H locs → ∀ (ls : Array Slot), lv_has ls 6 [(0, .ref h0), (2, .int (nI mm)), (3, .int (nI t)), (4, .int (nI v))] → W p l e (headSpec (ws_ yX2_above cX2_above 6 (some .long)) ({ frames := 0, cells := 0, slots := 0, locals := 0 })).room s m ([.ref h0, .int (p0)] : List Value).toArray below meth c H locs 0 0 (MQ below (va_Ql (fun (r : Int64) (_ : (Nat → Int64) × (Nat → Int64)) => r = lN (sp_R a b (-(mm : Int) - 1) (100) (a + b) a)) (sp_BX2_row dC dI A h0 r1 r2 r3 r4 c1 c2 a b) A) ([.ref h0, .int (p0)] : List Value).toArray s 0 0 A) (F0 m 196 ls []) := by
          intro k
          induction k with
          | zero => intro v row nx h1 h2; exact absurd h2 (by omega)
          | succ k kh =>
            intro v row nx hv hk hnx hrw H locs hP hD hS ls hl
            refine lv_iload hx hb dX2_above_196 (lv_at hl 3 rfl) ?_
            refine lv_bipush (v := (nI 64)) hx hb dX2_above_198 (by decide) ?_
            refine lv_icmp_ge (tgt := 223) hx hb dX2_above_200 (by decide) (fun hc => ?_) (fun hc => ?_)
            · have hc : 64 ≤ v := (nI_leI (by omega) (by omega)).mp hc
              have ev : v = 64 := by omega
              rw [ev] at hrw
              refine lv_iinc (v := (nI (t + 1))) (lv' := [(3, .int (nI (t + 1))), (0, .ref h0), (2, .int (nI mm)), (4, .int (nI v))]) hx hb dX2_above_223 hl (k := 2) rfl (nI_add _ _) (by decide) rfl (fun ls hl => ?_)
              refine lv_goto (tgt := 36) hx hb dX2_above_226 (by decide) ?_
              exact ih (t + 1) row nx (by omega) (by omega) (fun j hj => (hrw j hj).trans (hnx j hj)) H locs hP hD hS _ (lv_sub hl [1, 2, 0] rfl)
            · have hc : ¬ 64 ≤ v := fun h9 => hc ((nI_leI (by omega) (by omega)).mpr h9)
              refine lv_aload_n hx hb dX2_above_203 rfl (lv_at hl 0 rfl) ?_
              refine va_get (D := (dC, dI)) (ci := 2) (v := .ref r1) (C := RX2) (T := TX2) (N := 6) hx hb hts in_X2 hown hK hP 0 rfl rfl 2 (by decide) (hts _ q71) (fun _ h9 => h9) rfl dX2_above_204 ?_
              refine lv_iload hx hb dX2_above_207 (lv_at hl 3 rfl) ?_
              refine lv_aload_n hx hb dX2_above_209 rfl (lv_at hl 0 rfl) ?_
              refine va_get (D := (dC, dI)) (ci := 2) (v := .ref r2) (C := RX2) (T := TX2) (N := 6) hx hb hts in_X2 hown hK hP 0 rfl rfl 3 (by decide) (hts _ q72) (fun _ h9 => h9) rfl dX2_above_210 ?_
              refine lv_iload hx hb dX2_above_213 (lv_at hl 3 rfl) ?_
              refine sp_lald (i := v) (y := (nx (v))) hx hb hK hP 2 1 rfl rfl (by omega) (by decide) rfl dX2_above_215 ?_
              refine sp_last (i := v) (ws' := [(h0, .inr (2, [.int (nI a), .int (nI b), .ref r1, .ref r2, .ref r3, .ref r4])), (r1, .inl (c1, 64, .inr (.inl (vp_updL row (v) ((nx (v))))))), (r2, .inl (c2, 64, .inr (.inl (nx))))]) hx hb hK hP hD hS 1 0 rfl rfl (by omega) (by decide) rfl dX2_above_216 (fun H locs hP hD hS => ?_)
              refine lv_iinc (v := (nI (v + 1))) (lv' := [(4, .int (nI (v + 1))), (0, .ref h0), (2, .int (nI mm)), (3, .int (nI t))]) hx hb dX2_above_217 hl (k := 3) rfl (nI_add _ _) (by decide) rfl (fun ls hl => ?_)
              refine lv_goto (tgt := 196) hx hb dX2_above_220 (by decide) ?_
              exact kh (v + 1) (vp_updL row (v) (nx (v))) nx (by omega) (by omega) hnx (sp_fill (f := nx) hrw rfl) H locs hP hD hS _ (lv_sub hl [1, 2, 3, 0] rfl)
        have hu : ∀ (k v : Nat) (nx : Nat → Int64), v ≤ min a t + 1 → min a t + 1 < v + k → (∀ j : Nat, j < 64 → nx j = lN (sp_N (sp_ru a (100) t (sp_R a b (-(mm : Int) - 1) (100) (t))) (sp_rd b (-(mm : Int) - 1) t (sp_R a b (-(mm : Int) - 1) (100) (t))) (v) j)) → ∀ (H : Heap) (locs : List Loc), va_P (dC, dI) vwCl [(h0, .inr (2, [.int (nI a), .int (nI b), .ref r1, .ref r2, .ref r3, .ref r4])), (r1, .inl (c1, 64, .inr (.inl (row)))), (r2, .inl (c2, 64, .inr (.inl (nx))))] H → va_D A [(h0, .inr (2, [.int (nI a), .int (nI b), .ref r1, .ref r2, .ref r3, .ref r4])), (r1, .inl (c1, 64, .inr (.inl (row)))), (r2, .inl (c2, 64, .inr (.inl (nx))))] → va_S A s.heap H locs → ∀ (ls : Array Slot), lv_has ls 6 [(0, .ref h0), (2, .int (nI mm)), (3, .int (nI t)), (4, .int (nI v))] → W p l e (headSpec (ws_ yX2_above cX2_above 6 (some .long)) ({ frames := 0, cells := 0, slots := 0, locals := 0 })).room s m ([.ref h0, .int (p0)] : List Value).toArray below meth c H locs 0 0 (MQ below (va_Ql (fun (r : Int64) (_ : (Nat → Int64) × (Nat → Int64)) => r = lN (sp_R a b (-(mm : Int) - 1) (100) (a + b) a)) (sp_BX2_row dC dI A h0 r1 r2 r3 r4 c1 c2 a b) A) ([.ref h0, .int (p0)] : List Value).toArray s 0 0 A) (F0 m 76 ls []) := by
          intro k
          induction k with
          | zero => intro v nx h1 h2; exact absurd h2 (by omega)
          | succ k kh =>
            intro v nx hv hk hnx H locs hP hD hS ls hl
            refine lv_iload hx hb dX2_above_76 (lv_at hl 3 rfl) ?_
            refine lv_aload_n hx hb dX2_above_78 rfl (lv_at hl 0 rfl) ?_
            refine va_get (D := (dC, dI)) (ci := 2) (v := .int (nI a)) (C := RX2) (T := TX2) (N := 6) hx hb hts in_X2 hown hK hP 0 rfl rfl 0 (by decide) (hts _ q69) (fun _ h9 => h9) rfl dX2_above_79 ?_
            refine lv_icmp_gt (tgt := 193) hx hb dX2_above_82 (by decide) (fun hc => ?_) (fun hc => ?_)
            · have hc : a < v := (nI_ltI (by omega) (by omega)).mp hc
              have ev : v = min a t + 1 := by omega
              rw [ev] at hnx
              refine lv_iconst (v := (nI 0)) hx hb dX2_above_193 (by decide) ?_
              refine lv_istore (lv' := [(4, .int (nI 0)), (0, .ref h0), (2, .int (nI mm)), (3, .int (nI t))]) hx hb dX2_above_194 hl (by decide) rfl (fun ls hl => ?_)
              exact hcopy 65 0 row nx (by omega) (by omega) hnx (fun j hj => by omega) H locs hP hD hS _ (lv_sub hl [1, 2, 3, 0] rfl)
            · have hc : ¬ a < v := fun h9 => hc ((nI_ltI (by omega) (by omega)).mpr h9)
              refine lv_iload hx hb dX2_above_85 (lv_at hl 3 rfl) ?_
              refine lv_iload_n hx hb dX2_above_87 rfl (lv_at hl 2 rfl) ?_
              refine lv_icmp_gt (tgt := 193) hx hb dX2_above_88 (by decide) (fun hc1 => ?_) (fun hc1 => ?_)
              · have hc1 : t < v := (nI_ltI (by omega) (by omega)).mp hc1
                have ev : v = min a t + 1 := by omega
                rw [ev] at hnx
                refine lv_iconst (v := (nI 0)) hx hb dX2_above_193 (by decide) ?_
                refine lv_istore (lv' := [(4, .int (nI 0)), (0, .ref h0), (2, .int (nI mm)), (3, .int (nI t))]) hx hb dX2_above_194 hl (by decide) rfl (fun ls hl => ?_)
                exact hcopy 65 0 row nx (by omega) (by omega) hnx (fun j hj => by omega) H locs hP hD hS _ (lv_sub hl [1, 2, 3, 0] rfl)
              · have hc1 : ¬ t < v := fun h9 => hc1 ((nI_ltI (by omega) (by omega)).mpr h9)
                have hrv := hrow v (by omega)
                have htail : ∀ (nx : Nat → Int64), (∀ j : Nat, j < 64 → nx j = lN (sp_N (sp_ru a (100) t (sp_R a b (-(mm : Int) - 1) (100) (t))) (sp_rd b (-(mm : Int) - 1) t (sp_R a b (-(mm : Int) - 1) (100) (t))) (v + 1) j)) → ∀ (H : Heap) (locs : List Loc), va_P (dC, dI) vwCl [(h0, .inr (2, [.int (nI a), .int (nI b), .ref r1, .ref r2, .ref r3, .ref r4])), (r1, .inl (c1, 64, .inr (.inl (row)))), (r2, .inl (c2, 64, .inr (.inl (nx))))] H → va_D A [(h0, .inr (2, [.int (nI a), .int (nI b), .ref r1, .ref r2, .ref r3, .ref r4])), (r1, .inl (c1, 64, .inr (.inl (row)))), (r2, .inl (c2, 64, .inr (.inl (nx))))] → va_S A s.heap H locs → ∀ (ls : Array Slot), lv_has ls 6 [(0, .ref h0), (2, .int (nI mm)), (3, .int (nI t)), (4, .int (nI v))] → W p l e (headSpec (ws_ yX2_above cX2_above 6 (some .long)) ({ frames := 0, cells := 0, slots := 0, locals := 0 })).room s m ([.ref h0, .int (p0)] : List Value).toArray below meth c H locs 0 0 (MQ below (va_Ql (fun (r : Int64) (_ : (Nat → Int64) × (Nat → Int64)) => r = lN (sp_R a b (-(mm : Int) - 1) (100) (a + b) a)) (sp_BX2_row dC dI A h0 r1 r2 r3 r4 c1 c2 a b) A) ([.ref h0, .int (p0)] : List Value).toArray s 0 0 A) (F0 m 187 ls []) := by
                  intro nx hnx H locs hP hD hS ls hl
                  refine lv_iinc (v := (nI (v + 1))) (lv' := [(4, .int (nI (v + 1))), (0, .ref h0), (2, .int (nI mm)), (3, .int (nI t))]) hx hb dX2_above_187 hl (k := 3) rfl (nI_add _ _) (by decide) rfl (fun ls hl => ?_)
                  refine lv_goto (tgt := 76) hx hb dX2_above_190 (by decide) ?_
                  exact kh (v + 1) nx (by omega) (by omega) hnx H locs hP hD hS _ (lv_sub hl [1, 2, 3, 0] rfl)
                have hsec : ∀ (nx : Nat → Int64), (∀ j : Nat, j < 64 → nx j = lN (sp_M (sp_ru a (100) t (sp_R a b (-(mm : Int) - 1) (100) (t))) (sp_rd b (-(mm : Int) - 1) t (sp_R a b (-(mm : Int) - 1) (100) (t))) v j)) → ∀ (H : Heap) (locs : List Loc), va_P (dC, dI) vwCl [(h0, .inr (2, [.int (nI a), .int (nI b), .ref r1, .ref r2, .ref r3, .ref r4])), (r1, .inl (c1, 64, .inr (.inl (row)))), (r2, .inl (c2, 64, .inr (.inl (nx))))] H → va_D A [(h0, .inr (2, [.int (nI a), .int (nI b), .ref r1, .ref r2, .ref r3, .ref r4])), (r1, .inl (c1, 64, .inr (.inl (row)))), (r2, .inl (c2, 64, .inr (.inl (nx))))] → va_S A s.heap H locs → ∀ (ls : Array Slot), lv_has ls 6 [(0, .ref h0), (2, .int (nI mm)), (3, .int (nI t)), (4, .int (nI v)), (5, .int (nI (t - v)))] → W p l e (headSpec (ws_ yX2_above cX2_above 6 (some .long)) ({ frames := 0, cells := 0, slots := 0, locals := 0 })).room s m ([.ref h0, .int (p0)] : List Value).toArray below meth c H locs 0 0 (MQ below (va_Ql (fun (r : Int64) (_ : (Nat → Int64) × (Nat → Int64)) => r = lN (sp_R a b (-(mm : Int) - 1) (100) (a + b) a)) (sp_BX2_row dC dI A h0 r1 r2 r3 r4 c1 c2 a b) A) ([.ref h0, .int (p0)] : List Value).toArray s 0 0 A) (F0 m 144 ls []) := by
                  intro nx hnx H locs hP hD hS ls hl
                  refine lv_iload hx hb dX2_above_144 (lv_at hl 4 rfl) ?_
                  refine lv_aload_n hx hb dX2_above_146 rfl (lv_at hl 0 rfl) ?_
                  refine va_get (D := (dC, dI)) (ci := 2) (v := .int (nI b)) (C := RX2) (T := TX2) (N := 6) hx hb hts in_X2 hown hK hP 0 rfl rfl 1 (by decide) (hts _ q70) (fun _ h9 => h9) rfl dX2_above_147 ?_
                  refine lv_icmp_ge (tgt := 187) hx hb dX2_above_150 (by decide) (fun hc4 => ?_) (fun hc4 => ?_)
                  · have hc4 : b ≤ t - v := (nI_leI (by omega) (by omega)).mp hc4
                    exact htail nx (sp_keep (k := v) (r := (sp_rd b (-(mm : Int) - 1) t (sp_R a b (-(mm : Int) - 1) (100) (t))) v) hnx (sp_N_s _ _ v) (if_neg (by omega))) H locs hP hD hS _ (lv_sub hl [0, 1, 2, 3] rfl)
                  · have hc4 : ¬ b ≤ t - v := fun h9 => hc4 ((nI_leI (by omega) (by omega)).mpr h9)
                    refine lv_iload hx hb dX2_above_153 (lv_at hl 3 rfl) ?_
                    refine lv_iload hx hb dX2_above_155 (lv_at hl 4 rfl) ?_
                    refine lv_isub hx hb dX2_above_157 ?_
                    refine sp_topi (y := (sp_i ((v : Int) - ((t - v : Nat) : Int)))) (by simp only [sp_ni, sp_iadd, sp_isub, sp_imul, sp_ineg] <;> exact congrArg sp_i (by omega)) ?_
                    refine lv_iconst (v := (nI 1)) hx hb dX2_above_158 (by decide) ?_
                    refine lv_isub hx hb dX2_above_159 ?_
                    refine sp_topi (y := (sp_i ((v : Int) - ((t - v : Nat) : Int) - 1))) (by simp only [sp_ni, sp_iadd, sp_isub, sp_imul, sp_ineg] <;> exact congrArg sp_i (by omega)) ?_
                    refine lv_iload_n hx hb dX2_above_160 rfl (lv_at hl 1 rfl) ?_
                    refine lv_ineg hx hb dX2_above_161 ?_
                    refine sp_topi (y := (sp_i (-(mm : Int)))) (by simp only [sp_ni, sp_iadd, sp_isub, sp_imul, sp_ineg] <;> exact congrArg sp_i (by omega)) ?_
                    refine lv_icmp_lt (tgt := 187) hx hb dX2_above_162 (by decide) (fun hc5 => ?_) (fun hc5 => ?_)
                    · have hc5 : (v : Int) - ((t - v : Nat) : Int) - 1 < -(mm : Int) := (sp_ilt (by omega) (by omega) (by omega) (by omega)).mp hc5
                      exact htail nx (sp_keep (k := v) (r := (sp_rd b (-(mm : Int) - 1) t (sp_R a b (-(mm : Int) - 1) (100) (t))) v) hnx (sp_N_s _ _ v) (if_neg (by omega))) H locs hP hD hS _ (lv_sub hl [0, 1, 2, 3] rfl)
                    · have hc5 : ¬ (v : Int) - ((t - v : Nat) : Int) - 1 < -(mm : Int) := fun h9 => hc5 ((sp_ilt (by omega) (by omega) (by omega) (by omega)).mpr h9)
                      refine lv_aload_n hx hb dX2_above_165 rfl (lv_at hl 0 rfl) ?_
                      refine va_get (D := (dC, dI)) (ci := 2) (v := .ref r2) (C := RX2) (T := TX2) (N := 6) hx hb hts in_X2 hown hK hP 0 rfl rfl 3 (by decide) (hts _ q72) (fun _ h9 => h9) rfl dX2_above_166 ?_
                      refine lv_iload hx hb dX2_above_169 (lv_at hl 3 rfl) ?_
                      refine lv_aload_n hx hb dX2_above_171 rfl (lv_at hl 0 rfl) ?_
                      refine va_get (D := (dC, dI)) (ci := 2) (v := .ref r2) (C := RX2) (T := TX2) (N := 6) hx hb hts in_X2 hown hK hP 0 rfl rfl 3 (by decide) (hts _ q72) (fun _ h9 => h9) rfl dX2_above_172 ?_
                      refine lv_iload hx hb dX2_above_175 (lv_at hl 3 rfl) ?_
                      refine sp_lald (i := v) (y := (lN (sp_M (sp_ru a (100) t (sp_R a b (-(mm : Int) - 1) (100) (t))) (sp_rd b (-(mm : Int) - 1) t (sp_R a b (-(mm : Int) - 1) (100) (t))) v v))) hx hb hK hP 2 1 rfl rfl (by omega) (by decide) (hnx v (by omega)) dX2_above_177 ?_
                      refine lv_aload_n hx hb dX2_above_178 rfl (lv_at hl 0 rfl) ?_
                      refine va_get (D := (dC, dI)) (ci := 2) (v := .ref r1) (C := RX2) (T := TX2) (N := 6) hx hb hts in_X2 hown hK hP 0 rfl rfl 2 (by decide) (hts _ q71) (fun _ h9 => h9) rfl dX2_above_179 ?_
                      refine lv_iload hx hb dX2_above_182 (lv_at hl 3 rfl) ?_
                      refine sp_lald (i := v) (y := (lN (sp_R a b (-(mm : Int) - 1) (100) (t) v))) hx hb hK hP 1 0 rfl rfl (by omega) (by decide) hrv dX2_above_184 ?_
                      refine lv_ladd hx hb dX2_above_185 ?_
                      refine sp_topl (y := (lN (sp_M (sp_ru a (100) t (sp_R a b (-(mm : Int) - 1) (100) (t))) (sp_rd b (-(mm : Int) - 1) t (sp_R a b (-(mm : Int) - 1) (100) (t))) v v + sp_R a b (-(mm : Int) - 1) (100) (t) v))) (lN_add _ _) ?_
                      refine sp_last (i := v) (ws' := [(h0, .inr (2, [.int (nI a), .int (nI b), .ref r1, .ref r2, .ref r3, .ref r4])), (r1, .inl (c1, 64, .inr (.inl (row)))), (r2, .inl (c2, 64, .inr (.inl (vp_updL nx (v) ((lN (sp_M (sp_ru a (100) t (sp_R a b (-(mm : Int) - 1) (100) (t))) (sp_rd b (-(mm : Int) - 1) t (sp_R a b (-(mm : Int) - 1) (100) (t))) v v + sp_R a b (-(mm : Int) - 1) (100) (t) v)))))))]) hx hb hK hP hD hS 2 1 rfl rfl (by omega) (by decide) rfl dX2_above_186 (fun H locs hP hD hS => ?_)
                      exact htail (vp_updL nx (v) ((lN (sp_M (sp_ru a (100) t (sp_R a b (-(mm : Int) - 1) (100) (t))) (sp_rd b (-(mm : Int) - 1) t (sp_R a b (-(mm : Int) - 1) (100) (t))) v v + sp_R a b (-(mm : Int) - 1) (100) (t) v)))) (sp_bumpE (k := v) (r := (sp_rd b (-(mm : Int) - 1) t (sp_R a b (-(mm : Int) - 1) (100) (t))) v) hnx (sp_N_s _ _ v) (if_pos ⟨by omega, by omega⟩)) H locs hP hD hS _ (lv_sub hl [0, 1, 2, 3] rfl)
                refine lv_aload_n hx hb dX2_above_91 rfl (lv_at hl 0 rfl) ?_
                refine va_get (D := (dC, dI)) (ci := 2) (v := .ref r1) (C := RX2) (T := TX2) (N := 6) hx hb hts in_X2 hown hK hP 0 rfl rfl 2 (by decide) (hts _ q71) (fun _ h9 => h9) rfl dX2_above_92 ?_
                refine lv_iload hx hb dX2_above_95 (lv_at hl 3 rfl) ?_
                refine sp_lald (i := v) (y := (lN (sp_R a b (-(mm : Int) - 1) (100) (t) v))) hx hb hK hP 1 0 rfl rfl (by omega) (by decide) hrv dX2_above_97 ?_
                refine lv_lconst (v := (lN (0))) hx hb dX2_above_98 (by first | rfl | decide) ?_
                refine W.lcmp hx hb dX2_above_99 ?_
                refine lv_if_le (tgt := 187) hx hb dX2_above_100 (by decide) (fun hc0 => ?_) (fun hc0 => ?_)
                · have hc0 : sp_R a b (-(mm : Int) - 1) (100) (t) v = 0 := (sp_cmp0 (sp_R_lt (by omega) v)).mp hc0
                  have hz1 : sp_M (sp_ru a (100) t (sp_R a b (-(mm : Int) - 1) (100) (t))) (sp_rd b (-(mm : Int) - 1) t (sp_R a b (-(mm : Int) - 1) (100) (t))) v = sp_N (sp_ru a (100) t (sp_R a b (-(mm : Int) - 1) (100) (t))) (sp_rd b (-(mm : Int) - 1) t (sp_R a b (-(mm : Int) - 1) (100) (t))) (v) := funext (fun j => by rw [sp_M_e, show (sp_ru a (100) t (sp_R a b (-(mm : Int) - 1) (100) (t))) v = 0 from Nat.le_zero.mp (hc0 ▸ sp_ru_le _ _ _ _ _)]; split <;> omega)
                  exact htail nx (sp_keep (k := v) (r := (sp_rd b (-(mm : Int) - 1) t (sp_R a b (-(mm : Int) - 1) (100) (t))) v) (hz1 ▸ hnx) (sp_N_s _ _ v) (Nat.le_zero.mp (hc0 ▸ sp_rd_le _ _ _ _ _))) H locs hP hD hS _ (lv_sub hl [0, 1, 2, 3] rfl)
                · have hc0 : ¬ sp_R a b (-(mm : Int) - 1) (100) (t) v = 0 := fun h9 => hc0 ((sp_cmp0 (sp_R_lt (by omega) v)).mpr h9)
                  refine lv_iload_n hx hb dX2_above_103 rfl (lv_at hl 2 rfl) ?_
                  refine lv_iload hx hb dX2_above_104 (lv_at hl 3 rfl) ?_
                  refine lv_isub hx hb dX2_above_106 ?_
                  refine sp_topi (y := (nI (t - v))) (pk_sub (by omega)) ?_
                  refine lv_istore (lv' := [(5, .int (nI (t - v))), (0, .ref h0), (2, .int (nI mm)), (3, .int (nI t)), (4, .int (nI v))]) hx hb dX2_above_107 hl (by decide) rfl (fun ls hl => ?_)
                  refine lv_iload hx hb dX2_above_109 (lv_at hl 4 rfl) ?_
                  refine lv_aload_n hx hb dX2_above_111 rfl (lv_at hl 1 rfl) ?_
                  refine va_get (D := (dC, dI)) (ci := 2) (v := .int (nI a)) (C := RX2) (T := TX2) (N := 6) hx hb hts in_X2 hown hK hP 0 rfl rfl 0 (by decide) (hts _ q69) (fun _ h9 => h9) rfl dX2_above_112 ?_
                  refine lv_icmp_ge (tgt := 144) hx hb dX2_above_115 (by decide) (fun hc2 => ?_) (fun hc2 => ?_)
                  · have hc2 : a ≤ v := (nI_leI (by omega) (by omega)).mp hc2
                    exact hsec nx (sp_keep (k := v + 1) (r := (sp_ru a (100) t (sp_R a b (-(mm : Int) - 1) (100) (t))) v) hnx (sp_M_e _ _ v) (if_neg (by omega))) H locs hP hD hS _ (lv_sub hl [1, 2, 3, 4, 0] rfl)
                  · have hc2 : ¬ a ≤ v := fun h9 => hc2 ((nI_leI (by omega) (by omega)).mpr h9)
                    refine lv_aload_n hx hb dX2_above_118 rfl (lv_at hl 1 rfl) ?_
                    refine va_get (D := (dC, dI)) (ci := 2) (v := .ref r2) (C := RX2) (T := TX2) (N := 6) hx hb hts in_X2 hown hK hP 0 rfl rfl 3 (by decide) (hts _ q72) (fun _ h9 => h9) rfl dX2_above_119 ?_
                    refine lv_iload hx hb dX2_above_122 (lv_at hl 4 rfl) ?_
                    refine lv_iconst (v := (nI 1)) hx hb dX2_above_124 (by decide) ?_
                    refine lv_iadd hx hb dX2_above_125 ?_
                    refine sp_topi (y := (nI (v + 1))) (nI_add _ _) ?_
                    refine lv_aload_n hx hb dX2_above_126 rfl (lv_at hl 1 rfl) ?_
                    refine va_get (D := (dC, dI)) (ci := 2) (v := .ref r2) (C := RX2) (T := TX2) (N := 6) hx hb hts in_X2 hown hK hP 0 rfl rfl 3 (by decide) (hts _ q72) (fun _ h9 => h9) rfl dX2_above_127 ?_
                    refine lv_iload hx hb dX2_above_130 (lv_at hl 4 rfl) ?_
                    refine lv_iconst (v := (nI 1)) hx hb dX2_above_132 (by decide) ?_
                    refine lv_iadd hx hb dX2_above_133 ?_
                    refine sp_topi (y := (nI (v + 1))) (nI_add _ _) ?_
                    refine sp_lald (i := v + 1) (y := (lN (sp_N (sp_ru a (100) t (sp_R a b (-(mm : Int) - 1) (100) (t))) (sp_rd b (-(mm : Int) - 1) t (sp_R a b (-(mm : Int) - 1) (100) (t))) (v) (v + 1)))) hx hb hK hP 2 1 rfl rfl (by omega) (by decide) (hnx (v + 1) (by omega)) dX2_above_134 ?_
                    refine lv_aload_n hx hb dX2_above_135 rfl (lv_at hl 1 rfl) ?_
                    refine va_get (D := (dC, dI)) (ci := 2) (v := .ref r1) (C := RX2) (T := TX2) (N := 6) hx hb hts in_X2 hown hK hP 0 rfl rfl 2 (by decide) (hts _ q71) (fun _ h9 => h9) rfl dX2_above_136 ?_
                    refine lv_iload hx hb dX2_above_139 (lv_at hl 4 rfl) ?_
                    refine sp_lald (i := v) (y := (lN (sp_R a b (-(mm : Int) - 1) (100) (t) v))) hx hb hK hP 1 0 rfl rfl (by omega) (by decide) hrv dX2_above_141 ?_
                    refine lv_ladd hx hb dX2_above_142 ?_
                    refine sp_topl (y := (lN (sp_N (sp_ru a (100) t (sp_R a b (-(mm : Int) - 1) (100) (t))) (sp_rd b (-(mm : Int) - 1) t (sp_R a b (-(mm : Int) - 1) (100) (t))) (v) (v + 1) + sp_R a b (-(mm : Int) - 1) (100) (t) v))) (lN_add _ _) ?_
                    refine sp_last (i := v + 1) (ws' := [(h0, .inr (2, [.int (nI a), .int (nI b), .ref r1, .ref r2, .ref r3, .ref r4])), (r1, .inl (c1, 64, .inr (.inl (row)))), (r2, .inl (c2, 64, .inr (.inl (vp_updL nx (v + 1) ((lN (sp_N (sp_ru a (100) t (sp_R a b (-(mm : Int) - 1) (100) (t))) (sp_rd b (-(mm : Int) - 1) t (sp_R a b (-(mm : Int) - 1) (100) (t))) (v) (v + 1) + sp_R a b (-(mm : Int) - 1) (100) (t) v)))))))]) hx hb hK hP hD hS 2 1 rfl rfl (by omega) (by decide) rfl dX2_above_143 (fun H locs hP hD hS => ?_)
                    exact hsec (vp_updL nx (v + 1) ((lN (sp_N (sp_ru a (100) t (sp_R a b (-(mm : Int) - 1) (100) (t))) (sp_rd b (-(mm : Int) - 1) t (sp_R a b (-(mm : Int) - 1) (100) (t))) (v) (v + 1) + sp_R a b (-(mm : Int) - 1) (100) (t) v)))) (sp_bumpE (k := v + 1) (r := (sp_ru a (100) t (sp_R a b (-(mm : Int) - 1) (100) (t))) v) hnx (sp_M_e _ _ v) (if_pos ⟨by omega, by omega⟩)) H locs hP hD hS _ (lv_sub hl [1, 2, 3, 4, 0] rfl)
        have hz : ∀ (k v : Nat) (nx : Nat → Int64), v ≤ 64 → 64 < v + k → (∀ j : Nat, j < v → nx j = lN 0) → ∀ (H : Heap) (locs : List Loc), va_P (dC, dI) vwCl [(h0, .inr (2, [.int (nI a), .int (nI b), .ref r1, .ref r2, .ref r3, .ref r4])), (r1, .inl (c1, 64, .inr (.inl (row)))), (r2, .inl (c2, 64, .inr (.inl (nx))))] H → va_D A [(h0, .inr (2, [.int (nI a), .int (nI b), .ref r1, .ref r2, .ref r3, .ref r4])), (r1, .inl (c1, 64, .inr (.inl (row)))), (r2, .inl (c2, 64, .inr (.inl (nx))))] → va_S A s.heap H locs → ∀ (ls : Array Slot), lv_has ls 6 [(0, .ref h0), (2, .int (nI mm)), (3, .int (nI t)), (4, .int (nI v))] → W p l e (headSpec (ws_ yX2_above cX2_above 6 (some .long)) ({ frames := 0, cells := 0, slots := 0, locals := 0 })).room s m ([.ref h0, .int (p0)] : List Value).toArray below meth c H locs 0 0 (MQ below (va_Ql (fun (r : Int64) (_ : (Nat → Int64) × (Nat → Int64)) => r = lN (sp_R a b (-(mm : Int) - 1) (100) (a + b) a)) (sp_BX2_row dC dI A h0 r1 r2 r3 r4 c1 c2 a b) A) ([.ref h0, .int (p0)] : List Value).toArray s 0 0 A) (F0 m 52 ls []) := by
          intro k
          induction k with
          | zero => intro v nx h1 h2; exact absurd h2 (by omega)
          | succ k kh =>
            intro v nx hv hk hnx H locs hP hD hS ls hl
            refine lv_iload hx hb dX2_above_52 (lv_at hl 3 rfl) ?_
            refine lv_bipush (v := (nI 64)) hx hb dX2_above_54 (by decide) ?_
            refine lv_icmp_ge (tgt := 73) hx hb dX2_above_56 (by decide) (fun hc => ?_) (fun hc => ?_)
            · have hc : 64 ≤ v := (nI_leI (by omega) (by omega)).mp hc
              have ev : v = 64 := by omega
              rw [ev] at hnx
              refine lv_iconst (v := (nI 0)) hx hb dX2_above_73 (by decide) ?_
              refine lv_istore (lv' := [(4, .int (nI 0)), (0, .ref h0), (2, .int (nI mm)), (3, .int (nI t))]) hx hb dX2_above_74 hl (by decide) rfl (fun ls hl => ?_)
              exact hu (min a t + 2) 0 nx (by omega) (by omega) (fun j hj => by rw [sp_N_0]; exact hnx j hj) H locs hP hD hS _ (lv_sub hl [1, 2, 3, 0] rfl)
            · have hc : ¬ 64 ≤ v := fun h9 => hc ((nI_leI (by omega) (by omega)).mpr h9)
              refine lv_aload_n hx hb dX2_above_59 rfl (lv_at hl 0 rfl) ?_
              refine va_get (D := (dC, dI)) (ci := 2) (v := .ref r2) (C := RX2) (T := TX2) (N := 6) hx hb hts in_X2 hown hK hP 0 rfl rfl 3 (by decide) (hts _ q72) (fun _ h9 => h9) rfl dX2_above_60 ?_
              refine lv_iload hx hb dX2_above_63 (lv_at hl 3 rfl) ?_
              refine lv_lconst (v := (lN (0))) hx hb dX2_above_65 (by first | rfl | decide) ?_
              refine sp_last (i := v) (ws' := [(h0, .inr (2, [.int (nI a), .int (nI b), .ref r1, .ref r2, .ref r3, .ref r4])), (r1, .inl (c1, 64, .inr (.inl (row)))), (r2, .inl (c2, 64, .inr (.inl (vp_updL nx (v) ((lN (0)))))))]) hx hb hK hP hD hS 2 1 rfl rfl (by omega) (by decide) rfl dX2_above_66 (fun H locs hP hD hS => ?_)
              refine lv_iinc (v := (nI (v + 1))) (lv' := [(4, .int (nI (v + 1))), (0, .ref h0), (2, .int (nI mm)), (3, .int (nI t))]) hx hb dX2_above_67 hl (k := 3) rfl (nI_add _ _) (by decide) rfl (fun ls hl => ?_)
              refine lv_goto (tgt := 52) hx hb dX2_above_70 (by decide) ?_
              exact kh (v + 1) (vp_updL nx (v) ((lN (0)))) (by omega) (by omega) (sp_fill (f := fun _ => lN 0) hnx rfl) H locs hP hD hS _ (lv_sub hl [1, 2, 3, 0] rfl)
        refine lv_iconst (v := (nI 0)) hx hb dX2_above_49 (by decide) ?_
        refine lv_istore (lv' := [(4, .int (nI 0)), (0, .ref h0), (2, .int (nI mm)), (3, .int (nI t))]) hx hb dX2_above_50 hl (by decide) rfl (fun ls hl => ?_)
        exact hz 65 0 nx (by omega) (by omega) (fun j hj => by omega) H locs hP hD hS _ (lv_sub hl [1, 2, 3, 0] rfl)
  have hinit : ∀ (k v : Nat) (row : Nat → Int64), v ≤ 64 → 64 < v + k → (∀ j : Nat, j < v → row j = lN (if j = 0 then 1 else 0)) → ∀ (H : Heap) (locs : List Loc), va_P (dC, dI) vwCl [(h0, .inr (2, [.int (nI a), .int (nI b), .ref r1, .ref r2, .ref r3, .ref r4])), (r1, .inl (c1, 64, .inr (.inl (row)))), (r2, .inl (c2, 64, .inr (.inl (nx))))] H → va_D A [(h0, .inr (2, [.int (nI a), .int (nI b), .ref r1, .ref r2, .ref r3, .ref r4])), (r1, .inl (c1, 64, .inr (.inl (row)))), (r2, .inl (c2, 64, .inr (.inl (nx))))] → va_S A s.heap H locs → ∀ (ls : Array Slot), lv_has ls 6 [(0, .ref h0), (2, .int (nI mm)), (3, .int (nI v))] → W p l e (headSpec (ws_ yX2_above cX2_above 6 (some .long)) ({ frames := 0, cells := 0, slots := 0, locals := 0 })).room s m ([.ref h0, .int (p0)] : List Value).toArray below meth c H locs 0 0 (MQ below (va_Ql (fun (r : Int64) (_ : (Nat → Int64) × (Nat → Int64)) => r = lN (sp_R a b (-(mm : Int) - 1) (100) (a + b) a)) (sp_BX2_row dC dI A h0 r1 r2 r3 r4 c1 c2 a b) A) ([.ref h0, .int (p0)] : List Value).toArray s 0 0 A) (F0 m 7 ls []) := by
    intro k
    induction k with
    | zero => intro v row h1 h2; exact absurd h2 (by omega)
    | succ k kh =>
      intro v row hv hk hrow H locs hP hD hS ls hl
      refine lv_iload_n hx hb dX2_above_7 rfl (lv_at hl 2 rfl) ?_
      refine lv_bipush (v := (nI 64)) hx hb dX2_above_8 (by decide) ?_
      refine lv_icmp_ge (tgt := 34) hx hb dX2_above_10 (by decide) (fun hc => ?_) (fun hc => ?_)
      · have hc : 64 ≤ v := (nI_leI (by omega) (by omega)).mp hc
        have ev : v = 64 := by omega
        rw [ev] at hrow
        refine lv_iconst (v := (nI 0)) hx hb dX2_above_34 (by decide) ?_
        refine lv_istore_n (lv' := [(3, .int (nI 0)), (0, .ref h0), (2, .int (nI mm))]) hx hb dX2_above_35 rfl hl (by decide) rfl (fun ls hl => ?_)
        exact hout (a + b + 1) 0 row nx (by omega) (by omega) hrow H locs hP hD hS _ (lv_sub hl [1, 2, 0] rfl)
      · have hc : ¬ 64 ≤ v := fun h9 => hc ((nI_leI (by omega) (by omega)).mpr h9)
        refine lv_aload_n hx hb dX2_above_13 rfl (lv_at hl 0 rfl) ?_
        refine va_get (D := (dC, dI)) (ci := 2) (v := .ref r1) (C := RX2) (T := TX2) (N := 6) hx hb hts in_X2 hown hK hP 0 rfl rfl 2 (by decide) (hts _ q71) (fun _ h9 => h9) rfl dX2_above_14 ?_
        refine lv_iload_n hx hb dX2_above_17 rfl (lv_at hl 2 rfl) ?_
        refine lv_iload_n hx hb dX2_above_18 rfl (lv_at hl 2 rfl) ?_
        refine lv_if_ne (tgt := 26) hx hb dX2_above_19 (by decide) (fun hc1 => ?_) (fun hc1 => ?_)
        · rw [← nI_0] at hc1
          have hc1 : ¬ v = 0 := fun h9 => hc1 ((nI_eq (by omega) (by omega)).mpr h9)
          refine lv_lconst (v := (lN (0))) hx hb dX2_above_26 (by first | rfl | decide) ?_
          refine sp_last (i := v) (ws' := [(h0, .inr (2, [.int (nI a), .int (nI b), .ref r1, .ref r2, .ref r3, .ref r4])), (r1, .inl (c1, 64, .inr (.inl (vp_updL row (v) ((lN (0))))))), (r2, .inl (c2, 64, .inr (.inl (nx))))]) hx hb hK hP hD hS 1 0 rfl rfl (by omega) (by decide) rfl dX2_above_27 (fun H locs hP hD hS => ?_)
          refine lv_iinc (v := (nI (v + 1))) (lv' := [(3, .int (nI (v + 1))), (0, .ref h0), (2, .int (nI mm))]) hx hb dX2_above_28 hl (k := 2) rfl (nI_add _ _) (by decide) rfl (fun ls hl => ?_)
          refine lv_goto (tgt := 7) hx hb dX2_above_31 (by decide) ?_
          exact kh (v + 1) (vp_updL row (v) ((lN (0)))) (by omega) (by omega) (sp_fill (f := fun j => lN (if j = 0 then 1 else 0)) hrow (by show lN 0 = lN (if v = 0 then 1 else 0); rw [if_neg (by omega)])) H locs hP hD hS _ (lv_sub hl [1, 2, 0] rfl)
        · rw [← nI_0] at hc1
          have hc1 : v = 0 := (nI_eq (by omega) (by omega)).mp hc1
          refine lv_lconst (v := (lN (1))) hx hb dX2_above_22 (by first | rfl | decide) ?_
          refine lv_goto (tgt := 27) hx hb dX2_above_23 (by decide) ?_
          refine sp_last (i := v) (ws' := [(h0, .inr (2, [.int (nI a), .int (nI b), .ref r1, .ref r2, .ref r3, .ref r4])), (r1, .inl (c1, 64, .inr (.inl (vp_updL row (v) ((lN (1))))))), (r2, .inl (c2, 64, .inr (.inl (nx))))]) hx hb hK hP hD hS 1 0 rfl rfl (by omega) (by decide) rfl dX2_above_27 (fun H locs hP hD hS => ?_)
          refine lv_iinc (v := (nI (v + 1))) (lv' := [(3, .int (nI (v + 1))), (0, .ref h0), (2, .int (nI mm))]) hx hb dX2_above_28 hl (k := 2) rfl (nI_add _ _) (by decide) rfl (fun ls hl => ?_)
          refine lv_goto (tgt := 7) hx hb dX2_above_31 (by decide) ?_
          exact kh (v + 1) (vp_updL row (v) ((lN (1)))) (by omega) (by omega) (sp_fill (f := fun j => lN (if j = 0 then 1 else 0)) hrow (by show lN 1 = lN (if v = 0 then 1 else 0); rw [if_pos (by omega)])) H locs hP hD hS _ (lv_sub hl [1, 2, 0] rfl)
  refine lv_iload_n hx hb dX2_above_0 rfl (lv_at hl 1 rfl) ?_
  refine lv_bipush (v := (nI 15)) hx hb dX2_above_1 (by decide) ?_
  refine lv_iand hx hb dX2_above_3 ?_
  refine sp_topi (y := (nI mm)) em ?_
  refine lv_istore_n (lv' := [(2, .int (nI mm)), (0, .ref h0), (1, .int (p0))]) hx hb dX2_above_4 rfl hl (by decide) rfl (fun ls hl => ?_)
  refine lv_iconst (v := (nI 0)) hx hb dX2_above_5 (by decide) ?_
  refine lv_istore_n (lv' := [(3, .int (nI 0)), (2, .int (nI mm)), (0, .ref h0), (1, .int (p0))]) hx hb dX2_above_6 rfl hl (by decide) rfl (fun ls hl => ?_)
  exact hinit 65 0 row (by omega) (by omega) (fun j hj => by omega) s.heap _ hP hD hS _ (lv_sub hl [2, 1, 0] rfl)
end
section
set_option maxHeartbeats 4000000 in
set_option maxRecDepth 100000 in
/-- StepPathsModel.between(k, q): by steps up, never below nor above -/
theorem met_Mbetween (l : Launch) (dC : Nat → ClassId) (dI : Nat → Nat → Nat) (h0 r1 r2 r3 r4 : Nat) (c1 c2 : ClassId) (row nx : Nat → Int64) (a b : Nat) (p0 p1 : Int32) (mm qq : Nat) (sz : Nat) (ha : a ≤ 15) (hbb : b ≤ 15) (hm : mm < 16) (em : p0 &&& nI 15 = nI mm) (hq : qq < 16) (eq : p1 &&& nI 15 = nI qq) : Met l yX2_between (ws_ yX2_between cX2_between 8 (some .long)) ({ frames := 0, cells := 0, slots := 0, locals := 0 }) (va_Pc [.ref h0, .int (p0), .int (p1)] (fun U => U.heap.size = sz ∧ va_P (dC, dI) vwCl [(h0, .inr (2, [.int (nI a), .int (nI b), .ref r1, .ref r2, .ref r3, .ref r4])), (r1, .inl (c1, 64, .inr (.inl (row)))), (r2, .inl (c2, 64, .inr (.inl (nx))))] U.heap ∧ va_K (dC, dI) vwCl [(c1, .long), (c2, .long)] U ∧ va_D (fun _ => True) [(h0, .inr (2, [.int (nI a), .int (nI b), .ref r1, .ref r2, .ref r3, .ref r4])), (r1, .inl (c1, 64, .inr (.inl (row)))), (r2, .inl (c2, 64, .inr (.inl (nx))))])) (va_Ql (fun (r : Int64) (_ : (Nat → Int64) × (Nat → Int64)) => r = lN (sp_R a b (-(mm : Int) - 1) ((qq : Int) + 1) (a + b) a)) (sp_BX2_row dC dI (va_A [(h0, .inr (2, [.int (nI a), .int (nI b), .ref r1, .ref r2, .ref r3, .ref r4])), (r1, .inl (c1, 64, .inr (.inl (row)))), (r2, .inl (c2, 64, .inr (.inl (nx))))] sz) h0 r1 r2 r3 r4 c1 c2 a b) (va_A [(h0, .inr (2, [.int (nI a), .int (nI b), .ref r1, .ref r2, .ref r3, .ref r4])), (r1, .inl (c1, 64, .inr (.inl (row)))), (r2, .inl (c2, 64, .inr (.inl (nx))))] sz)) 0 0 (va_A [(h0, .inr (2, [.int (nI a), .int (nI b), .ref r1, .ref r2, .ref r3, .ref r4])), (r1, .inl (c1, 64, .inr (.inl (row)))), (r2, .inl (c2, 64, .inr (.inl (nx))))] sz) := by
  refine Met.ofW (cc := cX2_between) (maxL := 8) (ret := (some .long)) (by decide) rfl ?_
  intro p e s m args below meth c s₁ B hml hv
  obtain ⟨rfl, hsz, hP, hK, hD0⟩ := hv
  have hx := B.exec
  have hb := B.bytes
  have hr := B.returns
  have hts := atoms_spec (ws := (ws_ yX2_between cX2_between 8 (some .long))) B.pre
  have hts : ∀ w ∈ lw_all, w.before _ s = true := fun w h => hts w (List.mem_cons_of_mem _ h)
  have hown : s.vm.findClass RX2 = some m.cls := findClass_of_methodNamed B.named
  have hlocks := B.notSynchronized
  subst hsz
  have hD := hD0.self (sz := s.heap.size)
  generalize hAe : va_A [(h0, .inr (2, [.int (nI a), .int (nI b), .ref r1, .ref r2, .ref r3, .ref r4])), (r1, .inl (c1, 64, .inr (.inl (row)))), (r2, .inl (c2, 64, .inr (.inl (nx))))] s.heap.size = A at hD ⊢
  have hA : ∀ q : Nat, s.heap.size ≤ q → A q := fun q h => by rw [← hAe]; exact Or.inr h
  have hS : va_S A s.heap s.heap [] := va_S.rf
  have hP : va_P (dC, dI) vwCl [(h0, .inr (2, [.int (nI a), .int (nI b), .ref r1, .ref r2, .ref r3, .ref r4])), (r1, .inl (c1, 64, .inr (.inl (row)))), (r2, .inl (c2, 64, .inr (.inl (nx))))] s.heap := hP
  have hl := lv_entry ([.ref h0, .int (p0), .int (p1)]) (n := 8) (Nat.le_of_ble_eq_true rfl)
  rw [lg_entry_eq]
  generalize (lg_sl ([.ref h0, .int (p0), .int (p1)]) ++ List.replicate (8 - (lg_sl ([.ref h0, .int (p0), .int (p1)])).length) Slot.unset).toArray = ls at hl ⊢
  have hl : lv_has ls 8 [(0, .ref h0), (1, .int (p0)), (2, .int (p1))] := hl
  have hexit : ∀ (row nx : Nat → Int64), (∀ j : Nat, j < 64 → row j = lN (sp_R a b (-(mm : Int) - 1) ((qq : Int) + 1) (a + b) j)) → ∀ (H : Heap) (locs : List Loc), va_P (dC, dI) vwCl [(h0, .inr (2, [.int (nI a), .int (nI b), .ref r1, .ref r2, .ref r3, .ref r4])), (r1, .inl (c1, 64, .inr (.inl (row)))), (r2, .inl (c2, 64, .inr (.inl (nx))))] H → va_D A [(h0, .inr (2, [.int (nI a), .int (nI b), .ref r1, .ref r2, .ref r3, .ref r4])), (r1, .inl (c1, 64, .inr (.inl (row)))), (r2, .inl (c2, 64, .inr (.inl (nx))))] → va_S A s.heap H locs → ∀ (ls : Array Slot), lv_has ls 8 [(0, .ref h0), (3, .int (nI mm)), (4, .int (nI qq))] → W p l e (headSpec (ws_ yX2_between cX2_between 8 (some .long)) ({ frames := 0, cells := 0, slots := 0, locals := 0 })).room s m ([.ref h0, .int (p0), .int (p1)] : List Value).toArray below meth c H locs 0 0 (MQ below (va_Ql (fun (r : Int64) (_ : (Nat → Int64) × (Nat → Int64)) => r = lN (sp_R a b (-(mm : Int) - 1) ((qq : Int) + 1) (a + b) a)) (sp_BX2_row dC dI A h0 r1 r2 r3 r4 c1 c2 a b) A) ([.ref h0, .int (p0), .int (p1)] : List Value).toArray s 0 0 A) (F0 m 255 ls []) := by
    intro row nx hrow H locs hP hD hS ls hl
    refine lv_aload_n hx hb dX2_between_255 rfl (lv_at hl 0 rfl) ?_
    refine va_get (D := (dC, dI)) (ci := 2) (v := .ref r1) (C := RX2) (T := TX2) (N := 6) hx hb hts in_X2 hown hK hP 0 rfl rfl 2 (by decide) (hts _ q71) (fun _ h9 => h9) rfl dX2_between_256 ?_
    refine lv_aload_n hx hb dX2_between_259 rfl (lv_at hl 0 rfl) ?_
    refine va_get (D := (dC, dI)) (ci := 2) (v := .int (nI a)) (C := RX2) (T := TX2) (N := 6) hx hb hts in_X2 hown hK hP 0 rfl rfl 0 (by decide) (hts _ q69) (fun _ h9 => h9) rfl dX2_between_260 ?_
    refine sp_lald (i := a) (y := (lN (sp_R a b (-(mm : Int) - 1) ((qq : Int) + 1) (a + b) a))) hx hb hK hP 1 0 rfl rfl (by omega) (by decide) (hrow a (by omega)) dX2_between_263 ?_
    exact W.lret (v := (lN (sp_R a b (-(mm : Int) - 1) ((qq : Int) + 1) (a + b) a))) hx hb hr (fun t ht hW => ⟨⟨(lN (sp_R a b (-(mm : Int) - 1) ((qq : Int) + 1) (a + b) a)), (row, nx), rfl, rfl, by rw [ht]; exact hP, va_K.moved hW.alike hK, hD⟩, hS.F ht⟩) hS.2.2 dX2_between_264
  have hout : ∀ (n t : Nat) (row nx : Nat → Int64), t ≤ a + b → a + b < t + n → (∀ j : Nat, j < 64 → row j = lN (sp_R a b (-(mm : Int) - 1) ((qq : Int) + 1) (t) j)) → ∀ (H : Heap) (locs : List Loc), va_P (dC, dI) vwCl [(h0, .inr (2, [.int (nI a), .int (nI b), .ref r1, .ref r2, .ref r3, .ref r4])), (r1, .inl (c1, 64, .inr (.inl (row)))), (r2, .inl (c2, 64, .inr (.inl (nx))))] H → va_D A [(h0, .inr (2, [.int (nI a), .int (nI b), .ref r1, .ref r2, .ref r3, .ref r4])), (r1, .inl (c1, 64, .inr (.inl (row)))), (r2, .inl (c2, 64, .inr (.inl (nx))))] → va_S A s.heap H locs → ∀ (ls : Array Slot), lv_has ls 8 [(0, .ref h0), (3, .int (nI mm)), (4, .int (nI qq)), (5, .int (nI t))] → W p l e (headSpec (ws_ yX2_between cX2_between 8 (some .long)) ({ frames := 0, cells := 0, slots := 0, locals := 0 })).room s m ([.ref h0, .int (p0), .int (p1)] : List Value).toArray below meth c H locs 0 0 (MQ below (va_Ql (fun (r : Int64) (_ : (Nat → Int64) × (Nat → Int64)) => r = lN (sp_R a b (-(mm : Int) - 1) ((qq : Int) + 1) (a + b) a)) (sp_BX2_row dC dI A h0 r1 r2 r3 r4 c1 c2 a b) A) ([.ref h0, .int (p0), .int (p1)] : List Value).toArray s 0 0 A) (F0 m 47 ls []) := by
    intro n
    induction n with
    | zero => intro t row nx h1 h2; exact absurd h2 (by omega)
    | succ n ih =>
      intro t row nx ht hn hrow H locs hP hD hS ls hl
      refine lv_iload hx hb dX2_between_47 (lv_at hl 3 rfl) ?_
      refine lv_aload_n hx hb dX2_between_49 rfl (lv_at hl 0 rfl) ?_
      refine va_get (D := (dC, dI)) (ci := 2) (v := .int (nI a)) (C := RX2) (T := TX2) (N := 6) hx hb hts in_X2 hown hK hP 0 rfl rfl 0 (by decide) (hts _ q69) (fun _ h9 => h9) rfl dX2_between_50 ?_
      refine lv_aload_n hx hb dX2_between_53 rfl (lv_at hl 0 rfl) ?_
      refine va_get (D := (dC, dI)) (ci := 2) (v := .int (nI b)) (C := RX2) (T := TX2) (N := 6) hx hb hts in_X2 hown hK hP 0 rfl rfl 1 (by decide) (hts _ q70) (fun _ h9 => h9) rfl dX2_between_54 ?_
      refine lv_iadd hx hb dX2_between_57 ?_
      refine sp_topi (y := (nI (a + b))) (nI_add _ _) ?_
      refine lv_icmp_ge (tgt := 255) hx hb dX2_between_58 (by decide) (fun hct => ?_) (fun hct => ?_)
      · have hct : a + b ≤ t := (nI_leI (by omega) (by omega)).mp hct
        have et : t = a + b := by omega
        rw [et] at hrow
        exact hexit row nx hrow H locs hP hD hS _ (lv_sub hl [0, 1, 2] rfl)
      · have hct : ¬ a + b ≤ t := fun h9 => hct ((nI_leI (by omega) (by omega)).mpr h9)
        have hcopy : ∀ (k v : Nat) (row nx : Nat → Int64), v ≤ 64 → 64 < v + k → (∀ j : Nat, j < 64 → nx j = lN (sp_R a b (-(mm : Int) - 1) ((qq : Int) + 1) (t + 1) j)) → (∀ j : Nat, j < v → row j = nx j) → ∀ (H : Heap) (locs : List Loc), va_P (dC, dI) vwCl [(h0, .inr (2, [.int (nI a), .int (nI b), .ref r1, .ref r2, .ref r3, .ref r4])), (r1, .inl (c1, 64, .inr (.inl (row)))), (r2, .inl (c2, 64, .inr (.inl (nx))))] H → va_D A [(h0, .inr (2, [.int (nI a), .int (nI b), .ref r1, .ref r2, .ref r3, .ref r4])), (r1, .inl (c1, 64, .inr (.inl (row)))), (r2, .inl (c2, 64, .inr (.inl (nx))))] → va_S A s.heap H locs → ∀ (ls : Array Slot), lv_has ls 8 [(0, .ref h0), (3, .int (nI mm)), (4, .int (nI qq)), (5, .int (nI t)), (6, .int (nI v))] → W p l e (headSpec (ws_ yX2_between cX2_between 8 (some .long)) ({ frames := 0, cells := 0, slots := 0, locals := 0 })).room s m ([.ref h0, .int (p0), .int (p1)] : List Value).toArray below meth c H locs 0 0 (MQ below (va_Ql (fun (r : Int64) (_ : (Nat → Int64) × (Nat → Int64)) => r = lN (sp_R a b (-(mm : Int) - 1) ((qq : Int) + 1) (a + b) a)) (sp_BX2_row dC dI A h0 r1 r2 r3 r4 c1 c2 a b) A) ([.ref h0, .int (p0), .int (p1)] : List Value).toArray s 0 0 A) (F0 m 222 ls []) := by
          intro k
          induction k with
          | zero => intro v row nx h1 h2; exact absurd h2 (by omega)
          | succ k kh =>
            intro v row nx hv hk hnx hrw H locs hP hD hS ls hl
            refine lv_iload hx hb dX2_between_222 (lv_at hl 4 rfl) ?_
            refine lv_bipush (v := (nI 64)) hx hb dX2_between_224 (by decide) ?_
            refine lv_icmp_ge (tgt := 249) hx hb dX2_between_226 (by decide) (fun hc => ?_) (fun hc => ?_)
            · have hc : 64 ≤ v := (nI_leI (by omega) (by omega)).mp hc
              have ev : v = 64 := by omega
              rw [ev] at hrw
              refine lv_iinc (v := (nI (t + 1))) (lv' := [(5, .int (nI (t + 1))), (0, .ref h0), (3, .int (nI mm)), (4, .int (nI qq)), (6, .int (nI v))]) hx hb dX2_between_249 hl (k := 3) rfl (nI_add _ _) (by decide) rfl (fun ls hl => ?_)
              refine lv_goto (tgt := 47) hx hb dX2_between_252 (by decide) ?_
              exact ih (t + 1) row nx (by omega) (by omega) (fun j hj => (hrw j hj).trans (hnx j hj)) H locs hP hD hS _ (lv_sub hl [1, 2, 3, 0] rfl)
            · have hc : ¬ 64 ≤ v := fun h9 => hc ((nI_leI (by omega) (by omega)).mpr h9)
              refine lv_aload_n hx hb dX2_between_229 rfl (lv_at hl 0 rfl) ?_
              refine va_get (D := (dC, dI)) (ci := 2) (v := .ref r1) (C := RX2) (T := TX2) (N := 6) hx hb hts in_X2 hown hK hP 0 rfl rfl 2 (by decide) (hts _ q71) (fun _ h9 => h9) rfl dX2_between_230 ?_
              refine lv_iload hx hb dX2_between_233 (lv_at hl 4 rfl) ?_
              refine lv_aload_n hx hb dX2_between_235 rfl (lv_at hl 0 rfl) ?_
              refine va_get (D := (dC, dI)) (ci := 2) (v := .ref r2) (C := RX2) (T := TX2) (N := 6) hx hb hts in_X2 hown hK hP 0 rfl rfl 3 (by decide) (hts _ q72) (fun _ h9 => h9) rfl dX2_between_236 ?_
              refine lv_iload hx hb dX2_between_239 (lv_at hl 4 rfl) ?_
              refine sp_lald (i := v) (y := (nx (v))) hx hb hK hP 2 1 rfl rfl (by omega) (by decide) rfl dX2_between_241 ?_
              refine sp_last (i := v) (ws' := [(h0, .inr (2, [.int (nI a), .int (nI b), .ref r1, .ref r2, .ref r3, .ref r4])), (r1, .inl (c1, 64, .inr (.inl (vp_updL row (v) ((nx (v))))))), (r2, .inl (c2, 64, .inr (.inl (nx))))]) hx hb hK hP hD hS 1 0 rfl rfl (by omega) (by decide) rfl dX2_between_242 (fun H locs hP hD hS => ?_)
              refine lv_iinc (v := (nI (v + 1))) (lv' := [(6, .int (nI (v + 1))), (0, .ref h0), (3, .int (nI mm)), (4, .int (nI qq)), (5, .int (nI t))]) hx hb dX2_between_243 hl (k := 4) rfl (nI_add _ _) (by decide) rfl (fun ls hl => ?_)
              refine lv_goto (tgt := 222) hx hb dX2_between_246 (by decide) ?_
              exact kh (v + 1) (vp_updL row (v) (nx (v))) nx (by omega) (by omega) hnx (sp_fill (f := nx) hrw rfl) H locs hP hD hS _ (lv_sub hl [1, 2, 3, 4, 0] rfl)
        have hu : ∀ (k v : Nat) (nx : Nat → Int64), v ≤ min a t + 1 → min a t + 1 < v + k → (∀ j : Nat, j < 64 → nx j = lN (sp_N (sp_ru a ((qq : Int) + 1) t (sp_R a b (-(mm : Int) - 1) ((qq : Int) + 1) (t))) (sp_rd b (-(mm : Int) - 1) t (sp_R a b (-(mm : Int) - 1) ((qq : Int) + 1) (t))) (v) j)) → ∀ (H : Heap) (locs : List Loc), va_P (dC, dI) vwCl [(h0, .inr (2, [.int (nI a), .int (nI b), .ref r1, .ref r2, .ref r3, .ref r4])), (r1, .inl (c1, 64, .inr (.inl (row)))), (r2, .inl (c2, 64, .inr (.inl (nx))))] H → va_D A [(h0, .inr (2, [.int (nI a), .int (nI b), .ref r1, .ref r2, .ref r3, .ref r4])), (r1, .inl (c1, 64, .inr (.inl (row)))), (r2, .inl (c2, 64, .inr (.inl (nx))))] → va_S A s.heap H locs → ∀ (ls : Array Slot), lv_has ls 8 [(0, .ref h0), (3, .int (nI mm)), (4, .int (nI qq)), (5, .int (nI t)), (6, .int (nI v))] → W p l e (headSpec (ws_ yX2_between cX2_between 8 (some .long)) ({ frames := 0, cells := 0, slots := 0, locals := 0 })).room s m ([.ref h0, .int (p0), .int (p1)] : List Value).toArray below meth c H locs 0 0 (MQ below (va_Ql (fun (r : Int64) (_ : (Nat → Int64) × (Nat → Int64)) => r = lN (sp_R a b (-(mm : Int) - 1) ((qq : Int) + 1) (a + b) a)) (sp_BX2_row dC dI A h0 r1 r2 r3 r4 c1 c2 a b) A) ([.ref h0, .int (p0), .int (p1)] : List Value).toArray s 0 0 A) (F0 m 88 ls []) := by
          intro k
          induction k with
          | zero => intro v nx h1 h2; exact absurd h2 (by omega)
          | succ k kh =>
            intro v nx hv hk hnx H locs hP hD hS ls hl
            refine lv_iload hx hb dX2_between_88 (lv_at hl 4 rfl) ?_
            refine lv_aload_n hx hb dX2_between_90 rfl (lv_at hl 0 rfl) ?_
            refine va_get (D := (dC, dI)) (ci := 2) (v := .int (nI a)) (C := RX2) (T := TX2) (N := 6) hx hb hts in_X2 hown hK hP 0 rfl rfl 0 (by decide) (hts _ q69) (fun _ h9 => h9) rfl dX2_between_91 ?_
            refine lv_icmp_gt (tgt := 219) hx hb dX2_between_94 (by decide) (fun hc => ?_) (fun hc => ?_)
            · have hc : a < v := (nI_ltI (by omega) (by omega)).mp hc
              have ev : v = min a t + 1 := by omega
              rw [ev] at hnx
              refine lv_iconst (v := (nI 0)) hx hb dX2_between_219 (by decide) ?_
              refine lv_istore (lv' := [(6, .int (nI 0)), (0, .ref h0), (3, .int (nI mm)), (4, .int (nI qq)), (5, .int (nI t))]) hx hb dX2_between_220 hl (by decide) rfl (fun ls hl => ?_)
              exact hcopy 65 0 row nx (by omega) (by omega) hnx (fun j hj => by omega) H locs hP hD hS _ (lv_sub hl [1, 2, 3, 4, 0] rfl)
            · have hc : ¬ a < v := fun h9 => hc ((nI_ltI (by omega) (by omega)).mpr h9)
              refine lv_iload hx hb dX2_between_97 (lv_at hl 4 rfl) ?_
              refine lv_iload hx hb dX2_between_99 (lv_at hl 3 rfl) ?_
              refine lv_icmp_gt (tgt := 219) hx hb dX2_between_101 (by decide) (fun hc1 => ?_) (fun hc1 => ?_)
              · have hc1 : t < v := (nI_ltI (by omega) (by omega)).mp hc1
                have ev : v = min a t + 1 := by omega
                rw [ev] at hnx
                refine lv_iconst (v := (nI 0)) hx hb dX2_between_219 (by decide) ?_
                refine lv_istore (lv' := [(6, .int (nI 0)), (0, .ref h0), (3, .int (nI mm)), (4, .int (nI qq)), (5, .int (nI t))]) hx hb dX2_between_220 hl (by decide) rfl (fun ls hl => ?_)
                exact hcopy 65 0 row nx (by omega) (by omega) hnx (fun j hj => by omega) H locs hP hD hS _ (lv_sub hl [1, 2, 3, 4, 0] rfl)
              · have hc1 : ¬ t < v := fun h9 => hc1 ((nI_ltI (by omega) (by omega)).mpr h9)
                have hrv := hrow v (by omega)
                have htail : ∀ (nx : Nat → Int64), (∀ j : Nat, j < 64 → nx j = lN (sp_N (sp_ru a ((qq : Int) + 1) t (sp_R a b (-(mm : Int) - 1) ((qq : Int) + 1) (t))) (sp_rd b (-(mm : Int) - 1) t (sp_R a b (-(mm : Int) - 1) ((qq : Int) + 1) (t))) (v + 1) j)) → ∀ (H : Heap) (locs : List Loc), va_P (dC, dI) vwCl [(h0, .inr (2, [.int (nI a), .int (nI b), .ref r1, .ref r2, .ref r3, .ref r4])), (r1, .inl (c1, 64, .inr (.inl (row)))), (r2, .inl (c2, 64, .inr (.inl (nx))))] H → va_D A [(h0, .inr (2, [.int (nI a), .int (nI b), .ref r1, .ref r2, .ref r3, .ref r4])), (r1, .inl (c1, 64, .inr (.inl (row)))), (r2, .inl (c2, 64, .inr (.inl (nx))))] → va_S A s.heap H locs → ∀ (ls : Array Slot), lv_has ls 8 [(0, .ref h0), (3, .int (nI mm)), (4, .int (nI qq)), (5, .int (nI t)), (6, .int (nI v))] → W p l e (headSpec (ws_ yX2_between cX2_between 8 (some .long)) ({ frames := 0, cells := 0, slots := 0, locals := 0 })).room s m ([.ref h0, .int (p0), .int (p1)] : List Value).toArray below meth c H locs 0 0 (MQ below (va_Ql (fun (r : Int64) (_ : (Nat → Int64) × (Nat → Int64)) => r = lN (sp_R a b (-(mm : Int) - 1) ((qq : Int) + 1) (a + b) a)) (sp_BX2_row dC dI A h0 r1 r2 r3 r4 c1 c2 a b) A) ([.ref h0, .int (p0), .int (p1)] : List Value).toArray s 0 0 A) (F0 m 213 ls []) := by
                  intro nx hnx H locs hP hD hS ls hl
                  refine lv_iinc (v := (nI (v + 1))) (lv' := [(6, .int (nI (v + 1))), (0, .ref h0), (3, .int (nI mm)), (4, .int (nI qq)), (5, .int (nI t))]) hx hb dX2_between_213 hl (k := 4) rfl (nI_add _ _) (by decide) rfl (fun ls hl => ?_)
                  refine lv_goto (tgt := 88) hx hb dX2_between_216 (by decide) ?_
                  exact kh (v + 1) nx (by omega) (by omega) hnx H locs hP hD hS _ (lv_sub hl [1, 2, 3, 4, 0] rfl)
                have hsec : ∀ (nx : Nat → Int64), (∀ j : Nat, j < 64 → nx j = lN (sp_M (sp_ru a ((qq : Int) + 1) t (sp_R a b (-(mm : Int) - 1) ((qq : Int) + 1) (t))) (sp_rd b (-(mm : Int) - 1) t (sp_R a b (-(mm : Int) - 1) ((qq : Int) + 1) (t))) v j)) → ∀ (H : Heap) (locs : List Loc), va_P (dC, dI) vwCl [(h0, .inr (2, [.int (nI a), .int (nI b), .ref r1, .ref r2, .ref r3, .ref r4])), (r1, .inl (c1, 64, .inr (.inl (row)))), (r2, .inl (c2, 64, .inr (.inl (nx))))] H → va_D A [(h0, .inr (2, [.int (nI a), .int (nI b), .ref r1, .ref r2, .ref r3, .ref r4])), (r1, .inl (c1, 64, .inr (.inl (row)))), (r2, .inl (c2, 64, .inr (.inl (nx))))] → va_S A s.heap H locs → ∀ (ls : Array Slot), lv_has ls 8 [(0, .ref h0), (3, .int (nI mm)), (4, .int (nI qq)), (5, .int (nI t)), (6, .int (nI v)), (7, .int (nI (t - v)))] → W p l e (headSpec (ws_ yX2_between cX2_between 8 (some .long)) ({ frames := 0, cells := 0, slots := 0, locals := 0 })).room s m ([.ref h0, .int (p0), .int (p1)] : List Value).toArray below meth c H locs 0 0 (MQ below (va_Ql (fun (r : Int64) (_ : (Nat → Int64) × (Nat → Int64)) => r = lN (sp_R a b (-(mm : Int) - 1) ((qq : Int) + 1) (a + b) a)) (sp_BX2_row dC dI A h0 r1 r2 r3 r4 c1 c2 a b) A) ([.ref h0, .int (p0), .int (p1)] : List Value).toArray s 0 0 A) (F0 m 170 ls []) := by
                  intro nx hnx H locs hP hD hS ls hl
                  refine lv_iload hx hb dX2_between_170 (lv_at hl 5 rfl) ?_
                  refine lv_aload_n hx hb dX2_between_172 rfl (lv_at hl 0 rfl) ?_
                  refine va_get (D := (dC, dI)) (ci := 2) (v := .int (nI b)) (C := RX2) (T := TX2) (N := 6) hx hb hts in_X2 hown hK hP 0 rfl rfl 1 (by decide) (hts _ q70) (fun _ h9 => h9) rfl dX2_between_173 ?_
                  refine lv_icmp_ge (tgt := 213) hx hb dX2_between_176 (by decide) (fun hc4 => ?_) (fun hc4 => ?_)
                  · have hc4 : b ≤ t - v := (nI_leI (by omega) (by omega)).mp hc4
                    exact htail nx (sp_keep (k := v) (r := (sp_rd b (-(mm : Int) - 1) t (sp_R a b (-(mm : Int) - 1) ((qq : Int) + 1) (t))) v) hnx (sp_N_s _ _ v) (if_neg (by omega))) H locs hP hD hS _ (lv_sub hl [0, 1, 2, 3, 4] rfl)
                  · have hc4 : ¬ b ≤ t - v := fun h9 => hc4 ((nI_leI (by omega) (by omega)).mpr h9)
                    refine lv_iload hx hb dX2_between_179 (lv_at hl 4 rfl) ?_
                    refine lv_iload hx hb dX2_between_181 (lv_at hl 5 rfl) ?_
                    refine lv_isub hx hb dX2_between_183 ?_
                    refine sp_topi (y := (sp_i ((v : Int) - ((t - v : Nat) : Int)))) (by simp only [sp_ni, sp_iadd, sp_isub, sp_imul, sp_ineg] <;> exact congrArg sp_i (by omega)) ?_
                    refine lv_iconst (v := (nI 1)) hx hb dX2_between_184 (by decide) ?_
                    refine lv_isub hx hb dX2_between_185 ?_
                    refine sp_topi (y := (sp_i ((v : Int) - ((t - v : Nat) : Int) - 1))) (by simp only [sp_ni, sp_iadd, sp_isub, sp_imul, sp_ineg] <;> exact congrArg sp_i (by omega)) ?_
                    refine lv_iload_n hx hb dX2_between_186 rfl (lv_at hl 1 rfl) ?_
                    refine lv_ineg hx hb dX2_between_187 ?_
                    refine sp_topi (y := (sp_i (-(mm : Int)))) (by simp only [sp_ni, sp_iadd, sp_isub, sp_imul, sp_ineg] <;> exact congrArg sp_i (by omega)) ?_
                    refine lv_icmp_lt (tgt := 213) hx hb dX2_between_188 (by decide) (fun hc5 => ?_) (fun hc5 => ?_)
                    · have hc5 : (v : Int) - ((t - v : Nat) : Int) - 1 < -(mm : Int) := (sp_ilt (by omega) (by omega) (by omega) (by omega)).mp hc5
                      exact htail nx (sp_keep (k := v) (r := (sp_rd b (-(mm : Int) - 1) t (sp_R a b (-(mm : Int) - 1) ((qq : Int) + 1) (t))) v) hnx (sp_N_s _ _ v) (if_neg (by omega))) H locs hP hD hS _ (lv_sub hl [0, 1, 2, 3, 4] rfl)
                    · have hc5 : ¬ (v : Int) - ((t - v : Nat) : Int) - 1 < -(mm : Int) := fun h9 => hc5 ((sp_ilt (by omega) (by omega) (by omega) (by omega)).mpr h9)
                      refine lv_aload_n hx hb dX2_between_191 rfl (lv_at hl 0 rfl) ?_
                      refine va_get (D := (dC, dI)) (ci := 2) (v := .ref r2) (C := RX2) (T := TX2) (N := 6) hx hb hts in_X2 hown hK hP 0 rfl rfl 3 (by decide) (hts _ q72) (fun _ h9 => h9) rfl dX2_between_192 ?_
                      refine lv_iload hx hb dX2_between_195 (lv_at hl 4 rfl) ?_
                      refine lv_aload_n hx hb dX2_between_197 rfl (lv_at hl 0 rfl) ?_
                      refine va_get (D := (dC, dI)) (ci := 2) (v := .ref r2) (C := RX2) (T := TX2) (N := 6) hx hb hts in_X2 hown hK hP 0 rfl rfl 3 (by decide) (hts _ q72) (fun _ h9 => h9) rfl dX2_between_198 ?_
                      refine lv_iload hx hb dX2_between_201 (lv_at hl 4 rfl) ?_
                      refine sp_lald (i := v) (y := (lN (sp_M (sp_ru a ((qq : Int) + 1) t (sp_R a b (-(mm : Int) - 1) ((qq : Int) + 1) (t))) (sp_rd b (-(mm : Int) - 1) t (sp_R a b (-(mm : Int) - 1) ((qq : Int) + 1) (t))) v v))) hx hb hK hP 2 1 rfl rfl (by omega) (by decide) (hnx v (by omega)) dX2_between_203 ?_
                      refine lv_aload_n hx hb dX2_between_204 rfl (lv_at hl 0 rfl) ?_
                      refine va_get (D := (dC, dI)) (ci := 2) (v := .ref r1) (C := RX2) (T := TX2) (N := 6) hx hb hts in_X2 hown hK hP 0 rfl rfl 2 (by decide) (hts _ q71) (fun _ h9 => h9) rfl dX2_between_205 ?_
                      refine lv_iload hx hb dX2_between_208 (lv_at hl 4 rfl) ?_
                      refine sp_lald (i := v) (y := (lN (sp_R a b (-(mm : Int) - 1) ((qq : Int) + 1) (t) v))) hx hb hK hP 1 0 rfl rfl (by omega) (by decide) hrv dX2_between_210 ?_
                      refine lv_ladd hx hb dX2_between_211 ?_
                      refine sp_topl (y := (lN (sp_M (sp_ru a ((qq : Int) + 1) t (sp_R a b (-(mm : Int) - 1) ((qq : Int) + 1) (t))) (sp_rd b (-(mm : Int) - 1) t (sp_R a b (-(mm : Int) - 1) ((qq : Int) + 1) (t))) v v + sp_R a b (-(mm : Int) - 1) ((qq : Int) + 1) (t) v))) (lN_add _ _) ?_
                      refine sp_last (i := v) (ws' := [(h0, .inr (2, [.int (nI a), .int (nI b), .ref r1, .ref r2, .ref r3, .ref r4])), (r1, .inl (c1, 64, .inr (.inl (row)))), (r2, .inl (c2, 64, .inr (.inl (vp_updL nx (v) ((lN (sp_M (sp_ru a ((qq : Int) + 1) t (sp_R a b (-(mm : Int) - 1) ((qq : Int) + 1) (t))) (sp_rd b (-(mm : Int) - 1) t (sp_R a b (-(mm : Int) - 1) ((qq : Int) + 1) (t))) v v + sp_R a b (-(mm : Int) - 1) ((qq : Int) + 1) (t) v)))))))]) hx hb hK hP hD hS 2 1 rfl rfl (by omega) (by decide) rfl dX2_between_212 (fun H locs hP hD hS => ?_)
                      exact htail (vp_updL nx (v) ((lN (sp_M (sp_ru a ((qq : Int) + 1) t (sp_R a b (-(mm : Int) - 1) ((qq : Int) + 1) (t))) (sp_rd b (-(mm : Int) - 1) t (sp_R a b (-(mm : Int) - 1) ((qq : Int) + 1) (t))) v v + sp_R a b (-(mm : Int) - 1) ((qq : Int) + 1) (t) v)))) (sp_bumpE (k := v) (r := (sp_rd b (-(mm : Int) - 1) t (sp_R a b (-(mm : Int) - 1) ((qq : Int) + 1) (t))) v) hnx (sp_N_s _ _ v) (if_pos ⟨by omega, by omega⟩)) H locs hP hD hS _ (lv_sub hl [0, 1, 2, 3, 4] rfl)
                refine lv_aload_n hx hb dX2_between_104 rfl (lv_at hl 0 rfl) ?_
                refine va_get (D := (dC, dI)) (ci := 2) (v := .ref r1) (C := RX2) (T := TX2) (N := 6) hx hb hts in_X2 hown hK hP 0 rfl rfl 2 (by decide) (hts _ q71) (fun _ h9 => h9) rfl dX2_between_105 ?_
                refine lv_iload hx hb dX2_between_108 (lv_at hl 4 rfl) ?_
                refine sp_lald (i := v) (y := (lN (sp_R a b (-(mm : Int) - 1) ((qq : Int) + 1) (t) v))) hx hb hK hP 1 0 rfl rfl (by omega) (by decide) hrv dX2_between_110 ?_
                refine lv_lconst (v := (lN (0))) hx hb dX2_between_111 (by first | rfl | decide) ?_
                refine W.lcmp hx hb dX2_between_112 ?_
                refine lv_if_le (tgt := 213) hx hb dX2_between_113 (by decide) (fun hc0 => ?_) (fun hc0 => ?_)
                · have hc0 : sp_R a b (-(mm : Int) - 1) ((qq : Int) + 1) (t) v = 0 := (sp_cmp0 (sp_R_lt (by omega) v)).mp hc0
                  have hz1 : sp_M (sp_ru a ((qq : Int) + 1) t (sp_R a b (-(mm : Int) - 1) ((qq : Int) + 1) (t))) (sp_rd b (-(mm : Int) - 1) t (sp_R a b (-(mm : Int) - 1) ((qq : Int) + 1) (t))) v = sp_N (sp_ru a ((qq : Int) + 1) t (sp_R a b (-(mm : Int) - 1) ((qq : Int) + 1) (t))) (sp_rd b (-(mm : Int) - 1) t (sp_R a b (-(mm : Int) - 1) ((qq : Int) + 1) (t))) (v) := funext (fun j => by rw [sp_M_e, show (sp_ru a ((qq : Int) + 1) t (sp_R a b (-(mm : Int) - 1) ((qq : Int) + 1) (t))) v = 0 from Nat.le_zero.mp (hc0 ▸ sp_ru_le _ _ _ _ _)]; split <;> omega)
                  exact htail nx (sp_keep (k := v) (r := (sp_rd b (-(mm : Int) - 1) t (sp_R a b (-(mm : Int) - 1) ((qq : Int) + 1) (t))) v) (hz1 ▸ hnx) (sp_N_s _ _ v) (Nat.le_zero.mp (hc0 ▸ sp_rd_le _ _ _ _ _))) H locs hP hD hS _ (lv_sub hl [0, 1, 2, 3, 4] rfl)
                · have hc0 : ¬ sp_R a b (-(mm : Int) - 1) ((qq : Int) + 1) (t) v = 0 := fun h9 => hc0 ((sp_cmp0 (sp_R_lt (by omega) v)).mpr h9)
                  refine lv_iload hx hb dX2_between_116 (lv_at hl 3 rfl) ?_
                  refine lv_iload hx hb dX2_between_118 (lv_at hl 4 rfl) ?_
                  refine lv_isub hx hb dX2_between_120 ?_
                  refine sp_topi (y := (nI (t - v))) (pk_sub (by omega)) ?_
                  refine lv_istore (lv' := [(7, .int (nI (t - v))), (0, .ref h0), (3, .int (nI mm)), (4, .int (nI qq)), (5, .int (nI t)), (6, .int (nI v))]) hx hb dX2_between_121 hl (by decide) rfl (fun ls hl => ?_)
                  refine lv_iload hx hb dX2_between_123 (lv_at hl 5 rfl) ?_
                  refine lv_aload_n hx hb dX2_between_125 rfl (lv_at hl 1 rfl) ?_
                  refine va_get (D := (dC, dI)) (ci := 2) (v := .int (nI a)) (C := RX2) (T := TX2) (N := 6) hx hb hts in_X2 hown hK hP 0 rfl rfl 0 (by decide) (hts _ q69) (fun _ h9 => h9) rfl dX2_between_126 ?_
                  refine lv_icmp_ge (tgt := 170) hx hb dX2_between_129 (by decide) (fun hc2 => ?_) (fun hc2 => ?_)
                  · have hc2 : a ≤ v := (nI_leI (by omega) (by omega)).mp hc2
                    exact hsec nx (sp_keep (k := v + 1) (r := (sp_ru a ((qq : Int) + 1) t (sp_R a b (-(mm : Int) - 1) ((qq : Int) + 1) (t))) v) hnx (sp_M_e _ _ v) (if_neg (by omega))) H locs hP hD hS _ (lv_sub hl [1, 2, 3, 4, 5, 0] rfl)
                  · have hc2 : ¬ a ≤ v := fun h9 => hc2 ((nI_leI (by omega) (by omega)).mpr h9)
                    refine lv_iload hx hb dX2_between_132 (lv_at hl 5 rfl) ?_
                    refine lv_iconst (v := (nI 1)) hx hb dX2_between_134 (by decide) ?_
                    refine lv_iadd hx hb dX2_between_135 ?_
                    refine sp_topi (y := (nI (v + 1))) (nI_add _ _) ?_
                    refine lv_iload hx hb dX2_between_136 (lv_at hl 0 rfl) ?_
                    refine lv_isub hx hb dX2_between_138 ?_
                    refine sp_topi (y := (sp_i ((v : Int) + 1 - ((t - v : Nat) : Int)))) (by simp only [sp_ni, sp_iadd, sp_isub, sp_imul, sp_ineg] <;> exact congrArg sp_i (by omega)) ?_
                    refine lv_iload hx hb dX2_between_139 (lv_at hl 3 rfl) ?_
                    refine lv_icmp_gt (tgt := 170) hx hb dX2_between_141 (by decide) (fun hc3 => ?_) (fun hc3 => ?_)
                    · rw [sp_ni] at hc3
                      have hc3 : ((qq : Nat) : Int) < (v : Int) + 1 - ((t - v : Nat) : Int) := (sp_ilt (by omega) (by omega) (by omega) (by omega)).mp hc3
                      exact hsec nx (sp_keep (k := v + 1) (r := (sp_ru a ((qq : Int) + 1) t (sp_R a b (-(mm : Int) - 1) ((qq : Int) + 1) (t))) v) hnx (sp_M_e _ _ v) (if_neg (by omega))) H locs hP hD hS _ (lv_sub hl [1, 2, 3, 4, 5, 0] rfl)
                    · rw [sp_ni] at hc3
                      have hc3 : ¬ ((qq : Nat) : Int) < (v : Int) + 1 - ((t - v : Nat) : Int) := fun h9 => hc3 ((sp_ilt (by omega) (by omega) (by omega) (by omega)).mpr h9)
                      refine lv_aload_n hx hb dX2_between_144 rfl (lv_at hl 1 rfl) ?_
                      refine va_get (D := (dC, dI)) (ci := 2) (v := .ref r2) (C := RX2) (T := TX2) (N := 6) hx hb hts in_X2 hown hK hP 0 rfl rfl 3 (by decide) (hts _ q72) (fun _ h9 => h9) rfl dX2_between_145 ?_
                      refine lv_iload hx hb dX2_between_148 (lv_at hl 5 rfl) ?_
                      refine lv_iconst (v := (nI 1)) hx hb dX2_between_150 (by decide) ?_
                      refine lv_iadd hx hb dX2_between_151 ?_
                      refine sp_topi (y := (nI (v + 1))) (nI_add _ _) ?_
                      refine lv_aload_n hx hb dX2_between_152 rfl (lv_at hl 1 rfl) ?_
                      refine va_get (D := (dC, dI)) (ci := 2) (v := .ref r2) (C := RX2) (T := TX2) (N := 6) hx hb hts in_X2 hown hK hP 0 rfl rfl 3 (by decide) (hts _ q72) (fun _ h9 => h9) rfl dX2_between_153 ?_
                      refine lv_iload hx hb dX2_between_156 (lv_at hl 5 rfl) ?_
                      refine lv_iconst (v := (nI 1)) hx hb dX2_between_158 (by decide) ?_
                      refine lv_iadd hx hb dX2_between_159 ?_
                      refine sp_topi (y := (nI (v + 1))) (nI_add _ _) ?_
                      refine sp_lald (i := v + 1) (y := (lN (sp_N (sp_ru a ((qq : Int) + 1) t (sp_R a b (-(mm : Int) - 1) ((qq : Int) + 1) (t))) (sp_rd b (-(mm : Int) - 1) t (sp_R a b (-(mm : Int) - 1) ((qq : Int) + 1) (t))) (v) (v + 1)))) hx hb hK hP 2 1 rfl rfl (by omega) (by decide) (hnx (v + 1) (by omega)) dX2_between_160 ?_
                      refine lv_aload_n hx hb dX2_between_161 rfl (lv_at hl 1 rfl) ?_
                      refine va_get (D := (dC, dI)) (ci := 2) (v := .ref r1) (C := RX2) (T := TX2) (N := 6) hx hb hts in_X2 hown hK hP 0 rfl rfl 2 (by decide) (hts _ q71) (fun _ h9 => h9) rfl dX2_between_162 ?_
                      refine lv_iload hx hb dX2_between_165 (lv_at hl 5 rfl) ?_
                      refine sp_lald (i := v) (y := (lN (sp_R a b (-(mm : Int) - 1) ((qq : Int) + 1) (t) v))) hx hb hK hP 1 0 rfl rfl (by omega) (by decide) hrv dX2_between_167 ?_
                      refine lv_ladd hx hb dX2_between_168 ?_
                      refine sp_topl (y := (lN (sp_N (sp_ru a ((qq : Int) + 1) t (sp_R a b (-(mm : Int) - 1) ((qq : Int) + 1) (t))) (sp_rd b (-(mm : Int) - 1) t (sp_R a b (-(mm : Int) - 1) ((qq : Int) + 1) (t))) (v) (v + 1) + sp_R a b (-(mm : Int) - 1) ((qq : Int) + 1) (t) v))) (lN_add _ _) ?_
                      refine sp_last (i := v + 1) (ws' := [(h0, .inr (2, [.int (nI a), .int (nI b), .ref r1, .ref r2, .ref r3, .ref r4])), (r1, .inl (c1, 64, .inr (.inl (row)))), (r2, .inl (c2, 64, .inr (.inl (vp_updL nx (v + 1) ((lN (sp_N (sp_ru a ((qq : Int) + 1) t (sp_R a b (-(mm : Int) - 1) ((qq : Int) + 1) (t))) (sp_rd b (-(mm : Int) - 1) t (sp_R a b (-(mm : Int) - 1) ((qq : Int) + 1) (t))) (v) (v + 1) + sp_R a b (-(mm : Int) - 1) ((qq : Int) + 1) (t) v)))))))]) hx hb hK hP hD hS 2 1 rfl rfl (by omega) (by decide) rfl dX2_between_169 (fun H locs hP hD hS => ?_)
                      exact hsec (vp_updL nx (v + 1) ((lN (sp_N (sp_ru a ((qq : Int) + 1) t (sp_R a b (-(mm : Int) - 1) ((qq : Int) + 1) (t))) (sp_rd b (-(mm : Int) - 1) t (sp_R a b (-(mm : Int) - 1) ((qq : Int) + 1) (t))) (v) (v + 1) + sp_R a b (-(mm : Int) - 1) ((qq : Int) + 1) (t) v)))) (sp_bumpE (k := v + 1) (r := (sp_ru a ((qq : Int) + 1) t (sp_R a b (-(mm : Int) - 1) ((qq : Int) + 1) (t))) v) hnx (sp_M_e _ _ v) (if_pos ⟨by omega, by omega⟩)) H locs hP hD hS _ (lv_sub hl [1, 2, 3, 4, 5, 0] rfl)
        have hz : ∀ (k v : Nat) (nx : Nat → Int64), v ≤ 64 → 64 < v + k → (∀ j : Nat, j < v → nx j = lN 0) → ∀ (H : Heap) (locs : List Loc), va_P (dC, dI) vwCl [(h0, .inr (2, [.int (nI a), .int (nI b), .ref r1, .ref r2, .ref r3, .ref r4])), (r1, .inl (c1, 64, .inr (.inl (row)))), (r2, .inl (c2, 64, .inr (.inl (nx))))] H → va_D A [(h0, .inr (2, [.int (nI a), .int (nI b), .ref r1, .ref r2, .ref r3, .ref r4])), (r1, .inl (c1, 64, .inr (.inl (row)))), (r2, .inl (c2, 64, .inr (.inl (nx))))] → va_S A s.heap H locs → ∀ (ls : Array Slot), lv_has ls 8 [(0, .ref h0), (3, .int (nI mm)), (4, .int (nI qq)), (5, .int (nI t)), (6, .int (nI v))] → W p l e (headSpec (ws_ yX2_between cX2_between 8 (some .long)) ({ frames := 0, cells := 0, slots := 0, locals := 0 })).room s m ([.ref h0, .int (p0), .int (p1)] : List Value).toArray below meth c H locs 0 0 (MQ below (va_Ql (fun (r : Int64) (_ : (Nat → Int64) × (Nat → Int64)) => r = lN (sp_R a b (-(mm : Int) - 1) ((qq : Int) + 1) (a + b) a)) (sp_BX2_row dC dI A h0 r1 r2 r3 r4 c1 c2 a b) A) ([.ref h0, .int (p0), .int (p1)] : List Value).toArray s 0 0 A) (F0 m 64 ls []) := by
          intro k
          induction k with
          | zero => intro v nx h1 h2; exact absurd h2 (by omega)
          | succ k kh =>
            intro v nx hv hk hnx H locs hP hD hS ls hl
            refine lv_iload hx hb dX2_between_64 (lv_at hl 4 rfl) ?_
            refine lv_bipush (v := (nI 64)) hx hb dX2_between_66 (by decide) ?_
            refine lv_icmp_ge (tgt := 85) hx hb dX2_between_68 (by decide) (fun hc => ?_) (fun hc => ?_)
            · have hc : 64 ≤ v := (nI_leI (by omega) (by omega)).mp hc
              have ev : v = 64 := by omega
              rw [ev] at hnx
              refine lv_iconst (v := (nI 0)) hx hb dX2_between_85 (by decide) ?_
              refine lv_istore (lv' := [(6, .int (nI 0)), (0, .ref h0), (3, .int (nI mm)), (4, .int (nI qq)), (5, .int (nI t))]) hx hb dX2_between_86 hl (by decide) rfl (fun ls hl => ?_)
              exact hu (min a t + 2) 0 nx (by omega) (by omega) (fun j hj => by rw [sp_N_0]; exact hnx j hj) H locs hP hD hS _ (lv_sub hl [1, 2, 3, 4, 0] rfl)
            · have hc : ¬ 64 ≤ v := fun h9 => hc ((nI_leI (by omega) (by omega)).mpr h9)
              refine lv_aload_n hx hb dX2_between_71 rfl (lv_at hl 0 rfl) ?_
              refine va_get (D := (dC, dI)) (ci := 2) (v := .ref r2) (C := RX2) (T := TX2) (N := 6) hx hb hts in_X2 hown hK hP 0 rfl rfl 3 (by decide) (hts _ q72) (fun _ h9 => h9) rfl dX2_between_72 ?_
              refine lv_iload hx hb dX2_between_75 (lv_at hl 4 rfl) ?_
              refine lv_lconst (v := (lN (0))) hx hb dX2_between_77 (by first | rfl | decide) ?_
              refine sp_last (i := v) (ws' := [(h0, .inr (2, [.int (nI a), .int (nI b), .ref r1, .ref r2, .ref r3, .ref r4])), (r1, .inl (c1, 64, .inr (.inl (row)))), (r2, .inl (c2, 64, .inr (.inl (vp_updL nx (v) ((lN (0)))))))]) hx hb hK hP hD hS 2 1 rfl rfl (by omega) (by decide) rfl dX2_between_78 (fun H locs hP hD hS => ?_)
              refine lv_iinc (v := (nI (v + 1))) (lv' := [(6, .int (nI (v + 1))), (0, .ref h0), (3, .int (nI mm)), (4, .int (nI qq)), (5, .int (nI t))]) hx hb dX2_between_79 hl (k := 4) rfl (nI_add _ _) (by decide) rfl (fun ls hl => ?_)
              refine lv_goto (tgt := 64) hx hb dX2_between_82 (by decide) ?_
              exact kh (v + 1) (vp_updL nx (v) ((lN (0)))) (by omega) (by omega) (sp_fill (f := fun _ => lN 0) hnx rfl) H locs hP hD hS _ (lv_sub hl [1, 2, 3, 4, 0] rfl)
        refine lv_iconst (v := (nI 0)) hx hb dX2_between_61 (by decide) ?_
        refine lv_istore (lv' := [(6, .int (nI 0)), (0, .ref h0), (3, .int (nI mm)), (4, .int (nI qq)), (5, .int (nI t))]) hx hb dX2_between_62 hl (by decide) rfl (fun ls hl => ?_)
        exact hz 65 0 nx (by omega) (by omega) (fun j hj => by omega) H locs hP hD hS _ (lv_sub hl [1, 2, 3, 4, 0] rfl)
  have hinit : ∀ (k v : Nat) (row : Nat → Int64), v ≤ 64 → 64 < v + k → (∀ j : Nat, j < v → row j = lN (if j = 0 then 1 else 0)) → ∀ (H : Heap) (locs : List Loc), va_P (dC, dI) vwCl [(h0, .inr (2, [.int (nI a), .int (nI b), .ref r1, .ref r2, .ref r3, .ref r4])), (r1, .inl (c1, 64, .inr (.inl (row)))), (r2, .inl (c2, 64, .inr (.inl (nx))))] H → va_D A [(h0, .inr (2, [.int (nI a), .int (nI b), .ref r1, .ref r2, .ref r3, .ref r4])), (r1, .inl (c1, 64, .inr (.inl (row)))), (r2, .inl (c2, 64, .inr (.inl (nx))))] → va_S A s.heap H locs → ∀ (ls : Array Slot), lv_has ls 8 [(0, .ref h0), (3, .int (nI mm)), (4, .int (nI qq)), (5, .int (nI v))] → W p l e (headSpec (ws_ yX2_between cX2_between 8 (some .long)) ({ frames := 0, cells := 0, slots := 0, locals := 0 })).room s m ([.ref h0, .int (p0), .int (p1)] : List Value).toArray below meth c H locs 0 0 (MQ below (va_Ql (fun (r : Int64) (_ : (Nat → Int64) × (Nat → Int64)) => r = lN (sp_R a b (-(mm : Int) - 1) ((qq : Int) + 1) (a + b) a)) (sp_BX2_row dC dI A h0 r1 r2 r3 r4 c1 c2 a b) A) ([.ref h0, .int (p0), .int (p1)] : List Value).toArray s 0 0 A) (F0 m 14 ls []) := by
    intro k
    induction k with
    | zero => intro v row h1 h2; exact absurd h2 (by omega)
    | succ k kh =>
      intro v row hv hk hrow H locs hP hD hS ls hl
      refine lv_iload hx hb dX2_between_14 (lv_at hl 3 rfl) ?_
      refine lv_bipush (v := (nI 64)) hx hb dX2_between_16 (by decide) ?_
      refine lv_icmp_ge (tgt := 44) hx hb dX2_between_18 (by decide) (fun hc => ?_) (fun hc => ?_)
      · have hc : 64 ≤ v := (nI_leI (by omega) (by omega)).mp hc
        have ev : v = 64 := by omega
        rw [ev] at hrow
        refine lv_iconst (v := (nI 0)) hx hb dX2_between_44 (by decide) ?_
        refine lv_istore (lv' := [(5, .int (nI 0)), (0, .ref h0), (3, .int (nI mm)), (4, .int (nI qq))]) hx hb dX2_between_45 hl (by decide) rfl (fun ls hl => ?_)
        exact hout (a + b + 1) 0 row nx (by omega) (by omega) hrow H locs hP hD hS _ (lv_sub hl [1, 2, 3, 0] rfl)
      · have hc : ¬ 64 ≤ v := fun h9 => hc ((nI_leI (by omega) (by omega)).mpr h9)
        refine lv_aload_n hx hb dX2_between_21 rfl (lv_at hl 0 rfl) ?_
        refine va_get (D := (dC, dI)) (ci := 2) (v := .ref r1) (C := RX2) (T := TX2) (N := 6) hx hb hts in_X2 hown hK hP 0 rfl rfl 2 (by decide) (hts _ q71) (fun _ h9 => h9) rfl dX2_between_22 ?_
        refine lv_iload hx hb dX2_between_25 (lv_at hl 3 rfl) ?_
        refine lv_iload hx hb dX2_between_27 (lv_at hl 3 rfl) ?_
        refine lv_if_ne (tgt := 36) hx hb dX2_between_29 (by decide) (fun hc1 => ?_) (fun hc1 => ?_)
        · rw [← nI_0] at hc1
          have hc1 : ¬ v = 0 := fun h9 => hc1 ((nI_eq (by omega) (by omega)).mpr h9)
          refine lv_lconst (v := (lN (0))) hx hb dX2_between_36 (by first | rfl | decide) ?_
          refine sp_last (i := v) (ws' := [(h0, .inr (2, [.int (nI a), .int (nI b), .ref r1, .ref r2, .ref r3, .ref r4])), (r1, .inl (c1, 64, .inr (.inl (vp_updL row (v) ((lN (0))))))), (r2, .inl (c2, 64, .inr (.inl (nx))))]) hx hb hK hP hD hS 1 0 rfl rfl (by omega) (by decide) rfl dX2_between_37 (fun H locs hP hD hS => ?_)
          refine lv_iinc (v := (nI (v + 1))) (lv' := [(5, .int (nI (v + 1))), (0, .ref h0), (3, .int (nI mm)), (4, .int (nI qq))]) hx hb dX2_between_38 hl (k := 3) rfl (nI_add _ _) (by decide) rfl (fun ls hl => ?_)
          refine lv_goto (tgt := 14) hx hb dX2_between_41 (by decide) ?_
          exact kh (v + 1) (vp_updL row (v) ((lN (0)))) (by omega) (by omega) (sp_fill (f := fun j => lN (if j = 0 then 1 else 0)) hrow (by show lN 0 = lN (if v = 0 then 1 else 0); rw [if_neg (by omega)])) H locs hP hD hS _ (lv_sub hl [1, 2, 3, 0] rfl)
        · rw [← nI_0] at hc1
          have hc1 : v = 0 := (nI_eq (by omega) (by omega)).mp hc1
          refine lv_lconst (v := (lN (1))) hx hb dX2_between_32 (by first | rfl | decide) ?_
          refine lv_goto (tgt := 37) hx hb dX2_between_33 (by decide) ?_
          refine sp_last (i := v) (ws' := [(h0, .inr (2, [.int (nI a), .int (nI b), .ref r1, .ref r2, .ref r3, .ref r4])), (r1, .inl (c1, 64, .inr (.inl (vp_updL row (v) ((lN (1))))))), (r2, .inl (c2, 64, .inr (.inl (nx))))]) hx hb hK hP hD hS 1 0 rfl rfl (by omega) (by decide) rfl dX2_between_37 (fun H locs hP hD hS => ?_)
          refine lv_iinc (v := (nI (v + 1))) (lv' := [(5, .int (nI (v + 1))), (0, .ref h0), (3, .int (nI mm)), (4, .int (nI qq))]) hx hb dX2_between_38 hl (k := 3) rfl (nI_add _ _) (by decide) rfl (fun ls hl => ?_)
          refine lv_goto (tgt := 14) hx hb dX2_between_41 (by decide) ?_
          exact kh (v + 1) (vp_updL row (v) ((lN (1)))) (by omega) (by omega) (sp_fill (f := fun j => lN (if j = 0 then 1 else 0)) hrow (by show lN 1 = lN (if v = 0 then 1 else 0); rw [if_pos (by omega)])) H locs hP hD hS _ (lv_sub hl [1, 2, 3, 0] rfl)
  refine lv_iload_n hx hb dX2_between_0 rfl (lv_at hl 1 rfl) ?_
  refine lv_bipush (v := (nI 15)) hx hb dX2_between_1 (by decide) ?_
  refine lv_iand hx hb dX2_between_3 ?_
  refine sp_topi (y := (nI mm)) em ?_
  refine lv_istore_n (lv' := [(3, .int (nI mm)), (0, .ref h0), (1, .int (p0)), (2, .int (p1))]) hx hb dX2_between_4 rfl hl (by decide) rfl (fun ls hl => ?_)
  refine lv_iload_n hx hb dX2_between_5 rfl (lv_at hl 3 rfl) ?_
  refine lv_bipush (v := (nI 15)) hx hb dX2_between_6 (by decide) ?_
  refine lv_iand hx hb dX2_between_8 ?_
  refine sp_topi (y := (nI qq)) eq ?_
  refine lv_istore (lv' := [(4, .int (nI qq)), (3, .int (nI mm)), (0, .ref h0), (1, .int (p0)), (2, .int (p1))]) hx hb dX2_between_9 hl (by decide) rfl (fun ls hl => ?_)
  refine lv_iconst (v := (nI 0)) hx hb dX2_between_11 (by decide) ?_
  refine lv_istore (lv' := [(5, .int (nI 0)), (4, .int (nI qq)), (3, .int (nI mm)), (0, .ref h0), (1, .int (p0)), (2, .int (p1))]) hx hb dX2_between_12 hl (by decide) rfl (fun ls hl => ?_)
  exact hinit 65 0 row (by omega) (by omega) (fun j hj => by omega) s.heap _ hP hD hS _ (lv_sub hl [3, 2, 1, 0] rfl)
end
section
theorem sp_bump2E {th : Nat → Int64} {g g' : Nat → Nat → Nat} {p0 q0 r r' : Nat} (hq0 : q0 < 32) (h : ∀ p q, p < 32 → q < 32 → th (32 * p + q) = lN (g p q)) (hg : ∀ p q, g' p q = g p q + if p = p0 ∧ q = q0 then r else 0) (hr : r = r') : ∀ p q, p < 32 → q < 32 → vp_updL th (32 * p0 + q0) (lN (g p0 q0 + r')) (32 * p + q) = lN (g' p q) := by
  subst hr
  exact sp_bump2 hq0 h hg
theorem sp_Z_zero {a b t : Nat} {r : Nat → Nat → Nat} {x y : Nat} (h : r x y = 0) (k p q : Nat) : sp_Z a b t r x y k p q = 0 := by
  unfold sp_Z
  split
  · exact h
  · rfl
theorem sp_two0 {a b : Nat} {two : Nat → Int64} (h : ∀ j : Nat, j < 1024 → two j = lN 0) : ∀ i j : Nat, i < 32 → j < 32 → vp_updL two 1 (lN 1) (32 * i + j) = lN (sp_T a b 0 i j) := by
  intro i j hi hj
  rw [sp_T0]
  by_cases e : i = 0 ∧ j = 1
  · obtain ⟨e1, e2⟩ := e
    subst e1; subst e2
    rw [if_pos ⟨rfl, rfl⟩]
    exact pk_uLs
  · rw [if_neg e, pk_uLn (by omega), h _ (by omega)]
/-- a StepPathsModel with its two squares -/
abbrev sp_BX2_sq (dC : Nat → ClassId) (dI : Nat → Nat → Nat) (A : Nat → Prop) (h0 r1 r2 r3 r4 : Nat) (c3 c4 : ClassId) (a b : Nat) (u : (Nat → Int64) × (Nat → Int64)) (t : State) : Prop := va_P (dC, dI) vwCl [(h0, .inr (2, [.int (nI a), .int (nI b), .ref r1, .ref r2, .ref r3, .ref r4])), (r3, .inl (c3, 1024, .inr (.inl (u.1)))), (r4, .inl (c4, 1024, .inr (.inl (u.2))))] t.heap ∧ va_K (dC, dI) vwCl [(c3, .long), (c4, .long)] t ∧ va_D A [(h0, .inr (2, [.int (nI a), .int (nI b), .ref r1, .ref r2, .ref r3, .ref r4])), (r3, .inl (c3, 1024, .inr (.inl (u.1)))), (r4, .inl (c4, 1024, .inr (.inl (u.2))))]
set_option maxHeartbeats 4000000 in
set_option maxRecDepth 100000 in
/-- StepPathsModel.apart(): pairs, step by step -/
theorem met_Mapart (l : Launch) (dC : Nat → ClassId) (dI : Nat → Nat → Nat) (h0 r1 r2 r3 r4 : Nat) (c3 c4 : ClassId) (two th : Nat → Int64) (a b : Nat) (sz : Nat) (ha : a ≤ 15) (hbb : b ≤ 15) : Met l yX2_apart (ws_ yX2_apart cX2_apart 9 (some .long)) ({ frames := 0, cells := 0, slots := 0, locals := 0 }) (va_Pc [.ref h0] (fun U => U.heap.size = sz ∧ va_P (dC, dI) vwCl [(h0, .inr (2, [.int (nI a), .int (nI b), .ref r1, .ref r2, .ref r3, .ref r4])), (r3, .inl (c3, 1024, .inr (.inl (two)))), (r4, .inl (c4, 1024, .inr (.inl (th))))] U.heap ∧ va_K (dC, dI) vwCl [(c3, .long), (c4, .long)] U ∧ va_D (fun _ => True) [(h0, .inr (2, [.int (nI a), .int (nI b), .ref r1, .ref r2, .ref r3, .ref r4])), (r3, .inl (c3, 1024, .inr (.inl (two)))), (r4, .inl (c4, 1024, .inr (.inl (th))))])) (va_Ql (fun (r : Int64) (_ : (Nat → Int64) × (Nat → Int64)) => r = lN (sp_T a b (a + b) a (a + 1))) (sp_BX2_sq dC dI (va_A [(h0, .inr (2, [.int (nI a), .int (nI b), .ref r1, .ref r2, .ref r3, .ref r4])), (r3, .inl (c3, 1024, .inr (.inl (two)))), (r4, .inl (c4, 1024, .inr (.inl (th))))] sz) h0 r1 r2 r3 r4 c3 c4 a b) (va_A [(h0, .inr (2, [.int (nI a), .int (nI b), .ref r1, .ref r2, .ref r3, .ref r4])), (r3, .inl (c3, 1024, .inr (.inl (two)))), (r4, .inl (c4, 1024, .inr (.inl (th))))] sz)) 0 0 (va_A [(h0, .inr (2, [.int (nI a), .int (nI b), .ref r1, .ref r2, .ref r3, .ref r4])), (r3, .inl (c3, 1024, .inr (.inl (two)))), (r4, .inl (c4, 1024, .inr (.inl (th))))] sz) := by
  refine Met.ofW (cc := cX2_apart) (maxL := 9) (ret := (some .long)) (by decide) rfl ?_
  intro p e s m args below meth c s₁ B hml hv
  obtain ⟨rfl, hsz, hP, hK, hD0⟩ := hv
  have hx := B.exec
  have hb := B.bytes
  have hr := B.returns
  have hts := atoms_spec (ws := (ws_ yX2_apart cX2_apart 9 (some .long))) B.pre
  have hts : ∀ w ∈ lw_all, w.before _ s = true := fun w h => hts w (List.mem_cons_of_mem _ h)
  have hown : s.vm.findClass RX2 = some m.cls := findClass_of_methodNamed B.named
  have hlocks := B.notSynchronized
  subst hsz
  have hD := hD0.self (sz := s.heap.size)
  generalize hAe : va_A [(h0, .inr (2, [.int (nI a), .int (nI b), .ref r1, .ref r2, .ref r3, .ref r4])), (r3, .inl (c3, 1024, .inr (.inl (two)))), (r4, .inl (c4, 1024, .inr (.inl (th))))] s.heap.size = A at hD ⊢
  have hA : ∀ q : Nat, s.heap.size ≤ q → A q := fun q h => by rw [← hAe]; exact Or.inr h
  have hS : va_S A s.heap s.heap [] := va_S.rf
  have hP : va_P (dC, dI) vwCl [(h0, .inr (2, [.int (nI a), .int (nI b), .ref r1, .ref r2, .ref r3, .ref r4])), (r3, .inl (c3, 1024, .inr (.inl (two)))), (r4, .inl (c4, 1024, .inr (.inl (th))))] s.heap := hP
  have hl := lv_entry ([.ref h0]) (n := 9) (Nat.le_of_ble_eq_true rfl)
  rw [lg_entry_eq]
  generalize (lg_sl ([.ref h0]) ++ List.replicate (9 - (lg_sl ([.ref h0])).length) Slot.unset).toArray = ls at hl ⊢
  have hl : lv_has ls 9 [(0, .ref h0)] := hl
  have hexit : ∀ (two th : Nat → Int64), (∀ i j : Nat, i < 32 → j < 32 → two (32 * i + j) = lN (sp_T a b (a + b) i j)) → ∀ (H : Heap) (locs : List Loc), va_P (dC, dI) vwCl [(h0, .inr (2, [.int (nI a), .int (nI b), .ref r1, .ref r2, .ref r3, .ref r4])), (r3, .inl (c3, 1024, .inr (.inl (two)))), (r4, .inl (c4, 1024, .inr (.inl (th))))] H → va_D A [(h0, .inr (2, [.int (nI a), .int (nI b), .ref r1, .ref r2, .ref r3, .ref r4])), (r3, .inl (c3, 1024, .inr (.inl (two)))), (r4, .inl (c4, 1024, .inr (.inl (th))))] → va_S A s.heap H locs → ∀ (ls : Array Slot), lv_has ls 9 [(0, .ref h0)] → W p l e (headSpec (ws_ yX2_apart cX2_apart 9 (some .long)) ({ frames := 0, cells := 0, slots := 0, locals := 0 })).room s m ([.ref h0] : List Value).toArray below meth c H locs 0 0 (MQ below (va_Ql (fun (r : Int64) (_ : (Nat → Int64) × (Nat → Int64)) => r = lN (sp_T a b (a + b) a (a + 1))) (sp_BX2_sq dC dI A h0 r1 r2 r3 r4 c3 c4 a b) A) ([.ref h0] : List Value).toArray s 0 0 A) (F0 m 270 ls []) := by
    intro two th hrow H locs hP hD hS ls hl
    refine lv_aload_n hx hb dX2_apart_270 rfl (lv_at hl 0 rfl) ?_
    refine va_get (D := (dC, dI)) (ci := 2) (v := .ref r3) (C := RX2) (T := TX2) (N := 6) hx hb hts in_X2 hown hK hP 0 rfl rfl 4 (by decide) (hts _ q73) (fun _ h9 => h9) rfl dX2_apart_271 ?_
    refine lv_bipush (v := (nI 32)) hx hb dX2_apart_274 (by decide) ?_
    refine lv_aload_n hx hb dX2_apart_276 rfl (lv_at hl 0 rfl) ?_
    refine va_get (D := (dC, dI)) (ci := 2) (v := .int (nI a)) (C := RX2) (T := TX2) (N := 6) hx hb hts in_X2 hown hK hP 0 rfl rfl 0 (by decide) (hts _ q69) (fun _ h9 => h9) rfl dX2_apart_277 ?_
    refine lv_imul hx hb dX2_apart_280 ?_
    refine sp_topi (y := (nI (32 * a))) (pk_mul _ _) ?_
    refine lv_aload_n hx hb dX2_apart_281 rfl (lv_at hl 0 rfl) ?_
    refine va_get (D := (dC, dI)) (ci := 2) (v := .int (nI a)) (C := RX2) (T := TX2) (N := 6) hx hb hts in_X2 hown hK hP 0 rfl rfl 0 (by decide) (hts _ q69) (fun _ h9 => h9) rfl dX2_apart_282 ?_
    refine lv_iadd hx hb dX2_apart_285 ?_
    refine sp_topi (y := (nI (32 * a + a))) (nI_add _ _) ?_
    refine lv_iconst (v := (nI 1)) hx hb dX2_apart_286 (by decide) ?_
    refine lv_iadd hx hb dX2_apart_287 ?_
    refine sp_topi (y := (nI (32 * a + a + 1))) (nI_add _ _) ?_
    refine sp_lald (i := 32 * a + a + 1) (y := (lN (sp_T a b (a + b) a (a + 1)))) hx hb hK hP 1 0 rfl rfl (by omega) (by decide) (by rw [Nat.add_assoc]; exact hrow a (a + 1) (by omega) (by omega)) dX2_apart_288 ?_
    exact W.lret (v := (lN (sp_T a b (a + b) a (a + 1)))) hx hb hr (fun t ht hW => ⟨⟨(lN (sp_T a b (a + b) a (a + 1))), (two, th), rfl, rfl, by rw [ht]; exact hP, va_K.moved hW.alike hK, hD⟩, hS.F ht⟩) hS.2.2 dX2_apart_289
  have hout : ∀ (k : Nat) (t : Nat) (two th : Nat → Int64), t ≤ a + b → a + b < t + k → (∀ i j : Nat, i < 32 → j < 32 → two (32 * i + j) = lN (sp_T a b (t) i j)) → ∀ (H : Heap) (locs : List Loc), va_P (dC, dI) vwCl [(h0, .inr (2, [.int (nI a), .int (nI b), .ref r1, .ref r2, .ref r3, .ref r4])), (r3, .inl (c3, 1024, .inr (.inl (two)))), (r4, .inl (c4, 1024, .inr (.inl (th))))] H → va_D A [(h0, .inr (2, [.int (nI a), .int (nI b), .ref r1, .ref r2, .ref r3, .ref r4])), (r3, .inl (c3, 1024, .inr (.inl (two)))), (r4, .inl (c4, 1024, .inr (.inl (th))))] → va_S A s.heap H locs → ∀ (ls : Array Slot), lv_has ls 9 [(0, .ref h0), (1, .int (nI t))] → W p l e (headSpec (ws_ yX2_apart cX2_apart 9 (some .long)) ({ frames := 0, cells := 0, slots := 0, locals := 0 })).room s m ([.ref h0] : List Value).toArray below meth c H locs 0 0 (MQ below (va_Ql (fun (r : Int64) (_ : (Nat → Int64) × (Nat → Int64)) => r = lN (sp_T a b (a + b) a (a + 1))) (sp_BX2_sq dC dI A h0 r1 r2 r3 r4 c3 c4 a b) A) ([.ref h0] : List Value).toArray s 0 0 A) (F0 m 31 ls []) := by
    intro k
    induction k with
    | zero => intro t two th h1 h2; exact absurd h2 (by omega)
    | succ k kh =>
      intro t two th ht hk hrow H locs hP hD hS ls hl
      refine lv_iload_n hx hb dX2_apart_31 rfl (lv_at hl 1 rfl) ?_
      refine lv_aload_n hx hb dX2_apart_32 rfl (lv_at hl 0 rfl) ?_
      refine va_get (D := (dC, dI)) (ci := 2) (v := .int (nI a)) (C := RX2) (T := TX2) (N := 6) hx hb hts in_X2 hown hK hP 0 rfl rfl 0 (by decide) (hts _ q69) (fun _ h9 => h9) rfl dX2_apart_33 ?_
      refine lv_aload_n hx hb dX2_apart_36 rfl (lv_at hl 0 rfl) ?_
      refine va_get (D := (dC, dI)) (ci := 2) (v := .int (nI b)) (C := RX2) (T := TX2) (N := 6) hx hb hts in_X2 hown hK hP 0 rfl rfl 1 (by decide) (hts _ q70) (fun _ h9 => h9) rfl dX2_apart_37 ?_
      refine lv_iadd hx hb dX2_apart_40 ?_
      refine sp_topi (y := (nI (a + b))) (nI_add _ _) ?_
      refine lv_icmp_ge (tgt := 270) hx hb dX2_apart_41 (by decide) (fun hct => ?_) (fun hct => ?_)
      · have hct : a + b ≤ t := (nI_leI (by omega) (by omega)).mp hct
        have et : t = a + b := by omega
        rw [et] at hrow
        exact hexit two th hrow H locs hP hD hS _ (lv_sub hl [0] rfl)
      · have hct : ¬ a + b ≤ t := fun h9 => hct ((nI_leI (by omega) (by omega)).mpr h9)
        have ih := kh
        have hcopy : ∀ (k : Nat) (v : Nat) (two th : Nat → Int64), v ≤ 1024 → 1024 < v + k → (∀ i j : Nat, i < 32 → j < 32 → th (32 * i + j) = lN (sp_T a b (t + 1) i j)) → (∀ j : Nat, j < v → two j = th j) → ∀ (H : Heap) (locs : List Loc), va_P (dC, dI) vwCl [(h0, .inr (2, [.int (nI a), .int (nI b), .ref r1, .ref r2, .ref r3, .ref r4])), (r3, .inl (c3, 1024, .inr (.inl (two)))), (r4, .inl (c4, 1024, .inr (.inl (th))))] H → va_D A [(h0, .inr (2, [.int (nI a), .int (nI b), .ref r1, .ref r2, .ref r3, .ref r4])), (r3, .inl (c3, 1024, .inr (.inl (two)))), (r4, .inl (c4, 1024, .inr (.inl (th))))] → va_S A s.heap H locs → ∀ (ls : Array Slot), lv_has ls 9 [(0, .ref h0), (1, .int (nI t)), (2, .int (nI v))] → W p l e (headSpec (ws_ yX2_apart cX2_apart 9 (some .long)) ({ frames := 0, cells := 0, slots := 0, locals := 0 })).room s m ([.ref h0] : List Value).toArray below meth c H locs 0 0 (MQ below (va_Ql (fun (r : Int64) (_ : (Nat → Int64) × (Nat → Int64)) => r = lN (sp_T a b (a + b) a (a + 1))) (sp_BX2_sq dC dI A h0 r1 r2 r3 r4 c3 c4 a b) A) ([.ref h0] : List Value).toArray s 0 0 A) (F0 m 239 ls []) := by
          intro k
          induction k with
          | zero => intro v two th h1 h2; exact absurd h2 (by omega)
          | succ k kh =>
            intro v two th hv hk hth hrw H locs hP hD hS ls hl
            refine lv_iload_n hx hb dX2_apart_239 rfl (lv_at hl 2 rfl) ?_
            refine lv_sipush (v := (nI 1024)) hx hb dX2_apart_240 (by decide) ?_
            refine lv_icmp_ge (tgt := 264) hx hb dX2_apart_243 (by decide) (fun hc => ?_) (fun hc => ?_)
            · have hc : 1024 ≤ v := (nI_leI (by omega) (by omega)).mp hc
              have ev : v = 1024 := by omega
              rw [ev] at hrw
              refine lv_iinc (v := (nI (t + 1))) (lv' := [(1, .int (nI (t + 1))), (0, .ref h0), (2, .int (nI v))]) hx hb dX2_apart_264 hl (k := 1) rfl (nI_add _ _) (by decide) rfl (fun ls hl => ?_)
              refine lv_goto (tgt := 31) hx hb dX2_apart_267 (by decide) ?_
              exact ih (t + 1) two th (by omega) (by omega) (fun i j hi hj => (hrw _ (by omega)).trans (hth i j hi hj)) H locs hP hD hS _ (lv_sub hl [1, 0] rfl)
            · have hc : ¬ 1024 ≤ v := fun h9 => hc ((nI_leI (by omega) (by omega)).mpr h9)
              refine lv_aload_n hx hb dX2_apart_246 rfl (lv_at hl 0 rfl) ?_
              refine va_get (D := (dC, dI)) (ci := 2) (v := .ref r3) (C := RX2) (T := TX2) (N := 6) hx hb hts in_X2 hown hK hP 0 rfl rfl 4 (by decide) (hts _ q73) (fun _ h9 => h9) rfl dX2_apart_247 ?_
              refine lv_iload_n hx hb dX2_apart_250 rfl (lv_at hl 2 rfl) ?_
              refine lv_aload_n hx hb dX2_apart_251 rfl (lv_at hl 0 rfl) ?_
              refine va_get (D := (dC, dI)) (ci := 2) (v := .ref r4) (C := RX2) (T := TX2) (N := 6) hx hb hts in_X2 hown hK hP 0 rfl rfl 5 (by decide) (hts _ q74) (fun _ h9 => h9) rfl dX2_apart_252 ?_
              refine lv_iload_n hx hb dX2_apart_255 rfl (lv_at hl 2 rfl) ?_
              refine sp_lald (i := v) (y := (th (v))) hx hb hK hP 2 1 rfl rfl (by omega) (by decide) rfl dX2_apart_256 ?_
              refine sp_last (i := v) (ws' := [(h0, .inr (2, [.int (nI a), .int (nI b), .ref r1, .ref r2, .ref r3, .ref r4])), (r3, .inl (c3, 1024, .inr (.inl (vp_updL two (v) ((th (v))))))), (r4, .inl (c4, 1024, .inr (.inl (th))))]) hx hb hK hP hD hS 1 0 rfl rfl (by omega) (by decide) rfl dX2_apart_257 (fun H locs hP hD hS => ?_)
              refine lv_iinc (v := (nI (v + 1))) (lv' := [(2, .int (nI (v + 1))), (0, .ref h0), (1, .int (nI t))]) hx hb dX2_apart_258 hl (k := 2) rfl (nI_add _ _) (by decide) rfl (fun ls hl => ?_)
              refine lv_goto (tgt := 239) hx hb dX2_apart_261 (by decide) ?_
              exact kh (v + 1) (vp_updL two (v) ((th (v)))) th (by omega) (by omega) hth (sp_fill (f := th) hrw rfl) H locs hP hD hS _ (lv_sub hl [1, 2, 0] rfl)
        have hxl : ∀ (k : Nat) (xx : Nat) (th : Nat → Int64), xx ≤ a + 1 → a + 1 < xx + k → (∀ i j : Nat, i < 32 → j < 32 → th (32 * i + j) = lN (sp_X a b t (sp_T a b t) (xx) i j)) → ∀ (H : Heap) (locs : List Loc), va_P (dC, dI) vwCl [(h0, .inr (2, [.int (nI a), .int (nI b), .ref r1, .ref r2, .ref r3, .ref r4])), (r3, .inl (c3, 1024, .inr (.inl (two)))), (r4, .inl (c4, 1024, .inr (.inl (th))))] H → va_D A [(h0, .inr (2, [.int (nI a), .int (nI b), .ref r1, .ref r2, .ref r3, .ref r4])), (r3, .inl (c3, 1024, .inr (.inl (two)))), (r4, .inl (c4, 1024, .inr (.inl (th))))] → va_S A s.heap H locs → ∀ (ls : Array Slot), lv_has ls 9 [(0, .ref h0), (1, .int (nI t)), (2, .int (nI xx))] → W p l e (headSpec (ws_ yX2_apart cX2_apart 9 (some .long)) ({ frames := 0, cells := 0, slots := 0, locals := 0 })).room s m ([.ref h0] : List Value).toArray below meth c H locs 0 0 (MQ below (va_Ql (fun (r : Int64) (_ : (Nat → Int64) × (Nat → Int64)) => r = lN (sp_T a b (a + b) a (a + 1))) (sp_BX2_sq dC dI A h0 r1 r2 r3 r4 c3 c4 a b) A) ([.ref h0] : List Value).toArray s 0 0 A) (F0 m 68 ls []) := by
          intro k
          induction k with
          | zero => intro xx th h1 h2; exact absurd h2 (by omega)
          | succ k kh =>
            intro xx th hxx hk hth H locs hP hD hS ls hl
            refine lv_iload_n hx hb dX2_apart_68 rfl (lv_at hl 2 rfl) ?_
            refine lv_aload_n hx hb dX2_apart_69 rfl (lv_at hl 0 rfl) ?_
            refine va_get (D := (dC, dI)) (ci := 2) (v := .int (nI a)) (C := RX2) (T := TX2) (N := 6) hx hb hts in_X2 hown hK hP 0 rfl rfl 0 (by decide) (hts _ q69) (fun _ h9 => h9) rfl dX2_apart_70 ?_
            refine lv_icmp_gt (tgt := 237) hx hb dX2_apart_73 (by decide) (fun hxc => ?_) (fun hxc => ?_)
            · have hxc : a < xx := (nI_ltI (by omega) (by omega)).mp hxc
              have ex : xx = a + 1 := by omega
              rw [ex] at hth
              refine lv_iconst (v := (nI 0)) hx hb dX2_apart_237 (by decide) ?_
              refine lv_istore_n (lv' := [(2, .int (nI 0)), (0, .ref h0), (1, .int (nI t))]) hx hb dX2_apart_238 rfl hl (by decide) rfl (fun ls hl => ?_)
              exact hcopy 1025 0 two th (by omega) (by omega) hth (fun j hj => by omega) H locs hP hD hS _ (lv_sub hl [1, 2, 0] rfl)
            · have hxc : ¬ a < xx := fun h9 => hxc ((nI_ltI (by omega) (by omega)).mpr h9)
              have xh := kh
              have hyl : ∀ (k : Nat) (yy : Nat) (th : Nat → Int64), yy ≤ a + 2 → a + 2 < yy + k → xx + 1 ≤ yy → (∀ i j : Nat, i < 32 → j < 32 → th (32 * i + j) = lN (sp_X a b t (sp_T a b t) (xx) i j + sp_Y a b t (sp_T a b t) xx (yy) i j)) → ∀ (H : Heap) (locs : List Loc), va_P (dC, dI) vwCl [(h0, .inr (2, [.int (nI a), .int (nI b), .ref r1, .ref r2, .ref r3, .ref r4])), (r3, .inl (c3, 1024, .inr (.inl (two)))), (r4, .inl (c4, 1024, .inr (.inl (th))))] H → va_D A [(h0, .inr (2, [.int (nI a), .int (nI b), .ref r1, .ref r2, .ref r3, .ref r4])), (r3, .inl (c3, 1024, .inr (.inl (two)))), (r4, .inl (c4, 1024, .inr (.inl (th))))] → va_S A s.heap H locs → ∀ (ls : Array Slot), lv_has ls 9 [(0, .ref h0), (1, .int (nI t)), (2, .int (nI xx)), (3, .int (nI yy))] → W p l e (headSpec (ws_ yX2_apart cX2_apart 9 (some .long)) ({ frames := 0, cells := 0, slots := 0, locals := 0 })).room s m ([.ref h0] : List Value).toArray below meth c H locs 0 0 (MQ below (va_Ql (fun (r : Int64) (_ : (Nat → Int64) × (Nat → Int64)) => r = lN (sp_T a b (a + b) a (a + 1))) (sp_BX2_sq dC dI A h0 r1 r2 r3 r4 c3 c4 a b) A) ([.ref h0] : List Value).toArray s 0 0 A) (F0 m 80 ls []) := by
                intro k
                induction k with
                | zero => intro yy th h1 h2; exact absurd h2 (by omega)
                | succ k kh =>
                  intro yy th hyy hk hxy hth H locs hP hD hS ls hl
                  refine lv_iload_n hx hb dX2_apart_80 rfl (lv_at hl 3 rfl) ?_
                  refine lv_aload_n hx hb dX2_apart_81 rfl (lv_at hl 0 rfl) ?_
                  refine va_get (D := (dC, dI)) (ci := 2) (v := .int (nI a)) (C := RX2) (T := TX2) (N := 6) hx hb hts in_X2 hown hK hP 0 rfl rfl 0 (by decide) (hts _ q69) (fun _ h9 => h9) rfl dX2_apart_82 ?_
                  refine lv_iconst (v := (nI 1)) hx hb dX2_apart_85 (by decide) ?_
                  refine lv_iadd hx hb dX2_apart_86 ?_
                  refine sp_topi (y := (nI (a + 1))) (nI_add _ _) ?_
                  refine lv_icmp_gt (tgt := 231) hx hb dX2_apart_87 (by decide) (fun hy => ?_) (fun hy => ?_)
                  · have hy : a + 1 < yy := (nI_ltI (by omega) (by omega)).mp hy
                    have ey : yy = a + 2 := by omega
                    rw [ey] at hth
                    refine lv_iinc (v := (nI (xx + 1))) (lv' := [(2, .int (nI (xx + 1))), (0, .ref h0), (1, .int (nI t)), (3, .int (nI yy))]) hx hb dX2_apart_231 hl (k := 2) rfl (nI_add _ _) (by decide) rfl (fun ls hl => ?_)
                    refine lv_goto (tgt := 68) hx hb dX2_apart_234 (by decide) ?_
                    exact xh (xx + 1) th (by omega) (by omega) (fun i j hi hj => by rw [← sp_X_s]; exact hth i j hi hj) H locs hP hD hS _ (lv_sub hl [1, 2, 0] rfl)
                  · have hy : ¬ a + 1 < yy := fun h9 => hy ((nI_ltI (by omega) (by omega)).mpr h9)
                    have yh := kh
                    have htail : ∀ (th : Nat → Int64), (∀ i j : Nat, i < 32 → j < 32 → th (32 * i + j) = lN (sp_X a b t (sp_T a b t) (xx) i j + sp_Y a b t (sp_T a b t) xx (yy + 1) i j)) → ∀ (H : Heap) (locs : List Loc), va_P (dC, dI) vwCl [(h0, .inr (2, [.int (nI a), .int (nI b), .ref r1, .ref r2, .ref r3, .ref r4])), (r3, .inl (c3, 1024, .inr (.inl (two)))), (r4, .inl (c4, 1024, .inr (.inl (th))))] H → va_D A [(h0, .inr (2, [.int (nI a), .int (nI b), .ref r1, .ref r2, .ref r3, .ref r4])), (r3, .inl (c3, 1024, .inr (.inl (two)))), (r4, .inl (c4, 1024, .inr (.inl (th))))] → va_S A s.heap H locs → ∀ (ls : Array Slot), lv_has ls 9 [(0, .ref h0), (1, .int (nI t)), (2, .int (nI xx)), (3, .int (nI yy))] → W p l e (headSpec (ws_ yX2_apart cX2_apart 9 (some .long)) ({ frames := 0, cells := 0, slots := 0, locals := 0 })).room s m ([.ref h0] : List Value).toArray below meth c H locs 0 0 (MQ below (va_Ql (fun (r : Int64) (_ : (Nat → Int64) × (Nat → Int64)) => r = lN (sp_T a b (a + b) a (a + 1))) (sp_BX2_sq dC dI A h0 r1 r2 r3 r4 c3 c4 a b) A) ([.ref h0] : List Value).toArray s 0 0 A) (F0 m 225 ls []) := by
                      intro th hth H locs hP hD hS ls hl
                      refine lv_iinc (v := (nI (yy + 1))) (lv' := [(3, .int (nI (yy + 1))), (0, .ref h0), (1, .int (nI t)), (2, .int (nI xx))]) hx hb dX2_apart_225 hl (k := 3) rfl (nI_add _ _) (by decide) rfl (fun ls hl => ?_)
                      refine lv_goto (tgt := 80) hx hb dX2_apart_228 (by decide) ?_
                      exact yh (yy + 1) th (by omega) (by omega) (by omega) hth H locs hP hD hS _ (lv_sub hl [1, 2, 3, 0] rfl)
                    have hsl : ∀ (k : Nat) (ss : Nat) (th : Nat → Int64), ss ≤ 4 → 4 < ss + k → (∀ i j : Nat, i < 32 → j < 32 → th (32 * i + j) = lN (sp_X a b t (sp_T a b t) (xx) i j + sp_Y a b t (sp_T a b t) xx (yy) i j + sp_Z a b t (sp_T a b t) xx yy (ss) i j)) → ∀ (H : Heap) (locs : List Loc), va_P (dC, dI) vwCl [(h0, .inr (2, [.int (nI a), .int (nI b), .ref r1, .ref r2, .ref r3, .ref r4])), (r3, .inl (c3, 1024, .inr (.inl (two)))), (r4, .inl (c4, 1024, .inr (.inl (th))))] H → va_D A [(h0, .inr (2, [.int (nI a), .int (nI b), .ref r1, .ref r2, .ref r3, .ref r4])), (r3, .inl (c3, 1024, .inr (.inl (two)))), (r4, .inl (c4, 1024, .inr (.inl (th))))] → va_S A s.heap H locs → ∀ (ls : Array Slot), lv_has ls 9 [(0, .ref h0), (1, .int (nI t)), (2, .int (nI xx)), (3, .int (nI yy)), (4, .long (lN (sp_T a b t xx yy))), (6, .int (nI ss))] → W p l e (headSpec (ws_ yX2_apart cX2_apart 9 (some .long)) ({ frames := 0, cells := 0, slots := 0, locals := 0 })).room s m ([.ref h0] : List Value).toArray below meth c H locs 0 0 (MQ below (va_Ql (fun (r : Int64) (_ : (Nat → Int64) × (Nat → Int64)) => r = lN (sp_T a b (a + b) a (a + 1))) (sp_BX2_sq dC dI A h0 r1 r2 r3 r4 c3 c4 a b) A) ([.ref h0] : List Value).toArray s 0 0 A) (F0 m 113 ls []) := by
                      intro k
                      induction k with
                      | zero => intro ss th h1 h2; exact absurd h2 (by omega)
                      | succ k kh =>
                        intro ss th hss hk hth H locs hP hD hS ls hl
                        refine lv_iload hx hb dX2_apart_113 (lv_at hl 5 rfl) ?_
                        refine lv_iconst (v := (nI 4)) hx hb dX2_apart_115 (by decide) ?_
                        refine lv_icmp_ge (tgt := 225) hx hb dX2_apart_116 (by decide) (fun hs => ?_) (fun hs => ?_)
                        · have hs : 4 ≤ ss := (nI_leI (by omega) (by omega)).mp hs
                          have es : ss = 4 := by omega
                          rw [es] at hth
                          exact htail th (fun i j hi hj => by rw [← sp_Y_s, ← Nat.add_assoc]; exact hth i j hi hj) H locs hP hD hS _ (lv_sub hl [0, 1, 2, 3] rfl)
                        · have hs : ¬ 4 ≤ ss := fun h9 => hs ((nI_leI (by omega) (by omega)).mpr h9)
                          have hst : ∀ (th : Nat → Int64), (∀ i j : Nat, i < 32 → j < 32 → th (32 * i + j) = lN (sp_X a b t (sp_T a b t) (xx) i j + sp_Y a b t (sp_T a b t) xx (yy) i j + sp_Z a b t (sp_T a b t) xx yy (ss + 1) i j)) → ∀ (H : Heap) (locs : List Loc), va_P (dC, dI) vwCl [(h0, .inr (2, [.int (nI a), .int (nI b), .ref r1, .ref r2, .ref r3, .ref r4])), (r3, .inl (c3, 1024, .inr (.inl (two)))), (r4, .inl (c4, 1024, .inr (.inl (th))))] H → va_D A [(h0, .inr (2, [.int (nI a), .int (nI b), .ref r1, .ref r2, .ref r3, .ref r4])), (r3, .inl (c3, 1024, .inr (.inl (two)))), (r4, .inl (c4, 1024, .inr (.inl (th))))] → va_S A s.heap H locs → ∀ (ls : Array Slot), lv_has ls 9 [(0, .ref h0), (1, .int (nI t)), (2, .int (nI xx)), (3, .int (nI yy)), (4, .long (lN (sp_T a b t xx yy))), (6, .int (nI ss))] → W p l e (headSpec (ws_ yX2_apart cX2_apart 9 (some .long)) ({ frames := 0, cells := 0, slots := 0, locals := 0 })).room s m ([.ref h0] : List Value).toArray below meth c H locs 0 0 (MQ below (va_Ql (fun (r : Int64) (_ : (Nat → Int64) × (Nat → Int64)) => r = lN (sp_T a b (a + b) a (a + 1))) (sp_BX2_sq dC dI A h0 r1 r2 r3 r4 c3 c4 a b) A) ([.ref h0] : List Value).toArray s 0 0 A) (F0 m 219 ls []) := by
                            intro th hth H locs hP hD hS ls hl
                            refine lv_iinc (v := (nI (ss + 1))) (lv' := [(6, .int (nI (ss + 1))), (0, .ref h0), (1, .int (nI t)), (2, .int (nI xx)), (3, .int (nI yy)), (4, .long (lN (sp_T a b t xx yy)))]) hx hb dX2_apart_219 hl (k := 5) rfl (nI_add _ _) (by decide) rfl (fun ls hl => ?_)
                            refine lv_goto (tgt := 113) hx hb dX2_apart_222 (by decide) ?_
                            exact kh (ss + 1) th (by omega) (by omega) hth H locs hP hD hS _ (lv_sub hl [1, 2, 3, 4, 5, 0] rfl)
                          have hg : ∀ i j : Nat, sp_X a b t (sp_T a b t) (xx) i j + sp_Y a b t (sp_T a b t) xx (yy) i j + sp_Z a b t (sp_T a b t) xx yy (ss + 1) i j = (sp_X a b t (sp_T a b t) (xx) i j + sp_Y a b t (sp_T a b t) xx (yy) i j + sp_Z a b t (sp_T a b t) xx yy (ss) i j) + (if i = xx + ss % 2 ∧ j = yy + ss / 2 then (if xx + ss % 2 ≤ a ∧ yy + ss / 2 ≤ a + 1 ∧ t + 1 ≤ b + (xx + ss % 2) ∧ t + 2 ≤ b + (yy + ss / 2) ∧ xx + ss % 2 < yy + ss / 2 then sp_T a b t xx yy else 0) else 0) := fun i j => by rw [sp_Z_s (by omega), ← Nat.add_assoc]
                          refine lv_iload_n hx hb dX2_apart_119 rfl (lv_at hl 2 rfl) ?_
                          refine lv_iload hx hb dX2_apart_120 (lv_at hl 5 rfl) ?_
                          refine lv_iconst (v := (nI 1)) hx hb dX2_apart_122 (by decide) ?_
                          refine lv_iand hx hb dX2_apart_123 ?_
                          refine sp_topi (y := (nI (ss % 2))) (pk_andN (by omega) 1 (by decide)) ?_
                          refine lv_iadd hx hb dX2_apart_124 ?_
                          refine sp_topi (y := (nI (xx + ss % 2))) (nI_add _ _) ?_
                          refine lv_istore (lv' := [(7, .int (nI (xx + ss % 2))), (0, .ref h0), (1, .int (nI t)), (2, .int (nI xx)), (3, .int (nI yy)), (4, .long (lN (sp_T a b t xx yy))), (6, .int (nI ss))]) hx hb dX2_apart_125 hl (by decide) rfl (fun ls hl => ?_)
                          refine lv_iload_n hx hb dX2_apart_127 rfl (lv_at hl 4 rfl) ?_
                          refine lv_iload hx hb dX2_apart_128 (lv_at hl 6 rfl) ?_
                          refine lv_iconst (v := (nI 1)) hx hb dX2_apart_130 (by decide) ?_
                          refine lv_ishr hx hb dX2_apart_131 ?_
                          refine sp_topi (y := (nI (ss / 2))) (pk_shrN (by omega) (nI 1 &&& 31) 1 (by decide)) ?_
                          refine lv_iadd hx hb dX2_apart_132 ?_
                          refine sp_topi (y := (nI (yy + ss / 2))) (nI_add _ _) ?_
                          refine lv_istore (lv' := [(8, .int (nI (yy + ss / 2))), (7, .int (nI (xx + ss % 2))), (0, .ref h0), (1, .int (nI t)), (2, .int (nI xx)), (3, .int (nI yy)), (4, .long (lN (sp_T a b t xx yy))), (6, .int (nI ss))]) hx hb dX2_apart_133 hl (by decide) rfl (fun ls hl => ?_)
                          refine lv_iload hx hb dX2_apart_135 (lv_at hl 1 rfl) ?_
                          refine lv_aload_n hx hb dX2_apart_137 rfl (lv_at hl 2 rfl) ?_
                          refine va_get (D := (dC, dI)) (ci := 2) (v := .int (nI a)) (C := RX2) (T := TX2) (N := 6) hx hb hts in_X2 hown hK hP 0 rfl rfl 0 (by decide) (hts _ q69) (fun _ h9 => h9) rfl dX2_apart_138 ?_
                          refine lv_icmp_gt (tgt := 219) hx hb dX2_apart_141 (by decide) (fun hk1 => ?_) (fun hk1 => ?_)
                          · have hk1 : a < xx + ss % 2 := (nI_ltI (by omega) (by omega)).mp hk1
                            exact hst th (sp_keep2 (g := fun i j => sp_X a b t (sp_T a b t) (xx) i j + sp_Y a b t (sp_T a b t) xx (yy) i j + sp_Z a b t (sp_T a b t) xx yy (ss) i j) hth hg (if_neg (by omega))) H locs hP hD hS _ (lv_sub hl [2, 3, 4, 5, 6, 7] rfl)
                          · have hk1 : ¬ a < xx + ss % 2 := fun h9 => hk1 ((nI_ltI (by omega) (by omega)).mpr h9)
                            refine lv_iload hx hb dX2_apart_144 (lv_at hl 0 rfl) ?_
                            refine lv_aload_n hx hb dX2_apart_146 rfl (lv_at hl 2 rfl) ?_
                            refine va_get (D := (dC, dI)) (ci := 2) (v := .int (nI a)) (C := RX2) (T := TX2) (N := 6) hx hb hts in_X2 hown hK hP 0 rfl rfl 0 (by decide) (hts _ q69) (fun _ h9 => h9) rfl dX2_apart_147 ?_
                            refine lv_iconst (v := (nI 1)) hx hb dX2_apart_150 (by decide) ?_
                            refine lv_iadd hx hb dX2_apart_151 ?_
                            refine sp_topi (y := (nI (a + 1))) (nI_add _ _) ?_
                            refine lv_icmp_gt (tgt := 219) hx hb dX2_apart_152 (by decide) (fun hk2 => ?_) (fun hk2 => ?_)
                            · have hk2 : a + 1 < yy + ss / 2 := (nI_ltI (by omega) (by omega)).mp hk2
                              exact hst th (sp_keep2 (g := fun i j => sp_X a b t (sp_T a b t) (xx) i j + sp_Y a b t (sp_T a b t) xx (yy) i j + sp_Z a b t (sp_T a b t) xx yy (ss) i j) hth hg (if_neg (by omega))) H locs hP hD hS _ (lv_sub hl [2, 3, 4, 5, 6, 7] rfl)
                            · have hk2 : ¬ a + 1 < yy + ss / 2 := fun h9 => hk2 ((nI_ltI (by omega) (by omega)).mpr h9)
                              refine lv_iload_n hx hb dX2_apart_155 rfl (lv_at hl 3 rfl) ?_
                              refine lv_iconst (v := (nI 1)) hx hb dX2_apart_156 (by decide) ?_
                              refine lv_iadd hx hb dX2_apart_157 ?_
                              refine sp_topi (y := (nI (t + 1))) (nI_add _ _) ?_
                              refine lv_iload hx hb dX2_apart_158 (lv_at hl 1 rfl) ?_
                              refine lv_isub hx hb dX2_apart_160 ?_
                              refine sp_topi (y := (sp_i (((t + 1 : Nat) : Int) - ((xx + ss % 2 : Nat) : Int)))) (by simp only [sp_ni, sp_iadd, sp_isub, sp_imul, sp_ineg] <;> exact congrArg sp_i (by omega)) ?_
                              refine lv_aload_n hx hb dX2_apart_161 rfl (lv_at hl 2 rfl) ?_
                              refine va_get (D := (dC, dI)) (ci := 2) (v := .int (nI b)) (C := RX2) (T := TX2) (N := 6) hx hb hts in_X2 hown hK hP 0 rfl rfl 1 (by decide) (hts _ q70) (fun _ h9 => h9) rfl dX2_apart_162 ?_
                              refine lv_icmp_gt (tgt := 219) hx hb dX2_apart_165 (by decide) (fun hk3 => ?_) (fun hk3 => ?_)
                              · rw [sp_ni] at hk3
                                have hk3 : ((b : Nat) : Int) < ((t + 1 : Nat) : Int) - ((xx + ss % 2 : Nat) : Int) := (sp_ilt (by omega) (by omega) (by omega) (by omega)).mp hk3
                                exact hst th (sp_keep2 (g := fun i j => sp_X a b t (sp_T a b t) (xx) i j + sp_Y a b t (sp_T a b t) xx (yy) i j + sp_Z a b t (sp_T a b t) xx yy (ss) i j) hth hg (if_neg (by omega))) H locs hP hD hS _ (lv_sub hl [2, 3, 4, 5, 6, 7] rfl)
                              · rw [sp_ni] at hk3
                                have hk3 : ¬ ((b : Nat) : Int) < ((t + 1 : Nat) : Int) - ((xx + ss % 2 : Nat) : Int) := fun h9 => hk3 ((sp_ilt (by omega) (by omega) (by omega) (by omega)).mpr h9)
                                refine lv_iload_n hx hb dX2_apart_168 rfl (lv_at hl 3 rfl) ?_
                                refine lv_iconst (v := (nI 1)) hx hb dX2_apart_169 (by decide) ?_
                                refine lv_iadd hx hb dX2_apart_170 ?_
                                refine sp_topi (y := (nI (t + 1))) (nI_add _ _) ?_
                                refine lv_iload hx hb dX2_apart_171 (lv_at hl 0 rfl) ?_
                                refine lv_iconst (v := (nI 1)) hx hb dX2_apart_173 (by decide) ?_
                                refine lv_isub hx hb dX2_apart_174 ?_
                                refine sp_topi (y := (sp_i (((yy + ss / 2 : Nat) : Int) - 1))) (by simp only [sp_ni, sp_iadd, sp_isub, sp_imul, sp_ineg] <;> exact congrArg sp_i (by omega)) ?_
                                refine lv_isub hx hb dX2_apart_175 ?_
                                refine sp_topi (y := (sp_i (((t + 1 : Nat) : Int) - (((yy + ss / 2 : Nat) : Int) - 1)))) (by simp only [sp_ni, sp_iadd, sp_isub, sp_imul, sp_ineg] <;> exact congrArg sp_i (by omega)) ?_
                                refine lv_aload_n hx hb dX2_apart_176 rfl (lv_at hl 2 rfl) ?_
                                refine va_get (D := (dC, dI)) (ci := 2) (v := .int (nI b)) (C := RX2) (T := TX2) (N := 6) hx hb hts in_X2 hown hK hP 0 rfl rfl 1 (by decide) (hts _ q70) (fun _ h9 => h9) rfl dX2_apart_177 ?_
                                refine lv_icmp_gt (tgt := 219) hx hb dX2_apart_180 (by decide) (fun hk4 => ?_) (fun hk4 => ?_)
                                · rw [sp_ni] at hk4
                                  have hk4 : ((b : Nat) : Int) < ((t + 1 : Nat) : Int) - (((yy + ss / 2 : Nat) : Int) - 1) := (sp_ilt (by omega) (by omega) (by omega) (by omega)).mp hk4
                                  exact hst th (sp_keep2 (g := fun i j => sp_X a b t (sp_T a b t) (xx) i j + sp_Y a b t (sp_T a b t) xx (yy) i j + sp_Z a b t (sp_T a b t) xx yy (ss) i j) hth hg (if_neg (by omega))) H locs hP hD hS _ (lv_sub hl [2, 3, 4, 5, 6, 7] rfl)
                                · rw [sp_ni] at hk4
                                  have hk4 : ¬ ((b : Nat) : Int) < ((t + 1 : Nat) : Int) - (((yy + ss / 2 : Nat) : Int) - 1) := fun h9 => hk4 ((sp_ilt (by omega) (by omega) (by omega) (by omega)).mpr h9)
                                  refine lv_iload hx hb dX2_apart_183 (lv_at hl 1 rfl) ?_
                                  refine lv_iload hx hb dX2_apart_185 (lv_at hl 0 rfl) ?_
                                  refine lv_icmp_ge (tgt := 219) hx hb dX2_apart_187 (by decide) (fun hk5 => ?_) (fun hk5 => ?_)
                                  · have hk5 : yy + ss / 2 ≤ xx + ss % 2 := (nI_leI (by omega) (by omega)).mp hk5
                                    exact hst th (sp_keep2 (g := fun i j => sp_X a b t (sp_T a b t) (xx) i j + sp_Y a b t (sp_T a b t) xx (yy) i j + sp_Z a b t (sp_T a b t) xx yy (ss) i j) hth hg (if_neg (by omega))) H locs hP hD hS _ (lv_sub hl [2, 3, 4, 5, 6, 7] rfl)
                                  · have hk5 : ¬ yy + ss / 2 ≤ xx + ss % 2 := fun h9 => hk5 ((nI_leI (by omega) (by omega)).mpr h9)
                                    refine lv_aload_n hx hb dX2_apart_190 rfl (lv_at hl 2 rfl) ?_
                                    refine va_get (D := (dC, dI)) (ci := 2) (v := .ref r4) (C := RX2) (T := TX2) (N := 6) hx hb hts in_X2 hown hK hP 0 rfl rfl 5 (by decide) (hts _ q74) (fun _ h9 => h9) rfl dX2_apart_191 ?_
                                    refine lv_bipush (v := (nI 32)) hx hb dX2_apart_194 (by decide) ?_
                                    refine lv_iload hx hb dX2_apart_196 (lv_at hl 1 rfl) ?_
                                    refine lv_imul hx hb dX2_apart_198 ?_
                                    refine sp_topi (y := (nI (32 * (xx + ss % 2)))) (pk_mul _ _) ?_
                                    refine lv_iload hx hb dX2_apart_199 (lv_at hl 0 rfl) ?_
                                    refine lv_iadd hx hb dX2_apart_201 ?_
                                    refine sp_topi (y := (nI (32 * (xx + ss % 2) + (yy + ss / 2)))) (nI_add _ _) ?_
                                    refine lv_aload_n hx hb dX2_apart_202 rfl (lv_at hl 2 rfl) ?_
                                    refine va_get (D := (dC, dI)) (ci := 2) (v := .ref r4) (C := RX2) (T := TX2) (N := 6) hx hb hts in_X2 hown hK hP 0 rfl rfl 5 (by decide) (hts _ q74) (fun _ h9 => h9) rfl dX2_apart_203 ?_
                                    refine lv_bipush (v := (nI 32)) hx hb dX2_apart_206 (by decide) ?_
                                    refine lv_iload hx hb dX2_apart_208 (lv_at hl 1 rfl) ?_
                                    refine lv_imul hx hb dX2_apart_210 ?_
                                    refine sp_topi (y := (nI (32 * (xx + ss % 2)))) (pk_mul _ _) ?_
                                    refine lv_iload hx hb dX2_apart_211 (lv_at hl 0 rfl) ?_
                                    refine lv_iadd hx hb dX2_apart_213 ?_
                                    refine sp_topi (y := (nI (32 * (xx + ss % 2) + (yy + ss / 2)))) (nI_add _ _) ?_
                                    refine sp_lald (i := 32 * (xx + ss % 2) + (yy + ss / 2)) (y := (lN (sp_X a b t (sp_T a b t) (xx) (xx + ss % 2) (yy + ss / 2) + sp_Y a b t (sp_T a b t) xx (yy) (xx + ss % 2) (yy + ss / 2) + sp_Z a b t (sp_T a b t) xx yy (ss) (xx + ss % 2) (yy + ss / 2)))) hx hb hK hP 2 1 rfl rfl (by omega) (by decide) (hth (xx + ss % 2) (yy + ss / 2) (by omega) (by omega)) dX2_apart_214 ?_
                                    refine lv_lload hx hb dX2_apart_215 (lv_at hl 6 rfl) ?_
                                    refine lv_ladd hx hb dX2_apart_217 ?_
                                    refine sp_topl (y := (lN ((sp_X a b t (sp_T a b t) (xx) (xx + ss % 2) (yy + ss / 2) + sp_Y a b t (sp_T a b t) xx (yy) (xx + ss % 2) (yy + ss / 2) + sp_Z a b t (sp_T a b t) xx yy (ss) (xx + ss % 2) (yy + ss / 2)) + (sp_T a b t xx yy)))) (lN_add _ _) ?_
                                    refine sp_last (i := 32 * (xx + ss % 2) + (yy + ss / 2)) (ws' := [(h0, .inr (2, [.int (nI a), .int (nI b), .ref r1, .ref r2, .ref r3, .ref r4])), (r3, .inl (c3, 1024, .inr (.inl (two)))), (r4, .inl (c4, 1024, .inr (.inl (vp_updL th (32 * (xx + ss % 2) + (yy + ss / 2)) ((lN ((sp_X a b t (sp_T a b t) (xx) (xx + ss % 2) (yy + ss / 2) + sp_Y a b t (sp_T a b t) xx (yy) (xx + ss % 2) (yy + ss / 2) + sp_Z a b t (sp_T a b t) xx yy (ss) (xx + ss % 2) (yy + ss / 2)) + (sp_T a b t xx yy))))))))]) hx hb hK hP hD hS 2 1 rfl rfl (by omega) (by decide) rfl dX2_apart_218 (fun H locs hP hD hS => ?_)
                                    exact hst (vp_updL th (32 * (xx + ss % 2) + (yy + ss / 2)) ((lN ((sp_X a b t (sp_T a b t) (xx) (xx + ss % 2) (yy + ss / 2) + sp_Y a b t (sp_T a b t) xx (yy) (xx + ss % 2) (yy + ss / 2) + sp_Z a b t (sp_T a b t) xx yy (ss) (xx + ss % 2) (yy + ss / 2)) + (sp_T a b t xx yy))))) (sp_bump2E (g := fun i j => sp_X a b t (sp_T a b t) (xx) i j + sp_Y a b t (sp_T a b t) xx (yy) i j + sp_Z a b t (sp_T a b t) xx yy (ss) i j) (p0 := xx + ss % 2) (q0 := yy + ss / 2) (by omega) hth hg (if_pos (by omega))) H locs hP hD hS _ (lv_sub hl [2, 3, 4, 5, 6, 7] rfl)
                    refine lv_aload_n hx hb dX2_apart_90 rfl (lv_at hl 0 rfl) ?_
                    refine va_get (D := (dC, dI)) (ci := 2) (v := .ref r3) (C := RX2) (T := TX2) (N := 6) hx hb hts in_X2 hown hK hP 0 rfl rfl 4 (by decide) (hts _ q73) (fun _ h9 => h9) rfl dX2_apart_91 ?_
                    refine lv_bipush (v := (nI 32)) hx hb dX2_apart_94 (by decide) ?_
                    refine lv_iload_n hx hb dX2_apart_96 rfl (lv_at hl 2 rfl) ?_
                    refine lv_imul hx hb dX2_apart_97 ?_
                    refine sp_topi (y := (nI (32 * xx))) (pk_mul _ _) ?_
                    refine lv_iload_n hx hb dX2_apart_98 rfl (lv_at hl 3 rfl) ?_
                    refine lv_iadd hx hb dX2_apart_99 ?_
                    refine sp_topi (y := (nI (32 * xx + yy))) (nI_add _ _) ?_
                    refine sp_lald (i := 32 * xx + yy) (y := (lN (sp_T a b t xx yy))) hx hb hK hP 1 0 rfl rfl (by omega) (by decide) (hrow xx yy (by omega) (by omega)) dX2_apart_100 ?_
                    refine lv_lstore (lv' := [(4, .long (lN (sp_T a b t xx yy))), (0, .ref h0), (1, .int (nI t)), (2, .int (nI xx)), (3, .int (nI yy))]) hx hb dX2_apart_101 hl (by decide) rfl (fun ls hl => ?_)
                    refine lv_lload hx hb dX2_apart_103 (lv_at hl 0 rfl) ?_
                    refine lv_lconst (v := (lN (0))) hx hb dX2_apart_105 (by first | rfl | decide) ?_
                    refine W.lcmp hx hb dX2_apart_106 ?_
                    refine lv_if_le (tgt := 225) hx hb dX2_apart_107 (by decide) (fun hc0 => ?_) (fun hc0 => ?_)
                    · have hc0 : sp_T a b t xx yy = 0 := (sp_cmp0 (sp_T_lt (by omega) _ _)).mp hc0
                      exact htail th (fun i j hi hj => by rw [← sp_Y_s, sp_Z_zero hc0, Nat.add_zero]; exact hth i j hi hj) H locs hP hD hS _ (lv_sub hl [1, 2, 3, 4] rfl)
                    · have hc0 : ¬ sp_T a b t xx yy = 0 := fun h9 => hc0 ((sp_cmp0 (sp_T_lt (by omega) _ _)).mpr h9)
                      refine lv_iconst (v := (nI 0)) hx hb dX2_apart_110 (by decide) ?_
                      refine lv_istore (lv' := [(6, .int (nI 0)), (4, .long (lN (sp_T a b t xx yy))), (0, .ref h0), (1, .int (nI t)), (2, .int (nI xx)), (3, .int (nI yy))]) hx hb dX2_apart_111 hl (by decide) rfl (fun ls hl => ?_)
                      exact hsl 5 0 th (by omega) (by omega) (fun i j hi hj => by rw [sp_Z_0, Nat.add_zero]; exact hth i j hi hj) H locs hP hD hS _ (lv_sub hl [2, 3, 4, 5, 1, 0] rfl)
              refine lv_iload_n hx hb dX2_apart_76 rfl (lv_at hl 2 rfl) ?_
              refine lv_iconst (v := (nI 1)) hx hb dX2_apart_77 (by decide) ?_
              refine lv_iadd hx hb dX2_apart_78 ?_
              refine sp_topi (y := (nI (xx + 1))) (nI_add _ _) ?_
              refine lv_istore_n (lv' := [(3, .int (nI (xx + 1))), (0, .ref h0), (1, .int (nI t)), (2, .int (nI xx))]) hx hb dX2_apart_79 rfl hl (by decide) rfl (fun ls hl => ?_)
              exact hyl (a + 3) (xx + 1) th (by omega) (by omega) (by omega) (fun i j hi hj => by rw [sp_Y_first (sp_T_low a b t), Nat.add_zero]; exact hth i j hi hj) H locs hP hD hS _ (lv_sub hl [1, 2, 3, 0] rfl)
        have hz : ∀ (k : Nat) (v : Nat) (th : Nat → Int64), v ≤ 1024 → 1024 < v + k → (∀ j : Nat, j < v → th j = lN 0) → ∀ (H : Heap) (locs : List Loc), va_P (dC, dI) vwCl [(h0, .inr (2, [.int (nI a), .int (nI b), .ref r1, .ref r2, .ref r3, .ref r4])), (r3, .inl (c3, 1024, .inr (.inl (two)))), (r4, .inl (c4, 1024, .inr (.inl (th))))] H → va_D A [(h0, .inr (2, [.int (nI a), .int (nI b), .ref r1, .ref r2, .ref r3, .ref r4])), (r3, .inl (c3, 1024, .inr (.inl (two)))), (r4, .inl (c4, 1024, .inr (.inl (th))))] → va_S A s.heap H locs → ∀ (ls : Array Slot), lv_has ls 9 [(0, .ref h0), (1, .int (nI t)), (2, .int (nI v))] → W p l e (headSpec (ws_ yX2_apart cX2_apart 9 (some .long)) ({ frames := 0, cells := 0, slots := 0, locals := 0 })).room s m ([.ref h0] : List Value).toArray below meth c H locs 0 0 (MQ below (va_Ql (fun (r : Int64) (_ : (Nat → Int64) × (Nat → Int64)) => r = lN (sp_T a b (a + b) a (a + 1))) (sp_BX2_sq dC dI A h0 r1 r2 r3 r4 c3 c4 a b) A) ([.ref h0] : List Value).toArray s 0 0 A) (F0 m 46 ls []) := by
          intro k
          induction k with
          | zero => intro v th h1 h2; exact absurd h2 (by omega)
          | succ k kh =>
            intro v th hv hk hth H locs hP hD hS ls hl
            refine lv_iload_n hx hb dX2_apart_46 rfl (lv_at hl 2 rfl) ?_
            refine lv_sipush (v := (nI 1024)) hx hb dX2_apart_47 (by decide) ?_
            refine lv_icmp_ge (tgt := 66) hx hb dX2_apart_50 (by decide) (fun hc => ?_) (fun hc => ?_)
            · have hc : 1024 ≤ v := (nI_leI (by omega) (by omega)).mp hc
              have ev : v = 1024 := by omega
              rw [ev] at hth
              refine lv_iconst (v := (nI 0)) hx hb dX2_apart_66 (by decide) ?_
              refine lv_istore_n (lv' := [(2, .int (nI 0)), (0, .ref h0), (1, .int (nI t))]) hx hb dX2_apart_67 rfl hl (by decide) rfl (fun ls hl => ?_)
              exact hxl (a + 2) 0 th (by omega) (by omega) (fun i j hi hj => by rw [sp_X_0]; exact hth _ (by omega)) H locs hP hD hS _ (lv_sub hl [1, 2, 0] rfl)
            · have hc : ¬ 1024 ≤ v := fun h9 => hc ((nI_leI (by omega) (by omega)).mpr h9)
              refine lv_aload_n hx hb dX2_apart_53 rfl (lv_at hl 0 rfl) ?_
              refine va_get (D := (dC, dI)) (ci := 2) (v := .ref r4) (C := RX2) (T := TX2) (N := 6) hx hb hts in_X2 hown hK hP 0 rfl rfl 5 (by decide) (hts _ q74) (fun _ h9 => h9) rfl dX2_apart_54 ?_
              refine lv_iload_n hx hb dX2_apart_57 rfl (lv_at hl 2 rfl) ?_
              refine lv_lconst (v := (lN (0))) hx hb dX2_apart_58 (by first | rfl | decide) ?_
              refine sp_last (i := v) (ws' := [(h0, .inr (2, [.int (nI a), .int (nI b), .ref r1, .ref r2, .ref r3, .ref r4])), (r3, .inl (c3, 1024, .inr (.inl (two)))), (r4, .inl (c4, 1024, .inr (.inl (vp_updL th (v) ((lN (0)))))))]) hx hb hK hP hD hS 2 1 rfl rfl (by omega) (by decide) rfl dX2_apart_59 (fun H locs hP hD hS => ?_)
              refine lv_iinc (v := (nI (v + 1))) (lv' := [(2, .int (nI (v + 1))), (0, .ref h0), (1, .int (nI t))]) hx hb dX2_apart_60 hl (k := 2) rfl (nI_add _ _) (by decide) rfl (fun ls hl => ?_)
              refine lv_goto (tgt := 46) hx hb dX2_apart_63 (by decide) ?_
              exact kh (v + 1) (vp_updL th (v) ((lN (0)))) (by omega) (by omega) (sp_fill (f := fun _ => lN 0) hth rfl) H locs hP hD hS _ (lv_sub hl [1, 2, 0] rfl)
        refine lv_iconst (v := (nI 0)) hx hb dX2_apart_44 (by decide) ?_
        refine lv_istore_n (lv' := [(2, .int (nI 0)), (0, .ref h0), (1, .int (nI t))]) hx hb dX2_apart_45 rfl hl (by decide) rfl (fun ls hl => ?_)
        exact hz 1025 0 th (by omega) (by omega) (fun j hj => by omega) H locs hP hD hS _ (lv_sub hl [1, 2, 0] rfl)
  have hinit : ∀ (k : Nat) (v : Nat) (two : Nat → Int64), v ≤ 1024 → 1024 < v + k → (∀ j : Nat, j < v → two j = lN 0) → ∀ (H : Heap) (locs : List Loc), va_P (dC, dI) vwCl [(h0, .inr (2, [.int (nI a), .int (nI b), .ref r1, .ref r2, .ref r3, .ref r4])), (r3, .inl (c3, 1024, .inr (.inl (two)))), (r4, .inl (c4, 1024, .inr (.inl (th))))] H → va_D A [(h0, .inr (2, [.int (nI a), .int (nI b), .ref r1, .ref r2, .ref r3, .ref r4])), (r3, .inl (c3, 1024, .inr (.inl (two)))), (r4, .inl (c4, 1024, .inr (.inl (th))))] → va_S A s.heap H locs → ∀ (ls : Array Slot), lv_has ls 9 [(0, .ref h0), (1, .int (nI v))] → W p l e (headSpec (ws_ yX2_apart cX2_apart 9 (some .long)) ({ frames := 0, cells := 0, slots := 0, locals := 0 })).room s m ([.ref h0] : List Value).toArray below meth c H locs 0 0 (MQ below (va_Ql (fun (r : Int64) (_ : (Nat → Int64) × (Nat → Int64)) => r = lN (sp_T a b (a + b) a (a + 1))) (sp_BX2_sq dC dI A h0 r1 r2 r3 r4 c3 c4 a b) A) ([.ref h0] : List Value).toArray s 0 0 A) (F0 m 2 ls []) := by
    intro k
    induction k with
    | zero => intro v two h1 h2; exact absurd h2 (by omega)
    | succ k kh =>
      intro v two hv hk htw H locs hP hD hS ls hl
      refine lv_iload_n hx hb dX2_apart_2 rfl (lv_at hl 1 rfl) ?_
      refine lv_sipush (v := (nI 1024)) hx hb dX2_apart_3 (by decide) ?_
      refine lv_icmp_ge (tgt := 22) hx hb dX2_apart_6 (by decide) (fun hc => ?_) (fun hc => ?_)
      · have hc : 1024 ≤ v := (nI_leI (by omega) (by omega)).mp hc
        have ev : v = 1024 := by omega
        rw [ev] at htw
        refine lv_aload_n hx hb dX2_apart_22 rfl (lv_at hl 0 rfl) ?_
        refine va_get (D := (dC, dI)) (ci := 2) (v := .ref r3) (C := RX2) (T := TX2) (N := 6) hx hb hts in_X2 hown hK hP 0 rfl rfl 4 (by decide) (hts _ q73) (fun _ h9 => h9) rfl dX2_apart_23 ?_
        refine lv_iconst (v := (nI 1)) hx hb dX2_apart_26 (by decide) ?_
        refine lv_lconst (v := (lN (1))) hx hb dX2_apart_27 (by first | rfl | decide) ?_
        refine sp_last (i := 1) (ws' := [(h0, .inr (2, [.int (nI a), .int (nI b), .ref r1, .ref r2, .ref r3, .ref r4])), (r3, .inl (c3, 1024, .inr (.inl (vp_updL two (1) ((lN (1))))))), (r4, .inl (c4, 1024, .inr (.inl (th))))]) hx hb hK hP hD hS 1 0 rfl rfl (by omega) (by decide) rfl dX2_apart_28 (fun H locs hP hD hS => ?_)
        refine lv_iconst (v := (nI 0)) hx hb dX2_apart_29 (by decide) ?_
        refine lv_istore_n (lv' := [(1, .int (nI 0)), (0, .ref h0)]) hx hb dX2_apart_30 rfl hl (by decide) rfl (fun ls hl => ?_)
        exact hout (a + b + 1) 0 (vp_updL two (1) ((lN (1)))) th (by omega) (by omega) (sp_two0 htw) H locs hP hD hS _ (lv_sub hl [1, 0] rfl)
      · have hc : ¬ 1024 ≤ v := fun h9 => hc ((nI_leI (by omega) (by omega)).mpr h9)
        refine lv_aload_n hx hb dX2_apart_9 rfl (lv_at hl 0 rfl) ?_
        refine va_get (D := (dC, dI)) (ci := 2) (v := .ref r3) (C := RX2) (T := TX2) (N := 6) hx hb hts in_X2 hown hK hP 0 rfl rfl 4 (by decide) (hts _ q73) (fun _ h9 => h9) rfl dX2_apart_10 ?_
        refine lv_iload_n hx hb dX2_apart_13 rfl (lv_at hl 1 rfl) ?_
        refine lv_lconst (v := (lN (0))) hx hb dX2_apart_14 (by first | rfl | decide) ?_
        refine sp_last (i := v) (ws' := [(h0, .inr (2, [.int (nI a), .int (nI b), .ref r1, .ref r2, .ref r3, .ref r4])), (r3, .inl (c3, 1024, .inr (.inl (vp_updL two (v) ((lN (0))))))), (r4, .inl (c4, 1024, .inr (.inl (th))))]) hx hb hK hP hD hS 1 0 rfl rfl (by omega) (by decide) rfl dX2_apart_15 (fun H locs hP hD hS => ?_)
        refine lv_iinc (v := (nI (v + 1))) (lv' := [(1, .int (nI (v + 1))), (0, .ref h0)]) hx hb dX2_apart_16 hl (k := 1) rfl (nI_add _ _) (by decide) rfl (fun ls hl => ?_)
        refine lv_goto (tgt := 2) hx hb dX2_apart_19 (by decide) ?_
        exact kh (v + 1) (vp_updL two (v) ((lN (0)))) (by omega) (by omega) (sp_fill (f := fun _ => lN 0) htw rfl) H locs hP hD hS _ (lv_sub hl [1, 0] rfl)
  refine lv_iconst (v := (nI 0)) hx hb dX2_apart_0 (by decide) ?_
  refine lv_istore_n (lv' := [(1, .int (nI 0)), (0, .ref h0)]) hx hb dX2_apart_1 rfl hl (by decide) rfl (fun ls hl => ?_)
  exact hinit 1025 0 two (by omega) (by omega) (fun j hj => by omega) s.heap _ hP hD hS _ (lv_sub hl [1, 0] rfl)
end
section
-- ===== end of PART A; then your names; then what follows =====
/-! THE CLAIM OUT OF ONE WALK OF THE LAW'S BODY. Your part is whole_start (and what it stands on); all else here is the same for every law, but numbers. -/
def R_law : String := "StepPathsLaw"
def lw_P (b : Addr) (xs : List Int32) (args : Array Value) (s : State) : Prop := args = #[.ref b] ∧ s.IntsAt b xs ∧ xs.length ≤ 192 ∧ (Jvm.Cond.and given_1 narrow_1).before args s = true
def lw_Q (_ : Array Value) (s : State) (o : Outcome) (t : State) : Prop := o = .returned (some (.int 1)) ∧ Framed s o t [] 600000 7290000
def lw_Z (below : List Frame) (a : Array Value) (s : State) : State → Prop := fun t => ∃ o, t.status = .running ∧ Ended t below o ∧ lw_Q a s o t
/-- the law's own end, with 1 on the stack, nothing written that was there before, its room as the claim has it -/
theorem lw_ret {p : Program} {l : Launch} {e : Env} {s : State} {m : MethodId} {below : List Frame} {meth : Method} {c : Code} {b : Nat} (hx : p.tables.exec = Jvm.exec) (hb : c.code = code) (hr : meth.sig.returnType = ret) (hlocks : meth.locks = false) {pc : Nat} {H : Heap} {ls : Array Slot} (hdg : decode code pc = .ok (.ireturn, 1)) : W p l e room_1 s m #[Value.ref b] below meth c H [] 600000 7290000 (lw_Z below #[Value.ref b] s) (F0 m pc ls [.int 1]) := by
  intro T hT X
  obtain ⟨fs, hret, hrun, hended, hW, hframe⟩ := X.leave (v := some (.int 1)) (hlocks := hlocks) (fun h => by rw [hr] at h; cases h)
  have hmeth' : T.vm.method? m = some meth := X.method'
  refine ⟨T.setFrames fs, ?_, .returned (some (.int 1)), hrun, hended, rfl, ⟨_, rfl⟩, hW, hframe⟩
  jvm_step X.here [X.here.top, hx, hb, hdg, hmeth', hr, ret, narrow_b1]
  (try refine ⟨rfl, ?_⟩); (try refine ⟨rfl, ?_⟩)
  first | (intro acts; rw [hret _ acts rfl rfl rfl]) | rw [hret _ _ rfl rfl rfl]
  exact Steps.refl _
/-- what holds at the law's entry: the machine, the code, the tables' words (any of lw_tbl by 'hts w (by decide +kernel)'), the script of L ints xs at the cell b, what the Statement gives of the start (any of its parts by flat_of_before) -/
def lw_At (p : Program) (s : State) (m : MethodId) (meth : Method) (c : Code) (b L : Nat) (xs : Nat → Int32) : Prop :=
  p.tables.exec = Jvm.exec ∧ c.code = code ∧ meth.sig.returnType = ret ∧ c.maxLocals = 4 ∧ s.vm.findClass R_law = some m.cls ∧ (∀ w ∈ lw_tbl, w.before #[Value.ref b] s = true) ∧ va_X b L xs s s.heap ∧ b < s.heap.size ∧ meth.locks = false ∧ (Jvm.Cond.and given_1 narrow_1).before #[Value.ref b] s = true
end
section
set_option maxHeartbeats 4000000 in
set_option maxRecDepth 100000 in
/-- THE LAW'S LOOP: at its head, i ints read, class and reference hold the same numbers a1, b1 -/
theorem law_loop {p : Program} {l : Launch} {e : Env} {s : State} {m : MethodId} {below : List Frame} {meth : Method} {c : Code} {dC : Nat → ClassId} {dI : Nat → Nat → Nat} {b L : Nat} {xs : Nat → Int32} {x0 x1 x2 m0 r1 r2 r3 r4 : Nat} {cA c1 c2 c3 c4 : ClassId} {f : Nat → Int64} (hL : L ≤ 192) (C0 : lw_At p s m meth c b L xs) (hf : sp_tri f) (hK : va_K (dC, dI) vwCl [(cA, .long), (c1, .long), (c2, .long), (c3, .long), (c4, .long)] s) :
    ∀ (n i a1 b1 : Nat) (row nx two th : Nat → Int64), i ≤ L → L + 1 ≤ i + n → a1 ≤ 15 → b1 ≤ 15 → ∀ (H : Heap) (locs : List Loc), va_P (dC, dI) vwCl [(x0, .inr (0, [.ref x1, .int (nI a1), .int (nI b1)])), (x1, .inr (1, [.ref x2])), (x2, .inl (cA, 961, .inr (.inl (f)))), (m0, .inr (2, [.int (nI a1), .int (nI b1), .ref r1, .ref r2, .ref r3, .ref r4])), (r1, .inl (c1, 64, .inr (.inl (row)))), (r2, .inl (c2, 64, .inr (.inl (nx)))), (r3, .inl (c3, 1024, .inr (.inl (two)))), (r4, .inl (c4, 1024, .inr (.inl (th))))] H → va_D (fun q : Nat => s.heap.size ≤ q) [(x0, .inr (0, [.ref x1, .int (nI a1), .int (nI b1)])), (x1, .inr (1, [.ref x2])), (x2, .inl (cA, 961, .inr (.inl (f)))), (m0, .inr (2, [.int (nI a1), .int (nI b1), .ref r1, .ref r2, .ref r3, .ref r4])), (r1, .inl (c1, 64, .inr (.inl (row)))), (r2, .inl (c2, 64, .inr (.inl (nx)))), (r3, .inl (c3, 1024, .inr (.inl (two)))), (r4, .inl (c4, 1024, .inr (.inl (th))))] → va_S (fun q : Nat => s.heap.size ≤ q) s.heap H locs → ∀ (ls : Array Slot), lv_has ls 4 [(0, .ref b), (1, .ref x0), (2, .ref m0), (3, .int (nI i))] → W p l e room_1 s m #[Value.ref b] below meth c H locs 8 3147 (lw_Z below #[Value.ref b] s) (F0 m 18 ls []) := by
  obtain ⟨hx, hb, hr, hml, hown, hts0, hX, hbl, hlocks, hgv⟩ := C0
  have hts : ∀ w ∈ lw_all, w.before #[Value.ref b] s = true := fun w h => hts0 w (lw_all_tbl h)
  have hA : ∀ q : Nat, s.heap.size ≤ q → (fun q : Nat => s.heap.size ≤ q) q := fun _ h => h
  have hbA : ¬ (fun q : Nat => s.heap.size ≤ q) b := Nat.not_le.mpr hbl
  intro n
  induction n with
  | zero => intro i a1 b1 row nx two th h1 h2; exact absurd h2 (by omega)
  | succ n ih =>
    intro i a1 b1 row nx two th hi hin ha1 hb1 H locs hP hD hS ls hl
    refine lv_iload_n hx hb dL_law_18 rfl (lv_at hl 3 rfl) ?_
    refine lv_aload_n hx hb dL_law_19 rfl (lv_at hl 0 rfl) ?_
    refine va_slen hx hb hX hbl hbA hS dL_law_20 ?_
    refine sp_topi (y := (nI L)) rfl ?_
    refine lv_iconst (v := (nI 3)) hx hb dL_law_21 (by decide) ?_
    refine lv_isub hx hb dL_law_22 ?_
    refine sp_topi (y := (sp_i ((L : Int) - 3))) (by simp only [sp_ni, sp_iadd, sp_isub, sp_imul, sp_ineg] <;> exact congrArg sp_i (by omega)) ?_
    refine lv_icmp_gt (tgt := 191) hx hb dL_law_23 (by decide) (fun hc => ?_) (fun hc => ?_)
    · rw [sp_ni] at hc
      have hc : (L : Int) - 3 < ((i : Nat) : Int) := (sp_ilt (by omega) (by omega) (by omega) (by omega)).mp hc
      refine lv_iconst (v := (1)) hx hb dL_law_191 (by decide) ?_
      refine va_forget (fun q hq => hS.2.2 q hq) ?_
      refine W.widen (k := 600000) (n := 7290000) (by decide) (by decide) ?_
      exact lw_ret hx hb hr hlocks dL_law_192
    · rw [sp_ni] at hc
      have hc : ¬ (L : Int) - 3 < ((i : Nat) : Int) := fun h9 => hc ((sp_ilt (by omega) (by omega) (by omega) (by omega)).mpr h9)
      have hnext : ∀ (a1 b1 : Nat) (row nx two th : Nat → Int64), a1 ≤ 15 → b1 ≤ 15 → ∀ (H : Heap) (locs : List Loc), va_P (dC, dI) vwCl [(x0, .inr (0, [.ref x1, .int (nI a1), .int (nI b1)])), (x1, .inr (1, [.ref x2])), (x2, .inl (cA, 961, .inr (.inl (f)))), (m0, .inr (2, [.int (nI a1), .int (nI b1), .ref r1, .ref r2, .ref r3, .ref r4])), (r1, .inl (c1, 64, .inr (.inl (row)))), (r2, .inl (c2, 64, .inr (.inl (nx)))), (r3, .inl (c3, 1024, .inr (.inl (two)))), (r4, .inl (c4, 1024, .inr (.inl (th))))] H → va_D (fun q : Nat => s.heap.size ≤ q) [(x0, .inr (0, [.ref x1, .int (nI a1), .int (nI b1)])), (x1, .inr (1, [.ref x2])), (x2, .inl (cA, 961, .inr (.inl (f)))), (m0, .inr (2, [.int (nI a1), .int (nI b1), .ref r1, .ref r2, .ref r3, .ref r4])), (r1, .inl (c1, 64, .inr (.inl (row)))), (r2, .inl (c2, 64, .inr (.inl (nx)))), (r3, .inl (c3, 1024, .inr (.inl (two)))), (r4, .inl (c4, 1024, .inr (.inl (th))))] → va_S (fun q : Nat => s.heap.size ≤ q) s.heap H locs → ∀ (ls : Array Slot), lv_has ls 4 [(0, .ref b), (1, .ref x0), (2, .ref m0), (3, .int (nI i))] → W p l e room_1 s m #[Value.ref b] below meth c H locs 8 3147 (lw_Z below #[Value.ref b] s) (F0 m 185 ls []) := by
        intro a1 b1 row nx two th ha1 hb1 H locs hP hD hS ls hl
        refine lv_iinc (v := (nI (i + 3))) (lv' := [(3, .int (nI (i + 3))), (0, .ref b), (1, .ref x0), (2, .ref m0)]) hx hb dL_law_185 hl (k := 3) rfl (nI_add _ _) (by decide) rfl (fun ls hl => ?_)
        refine lv_goto (tgt := 18) hx hb dL_law_188 (by decide) ?_
        exact ih (i + 3) a1 b1 row nx two th (by omega) (by omega) ha1 hb1 H locs hP hD hS _ (lv_sub hl [1, 2, 3, 0] rfl)
      obtain ⟨j, hj, ej⟩ := pk_andE (xs i) (m := nI 7) 3 (by decide)
      obtain ⟨a2, ha2, e1⟩ := pk_andE (xs (i + 1)) (m := nI 15) 4 (by decide)
      obtain ⟨b2, hb2, e2⟩ := pk_andE (xs (i + 2)) (m := nI 15) 4 (by decide)
      refine lv_aload_n hx hb dL_law_26 rfl (lv_at hl 0 rfl) ?_
      refine lv_iload_n hx hb dL_law_27 rfl (lv_at hl 3 rfl) ?_
      refine va_sld hx hb hX hbl hbA hS (vp_in_nI (show i < L by omega) (by omega)) dL_law_28 ?_
      refine sp_topi (y := (xs (i))) (by rw [nI_clamp (by omega)]) ?_
      refine lv_bipush (v := (nI 7)) hx hb dL_law_29 (by decide) ?_
      refine lv_iand hx hb dL_law_31 ?_
      refine sp_topi (y := (nI j)) ej ?_
      rcases (show j = 0 ∨ j = 1 ∨ j = 2 ∨ j = 3 ∨ j = 4 ∨ 5 ≤ j by omega) with rfl | rfl | rfl | rfl | rfl | hj5
      · refine lv_tableIn (off := 36) (tgt := 68) hx hb dL_law_32 (by decide) (by decide) (by decide) (by decide) ?_
        refine lv_aload_n hx hb dL_law_68 rfl (lv_at hl 1 rfl) ?_
        refine lv_aload_n hx hb dL_law_69 rfl (lv_at hl 0 rfl) ?_
        refine lv_iload_n hx hb dL_law_70 rfl (lv_at hl 3 rfl) ?_
        refine lv_iconst (v := (nI 1)) hx hb dL_law_71 (by decide) ?_
        refine lv_iadd hx hb dL_law_72 ?_
        refine sp_topi (y := (nI (i + 1))) (nI_add _ _) ?_
        refine va_sld hx hb hX hbl hbA hS (vp_in_nI (show i + 1 < L by omega) (by omega)) dL_law_73 ?_
        refine sp_topi (y := (xs (i + 1))) (by rw [nI_clamp (by omega)]) ?_
        refine lv_aload_n hx hb dL_law_74 rfl (lv_at hl 0 rfl) ?_
        refine lv_iload_n hx hb dL_law_75 rfl (lv_at hl 3 rfl) ?_
        refine lv_iconst (v := (nI 2)) hx hb dL_law_76 (by decide) ?_
        refine lv_iadd hx hb dL_law_77 ?_
        refine sp_topi (y := (nI (i + 2))) (nI_add _ _) ?_
        refine va_sld hx hb hX hbl hbA hS (vp_in_nI (show i + 2 < L by omega) (by omega)) dL_law_78 ?_
        refine sp_topi (y := (xs (i + 2))) (by rw [nI_clamp (by omega)]) ?_
        have hPc := hP.sub (ws' := [(x0, .inr (0, [.ref x1, .int (nI a1), .int (nI b1)])), (x1, .inr (1, [.ref x2])), (x2, .inl (cA, 961, .inr (.inl (f))))]) [0, 1, 2] rfl
        have hDc := hD.sub (ws' := [(x0, .inr (0, [.ref x1, .int (nI a1), .int (nI b1)])), (x1, .inr (1, [.ref x2])), (x2, .inl (cA, 961, .inr (.inl (f))))]) [0, 1, 2] (by decide) rfl
        have hKc := hK.sub (tys' := [(cA, .long)]) [0] rfl
        have hFc := va_free (wc := [(x0, .inr (0, [.ref x1, .int (nI a1), .int (nI b1)])), (x1, .inr (1, [.ref x2])), (x2, .inl (cA, 961, .inr (.inl (f))))]) hD hS hA [0, 1, 2] rfl
        refine va_callv (va_runV (As := [.int (xs (i + 1)), .int (xs (i + 2))]) (rest := []) ⟨hx, hb, hml, hown, hts⟩ (met_load l dC dI x0 x1 x2 cA f a1 b1 (xs (i + 1)) (xs (i + 2)) a2 b2 H.size e1 e2) (cwV 2 hts (lw_V q34 q35 q36 q2 q37) rfl rfl rfl (by decide +kernel) ⟨Nat.le_of_ble_eq_true rfl, Nat.le_of_ble_eq_true rfl⟩) ⟨fun a U g mk q => by obtain ⟨q0, q1, qP, qK, qD⟩ := q; exact ⟨q0, q1, qP, va_K.moved (u := U) (U := U.calling g mk a) (Vm.Alike.refl U.vm) qK, qD⟩, va_recv hKc hPc (ci := 0) (q0 := 0) rfl rfl, fun U hU hW => ⟨rfl, by rw [hU], by rw [hU]; exact hPc, va_K.moved hW.alike hKc, hDc.weaken (fun _ _ _ _ => trivial)⟩⟩ rfl rfl hl.1 rfl (lv_room (Nat.le_of_ble_eq_true rfl)) dL_law_79 ⟨Nat.le_of_ble_eq_true rfl, Nat.le_of_ble_eq_true rfl⟩) hS (fun q _ h => hFc q h) hFc (fun u t H1 locs ht hvm hw hB hz1 hk1 hS => ?_)
        obtain ⟨hP1, hK1, hD1⟩ := hB
        rw [ht] at hP1
        obtain ⟨hP, hD⟩ := va_join (wr := [(m0, .inr (2, [.int (nI a1), .int (nI b1), .ref r1, .ref r2, .ref r3, .ref r4])), (r1, .inl (c1, 64, .inr (.inl (row)))), (r2, .inl (c2, 64, .inr (.inl (nx)))), (r3, .inl (c3, 1024, .inr (.inl (two)))), (r4, .inl (c4, 1024, .inr (.inl (th))))]) (w1 := [(x0, .inr (0, [.ref x1, .int (nI a2), .int (nI b2)])), (x1, .inr (1, [.ref x2])), (x2, .inl (cA, 961, .inr (.inl (f))))]) hP hD [0, 1, 2] [3, 4, 5, 6, 7] rfl rfl (by decide) (by decide) hk1 hFc hP1 hD1
        generalize H1 = H at hP hS ⊢
        have hP := hP.sub (ws' := [(x0, .inr (0, [.ref x1, .int (nI a2), .int (nI b2)])), (x1, .inr (1, [.ref x2])), (x2, .inl (cA, 961, .inr (.inl (f)))), (m0, .inr (2, [.int (nI a1), .int (nI b1), .ref r1, .ref r2, .ref r3, .ref r4])), (r1, .inl (c1, 64, .inr (.inl (row)))), (r2, .inl (c2, 64, .inr (.inl (nx)))), (r3, .inl (c3, 1024, .inr (.inl (two)))), (r4, .inl (c4, 1024, .inr (.inl (th))))]) [5, 6, 7, 0, 1, 2, 3, 4] rfl
        have hD := hD.sub (ws' := [(x0, .inr (0, [.ref x1, .int (nI a2), .int (nI b2)])), (x1, .inr (1, [.ref x2])), (x2, .inl (cA, 961, .inr (.inl (f)))), (m0, .inr (2, [.int (nI a1), .int (nI b1), .ref r1, .ref r2, .ref r3, .ref r4])), (r1, .inl (c1, 64, .inr (.inl (row)))), (r2, .inl (c2, 64, .inr (.inl (nx)))), (r3, .inl (c3, 1024, .inr (.inl (two)))), (r4, .inl (c4, 1024, .inr (.inl (th))))]) [5, 6, 7, 0, 1, 2, 3, 4] (by decide) rfl
        refine lv_aload_n hx hb dL_law_82 rfl (lv_at hl 2 rfl) ?_
        refine lv_aload_n hx hb dL_law_83 rfl (lv_at hl 0 rfl) ?_
        refine lv_iload_n hx hb dL_law_84 rfl (lv_at hl 3 rfl) ?_
        refine lv_iconst (v := (nI 1)) hx hb dL_law_85 (by decide) ?_
        refine lv_iadd hx hb dL_law_86 ?_
        refine sp_topi (y := (nI (i + 1))) (nI_add _ _) ?_
        refine va_sld hx hb hX hbl hbA hS (vp_in_nI (show i + 1 < L by omega) (by omega)) dL_law_87 ?_
        refine sp_topi (y := (xs (i + 1))) (by rw [nI_clamp (by omega)]) ?_
        refine lv_aload_n hx hb dL_law_88 rfl (lv_at hl 0 rfl) ?_
        refine lv_iload_n hx hb dL_law_89 rfl (lv_at hl 3 rfl) ?_
        refine lv_iconst (v := (nI 2)) hx hb dL_law_90 (by decide) ?_
        refine lv_iadd hx hb dL_law_91 ?_
        refine sp_topi (y := (nI (i + 2))) (nI_add _ _) ?_
        refine va_sld hx hb hX hbl hbA hS (vp_in_nI (show i + 2 < L by omega) (by omega)) dL_law_92 ?_
        refine sp_topi (y := (xs (i + 2))) (by rw [nI_clamp (by omega)]) ?_
        have hPc := hP.sub (ws' := [(m0, .inr (2, [.int (nI a1), .int (nI b1), .ref r1, .ref r2, .ref r3, .ref r4]))]) [3] rfl
        have hDc := hD.sub (ws' := [(m0, .inr (2, [.int (nI a1), .int (nI b1), .ref r1, .ref r2, .ref r3, .ref r4]))]) [3] (by decide) rfl
        have hKc := hK.sub (tys' := []) [] rfl
        have hFc := va_free (wc := [(m0, .inr (2, [.int (nI a1), .int (nI b1), .ref r1, .ref r2, .ref r3, .ref r4]))]) hD hS hA [3] rfl
        refine va_callv (va_runV (As := [.int (xs (i + 1)), .int (xs (i + 2))]) (rest := []) ⟨hx, hb, hml, hown, hts⟩ (met_Mload l dC dI m0 r1 r2 r3 r4 a1 b1 (xs (i + 1)) (xs (i + 2)) a2 b2 H.size e1 e2) (cwV 2 hts (lw_V q88 q89 q90 q4 q91) rfl rfl rfl (by decide +kernel) ⟨Nat.le_of_ble_eq_true rfl, Nat.le_of_ble_eq_true rfl⟩) ⟨fun a U g mk q => by obtain ⟨q0, q1, qP, qK, qD⟩ := q; exact ⟨q0, q1, qP, va_K.moved (u := U) (U := U.calling g mk a) (Vm.Alike.refl U.vm) qK, qD⟩, va_recv hKc hPc (ci := 2) (q0 := 0) rfl rfl, fun U hU hW => ⟨rfl, by rw [hU], by rw [hU]; exact hPc, va_K.moved hW.alike hKc, hDc.weaken (fun _ _ _ _ => trivial)⟩⟩ rfl rfl hl.1 rfl (lv_room (Nat.le_of_ble_eq_true rfl)) dL_law_93 ⟨Nat.le_of_ble_eq_true rfl, Nat.le_of_ble_eq_true rfl⟩) hS (fun q _ h => hFc q h) hFc (fun u t H1 locs ht hvm hw hB hz1 hk1 hS => ?_)
        obtain ⟨hP1, hK1, hD1⟩ := hB
        rw [ht] at hP1
        obtain ⟨hP, hD⟩ := va_join (wr := [(x0, .inr (0, [.ref x1, .int (nI a2), .int (nI b2)])), (x1, .inr (1, [.ref x2])), (x2, .inl (cA, 961, .inr (.inl (f)))), (r1, .inl (c1, 64, .inr (.inl (row)))), (r2, .inl (c2, 64, .inr (.inl (nx)))), (r3, .inl (c3, 1024, .inr (.inl (two)))), (r4, .inl (c4, 1024, .inr (.inl (th))))]) (w1 := [(m0, .inr (2, [.int (nI a2), .int (nI b2), .ref r1, .ref r2, .ref r3, .ref r4]))]) hP hD [3] [0, 1, 2, 4, 5, 6, 7] rfl rfl (by decide) (by decide) hk1 hFc hP1 hD1
        generalize H1 = H at hP hS ⊢
        have hP := hP.sub (ws' := [(x0, .inr (0, [.ref x1, .int (nI a2), .int (nI b2)])), (x1, .inr (1, [.ref x2])), (x2, .inl (cA, 961, .inr (.inl (f)))), (m0, .inr (2, [.int (nI a2), .int (nI b2), .ref r1, .ref r2, .ref r3, .ref r4])), (r1, .inl (c1, 64, .inr (.inl (row)))), (r2, .inl (c2, 64, .inr (.inl (nx)))), (r3, .inl (c3, 1024, .inr (.inl (two)))), (r4, .inl (c4, 1024, .inr (.inl (th))))]) [0, 1, 2, 7, 3, 4, 5, 6] rfl
        have hD := hD.sub (ws' := [(x0, .inr (0, [.ref x1, .int (nI a2), .int (nI b2)])), (x1, .inr (1, [.ref x2])), (x2, .inl (cA, 961, .inr (.inl (f)))), (m0, .inr (2, [.int (nI a2), .int (nI b2), .ref r1, .ref r2, .ref r3, .ref r4])), (r1, .inl (c1, 64, .inr (.inl (row)))), (r2, .inl (c2, 64, .inr (.inl (nx)))), (r3, .inl (c3, 1024, .inr (.inl (two)))), (r4, .inl (c4, 1024, .inr (.inl (th))))]) [0, 1, 2, 7, 3, 4, 5, 6] (by decide) rfl
        refine lv_goto (tgt := 185) hx hb dL_law_96 (by decide) ?_
        exact hnext a2 b2 _ _ _ _ (by omega) (by omega) H _ hP hD hS _ (lv_sub hl [0, 1, 2, 3] rfl)
      · refine lv_tableIn (off := 67) (tgt := 99) hx hb dL_law_32 (by decide) (by decide) (by decide) (by decide) ?_
        refine lv_aload_n hx hb dL_law_99 rfl (lv_at hl 1 rfl) ?_
        have hPc := hP.sub (ws' := [(x0, .inr (0, [.ref x1, .int (nI a1), .int (nI b1)])), (x1, .inr (1, [.ref x2])), (x2, .inl (cA, 961, .inr (.inl (f))))]) [0, 1, 2] rfl
        have hDc := hD.sub (ws' := [(x0, .inr (0, [.ref x1, .int (nI a1), .int (nI b1)])), (x1, .inr (1, [.ref x2])), (x2, .inl (cA, 961, .inr (.inl (f))))]) [0, 1, 2] (by decide) rfl
        have hKc := hK.sub (tys' := [(cA, .long)]) [0] rfl
        have hFc := va_free (wc := [(x0, .inr (0, [.ref x1, .int (nI a1), .int (nI b1)])), (x1, .inr (1, [.ref x2])), (x2, .inl (cA, 961, .inr (.inl (f))))]) hD hS hA [0, 1, 2] rfl
        refine va_calll (va_runV (As := []) (rest := []) ⟨hx, hb, hml, hown, hts⟩ (met_all l dC dI x0 x1 x2 cA f a1 b1 H.size hf ha1 hb1) (cwV 0 hts (lw_V q38 q39 q40 q2 q41) rfl rfl rfl (by decide +kernel) ⟨Nat.le_of_ble_eq_true rfl, Nat.le_of_ble_eq_true rfl⟩) ⟨fun a U g mk q => by obtain ⟨q0, q1, qP, qK, qD⟩ := q; exact ⟨q0, q1, qP, va_K.moved (u := U) (U := U.calling g mk a) (Vm.Alike.refl U.vm) qK, qD⟩, va_recv hKc hPc (ci := 0) (q0 := 0) rfl rfl, fun U hU hW => ⟨rfl, by rw [hU], by rw [hU]; exact hPc, va_K.moved hW.alike hKc, hDc.weaken (fun _ _ _ _ => trivial)⟩⟩ rfl rfl hl.1 rfl (lv_room (Nat.le_of_ble_eq_true rfl)) dL_law_100 ⟨Nat.le_of_ble_eq_true rfl, Nat.le_of_ble_eq_true rfl⟩) hS (fun q _ h => hFc q h) hFc (fun v1 u t H1 locs ht hvm hw1 hB hz1 hk1 hS => ?_)
        obtain ⟨hP1, hK1, hD1⟩ := hB
        rw [ht] at hP1
        obtain ⟨hP, hD⟩ := va_join (wr := [(m0, .inr (2, [.int (nI a1), .int (nI b1), .ref r1, .ref r2, .ref r3, .ref r4])), (r1, .inl (c1, 64, .inr (.inl (row)))), (r2, .inl (c2, 64, .inr (.inl (nx)))), (r3, .inl (c3, 1024, .inr (.inl (two)))), (r4, .inl (c4, 1024, .inr (.inl (th))))]) (w1 := [(x0, .inr (0, [.ref x1, .int (nI a1), .int (nI b1)])), (x1, .inr (1, [.ref x2])), (x2, .inl (cA, 961, .inr (.inl (f))))]) hP hD [0, 1, 2] [3, 4, 5, 6, 7] rfl rfl (by decide) (by decide) hk1 hFc hP1 hD1
        generalize H1 = H at hP hS ⊢
        have hP := hP.sub (ws' := [(x0, .inr (0, [.ref x1, .int (nI a1), .int (nI b1)])), (x1, .inr (1, [.ref x2])), (x2, .inl (cA, 961, .inr (.inl (f)))), (m0, .inr (2, [.int (nI a1), .int (nI b1), .ref r1, .ref r2, .ref r3, .ref r4])), (r1, .inl (c1, 64, .inr (.inl (row)))), (r2, .inl (c2, 64, .inr (.inl (nx)))), (r3, .inl (c3, 1024, .inr (.inl (two)))), (r4, .inl (c4, 1024, .inr (.inl (th))))]) [5, 6, 7, 0, 1, 2, 3, 4] rfl
        have hD := hD.sub (ws' := [(x0, .inr (0, [.ref x1, .int (nI a1), .int (nI b1)])), (x1, .inr (1, [.ref x2])), (x2, .inl (cA, 961, .inr (.inl (f)))), (m0, .inr (2, [.int (nI a1), .int (nI b1), .ref r1, .ref r2, .ref r3, .ref r4])), (r1, .inl (c1, 64, .inr (.inl (row)))), (r2, .inl (c2, 64, .inr (.inl (nx)))), (r3, .inl (c3, 1024, .inr (.inl (two)))), (r4, .inl (c4, 1024, .inr (.inl (th))))]) [5, 6, 7, 0, 1, 2, 3, 4] (by decide) rfl
        refine lv_aload_n hx hb dL_law_103 rfl (lv_at hl 2 rfl) ?_
        have hPc := hP.sub (ws' := [(m0, .inr (2, [.int (nI a1), .int (nI b1), .ref r1, .ref r2, .ref r3, .ref r4])), (r1, .inl (c1, 64, .inr (.inl (row)))), (r2, .inl (c2, 64, .inr (.inl (nx))))]) [3, 4, 5] rfl
        have hDc := hD.sub (ws' := [(m0, .inr (2, [.int (nI a1), .int (nI b1), .ref r1, .ref r2, .ref r3, .ref r4])), (r1, .inl (c1, 64, .inr (.inl (row)))), (r2, .inl (c2, 64, .inr (.inl (nx))))]) [3, 4, 5] (by decide) rfl
        have hKc := hK.sub (tys' := [(c1, .long), (c2, .long)]) [1, 2] rfl
        have hFc := va_free (wc := [(m0, .inr (2, [.int (nI a1), .int (nI b1), .ref r1, .ref r2, .ref r3, .ref r4])), (r1, .inl (c1, 64, .inr (.inl (row)))), (r2, .inl (c2, 64, .inr (.inl (nx))))]) hD hS hA [3, 4, 5] rfl
        refine va_calll (va_runV (As := []) (rest := [.long (v1)]) ⟨hx, hb, hml, hown, hts⟩ (met_Mall l dC dI m0 r1 r2 r3 r4 c1 c2 row nx a1 b1 H.size ha1 hb1) (cwV 0 hts (lw_V q96 q97 q98 q4 q99) rfl rfl rfl (by decide +kernel) ⟨Nat.le_of_ble_eq_true rfl, Nat.le_of_ble_eq_true rfl⟩) ⟨fun a U g mk q => by obtain ⟨q0, q1, qP, qK, qD⟩ := q; exact ⟨q0, q1, qP, va_K.moved (u := U) (U := U.calling g mk a) (Vm.Alike.refl U.vm) qK, qD⟩, va_recv hKc hPc (ci := 2) (q0 := 0) rfl rfl, fun U hU hW => ⟨rfl, by rw [hU], by rw [hU]; exact hPc, va_K.moved hW.alike hKc, hDc.weaken (fun _ _ _ _ => trivial)⟩⟩ rfl rfl hl.1 rfl (lv_room (Nat.le_of_ble_eq_true rfl)) dL_law_104 ⟨Nat.le_of_ble_eq_true rfl, Nat.le_of_ble_eq_true rfl⟩) hS (fun q _ h => hFc q h) hFc (fun v2 u t H1 locs ht hvm hw2 hB hz1 hk1 hS => ?_)
        obtain ⟨row2, nx2⟩ := u
        obtain ⟨hP1, hK1, hD1⟩ := hB
        rw [ht] at hP1
        obtain ⟨hP, hD⟩ := va_join (wr := [(x0, .inr (0, [.ref x1, .int (nI a1), .int (nI b1)])), (x1, .inr (1, [.ref x2])), (x2, .inl (cA, 961, .inr (.inl (f)))), (r3, .inl (c3, 1024, .inr (.inl (two)))), (r4, .inl (c4, 1024, .inr (.inl (th))))]) (w1 := [(m0, .inr (2, [.int (nI a1), .int (nI b1), .ref r1, .ref r2, .ref r3, .ref r4])), (r1, .inl (c1, 64, .inr (.inl (row2)))), (r2, .inl (c2, 64, .inr (.inl (nx2))))]) hP hD [3, 4, 5] [0, 1, 2, 6, 7] rfl rfl (by decide) (by decide) hk1 hFc hP1 hD1
        generalize H1 = H at hP hS ⊢
        have hP := hP.sub (ws' := [(x0, .inr (0, [.ref x1, .int (nI a1), .int (nI b1)])), (x1, .inr (1, [.ref x2])), (x2, .inl (cA, 961, .inr (.inl (f)))), (m0, .inr (2, [.int (nI a1), .int (nI b1), .ref r1, .ref r2, .ref r3, .ref r4])), (r1, .inl (c1, 64, .inr (.inl (row2)))), (r2, .inl (c2, 64, .inr (.inl (nx2)))), (r3, .inl (c3, 1024, .inr (.inl (two)))), (r4, .inl (c4, 1024, .inr (.inl (th))))]) [0, 1, 2, 5, 6, 7, 3, 4] rfl
        have hD := hD.sub (ws' := [(x0, .inr (0, [.ref x1, .int (nI a1), .int (nI b1)])), (x1, .inr (1, [.ref x2])), (x2, .inl (cA, 961, .inr (.inl (f)))), (m0, .inr (2, [.int (nI a1), .int (nI b1), .ref r1, .ref r2, .ref r3, .ref r4])), (r1, .inl (c1, 64, .inr (.inl (row2)))), (r2, .inl (c2, 64, .inr (.inl (nx2)))), (r3, .inl (c3, 1024, .inr (.inl (two)))), (r4, .inl (c4, 1024, .inr (.inl (th))))]) [0, 1, 2, 5, 6, 7, 3, 4] (by decide) rfl
        have hE : v1 = v2 := hw1.trans ((sp_nle (sp_all ha1 hb1)).symm.trans hw2.symm)
        subst hE
        refine W.lcmp hx hb dL_law_107 ?_
        refine sp_topi (y := (nI 0)) ((sp_cmpE _).trans nI_0.symm) ?_
        refine lv_if_eq (tgt := 185) hx hb dL_law_108 (by decide) (fun hc => ?_) (fun hc => ?_)
        · rw [← nI_0] at hc
          have hc : 0 = 0 := (nI_eq (by omega) (by omega)).mp hc
          exact hnext a1 b1 _ _ _ _ ha1 hb1 H _ hP hD hS _ (lv_sub hl [0, 1, 2, 3] rfl)
        · rw [← nI_0] at hc
          have hc : ¬ 0 = 0 := fun h9 => hc ((nI_eq (by omega) (by omega)).mpr h9)
          exact absurd rfl hc
      · refine lv_tableIn (off := 81) (tgt := 113) hx hb dL_law_32 (by decide) (by decide) (by decide) (by decide) ?_
        refine lv_aload_n hx hb dL_law_113 rfl (lv_at hl 1 rfl) ?_
        refine lv_aload_n hx hb dL_law_114 rfl (lv_at hl 0 rfl) ?_
        refine lv_iload_n hx hb dL_law_115 rfl (lv_at hl 3 rfl) ?_
        refine lv_iconst (v := (nI 1)) hx hb dL_law_116 (by decide) ?_
        refine lv_iadd hx hb dL_law_117 ?_
        refine sp_topi (y := (nI (i + 1))) (nI_add _ _) ?_
        refine va_sld hx hb hX hbl hbA hS (vp_in_nI (show i + 1 < L by omega) (by omega)) dL_law_118 ?_
        refine sp_topi (y := (xs (i + 1))) (by rw [nI_clamp (by omega)]) ?_
        have hPc := hP.sub (ws' := [(x0, .inr (0, [.ref x1, .int (nI a1), .int (nI b1)])), (x1, .inr (1, [.ref x2])), (x2, .inl (cA, 961, .inr (.inl (f))))]) [0, 1, 2] rfl
        have hDc := hD.sub (ws' := [(x0, .inr (0, [.ref x1, .int (nI a1), .int (nI b1)])), (x1, .inr (1, [.ref x2])), (x2, .inl (cA, 961, .inr (.inl (f))))]) [0, 1, 2] (by decide) rfl
        have hKc := hK.sub (tys' := [(cA, .long)]) [0] rfl
        have hFc := va_free (wc := [(x0, .inr (0, [.ref x1, .int (nI a1), .int (nI b1)])), (x1, .inr (1, [.ref x2])), (x2, .inl (cA, 961, .inr (.inl (f))))]) hD hS hA [0, 1, 2] rfl
        refine va_calll (va_runV (As := [.int (xs (i + 1))]) (rest := []) ⟨hx, hb, hml, hown, hts⟩ (met_above l dC dI x0 x1 x2 cA f a1 b1 (xs (i + 1)) a2 H.size hf ha1 hb1 ha2 e1) (cwV 1 hts (lw_V q50 q51 q52 q2 q53) rfl rfl rfl (by decide +kernel) ⟨Nat.le_of_ble_eq_true rfl, Nat.le_of_ble_eq_true rfl⟩) ⟨fun a U g mk q => by obtain ⟨q0, q1, qP, qK, qD⟩ := q; exact ⟨q0, q1, qP, va_K.moved (u := U) (U := U.calling g mk a) (Vm.Alike.refl U.vm) qK, qD⟩, va_recv hKc hPc (ci := 0) (q0 := 0) rfl rfl, fun U hU hW => ⟨rfl, by rw [hU], by rw [hU]; exact hPc, va_K.moved hW.alike hKc, hDc.weaken (fun _ _ _ _ => trivial)⟩⟩ rfl rfl hl.1 rfl (lv_room (Nat.le_of_ble_eq_true rfl)) dL_law_119 ⟨Nat.le_of_ble_eq_true rfl, Nat.le_of_ble_eq_true rfl⟩) hS (fun q _ h => hFc q h) hFc (fun v1 u t H1 locs ht hvm hw1 hB hz1 hk1 hS => ?_)
        obtain ⟨hP1, hK1, hD1⟩ := hB
        rw [ht] at hP1
        obtain ⟨hP, hD⟩ := va_join (wr := [(m0, .inr (2, [.int (nI a1), .int (nI b1), .ref r1, .ref r2, .ref r3, .ref r4])), (r1, .inl (c1, 64, .inr (.inl (row)))), (r2, .inl (c2, 64, .inr (.inl (nx)))), (r3, .inl (c3, 1024, .inr (.inl (two)))), (r4, .inl (c4, 1024, .inr (.inl (th))))]) (w1 := [(x0, .inr (0, [.ref x1, .int (nI a1), .int (nI b1)])), (x1, .inr (1, [.ref x2])), (x2, .inl (cA, 961, .inr (.inl (f))))]) hP hD [0, 1, 2] [3, 4, 5, 6, 7] rfl rfl (by decide) (by decide) hk1 hFc hP1 hD1
        generalize H1 = H at hP hS ⊢
        have hP := hP.sub (ws' := [(x0, .inr (0, [.ref x1, .int (nI a1), .int (nI b1)])), (x1, .inr (1, [.ref x2])), (x2, .inl (cA, 961, .inr (.inl (f)))), (m0, .inr (2, [.int (nI a1), .int (nI b1), .ref r1, .ref r2, .ref r3, .ref r4])), (r1, .inl (c1, 64, .inr (.inl (row)))), (r2, .inl (c2, 64, .inr (.inl (nx)))), (r3, .inl (c3, 1024, .inr (.inl (two)))), (r4, .inl (c4, 1024, .inr (.inl (th))))]) [5, 6, 7, 0, 1, 2, 3, 4] rfl
        have hD := hD.sub (ws' := [(x0, .inr (0, [.ref x1, .int (nI a1), .int (nI b1)])), (x1, .inr (1, [.ref x2])), (x2, .inl (cA, 961, .inr (.inl (f)))), (m0, .inr (2, [.int (nI a1), .int (nI b1), .ref r1, .ref r2, .ref r3, .ref r4])), (r1, .inl (c1, 64, .inr (.inl (row)))), (r2, .inl (c2, 64, .inr (.inl (nx)))), (r3, .inl (c3, 1024, .inr (.inl (two)))), (r4, .inl (c4, 1024, .inr (.inl (th))))]) [5, 6, 7, 0, 1, 2, 3, 4] (by decide) rfl
        refine lv_aload_n hx hb dL_law_122 rfl (lv_at hl 2 rfl) ?_
        refine lv_aload_n hx hb dL_law_123 rfl (lv_at hl 0 rfl) ?_
        refine lv_iload_n hx hb dL_law_124 rfl (lv_at hl 3 rfl) ?_
        refine lv_iconst (v := (nI 1)) hx hb dL_law_125 (by decide) ?_
        refine lv_iadd hx hb dL_law_126 ?_
        refine sp_topi (y := (nI (i + 1))) (nI_add _ _) ?_
        refine va_sld hx hb hX hbl hbA hS (vp_in_nI (show i + 1 < L by omega) (by omega)) dL_law_127 ?_
        refine sp_topi (y := (xs (i + 1))) (by rw [nI_clamp (by omega)]) ?_
        have hPc := hP.sub (ws' := [(m0, .inr (2, [.int (nI a1), .int (nI b1), .ref r1, .ref r2, .ref r3, .ref r4])), (r1, .inl (c1, 64, .inr (.inl (row)))), (r2, .inl (c2, 64, .inr (.inl (nx))))]) [3, 4, 5] rfl
        have hDc := hD.sub (ws' := [(m0, .inr (2, [.int (nI a1), .int (nI b1), .ref r1, .ref r2, .ref r3, .ref r4])), (r1, .inl (c1, 64, .inr (.inl (row)))), (r2, .inl (c2, 64, .inr (.inl (nx))))]) [3, 4, 5] (by decide) rfl
        have hKc := hK.sub (tys' := [(c1, .long), (c2, .long)]) [1, 2] rfl
        have hFc := va_free (wc := [(m0, .inr (2, [.int (nI a1), .int (nI b1), .ref r1, .ref r2, .ref r3, .ref r4])), (r1, .inl (c1, 64, .inr (.inl (row)))), (r2, .inl (c2, 64, .inr (.inl (nx))))]) hD hS hA [3, 4, 5] rfl
        refine va_calll (va_runV (As := [.int (xs (i + 1))]) (rest := [.long (v1)]) ⟨hx, hb, hml, hown, hts⟩ (met_Mabove l dC dI m0 r1 r2 r3 r4 c1 c2 row nx a1 b1 (xs (i + 1)) a2 H.size ha1 hb1 ha2 e1) (cwV 1 hts (lw_V q92 q93 q94 q4 q95) rfl rfl rfl (by decide +kernel) ⟨Nat.le_of_ble_eq_true rfl, Nat.le_of_ble_eq_true rfl⟩) ⟨fun a U g mk q => by obtain ⟨q0, q1, qP, qK, qD⟩ := q; exact ⟨q0, q1, qP, va_K.moved (u := U) (U := U.calling g mk a) (Vm.Alike.refl U.vm) qK, qD⟩, va_recv hKc hPc (ci := 2) (q0 := 0) rfl rfl, fun U hU hW => ⟨rfl, by rw [hU], by rw [hU]; exact hPc, va_K.moved hW.alike hKc, hDc.weaken (fun _ _ _ _ => trivial)⟩⟩ rfl rfl hl.1 rfl (lv_room (Nat.le_of_ble_eq_true rfl)) dL_law_128 ⟨Nat.le_of_ble_eq_true rfl, Nat.le_of_ble_eq_true rfl⟩) hS (fun q _ h => hFc q h) hFc (fun v2 u t H1 locs ht hvm hw2 hB hz1 hk1 hS => ?_)
        obtain ⟨row2, nx2⟩ := u
        obtain ⟨hP1, hK1, hD1⟩ := hB
        rw [ht] at hP1
        obtain ⟨hP, hD⟩ := va_join (wr := [(x0, .inr (0, [.ref x1, .int (nI a1), .int (nI b1)])), (x1, .inr (1, [.ref x2])), (x2, .inl (cA, 961, .inr (.inl (f)))), (r3, .inl (c3, 1024, .inr (.inl (two)))), (r4, .inl (c4, 1024, .inr (.inl (th))))]) (w1 := [(m0, .inr (2, [.int (nI a1), .int (nI b1), .ref r1, .ref r2, .ref r3, .ref r4])), (r1, .inl (c1, 64, .inr (.inl (row2)))), (r2, .inl (c2, 64, .inr (.inl (nx2))))]) hP hD [3, 4, 5] [0, 1, 2, 6, 7] rfl rfl (by decide) (by decide) hk1 hFc hP1 hD1
        generalize H1 = H at hP hS ⊢
        have hP := hP.sub (ws' := [(x0, .inr (0, [.ref x1, .int (nI a1), .int (nI b1)])), (x1, .inr (1, [.ref x2])), (x2, .inl (cA, 961, .inr (.inl (f)))), (m0, .inr (2, [.int (nI a1), .int (nI b1), .ref r1, .ref r2, .ref r3, .ref r4])), (r1, .inl (c1, 64, .inr (.inl (row2)))), (r2, .inl (c2, 64, .inr (.inl (nx2)))), (r3, .inl (c3, 1024, .inr (.inl (two)))), (r4, .inl (c4, 1024, .inr (.inl (th))))]) [0, 1, 2, 5, 6, 7, 3, 4] rfl
        have hD := hD.sub (ws' := [(x0, .inr (0, [.ref x1, .int (nI a1), .int (nI b1)])), (x1, .inr (1, [.ref x2])), (x2, .inl (cA, 961, .inr (.inl (f)))), (m0, .inr (2, [.int (nI a1), .int (nI b1), .ref r1, .ref r2, .ref r3, .ref r4])), (r1, .inl (c1, 64, .inr (.inl (row2)))), (r2, .inl (c2, 64, .inr (.inl (nx2)))), (r3, .inl (c3, 1024, .inr (.inl (two)))), (r4, .inl (c4, 1024, .inr (.inl (th))))]) [0, 1, 2, 5, 6, 7, 3, 4] (by decide) rfl
        have hE : v1 = v2 := hw1.trans hw2.symm
        subst hE
        refine W.lcmp hx hb dL_law_131 ?_
        refine sp_topi (y := (nI 0)) ((sp_cmpE _).trans nI_0.symm) ?_
        refine lv_if_eq (tgt := 185) hx hb dL_law_132 (by decide) (fun hc => ?_) (fun hc => ?_)
        · rw [← nI_0] at hc
          have hc : 0 = 0 := (nI_eq (by omega) (by omega)).mp hc
          exact hnext a1 b1 _ _ _ _ ha1 hb1 H _ hP hD hS _ (lv_sub hl [0, 1, 2, 3] rfl)
        · rw [← nI_0] at hc
          have hc : ¬ 0 = 0 := fun h9 => hc ((nI_eq (by omega) (by omega)).mpr h9)
          exact absurd rfl hc
      · refine lv_tableIn (off := 105) (tgt := 137) hx hb dL_law_32 (by decide) (by decide) (by decide) (by decide) ?_
        refine lv_aload_n hx hb dL_law_137 rfl (lv_at hl 1 rfl) ?_
        refine lv_aload_n hx hb dL_law_138 rfl (lv_at hl 0 rfl) ?_
        refine lv_iload_n hx hb dL_law_139 rfl (lv_at hl 3 rfl) ?_
        refine lv_iconst (v := (nI 1)) hx hb dL_law_140 (by decide) ?_
        refine lv_iadd hx hb dL_law_141 ?_
        refine sp_topi (y := (nI (i + 1))) (nI_add _ _) ?_
        refine va_sld hx hb hX hbl hbA hS (vp_in_nI (show i + 1 < L by omega) (by omega)) dL_law_142 ?_
        refine sp_topi (y := (xs (i + 1))) (by rw [nI_clamp (by omega)]) ?_
        refine lv_aload_n hx hb dL_law_143 rfl (lv_at hl 0 rfl) ?_
        refine lv_iload_n hx hb dL_law_144 rfl (lv_at hl 3 rfl) ?_
        refine lv_iconst (v := (nI 2)) hx hb dL_law_145 (by decide) ?_
        refine lv_iadd hx hb dL_law_146 ?_
        refine sp_topi (y := (nI (i + 2))) (nI_add _ _) ?_
        refine va_sld hx hb hX hbl hbA hS (vp_in_nI (show i + 2 < L by omega) (by omega)) dL_law_147 ?_
        refine sp_topi (y := (xs (i + 2))) (by rw [nI_clamp (by omega)]) ?_
        have hPc := hP.sub (ws' := [(x0, .inr (0, [.ref x1, .int (nI a1), .int (nI b1)])), (x1, .inr (1, [.ref x2])), (x2, .inl (cA, 961, .inr (.inl (f))))]) [0, 1, 2] rfl
        have hDc := hD.sub (ws' := [(x0, .inr (0, [.ref x1, .int (nI a1), .int (nI b1)])), (x1, .inr (1, [.ref x2])), (x2, .inl (cA, 961, .inr (.inl (f))))]) [0, 1, 2] (by decide) rfl
        have hKc := hK.sub (tys' := [(cA, .long)]) [0] rfl
        have hFc := va_free (wc := [(x0, .inr (0, [.ref x1, .int (nI a1), .int (nI b1)])), (x1, .inr (1, [.ref x2])), (x2, .inl (cA, 961, .inr (.inl (f))))]) hD hS hA [0, 1, 2] rfl
        refine va_calll (va_runV (As := [.int (xs (i + 1)), .int (xs (i + 2))]) (rest := []) ⟨hx, hb, hml, hown, hts⟩ (met_between l dC dI x0 x1 x2 cA f a1 b1 (xs (i + 1)) (xs (i + 2)) a2 b2 H.size hf ha1 hb1 ha2 e1 hb2 e2) (cwV 2 hts (lw_V q55 q56 q57 q2 q58) rfl rfl rfl (by decide +kernel) ⟨Nat.le_of_ble_eq_true rfl, Nat.le_of_ble_eq_true rfl⟩) ⟨fun a U g mk q => by obtain ⟨q0, q1, qP, qK, qD⟩ := q; exact ⟨q0, q1, qP, va_K.moved (u := U) (U := U.calling g mk a) (Vm.Alike.refl U.vm) qK, qD⟩, va_recv hKc hPc (ci := 0) (q0 := 0) rfl rfl, fun U hU hW => ⟨rfl, by rw [hU], by rw [hU]; exact hPc, va_K.moved hW.alike hKc, hDc.weaken (fun _ _ _ _ => trivial)⟩⟩ rfl rfl hl.1 rfl (lv_room (Nat.le_of_ble_eq_true rfl)) dL_law_148 ⟨Nat.le_of_ble_eq_true rfl, Nat.le_of_ble_eq_true rfl⟩) hS (fun q _ h => hFc q h) hFc (fun v1 u t H1 locs ht hvm hw1 hB hz1 hk1 hS => ?_)
        obtain ⟨hP1, hK1, hD1⟩ := hB
        rw [ht] at hP1
        obtain ⟨hP, hD⟩ := va_join (wr := [(m0, .inr (2, [.int (nI a1), .int (nI b1), .ref r1, .ref r2, .ref r3, .ref r4])), (r1, .inl (c1, 64, .inr (.inl (row)))), (r2, .inl (c2, 64, .inr (.inl (nx)))), (r3, .inl (c3, 1024, .inr (.inl (two)))), (r4, .inl (c4, 1024, .inr (.inl (th))))]) (w1 := [(x0, .inr (0, [.ref x1, .int (nI a1), .int (nI b1)])), (x1, .inr (1, [.ref x2])), (x2, .inl (cA, 961, .inr (.inl (f))))]) hP hD [0, 1, 2] [3, 4, 5, 6, 7] rfl rfl (by decide) (by decide) hk1 hFc hP1 hD1
        generalize H1 = H at hP hS ⊢
        have hP := hP.sub (ws' := [(x0, .inr (0, [.ref x1, .int (nI a1), .int (nI b1)])), (x1, .inr (1, [.ref x2])), (x2, .inl (cA, 961, .inr (.inl (f)))), (m0, .inr (2, [.int (nI a1), .int (nI b1), .ref r1, .ref r2, .ref r3, .ref r4])), (r1, .inl (c1, 64, .inr (.inl (row)))), (r2, .inl (c2, 64, .inr (.inl (nx)))), (r3, .inl (c3, 1024, .inr (.inl (two)))), (r4, .inl (c4, 1024, .inr (.inl (th))))]) [5, 6, 7, 0, 1, 2, 3, 4] rfl
        have hD := hD.sub (ws' := [(x0, .inr (0, [.ref x1, .int (nI a1), .int (nI b1)])), (x1, .inr (1, [.ref x2])), (x2, .inl (cA, 961, .inr (.inl (f)))), (m0, .inr (2, [.int (nI a1), .int (nI b1), .ref r1, .ref r2, .ref r3, .ref r4])), (r1, .inl (c1, 64, .inr (.inl (row)))), (r2, .inl (c2, 64, .inr (.inl (nx)))), (r3, .inl (c3, 1024, .inr (.inl (two)))), (r4, .inl (c4, 1024, .inr (.inl (th))))]) [5, 6, 7, 0, 1, 2, 3, 4] (by decide) rfl
        refine lv_aload_n hx hb dL_law_151 rfl (lv_at hl 2 rfl) ?_
        refine lv_aload_n hx hb dL_law_152 rfl (lv_at hl 0 rfl) ?_
        refine lv_iload_n hx hb dL_law_153 rfl (lv_at hl 3 rfl) ?_
        refine lv_iconst (v := (nI 1)) hx hb dL_law_154 (by decide) ?_
        refine lv_iadd hx hb dL_law_155 ?_
        refine sp_topi (y := (nI (i + 1))) (nI_add _ _) ?_
        refine va_sld hx hb hX hbl hbA hS (vp_in_nI (show i + 1 < L by omega) (by omega)) dL_law_156 ?_
        refine sp_topi (y := (xs (i + 1))) (by rw [nI_clamp (by omega)]) ?_
        refine lv_aload_n hx hb dL_law_157 rfl (lv_at hl 0 rfl) ?_
        refine lv_iload_n hx hb dL_law_158 rfl (lv_at hl 3 rfl) ?_
        refine lv_iconst (v := (nI 2)) hx hb dL_law_159 (by decide) ?_
        refine lv_iadd hx hb dL_law_160 ?_
        refine sp_topi (y := (nI (i + 2))) (nI_add _ _) ?_
        refine va_sld hx hb hX hbl hbA hS (vp_in_nI (show i + 2 < L by omega) (by omega)) dL_law_161 ?_
        refine sp_topi (y := (xs (i + 2))) (by rw [nI_clamp (by omega)]) ?_
        have hPc := hP.sub (ws' := [(m0, .inr (2, [.int (nI a1), .int (nI b1), .ref r1, .ref r2, .ref r3, .ref r4])), (r1, .inl (c1, 64, .inr (.inl (row)))), (r2, .inl (c2, 64, .inr (.inl (nx))))]) [3, 4, 5] rfl
        have hDc := hD.sub (ws' := [(m0, .inr (2, [.int (nI a1), .int (nI b1), .ref r1, .ref r2, .ref r3, .ref r4])), (r1, .inl (c1, 64, .inr (.inl (row)))), (r2, .inl (c2, 64, .inr (.inl (nx))))]) [3, 4, 5] (by decide) rfl
        have hKc := hK.sub (tys' := [(c1, .long), (c2, .long)]) [1, 2] rfl
        have hFc := va_free (wc := [(m0, .inr (2, [.int (nI a1), .int (nI b1), .ref r1, .ref r2, .ref r3, .ref r4])), (r1, .inl (c1, 64, .inr (.inl (row)))), (r2, .inl (c2, 64, .inr (.inl (nx))))]) hD hS hA [3, 4, 5] rfl
        refine va_calll (va_runV (As := [.int (xs (i + 1)), .int (xs (i + 2))]) (rest := [.long (v1)]) ⟨hx, hb, hml, hown, hts⟩ (met_Mbetween l dC dI m0 r1 r2 r3 r4 c1 c2 row nx a1 b1 (xs (i + 1)) (xs (i + 2)) a2 b2 H.size ha1 hb1 ha2 e1 hb2 e2) (cwV 2 hts (lw_V q100 q101 q102 q4 q103) rfl rfl rfl (by decide +kernel) ⟨Nat.le_of_ble_eq_true rfl, Nat.le_of_ble_eq_true rfl⟩) ⟨fun a U g mk q => by obtain ⟨q0, q1, qP, qK, qD⟩ := q; exact ⟨q0, q1, qP, va_K.moved (u := U) (U := U.calling g mk a) (Vm.Alike.refl U.vm) qK, qD⟩, va_recv hKc hPc (ci := 2) (q0 := 0) rfl rfl, fun U hU hW => ⟨rfl, by rw [hU], by rw [hU]; exact hPc, va_K.moved hW.alike hKc, hDc.weaken (fun _ _ _ _ => trivial)⟩⟩ rfl rfl hl.1 rfl (lv_room (Nat.le_of_ble_eq_true rfl)) dL_law_162 ⟨Nat.le_of_ble_eq_true rfl, Nat.le_of_ble_eq_true rfl⟩) hS (fun q _ h => hFc q h) hFc (fun v2 u t H1 locs ht hvm hw2 hB hz1 hk1 hS => ?_)
        obtain ⟨row2, nx2⟩ := u
        obtain ⟨hP1, hK1, hD1⟩ := hB
        rw [ht] at hP1
        obtain ⟨hP, hD⟩ := va_join (wr := [(x0, .inr (0, [.ref x1, .int (nI a1), .int (nI b1)])), (x1, .inr (1, [.ref x2])), (x2, .inl (cA, 961, .inr (.inl (f)))), (r3, .inl (c3, 1024, .inr (.inl (two)))), (r4, .inl (c4, 1024, .inr (.inl (th))))]) (w1 := [(m0, .inr (2, [.int (nI a1), .int (nI b1), .ref r1, .ref r2, .ref r3, .ref r4])), (r1, .inl (c1, 64, .inr (.inl (row2)))), (r2, .inl (c2, 64, .inr (.inl (nx2))))]) hP hD [3, 4, 5] [0, 1, 2, 6, 7] rfl rfl (by decide) (by decide) hk1 hFc hP1 hD1
        generalize H1 = H at hP hS ⊢
        have hP := hP.sub (ws' := [(x0, .inr (0, [.ref x1, .int (nI a1), .int (nI b1)])), (x1, .inr (1, [.ref x2])), (x2, .inl (cA, 961, .inr (.inl (f)))), (m0, .inr (2, [.int (nI a1), .int (nI b1), .ref r1, .ref r2, .ref r3, .ref r4])), (r1, .inl (c1, 64, .inr (.inl (row2)))), (r2, .inl (c2, 64, .inr (.inl (nx2)))), (r3, .inl (c3, 1024, .inr (.inl (two)))), (r4, .inl (c4, 1024, .inr (.inl (th))))]) [0, 1, 2, 5, 6, 7, 3, 4] rfl
        have hD := hD.sub (ws' := [(x0, .inr (0, [.ref x1, .int (nI a1), .int (nI b1)])), (x1, .inr (1, [.ref x2])), (x2, .inl (cA, 961, .inr (.inl (f)))), (m0, .inr (2, [.int (nI a1), .int (nI b1), .ref r1, .ref r2, .ref r3, .ref r4])), (r1, .inl (c1, 64, .inr (.inl (row2)))), (r2, .inl (c2, 64, .inr (.inl (nx2)))), (r3, .inl (c3, 1024, .inr (.inl (two)))), (r4, .inl (c4, 1024, .inr (.inl (th))))]) [0, 1, 2, 5, 6, 7, 3, 4] (by decide) rfl
        have hE : v1 = v2 := hw1.trans hw2.symm
        subst hE
        refine W.lcmp hx hb dL_law_165 ?_
        refine sp_topi (y := (nI 0)) ((sp_cmpE _).trans nI_0.symm) ?_
        refine lv_if_eq (tgt := 185) hx hb dL_law_166 (by decide) (fun hc => ?_) (fun hc => ?_)
        · rw [← nI_0] at hc
          have hc : 0 = 0 := (nI_eq (by omega) (by omega)).mp hc
          exact hnext a1 b1 _ _ _ _ ha1 hb1 H _ hP hD hS _ (lv_sub hl [0, 1, 2, 3] rfl)
        · rw [← nI_0] at hc
          have hc : ¬ 0 = 0 := fun h9 => hc ((nI_eq (by omega) (by omega)).mpr h9)
          exact absurd rfl hc
      · refine lv_tableIn (off := 139) (tgt := 171) hx hb dL_law_32 (by decide) (by decide) (by decide) (by decide) ?_
        refine lv_aload_n hx hb dL_law_171 rfl (lv_at hl 1 rfl) ?_
        have hPc := hP.sub (ws' := [(x0, .inr (0, [.ref x1, .int (nI a1), .int (nI b1)])), (x1, .inr (1, [.ref x2])), (x2, .inl (cA, 961, .inr (.inl (f))))]) [0, 1, 2] rfl
        have hDc := hD.sub (ws' := [(x0, .inr (0, [.ref x1, .int (nI a1), .int (nI b1)])), (x1, .inr (1, [.ref x2])), (x2, .inl (cA, 961, .inr (.inl (f))))]) [0, 1, 2] (by decide) rfl
        have hKc := hK.sub (tys' := [(cA, .long)]) [0] rfl
        have hFc := va_free (wc := [(x0, .inr (0, [.ref x1, .int (nI a1), .int (nI b1)])), (x1, .inr (1, [.ref x2])), (x2, .inl (cA, 961, .inr (.inl (f))))]) hD hS hA [0, 1, 2] rfl
        refine va_calll (va_runV (As := []) (rest := []) ⟨hx, hb, hml, hown, hts⟩ (met_apart l dC dI x0 x1 x2 cA f a1 b1 H.size hf ha1 hb1) (cwV 0 hts (lw_V q59 q60 q61 q2 q62) rfl rfl rfl (by decide +kernel) ⟨Nat.le_of_ble_eq_true rfl, Nat.le_of_ble_eq_true rfl⟩) ⟨fun a U g mk q => by obtain ⟨q0, q1, qP, qK, qD⟩ := q; exact ⟨q0, q1, qP, va_K.moved (u := U) (U := U.calling g mk a) (Vm.Alike.refl U.vm) qK, qD⟩, va_recv hKc hPc (ci := 0) (q0 := 0) rfl rfl, fun U hU hW => ⟨rfl, by rw [hU], by rw [hU]; exact hPc, va_K.moved hW.alike hKc, hDc.weaken (fun _ _ _ _ => trivial)⟩⟩ rfl rfl hl.1 rfl (lv_room (Nat.le_of_ble_eq_true rfl)) dL_law_172 ⟨Nat.le_of_ble_eq_true rfl, Nat.le_of_ble_eq_true rfl⟩) hS (fun q _ h => hFc q h) hFc (fun v1 u t H1 locs ht hvm hw1 hB hz1 hk1 hS => ?_)
        obtain ⟨hP1, hK1, hD1⟩ := hB
        rw [ht] at hP1
        obtain ⟨hP, hD⟩ := va_join (wr := [(m0, .inr (2, [.int (nI a1), .int (nI b1), .ref r1, .ref r2, .ref r3, .ref r4])), (r1, .inl (c1, 64, .inr (.inl (row)))), (r2, .inl (c2, 64, .inr (.inl (nx)))), (r3, .inl (c3, 1024, .inr (.inl (two)))), (r4, .inl (c4, 1024, .inr (.inl (th))))]) (w1 := [(x0, .inr (0, [.ref x1, .int (nI a1), .int (nI b1)])), (x1, .inr (1, [.ref x2])), (x2, .inl (cA, 961, .inr (.inl (f))))]) hP hD [0, 1, 2] [3, 4, 5, 6, 7] rfl rfl (by decide) (by decide) hk1 hFc hP1 hD1
        generalize H1 = H at hP hS ⊢
        have hP := hP.sub (ws' := [(x0, .inr (0, [.ref x1, .int (nI a1), .int (nI b1)])), (x1, .inr (1, [.ref x2])), (x2, .inl (cA, 961, .inr (.inl (f)))), (m0, .inr (2, [.int (nI a1), .int (nI b1), .ref r1, .ref r2, .ref r3, .ref r4])), (r1, .inl (c1, 64, .inr (.inl (row)))), (r2, .inl (c2, 64, .inr (.inl (nx)))), (r3, .inl (c3, 1024, .inr (.inl (two)))), (r4, .inl (c4, 1024, .inr (.inl (th))))]) [5, 6, 7, 0, 1, 2, 3, 4] rfl
        have hD := hD.sub (ws' := [(x0, .inr (0, [.ref x1, .int (nI a1), .int (nI b1)])), (x1, .inr (1, [.ref x2])), (x2, .inl (cA, 961, .inr (.inl (f)))), (m0, .inr (2, [.int (nI a1), .int (nI b1), .ref r1, .ref r2, .ref r3, .ref r4])), (r1, .inl (c1, 64, .inr (.inl (row)))), (r2, .inl (c2, 64, .inr (.inl (nx)))), (r3, .inl (c3, 1024, .inr (.inl (two)))), (r4, .inl (c4, 1024, .inr (.inl (th))))]) [5, 6, 7, 0, 1, 2, 3, 4] (by decide) rfl
        refine lv_aload_n hx hb dL_law_175 rfl (lv_at hl 2 rfl) ?_
        have hPc := hP.sub (ws' := [(m0, .inr (2, [.int (nI a1), .int (nI b1), .ref r1, .ref r2, .ref r3, .ref r4])), (r3, .inl (c3, 1024, .inr (.inl (two)))), (r4, .inl (c4, 1024, .inr (.inl (th))))]) [3, 6, 7] rfl
        have hDc := hD.sub (ws' := [(m0, .inr (2, [.int (nI a1), .int (nI b1), .ref r1, .ref r2, .ref r3, .ref r4])), (r3, .inl (c3, 1024, .inr (.inl (two)))), (r4, .inl (c4, 1024, .inr (.inl (th))))]) [3, 6, 7] (by decide) rfl
        have hKc := hK.sub (tys' := [(c3, .long), (c4, .long)]) [3, 4] rfl
        have hFc := va_free (wc := [(m0, .inr (2, [.int (nI a1), .int (nI b1), .ref r1, .ref r2, .ref r3, .ref r4])), (r3, .inl (c3, 1024, .inr (.inl (two)))), (r4, .inl (c4, 1024, .inr (.inl (th))))]) hD hS hA [3, 6, 7] rfl
        refine va_calll (va_runV (As := []) (rest := [.long (v1)]) ⟨hx, hb, hml, hown, hts⟩ (met_Mapart l dC dI m0 r1 r2 r3 r4 c3 c4 two th a1 b1 H.size ha1 hb1) (cwV 0 hts (lw_V q104 q105 q106 q4 q107) rfl rfl rfl (by decide +kernel) ⟨Nat.le_of_ble_eq_true rfl, Nat.le_of_ble_eq_true rfl⟩) ⟨fun a U g mk q => by obtain ⟨q0, q1, qP, qK, qD⟩ := q; exact ⟨q0, q1, qP, va_K.moved (u := U) (U := U.calling g mk a) (Vm.Alike.refl U.vm) qK, qD⟩, va_recv hKc hPc (ci := 2) (q0 := 0) rfl rfl, fun U hU hW => ⟨rfl, by rw [hU], by rw [hU]; exact hPc, va_K.moved hW.alike hKc, hDc.weaken (fun _ _ _ _ => trivial)⟩⟩ rfl rfl hl.1 rfl (lv_room (Nat.le_of_ble_eq_true rfl)) dL_law_176 ⟨Nat.le_of_ble_eq_true rfl, Nat.le_of_ble_eq_true rfl⟩) hS (fun q _ h => hFc q h) hFc (fun v2 u t H1 locs ht hvm hw2 hB hz1 hk1 hS => ?_)
        obtain ⟨two2, th2⟩ := u
        obtain ⟨hP1, hK1, hD1⟩ := hB
        rw [ht] at hP1
        obtain ⟨hP, hD⟩ := va_join (wr := [(x0, .inr (0, [.ref x1, .int (nI a1), .int (nI b1)])), (x1, .inr (1, [.ref x2])), (x2, .inl (cA, 961, .inr (.inl (f)))), (r1, .inl (c1, 64, .inr (.inl (row)))), (r2, .inl (c2, 64, .inr (.inl (nx))))]) (w1 := [(m0, .inr (2, [.int (nI a1), .int (nI b1), .ref r1, .ref r2, .ref r3, .ref r4])), (r3, .inl (c3, 1024, .inr (.inl (two2)))), (r4, .inl (c4, 1024, .inr (.inl (th2))))]) hP hD [3, 6, 7] [0, 1, 2, 4, 5] rfl rfl (by decide) (by decide) hk1 hFc hP1 hD1
        generalize H1 = H at hP hS ⊢
        have hP := hP.sub (ws' := [(x0, .inr (0, [.ref x1, .int (nI a1), .int (nI b1)])), (x1, .inr (1, [.ref x2])), (x2, .inl (cA, 961, .inr (.inl (f)))), (m0, .inr (2, [.int (nI a1), .int (nI b1), .ref r1, .ref r2, .ref r3, .ref r4])), (r1, .inl (c1, 64, .inr (.inl (row)))), (r2, .inl (c2, 64, .inr (.inl (nx)))), (r3, .inl (c3, 1024, .inr (.inl (two2)))), (r4, .inl (c4, 1024, .inr (.inl (th2))))]) [0, 1, 2, 5, 3, 4, 6, 7] rfl
        have hD := hD.sub (ws' := [(x0, .inr (0, [.ref x1, .int (nI a1), .int (nI b1)])), (x1, .inr (1, [.ref x2])), (x2, .inl (cA, 961, .inr (.inl (f)))), (m0, .inr (2, [.int (nI a1), .int (nI b1), .ref r1, .ref r2, .ref r3, .ref r4])), (r1, .inl (c1, 64, .inr (.inl (row)))), (r2, .inl (c2, 64, .inr (.inl (nx)))), (r3, .inl (c3, 1024, .inr (.inl (two2)))), (r4, .inl (c4, 1024, .inr (.inl (th2))))]) [0, 1, 2, 5, 3, 4, 6, 7] (by decide) rfl
        have hE : v1 = v2 := hw1.trans hw2.symm
        subst hE
        refine W.lcmp hx hb dL_law_179 ?_
        refine sp_topi (y := (nI 0)) ((sp_cmpE _).trans nI_0.symm) ?_
        refine lv_if_eq (tgt := 185) hx hb dL_law_180 (by decide) (fun hc => ?_) (fun hc => ?_)
        · rw [← nI_0] at hc
          have hc : 0 = 0 := (nI_eq (by omega) (by omega)).mp hc
          exact hnext a1 b1 _ _ _ _ ha1 hb1 H _ hP hD hS _ (lv_sub hl [0, 1, 2, 3] rfl)
        · rw [← nI_0] at hc
          have hc : ¬ 0 = 0 := fun h9 => hc ((nI_eq (by omega) (by omega)).mpr h9)
          exact absurd rfl hc
      · refine lv_tableOut (tgt := 185) hx hb dL_law_32 (Or.inr (by rw [nI_toInt (by omega)]; omega)) (by decide) ?_
        exact hnext a1 b1 row nx two th ha1 hb1 H locs hP hD hS _ hl
set_option maxHeartbeats 4000000 in
set_option maxRecDepth 100000 in
/-- THE LAW, from its entry -/
theorem whole_start {p : Program} {e : Env} {s : State} {m : MethodId} {below : List Frame} {meth : Method} {c : Code} (l : Launch) {b L : Nat} {xs : Nat → Int32} (hL : L ≤ 192) (C0 : lw_At p s m meth c b L xs) : W p l e room_1 s m #[Value.ref b] below meth c s.heap [] 0 0 (lw_Z below #[Value.ref b] s) (entryFrame m ([Value.ref b] : List Value).toArray 4) := by
  obtain ⟨hx, hb, hr, hml, hown, hts0, hX, hbl, hlocks, hgv⟩ := id C0
  have hts : ∀ w ∈ lw_all, w.before #[Value.ref b] s = true := fun w h => hts0 w (lw_all_tbl h)
  have hA : ∀ q : Nat, s.heap.size ≤ q → (fun q : Nat => s.heap.size ≤ q) q := fun _ h => h
  obtain ⟨k0, iS0, hKn0⟩ := u_known (C := RX0) (T := TX0) (N := 3) (n := 3) hts0 (fun w h => lw_all_tbl (in_X0 w h)) (hts _ q6)
  obtain ⟨k1, iS1, hKn1⟩ := u_known (C := RX1) (T := TX1) (N := 1) (n := 1) hts0 (fun w h => lw_all_tbl (in_X1 w h)) (hts _ q14)
  obtain ⟨k2, iS2, hKn2⟩ := u_known (C := RX2) (T := TX2) (N := 6) (n := 6) hts0 (fun w h => lw_all_tbl (in_X2 w h)) (hts _ q64)
  obtain ⟨dC, dI, hKc⟩ : ∃ (dC : Nat → ClassId) (dI : Nat → Nat → Nat), ∀ (k : Nat) (q : vw_C), vwCl[k]? = some q → u_Kn s q.1 q.2.1 q.2.2 (dC k) (dI k) := by
    refine ⟨fun k => if k = 0 then k0 else if k = 1 then k1 else k2, fun k => if k = 0 then iS0 else if k = 1 then iS1 else iS2, ?_⟩
    intro k q hq
    match k, hq with
    | 0, hq => cases hq; exact hKn0
    | 1, hq => cases hq; exact hKn1
    | 2, hq => cases hq; exact hKn2
    | k + 3, hq => simp [vwCl] at hq
  have hS : va_S (fun q : Nat => s.heap.size ≤ q) s.heap s.heap [] := va_S.rf
  have hK : va_K (dC, dI) vwCl [] s := ⟨hKc, fun k q h => by simp at h⟩
  have hP : va_P (dC, dI) vwCl [] s.heap := fun k q h => by simp at h
  have hD : va_D (fun q : Nat => s.heap.size ≤ q) [] := ⟨fun i j p q h => by simp at h, fun k q h => by simp at h⟩
  have hl := lv_entry ([.ref b]) (n := 4) (Nat.le_of_ble_eq_true rfl)
  rw [lg_entry_eq]
  generalize (lg_sl ([.ref b]) ++ List.replicate (4 - (lg_sl ([.ref b])).length) Slot.unset).toArray = ls at hl ⊢
  have hl : lv_has ls 4 [(0, .ref b)] := hl
  refine va_new (ci := 0) (fs := [.null, .int (0), .int (0)]) (C := RX0) (T := TX0) (N := 3) hx hb hts in_X0 tyX0 tyX0_ok hown (hts _ q5) (hts _ q6) (hts _ q2) hK hP hD hS hA rfl (fun j hj => by rcases (show j = 0 ∨ j = 1 ∨ j = 2 by omega) with rfl | rfl | rfl <;> rfl) (Nat.le_of_ble_eq_true rfl) (Nat.le_of_ble_eq_true rfl) dL_law_0 (fun x0 H hP hD hS => ?_)
  have hP : va_P (dC, dI) vwCl [(x0, .inr (0, [.null, .int (0), .int (0)]))] H := hP
  have hD : va_D (fun q : Nat => s.heap.size ≤ q) [(x0, .inr (0, [.null, .int (0), .int (0)]))] := hD
  refine W.widen (k := 1) (n := 3) (by omega) (by omega) ?_
  refine lv_dup hx hb dL_law_3 rfl ?_
  have hPc := hP.sub (ws' := [(x0, .inr (0, [.null, .int (0), .int (0)]))]) [0] rfl
  have hDc := hD.sub (ws' := [(x0, .inr (0, [.null, .int (0), .int (0)]))]) [0] (by decide) rfl
  have hKc := hK.sub (tys' := []) [] rfl
  have hFc := va_free (wc := [(x0, .inr (0, [.null, .int (0), .int (0)]))]) hD hS hA [0] rfl
  refine va_callv (va_runI (As := []) (rest := [.ref x0]) ⟨hx, hb, hml, hown, hts⟩ (met_StepPaths l dC dI x0 H.size) (cwI 0 hts (lw_meth q9) rfl rfl rfl (hts _ q2) (hts _ q7) (hts _ q8) rfl (by decide +kernel) ⟨Nat.le_of_ble_eq_true rfl, Nat.le_of_ble_eq_true rfl⟩) ⟨fun a U g mk q => by obtain ⟨q0, q1, qP, qK, qD⟩ := q; exact ⟨q0, q1, qP, va_K.moved (u := U) (U := U.calling g mk a) (Vm.Alike.refl U.vm) qK, qD⟩, fun U hU hW => ⟨rfl, by rw [hU], by rw [hU]; exact hPc, va_K.moved hW.alike hKc, hDc.weaken (fun _ _ _ _ => trivial)⟩⟩ rfl rfl hl.1 rfl (lv_room (Nat.le_of_ble_eq_true rfl)) dL_law_4 ⟨Nat.le_of_ble_eq_true rfl, Nat.le_of_ble_eq_true rfl⟩) hS (fun q _ h => hFc q h) hFc (fun u t H1 locs ht hvm hf hB hz1 hk1 hS => ?_)
  obtain ⟨x1, x2, cA, f⟩ := u
  obtain ⟨hP1, hK1, hD1⟩ := hB
  rw [ht] at hP1
  have hK1 := va_K.moved hvm.symm hK1
  have hK := hK.app hK1
  have hK : va_K (dC, dI) vwCl [(cA, .long)] s := hK
  obtain ⟨hP, hD⟩ := va_join (wr := []) (w1 := [(x0, .inr (0, [.ref x1, .int (nI 3), .int (nI 3)])), (x1, .inr (1, [.ref x2])), (x2, .inl (cA, 961, .inr (.inl (f))))]) hP hD [0] [] rfl rfl (by decide) (by decide) hk1 hFc hP1 hD1
  generalize H1 = H at hP hS ⊢
  have hP := hP.sub (ws' := [(x0, .inr (0, [.ref x1, .int (nI 3), .int (nI 3)])), (x1, .inr (1, [.ref x2])), (x2, .inl (cA, 961, .inr (.inl (f))))]) [0, 1, 2] rfl
  have hD := hD.sub (ws' := [(x0, .inr (0, [.ref x1, .int (nI 3), .int (nI 3)])), (x1, .inr (1, [.ref x2])), (x2, .inl (cA, 961, .inr (.inl (f))))]) [0, 1, 2] (by decide) rfl
  have hf : sp_tri f := hf
  refine W.widen (k := 3) (n := 965) (by omega) (by omega) ?_
  refine lv_astore_n (lv' := [(1, .ref x0), (0, .ref b)]) hx hb dL_law_7 rfl hl (by decide) rfl (fun ls hl => ?_)
  refine va_new (ci := 2) (fs := [.int (0), .int (0), .null, .null, .null, .null]) (C := RX2) (T := TX2) (N := 6) hx hb hts in_X2 tyX2 tyX2_ok hown (hts _ q63) (hts _ q64) (hts _ q4) hK hP hD hS hA rfl (fun j hj => by rcases (show j = 0 ∨ j = 1 ∨ j = 2 ∨ j = 3 ∨ j = 4 ∨ j = 5 by omega) with rfl | rfl | rfl | rfl | rfl | rfl <;> rfl) (Nat.le_of_ble_eq_true rfl) (Nat.le_of_ble_eq_true rfl) dL_law_8 (fun m0 H hP hD hS => ?_)
  have hP : va_P (dC, dI) vwCl [(x0, .inr (0, [.ref x1, .int (nI 3), .int (nI 3)])), (x1, .inr (1, [.ref x2])), (x2, .inl (cA, 961, .inr (.inl (f)))), (m0, .inr (2, [.int (0), .int (0), .null, .null, .null, .null]))] H := hP
  have hD : va_D (fun q : Nat => s.heap.size ≤ q) [(x0, .inr (0, [.ref x1, .int (nI 3), .int (nI 3)])), (x1, .inr (1, [.ref x2])), (x2, .inl (cA, 961, .inr (.inl (f)))), (m0, .inr (2, [.int (0), .int (0), .null, .null, .null, .null]))] := hD
  refine W.widen (k := 4) (n := 971) (by omega) (by omega) ?_
  refine lv_dup hx hb dL_law_11 rfl ?_
  have hPc := hP.sub (ws' := [(m0, .inr (2, [.int (0), .int (0), .null, .null, .null, .null]))]) [3] rfl
  have hDc := hD.sub (ws' := [(m0, .inr (2, [.int (0), .int (0), .null, .null, .null, .null]))]) [3] (by decide) rfl
  have hKc := hK.sub (tys' := []) [] rfl
  have hFc := va_free (wc := [(m0, .inr (2, [.int (0), .int (0), .null, .null, .null, .null]))]) hD hS hA [3] rfl
  refine va_callv (va_runI (As := []) (rest := [.ref m0]) ⟨hx, hb, hml, hown, hts⟩ (met_Model l dC dI m0 H.size) (cwI 0 hts (lw_meth q67) rfl rfl rfl (hts _ q4) (hts _ q65) (hts _ q66) rfl (by decide +kernel) ⟨Nat.le_of_ble_eq_true rfl, Nat.le_of_ble_eq_true rfl⟩) ⟨fun a U g mk q => by obtain ⟨q0, q1, qP, qK, qD⟩ := q; exact ⟨q0, q1, qP, va_K.moved (u := U) (U := U.calling g mk a) (Vm.Alike.refl U.vm) qK, qD⟩, fun U hU hW => ⟨rfl, by rw [hU], by rw [hU]; exact hPc, va_K.moved hW.alike hKc, hDc.weaken (fun _ _ _ _ => trivial)⟩⟩ rfl rfl hl.1 rfl (lv_room (Nat.le_of_ble_eq_true rfl)) dL_law_12 ⟨Nat.le_of_ble_eq_true rfl, Nat.le_of_ble_eq_true rfl⟩) hS (fun q _ h => hFc q h) hFc (fun u t H1 locs ht hvm hw hB hz1 hk1 hS => ?_)
  obtain ⟨⟨r1, r2, r3, r4⟩, ⟨c1, c2, c3, c4⟩⟩ := u
  obtain ⟨hP1, hK1, hD1⟩ := hB
  rw [ht] at hP1
  have hK1 := va_K.moved hvm.symm hK1
  have hK := hK.app hK1
  have hK : va_K (dC, dI) vwCl [(cA, .long), (c1, .long), (c2, .long), (c3, .long), (c4, .long)] s := hK
  obtain ⟨hP, hD⟩ := va_join (wr := [(x0, .inr (0, [.ref x1, .int (nI 3), .int (nI 3)])), (x1, .inr (1, [.ref x2])), (x2, .inl (cA, 961, .inr (.inl (f))))]) (w1 := [(m0, .inr (2, [.int (nI 3), .int (nI 3), .ref r1, .ref r2, .ref r3, .ref r4])), (r1, .inl (c1, 64, .inr (.inl (fun _ => 0)))), (r2, .inl (c2, 64, .inr (.inl (fun _ => 0)))), (r3, .inl (c3, 1024, .inr (.inl (fun _ => 0)))), (r4, .inl (c4, 1024, .inr (.inl (fun _ => 0))))]) hP hD [3] [0, 1, 2] rfl rfl (by decide) (by decide) hk1 hFc hP1 hD1
  generalize H1 = H at hP hS ⊢
  have hP := hP.sub (ws' := [(x0, .inr (0, [.ref x1, .int (nI 3), .int (nI 3)])), (x1, .inr (1, [.ref x2])), (x2, .inl (cA, 961, .inr (.inl (f)))), (m0, .inr (2, [.int (nI 3), .int (nI 3), .ref r1, .ref r2, .ref r3, .ref r4])), (r1, .inl (c1, 64, .inr (.inl (fun _ => 0)))), (r2, .inl (c2, 64, .inr (.inl (fun _ => 0)))), (r3, .inl (c3, 1024, .inr (.inl (fun _ => 0)))), (r4, .inl (c4, 1024, .inr (.inl (fun _ => 0))))]) [0, 1, 2, 3, 4, 5, 6, 7] rfl
  have hD := hD.sub (ws' := [(x0, .inr (0, [.ref x1, .int (nI 3), .int (nI 3)])), (x1, .inr (1, [.ref x2])), (x2, .inl (cA, 961, .inr (.inl (f)))), (m0, .inr (2, [.int (nI 3), .int (nI 3), .ref r1, .ref r2, .ref r3, .ref r4])), (r1, .inl (c1, 64, .inr (.inl (fun _ => 0)))), (r2, .inl (c2, 64, .inr (.inl (fun _ => 0)))), (r3, .inl (c3, 1024, .inr (.inl (fun _ => 0)))), (r4, .inl (c4, 1024, .inr (.inl (fun _ => 0))))]) [0, 1, 2, 3, 4, 5, 6, 7] (by decide) rfl
  refine W.widen (k := 8) (n := 3147) (by omega) (by omega) ?_
  refine lv_astore_n (lv' := [(2, .ref m0), (1, .ref x0), (0, .ref b)]) hx hb dL_law_15 rfl hl (by decide) rfl (fun ls hl => ?_)
  refine lv_iconst (v := (nI 0)) hx hb dL_law_16 (by decide) ?_
  refine lv_istore_n (lv' := [(3, .int (nI 0)), (2, .ref m0), (1, .ref x0), (0, .ref b)]) hx hb dL_law_17 rfl hl (by decide) rfl (fun ls hl => ?_)
  exact law_loop hL C0 hf hK (L + 1) 0 3 3 (fun _ => 0) (fun _ => 0) (fun _ => 0) (fun _ => 0) (Nat.zero_le L) (by omega) (by decide) (by decide) H locs hP hD hS _ (lv_sub hl [3, 2, 1, 0] rfl)
end
section
-- ===== YOUR PART ENDS =====
set_option maxHeartbeats 4000000 in
theorem lw_walk (l : Launch) (b : Addr) (xs : List Int32) : MetFree l x (headSpec (Jvm.Cond.code x code maxLocals ret :: tables_1) room_1) (lw_P b xs) (fun _ _ _ _ _ => True) lw_Q := by
  refine MetFree.of_bodyS (code := code) (maxLocals := maxLocals) (ret := ret) (by decide) ?_ ?_
  · intro args s m h hn
    obtain ⟨meth, c, h1, h2, h3, h4, h5, h6, -, -⟩ := Cond.code_spec hn (atoms_spec (ws := Jvm.Cond.code x code maxLocals ret :: tables_1) h _ List.mem_cons_self)
    exact ⟨meth, c, h1, h2, h3, h4, h5, h6⟩
  · intro p e s m args below meth c s₁ B hml0 hP _
    obtain ⟨rfl, hx, hbd, hgv⟩ := hP
    obtain ⟨scr, harrAt, hlist, hof, hsmall⟩ := hx
    obtain ⟨hcb, hkn, -, -⟩ := State.arrayAt?_spec harrAt
    have hown : s.vm.findClass R_law = some m.cls := findClass_of_methodNamed B.named
    have hts0 : ∀ c ∈ (Jvm.Cond.code x code maxLocals ret :: tables_1), c.before #[Value.ref b] s = true := atoms_spec (ws := Jvm.Cond.code x code maxLocals ret :: tables_1) B.pre
    have hts : ∀ w ∈ lw_tbl, w.before #[Value.ref b] s = true := k2_hts_sels lw_privs (fun w hw => hts0 w (List.mem_cons_of_mem _ hw)) lw_privs_ok
    have hml : c.maxLocals = 4 := B.maxLocals_eq (hts0 _ List.mem_cons_self)
    have X₀ : Stand p l e room_1 s m #[Value.ref b] below meth c s₁ [] 0 0 := Stand.of_body B
    have hh0 : s₁.heap = s.heap := by rw [B.state]; rfl
    have hsz : scr.slots.size = xs.length := by rw [← Array.length_toList, hlist, List.length_map]
    have hval : ∀ j : Nat, j < xs.length → scr.slots[j]? = some (.int (xs.getD j 0)) := fun j hj => by
      rw [← Array.getElem?_toList, hlist]
      simp [hj]
    have hbl : b < s.heap.size := (Array.getElem?_eq_some_iff.mp hcb).1
    have hX : va_X b xs.length (fun j => xs.getD j 0) s s.heap := ⟨scr, hcb, hof, hkn, hsz, hval⟩
    have K : W p l e room_1 s m #[Value.ref b] below meth c s₁.heap [] 0 0 (lw_Z below #[Value.ref b] s) (entryFrame m ([Value.ref b] : List Value).toArray 4) := by
      rw [hh0]
      exact whole_start l hbd ⟨B.exec, B.bytes, B.returns, hml, hown, hts, hX, hbl, B.notSynchronized, hgv⟩
    obtain ⟨t, a1, o, b1, b2, b3⟩ := K s₁ rfl X₀
    exact ⟨t, o, a1, b1, b2, b3⟩
theorem lw_pre_spec {args : Array Value} {s : State} (h : (Jvm.Cond.and given_1 narrow_1).before args s = true) (hr : rest_1_c.before args s = true) : ∃ (b : Addr) (xs : List Int32), lw_P b xs args s := by
  have hs := flat_of_before _ h
  have hq := flat_of_before _ hr
  have hc : (Cond.count 1).before args s = true := hs _ (by decide +kernel)
  have harr : (Cond.arrayOf (.arg 0) .int).before args s = true := hs _ (by decide +kernel)
  have hle : (Cond.le (.length (.arg 0)) (.int 192)).before args s = true := hs _ (by decide +kernel)
  have hlen : (Cond.isInt (.length (.arg 0))).before args s = true := hq _ (by decide +kernel)
  have hall : (Cond.all (.arg 0) (.isInt (.elem (.arg 0) (.index 0)))).before args s = true := hq _ (by decide +kernel)
  obtain ⟨b, xs, hb, hx⟩ := State.ints_of_pre rfl harr hlen hall
  have hsm : xs.length < 2 ^ 31 := hx.choose_spec.2.2.2
  have hev : (Term.length (.arg 0)).eval args s none [] s = some (.int xs.length.toInt32) := hx.length_eval hb
  have hv := Cond.le_ints hev (show (Term.int 192).eval args s none [] s = some (.int 192) from rfl)
  have hd : xs.length.toInt32 ≤ 192 := by
    simpa [Cond.before, Cond.holds, hv] using hle
  have hN : xs.length ≤ 192 := (Int32.ofNat_le_ofNat hsm (by decide)).mp (show Int32.ofNat xs.length ≤ Int32.ofNat 192 from hd)
  exact ⟨b, xs, Cond.one_arg hc (show args[0]? = some (.ref b) from hb), hx, hN, h⟩
theorem lw_comes (l : Launch) : Comes l x (Jvm.Cond.code x code maxLocals ret :: tables_1) room_1 (fun tb e args s => Calls_1 tb e args s ∧ rest_1 tb e args s ∧ Pre_1 tb e args s)
    (fun _ _ args s o t => lw_Q args s o t) := by
  intro p e ha hc hk s m args below hf hfit hheap happ hpre
  obtain ⟨b, xs, hP⟩ := lw_pre_spec hpre.2.2 hpre.2.1
  obtain ⟨k, o, h1, h2, h3, hQ⟩ := lw_walk l b xs p e ha hc hk s m args below hf ((Spec.applies_iff_loose hf).mp happ).1 hP trivial
  exact ⟨k, o, h1, h2, h3, hQ⟩
theorem lw_frame {s t : State} {o : Outcome} {args : Array Value} (h : Framed s o t [] 600000 7290000) :
    Framed s o t (fieldLocs frame_1_writes args s ++ arrayLocs frame_1_arrays args s ++ staticLocs frame_1_statics s) 600000 7290000 := h
theorem lw_limb (L : Cond) (hL : ∀ (args : Array Value) (s t : State), L.after args s (.returned (some (.int 1))) t = true) :
    ArmFor flags0 classFile x code maxLocals ret World_1 tables_1 room_1 Calls_1 rest_1 Pre_1
      (fun tb e a s o t => postC L tb e a s o t ∧ Framed s o t (fieldLocs frame_1_writes a s ++ arrayLocs frame_1_arrays a s ++ staticLocs frame_1_statics s) 600000 7290000) := by
  intro l _ _ _ p e ha hc hk s m args below hf hfit hheap happ hpre
  obtain ⟨k, o, h1, h2, h3, rfl, hF⟩ := lw_comes l p e ha hc hk s m args below hf hfit hheap happ hpre
  exact ⟨k, _, h1, h2, h3, hL args s _, lw_frame hF⟩
theorem i_vc : Claimed_1_1 ∧ Claimed_1_2 := ⟨lw_limb limb_1_1 (fun args s t => by simp [limb_1_1, Cond.after, Cond.holds, Cond.value]), lw_limb limb_1_2 (fun args s t => Cond.after_iff.mpr (by
  first | (rw [show limb_1_2 = Cond.eq .result (.int 1) from rfl, Cond.eq_ints (x := 1) (y := 1) rfl rfl]; simp; done) | (simp [limb_1_2, Cond.value, Term.eval]; done)))⟩
end
