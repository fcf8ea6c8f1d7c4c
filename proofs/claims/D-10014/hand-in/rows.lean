section
/-- the sum of f over the first n places -/
def qa_sg (f : Nat → Nat) : Nat → Nat
  | 0 => 0
  | n + 1 => qa_sg f n + f n
theorem qa_sg_congr {f g : Nat → Nat} {n : Nat} (h : ∀ i, i < n → f i = g i) : qa_sg f n = qa_sg g n := by
  induction n with
  | zero => rfl
  | succ n ih =>
    show qa_sg f n + f n = qa_sg g n + g n
    rw [ih (fun i hi => h i (by omega)), h n (by omega)]
theorem qa_sg_le {f g : Nat → Nat} {n : Nat} (h : ∀ i, i < n → f i ≤ g i) : qa_sg f n ≤ qa_sg g n := by
  induction n with
  | zero => exact Nat.le_refl _
  | succ n ih =>
    show qa_sg f n + f n ≤ qa_sg g n + g n
    exact Nat.add_le_add (ih (fun i hi => h i (by omega))) (h n (by omega))
theorem qa_sg_0 {f : Nat → Nat} {n : Nat} (h : ∀ i, i < n → f i = 0) : qa_sg f n = 0 := by
  induction n with
  | zero => rfl
  | succ n ih =>
    show qa_sg f n + f n = 0
    rw [ih (fun i hi => h i (by omega)), h n (by omega)]
theorem qa_sg_tail {f : Nat → Nat} {a b : Nat} (hab : a ≤ b) (h : ∀ i, a ≤ i → i < b → f i = 0) : qa_sg f b = qa_sg f a := by
  induction b with
  | zero =>
    have e : a = 0 := by omega
    rw [e]
  | succ b ih =>
    by_cases e : a = b + 1
    · rw [e]
    · show qa_sg f b + f b = qa_sg f a
      rw [ih (by omega) (fun i h1 h2 => h i h1 (by omega)), h b (by omega) (by omega), Nat.add_zero]
theorem qa_sg_mono {f : Nat → Nat} {a b : Nat} (hab : a ≤ b) : qa_sg f a ≤ qa_sg f b := by
  induction b with
  | zero =>
    have e : a = 0 := by omega
    rw [e]
    exact Nat.le_refl _
  | succ b ih =>
    by_cases e : a = b + 1
    · rw [e]
      exact Nat.le_refl _
    · have h1 := ih (by omega)
      show qa_sg f a ≤ qa_sg f b + f b
      omega
theorem qa_sg_one {f : Nat → Nat} {i n : Nat} (hi : i < n) : f i ≤ qa_sg f n := by
  have h : qa_sg f (i + 1) ≤ qa_sg f n := qa_sg_mono (by omega)
  have h2 : qa_sg f (i + 1) = qa_sg f i + f i := rfl
  omega
theorem qa_sg_ex {f : Nat → Nat} {n : Nat} (h : 0 < qa_sg f n) : ∃ i, i < n ∧ 0 < f i := by
  induction n with
  | zero => exact absurd h (by show ¬ 0 < 0; omega)
  | succ n ih =>
    have h2 : 0 < qa_sg f n + f n := h
    by_cases e : 0 < f n
    · exact ⟨n, by omega, e⟩
    · obtain ⟨i, hi, hf⟩ := ih (by omega)
      exact ⟨i, by omega, hf⟩
theorem qa_sg_add (f g : Nat → Nat) (n : Nat) : qa_sg (fun i => f i + g i) n = qa_sg f n + qa_sg g n := by
  induction n with
  | zero => rfl
  | succ n ih =>
    show qa_sg (fun i => f i + g i) n + (f n + g n) = (qa_sg f n + f n) + (qa_sg g n + g n)
    rw [ih]
    omega
theorem qa_sg_mul (c : Nat) (f : Nat → Nat) (n : Nat) : qa_sg (fun i => c * f i) n = c * qa_sg f n := by
  induction n with
  | zero => rfl
  | succ n ih =>
    show qa_sg (fun i => c * f i) n + c * f n = c * (qa_sg f n + f n)
    rw [ih, Nat.mul_add]
theorem qa_sg_mulr (c : Nat) (f : Nat → Nat) (n : Nat) : qa_sg (fun i => f i * c) n = qa_sg f n * c := by
  induction n with
  | zero => exact (Nat.zero_mul c).symm
  | succ n ih =>
    show qa_sg (fun i => f i * c) n + f n * c = (qa_sg f n + f n) * c
    rw [ih, Nat.add_mul]
theorem qa_sg_swap (f : Nat → Nat → Nat) (n m : Nat) : qa_sg (fun i => qa_sg (fun j => f i j) m) n = qa_sg (fun j => qa_sg (fun i => f i j) n) m := by
  induction n with
  | zero => exact (qa_sg_0 (fun i _ => rfl)).symm
  | succ n ih =>
    show qa_sg (fun i => qa_sg (fun j => f i j) m) n + qa_sg (fun j => f n j) m = qa_sg (fun j => qa_sg (fun i => f i j) n + f n j) m
    rw [ih, qa_sg_add (fun j => qa_sg (fun i => f i j) n) (fun j => f n j) m]

/-- the mark at a place -/
def qa_mk (lab : Nat → Nat) (s : Nat) : Nat := if s % 2 = 0 then 0 else lab (s / 2)
theorem qa_mk_e {lab : Nat → Nat} {s : Nat} (h : s % 2 = 0) : qa_mk lab s = 0 := if_pos h
theorem qa_mk_o {lab : Nat → Nat} {s : Nat} (h : ¬ s % 2 = 0) : qa_mk lab s = lab (s / 2) := if_neg h
def qa_lab (lab : Nat → Nat) : Prop := ∀ j, 1 ≤ lab j ∧ lab j ≤ 3
theorem qa_mk_le {lab : Nat → Nat} (hl : qa_lab lab) (s : Nat) : qa_mk lab s ≤ 3 := by
  by_cases h : s % 2 = 0
  · rw [qa_mk_e h]
    omega
  · rw [qa_mk_o h]
    exact (hl _).2
/-- 1 if a way leads from place r to place s -/
def qa_M (lab : Nat → Nat) (r s : Nat) : Nat := if s = r then 1 else if s = r + 1 then 1 else if s = r + 2 ∧ s % 2 = 1 ∧ qa_mk lab s ≠ qa_mk lab r then 1 else 0
theorem qa_M_lo {lab : Nat → Nat} {r s : Nat} (h : s < r) : qa_M lab r s = 0 := by
  unfold qa_M
  rw [if_neg (by omega), if_neg (by omega), if_neg (fun z => absurd z.1 (by omega))]
theorem qa_M_hi {lab : Nat → Nat} {r s : Nat} (h : r + 2 < s) : qa_M lab r s = 0 := by
  unfold qa_M
  rw [if_neg (by omega), if_neg (by omega), if_neg (fun z => absurd z.1 (by omega))]
theorem qa_M_s {lab : Nat → Nat} (s : Nat) : qa_M lab s s = 1 := if_pos rfl
theorem qa_M_1 {lab : Nat → Nat} (s : Nat) : qa_M lab s (s + 1) = 1 := by
  unfold qa_M
  rw [if_neg (by omega), if_pos rfl]
theorem qa_M_2e {lab : Nat → Nat} {r : Nat} (h : r % 2 = 0) : qa_M lab r (r + 2) = 0 := by
  unfold qa_M
  rw [if_neg (by omega), if_neg (by omega), if_neg (fun z => absurd z.2.1 (by omega))]
theorem qa_M_2n {lab : Nat → Nat} {r : Nat} (h : qa_mk lab (r + 2) = qa_mk lab r) : qa_M lab r (r + 2) = 0 := by
  unfold qa_M
  rw [if_neg (by omega), if_neg (by omega), if_neg (fun z => z.2.2 h)]
theorem qa_M_2y {lab : Nat → Nat} {r : Nat} (ho : (r + 2) % 2 = 1) (h : qa_mk lab (r + 2) ≠ qa_mk lab r) : qa_M lab r (r + 2) = 1 := by
  unfold qa_M
  rw [if_neg (by omega), if_neg (by omega), if_pos ⟨rfl, ho, h⟩]
theorem qa_M_01 (lab : Nat → Nat) (r s : Nat) : qa_M lab r s = 0 ∨ qa_M lab r s = 1 := by
  unfold qa_M
  by_cases h1 : s = r
  · rw [if_pos h1]
    exact Or.inr rfl
  · rw [if_neg h1]
    by_cases h2 : s = r + 1
    · rw [if_pos h2]
      exact Or.inr rfl
    · rw [if_neg h2]
      by_cases h3 : s = r + 2 ∧ s % 2 = 1 ∧ qa_mk lab s ≠ qa_mk lab r
      · rw [if_pos h3]
        exact Or.inr rfl
      · rw [if_neg h3]
        exact Or.inl rfl
theorem qa_M_0 (lab : Nat → Nat) (s : Nat) : qa_M lab 0 s = if s ≤ 1 then 1 else 0 := by
  by_cases h : s ≤ 1
  · rw [if_pos h]
    by_cases e : s = 0
    · rw [e]
      exact qa_M_s 0
    · have e1 : s = 0 + 1 := by omega
      rw [e1]
      exact qa_M_1 0
  · rw [if_neg h]
    by_cases e : s = 2
    · rw [e]
      exact qa_M_2e (r := 0) rfl
    · exact qa_M_hi (by omega)

/-- the row sum: the marks of the places that one place leads to differ -/
def qa_F (W : Nat → Nat → Nat) (t : Nat) : Nat := W t 0 + W t 1 + W t 2 + W t 3
theorem qa_row3 {lab : Nat → Nat} (g : Nat → Nat) (r n : Nat) : qa_sg (fun s => qa_M lab r s * g s) n ≤ g r + g (r + 1) + qa_M lab r (r + 2) * g (r + 2) := by
  have e0 : qa_sg (fun s => qa_M lab r s * g s) r = 0 := qa_sg_0 (fun i hi => by show qa_M lab r i * g i = 0; rw [qa_M_lo hi, Nat.zero_mul])
  have e3 : qa_sg (fun s => qa_M lab r s * g s) (r + 3) = ((qa_sg (fun s => qa_M lab r s * g s) r + qa_M lab r r * g r) + qa_M lab r (r + 1) * g (r + 1)) + qa_M lab r (r + 2) * g (r + 2) := rfl
  rw [e0, qa_M_s, qa_M_1, Nat.one_mul, Nat.one_mul, Nat.zero_add] at e3
  by_cases h : n ≤ r + 3
  · have h2 : qa_sg (fun s => qa_M lab r s * g s) n ≤ qa_sg (fun s => qa_M lab r s * g s) (r + 3) := qa_sg_mono h
    omega
  · have h2 : qa_sg (fun s => qa_M lab r s * g s) n = qa_sg (fun s => qa_M lab r s * g s) (r + 3) := qa_sg_tail (by omega) (fun i h1 _ => by show qa_M lab r i * g i = 0; rw [qa_M_hi (by omega), Nat.zero_mul])
    omega
theorem qa_row {lab : Nat → Nat} (hl : qa_lab lab) (w : Nat → Nat) (r n : Nat) : qa_sg (fun s => qa_M lab r s * w (qa_mk lab s)) n ≤ w 0 + w 1 + w 2 + w 3 := by
  have h := qa_row3 (lab := lab) (fun s => w (qa_mk lab s)) r n
  refine Nat.le_trans h ?_
  show w (qa_mk lab r) + w (qa_mk lab (r + 1)) + qa_M lab r (r + 2) * w (qa_mk lab (r + 2)) ≤ w 0 + w 1 + w 2 + w 3
  by_cases e : r % 2 = 0
  · rw [qa_M_2e e, qa_mk_e e, qa_mk_o (s := r + 1) (by omega), Nat.zero_mul]
    have hj := hl ((r + 1) / 2)
    generalize lab ((r + 1) / 2) = x at hj
    have hx : x = 1 ∨ x = 2 ∨ x = 3 := by omega
    rcases hx with rfl | rfl | rfl <;> omega
  · rw [qa_mk_e (s := r + 1) (by omega)]
    by_cases q : qa_mk lab (r + 2) = qa_mk lab r
    · rw [qa_M_2n q, Nat.zero_mul, qa_mk_o e]
      have hj := hl (r / 2)
      generalize lab (r / 2) = x at hj
      have hx : x = 1 ∨ x = 2 ∨ x = 3 := by omega
      rcases hx with rfl | rfl | rfl <;> omega
    · rw [qa_M_2y (by omega) q, Nat.one_mul]
      rw [qa_mk_o e, qa_mk_o (s := r + 2) (by omega)] at q ⊢
      have hj := hl (r / 2)
      have hk := hl ((r + 2) / 2)
      generalize lab (r / 2) = x at hj q
      generalize lab ((r + 2) / 2) = y at hk q
      have hx : x = 1 ∨ x = 2 ∨ x = 3 := by omega
      have hy : y = 1 ∨ y = 2 ∨ y = 3 := by omega
      rcases hx with rfl | rfl | rfl <;> rcases hy with rfl | rfl | rfl <;> omega

/-- the sums over the ways up to a frame and place -/
def qa_up (W : Nat → Nat → Nat) (lab : Nat → Nat) : Nat → Nat → Nat
  | 0 => fun s => (if s ≤ 1 then 1 else 0) * W 0 (qa_mk lab s)
  | t + 1 => fun s => qa_sg (fun r => qa_M lab r s * qa_up W lab t r) (s + 1) * W (t + 1) (qa_mk lab s)
theorem qa_up_n {W : Nat → Nat → Nat} {lab : Nat → Nat} {t s n : Nat} (h : s < n) : qa_up W lab (t + 1) s = qa_sg (fun r => qa_M lab r s * qa_up W lab t r) n * W (t + 1) (qa_mk lab s) := by
  show qa_sg (fun r => qa_M lab r s * qa_up W lab t r) (s + 1) * W (t + 1) (qa_mk lab s) = _
  rw [qa_sg_tail (f := fun r => qa_M lab r s * qa_up W lab t r) (a := s + 1) (b := n) (by omega) (fun i h1 _ => by show qa_M lab i s * qa_up W lab t i = 0; rw [qa_M_lo (by omega), Nat.zero_mul])]
/-- the sums over the ways from the frame T - 1 - d and a place on -/
def qa_on (W : Nat → Nat → Nat) (lab : Nat → Nat) (T Z : Nat) : Nat → Nat → Nat
  | 0 => fun s => if 2 * Z ≤ s + 1 then 1 else 0
  | d + 1 => fun r => qa_sg (fun s => qa_M lab r s * (W (T - 1 - d) (qa_mk lab s) * qa_on W lab T Z d s)) (2 * Z + 1)
def qa_tot (W : Nat → Nat → Nat) (lab : Nat → Nat) (T Z : Nat) : Nat := if T = 0 then (if Z = 0 then 1 else 0) else qa_sg (fun s => (if 2 * Z ≤ s + 1 then 1 else 0) * qa_up W lab (T - 1) s) (2 * Z + 1)
theorem qa_fb1 {W : Nat → Nat → Nat} {lab : Nat → Nat} {t n : Nat} (q : Nat → Nat) : qa_sg (fun s => qa_up W lab (t + 1) s * q s) n = qa_sg (fun r => qa_up W lab t r * qa_sg (fun s => qa_M lab r s * (W (t + 1) (qa_mk lab s) * q s)) n) n := by
  have h1 : qa_sg (fun s => qa_up W lab (t + 1) s * q s) n = qa_sg (fun s => qa_sg (fun r => qa_up W lab t r * (qa_M lab r s * (W (t + 1) (qa_mk lab s) * q s))) n) n := by
    refine qa_sg_congr (fun s hs => ?_)
    show qa_up W lab (t + 1) s * q s = qa_sg (fun r => qa_up W lab t r * (qa_M lab r s * (W (t + 1) (qa_mk lab s) * q s))) n
    rw [qa_up_n hs, Nat.mul_assoc, ← qa_sg_mulr]
    refine qa_sg_congr (fun r _ => ?_)
    show qa_M lab r s * qa_up W lab t r * (W (t + 1) (qa_mk lab s) * q s) = qa_up W lab t r * (qa_M lab r s * (W (t + 1) (qa_mk lab s) * q s))
    rw [Nat.mul_comm (qa_M lab r s), Nat.mul_assoc]
  rw [h1, qa_sg_swap]
  refine qa_sg_congr (fun r _ => ?_)
  exact qa_sg_mul _ _ _
theorem qa_fb {W : Nat → Nat → Nat} {lab : Nat → Nat} {T Z : Nat} (d : Nat) (hd : d < T) : qa_sg (fun s => qa_up W lab (T - 1 - d) s * qa_on W lab T Z d s) (2 * Z + 1) = qa_tot W lab T Z := by
  induction d with
  | zero =>
    unfold qa_tot
    rw [if_neg (by omega)]
    refine qa_sg_congr (fun s _ => ?_)
    show qa_up W lab (T - 1) s * (if 2 * Z ≤ s + 1 then 1 else 0) = (if 2 * Z ≤ s + 1 then 1 else 0) * qa_up W lab (T - 1) s
    exact Nat.mul_comm _ _
  | succ d ih =>
    rw [← ih (by omega)]
    have e : T - 1 - d = T - 1 - (d + 1) + 1 := by omega
    have h := qa_fb1 (W := W) (lab := lab) (t := T - 1 - (d + 1)) (n := 2 * Z + 1) (qa_on W lab T Z d)
    rw [← e] at h
    rw [h]
    rfl
theorem qa_totOn (W : Nat → Nat → Nat) (lab : Nat → Nat) (T Z : Nat) : qa_tot W lab T Z = qa_on W lab T Z T 0 := by
  cases T with
  | zero =>
    unfold qa_tot
    rw [if_pos rfl]
    show (if Z = 0 then 1 else 0) = if 2 * Z ≤ 0 + 1 then 1 else 0
    by_cases h : Z = 0
    · rw [if_pos h, if_pos (by omega)]
    · rw [if_neg h, if_neg (by omega)]
  | succ T =>
    rw [← qa_fb (W := W) (lab := lab) (T := T + 1) (Z := Z) T (by omega)]
    show _ = qa_sg (fun s => qa_M lab 0 s * (W (T + 1 - 1 - T) (qa_mk lab s) * qa_on W lab (T + 1) Z T s)) (2 * Z + 1)
    have e : T + 1 - 1 - T = 0 := by omega
    rw [e]
    refine qa_sg_congr (fun s _ => ?_)
    show (if s ≤ 1 then 1 else 0) * W 0 (qa_mk lab s) * qa_on W lab (T + 1) Z T s = qa_M lab 0 s * (W 0 (qa_mk lab s) * qa_on W lab (T + 1) Z T s)
    rw [qa_M_0, Nat.mul_assoc]

/-- products of frame sums -/
def qa_PB (F : Nat → Nat) (lo : Nat) : Nat → Nat
  | 0 => 1
  | n + 1 => qa_PB F lo n * F (lo + n)
theorem qa_PB_l (F : Nat → Nat) (lo n : Nat) : qa_PB F lo (n + 1) = F lo * qa_PB F (lo + 1) n := by
  induction n with
  | zero =>
    show 1 * F (lo + 0) = F lo * 1
    rw [Nat.one_mul, Nat.mul_one, Nat.add_zero]
  | succ n ih =>
    show qa_PB F lo (n + 1) * F (lo + (n + 1)) = F lo * (qa_PB F (lo + 1) n * F (lo + 1 + n))
    rw [ih, Nat.mul_assoc, show lo + 1 + n = lo + (n + 1) by omega]
theorem qa_PB_le {F : Nat → Nat} (h : ∀ t, F t ≤ 32) (lo n : Nat) : qa_PB F lo n ≤ 32 ^ n := by
  induction n with
  | zero => exact Nat.le_refl _
  | succ n ih =>
    show qa_PB F lo n * F (lo + n) ≤ 32 ^ n * 32
    exact Nat.mul_le_mul ih (h _)
/-- a sum over places under one more frame -/
theorem qa_step {lab : Nat → Nat} (hl : qa_lab lab) (w g : Nat → Nat) (n m : Nat) : qa_sg (fun s => qa_sg (fun r => qa_M lab r s * g r) m * w (qa_mk lab s)) n ≤ qa_sg g m * (w 0 + w 1 + w 2 + w 3) := by
  have h1 : qa_sg (fun s => qa_sg (fun r => qa_M lab r s * g r) m * w (qa_mk lab s)) n = qa_sg (fun s => qa_sg (fun r => g r * (qa_M lab r s * w (qa_mk lab s))) m) n := by
    refine qa_sg_congr (fun s _ => ?_)
    show qa_sg (fun r => qa_M lab r s * g r) m * w (qa_mk lab s) = _
    rw [← qa_sg_mulr]
    refine qa_sg_congr (fun r _ => ?_)
    show qa_M lab r s * g r * w (qa_mk lab s) = g r * (qa_M lab r s * w (qa_mk lab s))
    rw [Nat.mul_comm (qa_M lab r s), Nat.mul_assoc]
  rw [h1, qa_sg_swap, ← qa_sg_mulr]
  refine qa_sg_le (fun r _ => ?_)
  show qa_sg (fun s => g r * (qa_M lab r s * w (qa_mk lab s))) n ≤ g r * (w 0 + w 1 + w 2 + w 3)
  rw [qa_sg_mul (g r) (fun s => qa_M lab r s * w (qa_mk lab s)) n]
  exact Nat.mul_le_mul (Nat.le_refl _) (qa_row hl w r n)
theorem qa_up0 (W : Nat → Nat → Nat) (lab : Nat → Nat) (n : Nat) : qa_sg (qa_up W lab 0) n = qa_sg (fun s => qa_M lab 0 s * W 0 (qa_mk lab s)) n := by
  refine qa_sg_congr (fun s _ => ?_)
  show (if s ≤ 1 then 1 else 0) * W 0 (qa_mk lab s) = qa_M lab 0 s * W 0 (qa_mk lab s)
  rw [qa_M_0]
theorem qa_upsum {W : Nat → Nat → Nat} {lab : Nat → Nat} (hl : qa_lab lab) (t n : Nat) : qa_sg (qa_up W lab t) n ≤ qa_PB (qa_F W) 0 (t + 1) := by
  induction t with
  | zero =>
    rw [qa_up0]
    have h := qa_row hl (W 0) 0 n
    have e : qa_PB (qa_F W) 0 (0 + 1) = 1 * (W 0 0 + W 0 1 + W 0 2 + W 0 3) := rfl
    rw [e, Nat.one_mul]
    exact h
  | succ t ih =>
    have h1 : qa_sg (qa_up W lab (t + 1)) n = qa_sg (fun s => qa_sg (fun r => qa_M lab r s * qa_up W lab t r) n * W (t + 1) (qa_mk lab s)) n := qa_sg_congr (fun s hs => qa_up_n hs)
    rw [h1]
    refine Nat.le_trans (qa_step hl (W (t + 1)) (qa_up W lab t) n n) ?_
    have e : qa_PB (qa_F W) 0 (t + 1 + 1) = qa_PB (qa_F W) 0 (t + 1) * qa_F W (0 + (t + 1)) := rfl
    rw [e, Nat.zero_add]
    exact Nat.mul_le_mul ih (Nat.le_refl _)
theorem qa_tot_all {W : Nat → Nat → Nat} {lab : Nat → Nat} (hl : qa_lab lab) (T Z : Nat) : qa_tot W lab T Z ≤ qa_PB (qa_F W) 0 T := by
  cases T with
  | zero =>
    unfold qa_tot
    rw [if_pos rfl]
    show (if Z = 0 then 1 else 0) ≤ 1
    by_cases h : Z = 0
    · rw [if_pos h]
      exact Nat.le_refl _
    · rw [if_neg h]
      exact Nat.zero_le _
  | succ T =>
    unfold qa_tot
    rw [if_neg (by omega)]
    refine Nat.le_trans (qa_sg_le (g := qa_up W lab T) (fun s _ => ?_)) (qa_upsum hl T _)
    show (if 2 * Z ≤ s + 1 then 1 else 0) * qa_up W lab T s ≤ qa_up W lab T s
    by_cases h : 2 * Z ≤ s + 1
    · rw [if_pos h, Nat.one_mul]
      exact Nat.le_refl _
    · rw [if_neg h, Nat.zero_mul]
      exact Nat.zero_le _

/-- the ways that come to the place e at a frame for the first time; their sums with anything behind -/
def qa_fp (W : Nat → Nat → Nat) (lab : Nat → Nat) (e : Nat) : Nat → Nat
  | 0 => if e = 1 then 1 else 0
  | t + 1 => qa_sg (fun r => qa_M lab r e * qa_up W lab t r) e
def qa_D (W : Nat → Nat → Nat) (lab : Nat → Nat) (e : Nat) : Nat → Nat
  | 0 => 0
  | n + 1 => qa_D W lab e n * qa_F W n + qa_fp W lab e n * W n (qa_mk lab e)
theorem qa_D_all {W : Nat → Nat → Nat} {lab : Nat → Nat} (hl : qa_lab lab) {e : Nat} (he : 1 ≤ e) (t : Nat) : qa_D W lab e (t + 1) + qa_sg (qa_up W lab t) e ≤ qa_PB (qa_F W) 0 (t + 1) := by
  induction t with
  | zero =>
    rw [qa_up0]
    have h := qa_row hl (W 0) 0 (e + 1)
    have h2 : qa_sg (fun s => qa_M lab 0 s * W 0 (qa_mk lab s)) (e + 1) = qa_sg (fun s => qa_M lab 0 s * W 0 (qa_mk lab s)) e + qa_M lab 0 e * W 0 (qa_mk lab e) := rfl
    have h3 : qa_D W lab e (0 + 1) = 0 * qa_F W 0 + (if e = 1 then 1 else 0) * W 0 (qa_mk lab e) := rfl
    have h4 : (if e = 1 then 1 else 0) = qa_M lab 0 e := by
      rw [qa_M_0]
      by_cases q : e = 1
      · rw [if_pos q, if_pos (by omega)]
      · rw [if_neg q, if_neg (by omega)]
    have h5 : qa_PB (qa_F W) 0 (0 + 1) = 1 * (W 0 0 + W 0 1 + W 0 2 + W 0 3) := rfl
    rw [h3, h4, h5, Nat.one_mul, Nat.zero_mul]
    omega
  | succ t ih =>
    have h1 : qa_D W lab e (t + 1 + 1) = qa_D W lab e (t + 1) * qa_F W (t + 1) + qa_sg (fun r => qa_M lab r e * qa_up W lab t r) e * W (t + 1) (qa_mk lab e) := rfl
    have h2 : qa_sg (qa_up W lab (t + 1)) e = qa_sg (fun s => qa_sg (fun r => qa_M lab r s * qa_up W lab t r) e * W (t + 1) (qa_mk lab s)) e := qa_sg_congr (fun s hs => qa_up_n hs)
    have h3 : qa_sg (fun s => qa_sg (fun r => qa_M lab r s * qa_up W lab t r) e * W (t + 1) (qa_mk lab s)) (e + 1) = qa_sg (fun s => qa_sg (fun r => qa_M lab r s * qa_up W lab t r) e * W (t + 1) (qa_mk lab s)) e + qa_sg (fun r => qa_M lab r e * qa_up W lab t r) e * W (t + 1) (qa_mk lab e) := rfl
    have h4 := qa_step hl (W (t + 1)) (qa_up W lab t) (e + 1) e
    have h5 : qa_PB (qa_F W) 0 (t + 1 + 1) = qa_PB (qa_F W) 0 (t + 1) * qa_F W (0 + (t + 1)) := rfl
    have h6 : (qa_D W lab e (t + 1) + qa_sg (qa_up W lab t) e) * qa_F W (t + 1) ≤ qa_PB (qa_F W) 0 (t + 1) * qa_F W (t + 1) := Nat.mul_le_mul ih (Nat.le_refl _)
    have h7 : qa_F W (t + 1) = W (t + 1) 0 + W (t + 1) 1 + W (t + 1) 2 + W (t + 1) 3 := rfl
    rw [← h7] at h4
    rw [h5, Nat.zero_add, h1, h2]
    rw [Nat.add_mul] at h6
    omega
theorem qa_F_2 {W : Nat → Nat → Nat} {t m : Nat} (h : 1 ≤ m ∧ m ≤ 3) : W t m + W t 0 ≤ qa_F W t := by
  have hx : m = 1 ∨ m = 2 ∨ m = 3 := by omega
  unfold qa_F
  rcases hx with rfl | rfl | rfl <;> omega
theorem qa_D_tot1 {W : Nat → Nat → Nat} {lab : Nat → Nat} (hl : qa_lab lab) {e : Nat} (he : e % 2 = 1) (t : Nat) : qa_up W lab t e + qa_up W lab t (e + 1) ≤ qa_D W lab e (t + 1) := by
  have hm : 1 ≤ qa_mk lab e ∧ qa_mk lab e ≤ 3 := by
    rw [qa_mk_o (by omega)]
    exact hl _
  have hm0 : qa_mk lab (e + 1) = 0 := qa_mk_e (by omega)
  induction t with
  | zero =>
    have h1 : qa_up W lab 0 e = (if e ≤ 1 then 1 else 0) * W 0 (qa_mk lab e) := rfl
    have h2 : qa_up W lab 0 (e + 1) = (if e + 1 ≤ 1 then 1 else 0) * W 0 (qa_mk lab (e + 1)) := rfl
    have h3 : qa_D W lab e (0 + 1) = 0 * qa_F W 0 + (if e = 1 then 1 else 0) * W 0 (qa_mk lab e) := rfl
    rw [h1, h2, h3, if_neg (show ¬ e + 1 ≤ 1 by omega), Nat.zero_mul, Nat.zero_mul, Nat.zero_add, Nat.add_zero]
    by_cases q : e = 1
    · rw [if_pos q, if_pos (by omega)]
      exact Nat.le_refl _
    · rw [if_neg q, if_neg (by omega)]
      exact Nat.le_refl _
  | succ t ih =>
    have h1 : qa_up W lab (t + 1) e = (qa_sg (fun r => qa_M lab r e * qa_up W lab t r) e + qa_M lab e e * qa_up W lab t e) * W (t + 1) (qa_mk lab e) := rfl
    have h2 : qa_up W lab (t + 1) (e + 1) = ((qa_sg (fun r => qa_M lab r (e + 1) * qa_up W lab t r) e + qa_M lab e (e + 1) * qa_up W lab t e) + qa_M lab (e + 1) (e + 1) * qa_up W lab t (e + 1)) * W (t + 1) (qa_mk lab (e + 1)) := rfl
    have h3 : qa_sg (fun r => qa_M lab r (e + 1) * qa_up W lab t r) e = 0 := qa_sg_0 (fun i hi => by
      show qa_M lab i (e + 1) * qa_up W lab t i = 0
      by_cases q : i + 2 = e + 1
      · rw [← q, qa_M_2e (by omega), Nat.zero_mul]
      · rw [qa_M_hi (by omega), Nat.zero_mul])
    have h4 : qa_D W lab e (t + 1 + 1) = qa_D W lab e (t + 1) * qa_F W (t + 1) + qa_sg (fun r => qa_M lab r e * qa_up W lab t r) e * W (t + 1) (qa_mk lab e) := rfl
    rw [h1, h2, h3, h4, qa_M_s, qa_M_1, qa_M_s, hm0, Nat.one_mul, Nat.one_mul, Nat.zero_add]
    have h5 := qa_F_2 (W := W) (t := t + 1) hm
    generalize qa_sg (fun r => qa_M lab r e * qa_up W lab t r) e = x
    generalize qa_up W lab t e = y at ih ⊢
    generalize qa_up W lab t (e + 1) = z at ih ⊢
    generalize qa_D W lab e (t + 1) = v at ih ⊢
    generalize W (t + 1) (qa_mk lab e) = a at h5 ⊢
    generalize W (t + 1) 0 = b at h5 ⊢
    generalize qa_F W (t + 1) = f at h5 ⊢
    have h6 : (y + z) * f ≤ v * f := Nat.mul_le_mul ih (Nat.le_refl _)
    have h7 : y * (a + b) ≤ y * f := Nat.mul_le_mul (Nat.le_refl _) h5
    have h8 : z * b ≤ z * f := Nat.mul_le_mul (Nat.le_refl _) (by omega)
    rw [Nat.add_mul] at h6
    rw [Nat.mul_add] at h7
    rw [Nat.add_mul, Nat.add_mul]
    omega
theorem qa_D_tot {W : Nat → Nat → Nat} {lab : Nat → Nat} (hl : qa_lab lab) {T Z : Nat} (hZ : 0 < Z) : qa_tot W lab T Z ≤ qa_D W lab (2 * Z - 1) T := by
  cases T with
  | zero =>
    unfold qa_tot
    rw [if_pos rfl, if_neg (by omega)]
    exact Nat.zero_le _
  | succ T =>
    unfold qa_tot
    rw [if_neg (by omega)]
    have h := qa_D_tot1 (W := W) hl (e := 2 * Z - 1) (by omega) T
    have e1 : 2 * Z + 1 = 2 * Z - 1 + 1 + 1 := by omega
    refine Nat.le_trans ?_ h
    show qa_sg (fun s => (if 2 * Z ≤ s + 1 then 1 else 0) * qa_up W lab T s) (2 * Z + 1) ≤ _
    rw [e1]
    have e2 : qa_sg (fun s => (if 2 * Z ≤ s + 1 then 1 else 0) * qa_up W lab T s) (2 * Z - 1 + 1 + 1) = (qa_sg (fun s => (if 2 * Z ≤ s + 1 then 1 else 0) * qa_up W lab T s) (2 * Z - 1) + (if 2 * Z ≤ 2 * Z - 1 + 1 then 1 else 0) * qa_up W lab T (2 * Z - 1)) + (if 2 * Z ≤ 2 * Z - 1 + 1 + 1 then 1 else 0) * qa_up W lab T (2 * Z - 1 + 1) := rfl
    rw [e2, if_pos (by omega), if_pos (by omega), qa_sg_0 (fun i hi => by show (if 2 * Z ≤ i + 1 then 1 else 0) * qa_up W lab T i = 0; rw [if_neg (by omega), Nat.zero_mul])]
    omega
theorem qa_D_le {W : Nat → Nat → Nat} {lab : Nat → Nat} (hl : qa_lab lab) {e : Nat} (he : 1 ≤ e) (T : Nat) : qa_D W lab e T ≤ qa_PB (qa_F W) 0 T := by
  cases T with
  | zero => exact Nat.zero_le _
  | succ T =>
    have h := qa_D_all (W := W) hl he T
    omega
end
section
/-- the greatest of the first n values, -1 for none -/
def qa_mx (f : Nat → Int) : Nat → Int
  | 0 => -1
  | n + 1 => max (qa_mx f n) (f n)
theorem qa_mx_m1 (f : Nat → Int) (n : Nat) : -1 ≤ qa_mx f n := by
  induction n with
  | zero => exact Int.le_refl _
  | succ n ih =>
    show -1 ≤ max (qa_mx f n) (f n)
    omega
theorem qa_mx_ge {f : Nat → Int} {i n : Nat} (hi : i < n) : f i ≤ qa_mx f n := by
  induction n with
  | zero => exact absurd hi (by omega)
  | succ n ih =>
    show f i ≤ max (qa_mx f n) (f n)
    by_cases e : i = n
    · rw [e]
      omega
    · have h := ih (by omega)
      omega
theorem qa_mx_le {f : Nat → Int} {n : Nat} {B : Int} (hB : -1 ≤ B) (h : ∀ i, i < n → f i ≤ B) : qa_mx f n ≤ B := by
  induction n with
  | zero => exact hB
  | succ n ih =>
    have h1 := ih (fun i hi => h i (by omega))
    have h2 := h n (by omega)
    show max (qa_mx f n) (f n) ≤ B
    omega
theorem qa_mx_at {f : Nat → Int} {n : Nat} (h : 0 ≤ qa_mx f n) : ∃ i, i < n ∧ f i = qa_mx f n := by
  induction n with
  | zero => exact absurd h (by show ¬ (0 : Int) ≤ -1; omega)
  | succ n ih =>
    have e : qa_mx f (n + 1) = max (qa_mx f n) (f n) := rfl
    by_cases q : qa_mx f n ≤ f n
    · exact ⟨n, by omega, by omega⟩
    · obtain ⟨i, hi, hf⟩ := ih (by omega)
      exact ⟨i, by omega, by omega⟩
theorem qa_mx_tail {f : Nat → Int} {a b : Nat} (hab : a ≤ b) (h : ∀ i, a ≤ i → i < b → f i = -1) : qa_mx f b = qa_mx f a := by
  induction b with
  | zero =>
    have e : a = 0 := by omega
    rw [e]
  | succ b ih =>
    by_cases e : a = b + 1
    · rw [e]
    · have h1 := ih (by omega) (fun i h1 h2 => h i h1 (by omega))
      have h2 := h b (by omega) (by omega)
      have h3 := qa_mx_m1 f a
      show max (qa_mx f b) (f b) = qa_mx f a
      omega
theorem qa_mx_0 {f : Nat → Int} {a : Nat} (h : ∀ i, i < a → f i = -1) : qa_mx f a = -1 :=
  qa_mx_tail (f := f) (a := 0) (b := a) (by omega) (fun i _ hi => h i hi)

/-- the greatest weight from the frame T - 1 - d and a place on -/
def qa_cd (lab : Nat → Nat) (w : Nat → Nat) (b : Nat → Int) (r s : Nat) : Int := if qa_M lab r s = 1 ∧ 0 ≤ b s then (w (qa_mk lab s) : Int) * b s else -1
def qa_bo (W : Nat → Nat → Nat) (lab : Nat → Nat) (T Z : Nat) : Nat → Nat → Int
  | 0 => fun s => if 2 * Z ≤ s + 1 then 1 else -1
  | d + 1 => fun r => qa_mx (qa_cd lab (W (T - 1 - d)) (qa_bo W lab T Z d) r) (2 * Z + 1)
theorem qa_cd_y {lab w : Nat → Nat} {b : Nat → Int} {r s : Nat} (h : qa_M lab r s = 1) (h2 : 0 ≤ b s) : qa_cd lab w b r s = (w (qa_mk lab s) : Int) * b s := if_pos ⟨h, h2⟩
theorem qa_cd_n {lab w : Nat → Nat} {b : Nat → Int} {r s : Nat} (h : qa_M lab r s = 0) : qa_cd lab w b r s = -1 := if_neg (fun z => absurd z.1 (by omega))
theorem qa_cd_b {lab w : Nat → Nat} {b : Nat → Int} {r s : Nat} (h : b s < 0) : qa_cd lab w b r s = -1 := if_neg (fun z => absurd z.2 (by omega))
theorem qa_cd_pos {lab w : Nat → Nat} {b : Nat → Int} {r s : Nat} (h : 0 ≤ qa_cd lab w b r s) : qa_M lab r s = 1 ∧ 0 ≤ b s ∧ qa_cd lab w b r s = (w (qa_mk lab s) : Int) * b s := by
  by_cases q : qa_M lab r s = 1 ∧ 0 ≤ b s
  · exact ⟨q.1, q.2, if_pos q⟩
  · have e : qa_cd lab w b r s = -1 := if_neg q
    omega
theorem qa_bo_m1 (W : Nat → Nat → Nat) (lab : Nat → Nat) (T Z d s : Nat) : -1 ≤ qa_bo W lab T Z d s := by
  cases d with
  | zero =>
    show -1 ≤ if 2 * Z ≤ s + 1 then (1 : Int) else -1
    by_cases h : 2 * Z ≤ s + 1
    · rw [if_pos h]
      omega
    · rw [if_neg h]
      omega
  | succ d => exact qa_mx_m1 _ _
theorem qa_bo_le {W : Nat → Nat → Nat} (hW : ∀ t m, W t m ≤ 8) (lab : Nat → Nat) (T Z d s : Nat) : qa_bo W lab T Z d s ≤ ((8 ^ d : Nat) : Int) := by
  induction d generalizing s with
  | zero =>
    show (if 2 * Z ≤ s + 1 then (1 : Int) else -1) ≤ 1
    by_cases h : 2 * Z ≤ s + 1
    · rw [if_pos h]
      omega
    · rw [if_neg h]
      omega
  | succ d ih =>
    have hp : (0 : Int) ≤ ((8 ^ (d + 1) : Nat) : Int) := Int.natCast_nonneg _
    refine qa_mx_le (Int.le_trans (by decide) hp) (fun i _ => ?_)
    by_cases q : 0 ≤ qa_cd lab (W (T - 1 - d)) (qa_bo W lab T Z d) s i
    · obtain ⟨_, h2, h3⟩ := qa_cd_pos q
      rw [h3]
      have h4 := ih i
      have h5 := hW (T - 1 - d) (qa_mk lab i)
      have e : ((8 ^ (d + 1) : Nat) : Int) = (8 : Int) * ((8 ^ d : Nat) : Int) := by
        rw [Nat.pow_succ, Nat.mul_comm]
        exact Int.natCast_mul _ _
      rw [e]
      exact Int.mul_le_mul (by omega) h4 h2 (by omega)
    · exact Int.le_trans (Int.le_of_lt (Int.not_le.mp q)) hp
theorem qa_bo_on (W : Nat → Nat → Nat) (lab : Nat → Nat) (T Z d s : Nat) : qa_bo W lab T Z d s ≤ (qa_on W lab T Z d s : Int) := by
  induction d generalizing s with
  | zero =>
    show (if 2 * Z ≤ s + 1 then (1 : Int) else -1) ≤ ((if 2 * Z ≤ s + 1 then 1 else 0 : Nat) : Int)
    by_cases h : 2 * Z ≤ s + 1
    · rw [if_pos h, if_pos h]
      omega
    · rw [if_neg h, if_neg h]
      omega
  | succ d ih =>
    refine qa_mx_le (by omega) (fun i hi => ?_)
    by_cases q : 0 ≤ qa_cd lab (W (T - 1 - d)) (qa_bo W lab T Z d) s i
    · obtain ⟨h1, h2, h3⟩ := qa_cd_pos q
      rw [h3]
      have h4 := ih i
      have h5 : qa_M lab s i * (W (T - 1 - d) (qa_mk lab i) * qa_on W lab T Z d i) ≤ qa_on W lab T Z (d + 1) s := qa_sg_one (f := fun i => qa_M lab s i * (W (T - 1 - d) (qa_mk lab i) * qa_on W lab T Z d i)) hi
      rw [h1, Nat.one_mul] at h5
      have h6 : (W (T - 1 - d) (qa_mk lab i) : Int) * qa_bo W lab T Z d i ≤ (W (T - 1 - d) (qa_mk lab i) : Int) * (qa_on W lab T Z d i : Int) := Int.mul_le_mul_of_nonneg_left h4 (by omega)
      have h7 : ((W (T - 1 - d) (qa_mk lab i) * qa_on W lab T Z d i : Nat) : Int) = (W (T - 1 - d) (qa_mk lab i) : Int) * (qa_on W lab T Z d i : Int) := Int.natCast_mul _ _
      omega
    · omega
theorem qa_bo_pos (W : Nat → Nat → Nat) (lab : Nat → Nat) (T Z d s : Nat) (h : 0 < qa_on W lab T Z d s) : 0 < qa_bo W lab T Z d s := by
  induction d generalizing s with
  | zero =>
    have h' : 0 < if 2 * Z ≤ s + 1 then 1 else 0 := h
    show 0 < if 2 * Z ≤ s + 1 then (1 : Int) else -1
    by_cases q : 2 * Z ≤ s + 1
    · rw [if_pos q]
      omega
    · rw [if_neg q] at h'
      exact absurd h' (by omega)
  | succ d ih =>
    obtain ⟨i, hi, hp⟩ := qa_sg_ex h
    have hM : 0 < qa_M lab s i := Nat.pos_of_mul_pos_right hp
    have hr : 0 < W (T - 1 - d) (qa_mk lab i) * qa_on W lab T Z d i := Nat.pos_of_mul_pos_left hp
    have hw : 0 < W (T - 1 - d) (qa_mk lab i) := Nat.pos_of_mul_pos_right hr
    have ho : 0 < qa_on W lab T Z d i := Nat.pos_of_mul_pos_left hr
    have hM1 : qa_M lab s i = 1 := by
      rcases qa_M_01 lab s i with q | q
      · omega
      · exact q
    have hb := ih i ho
    have h1 : qa_cd lab (W (T - 1 - d)) (qa_bo W lab T Z d) s i ≤ qa_bo W lab T Z (d + 1) s := qa_mx_ge hi
    rw [qa_cd_y hM1 (by omega)] at h1
    have h2 : 0 < (W (T - 1 - d) (qa_mk lab i) : Int) * qa_bo W lab T Z d i := Int.mul_pos (by omega) hb
    omega
/-- all weights 1 -/
def qa_one : Nat → Nat → Nat := fun _ _ => 1
theorem qa_bo_ex (W : Nat → Nat → Nat) (lab : Nat → Nat) (T Z d s : Nat) : 0 ≤ qa_bo W lab T Z d s ↔ 0 < qa_on qa_one lab T Z d s := by
  induction d generalizing s with
  | zero =>
    show (0 ≤ if 2 * Z ≤ s + 1 then (1 : Int) else -1) ↔ 0 < if 2 * Z ≤ s + 1 then 1 else 0
    by_cases q : 2 * Z ≤ s + 1
    · rw [if_pos q, if_pos q]
      omega
    · rw [if_neg q, if_neg q]
      omega
  | succ d ih =>
    constructor
    · intro h
      obtain ⟨i, hi, he⟩ := qa_mx_at h
      have he2 : 0 ≤ qa_cd lab (W (T - 1 - d)) (qa_bo W lab T Z d) s i := by
        rw [he]
        exact h
      obtain ⟨h1, h2, _⟩ := qa_cd_pos he2
      have h4 := (ih i).mp h2
      have h5 : qa_M lab s i * (1 * qa_on qa_one lab T Z d i) ≤ qa_on qa_one lab T Z (d + 1) s := qa_sg_one (f := fun i => qa_M lab s i * (1 * qa_on qa_one lab T Z d i)) hi
      rw [h1] at h5
      omega
    · intro h
      obtain ⟨i, hi, hp⟩ := qa_sg_ex h
      have hM : 0 < qa_M lab s i := Nat.pos_of_mul_pos_right hp
      have hr : 0 < 1 * qa_on qa_one lab T Z d i := Nat.pos_of_mul_pos_left hp
      have hM1 : qa_M lab s i = 1 := by
        rcases qa_M_01 lab s i with q | q
        · omega
        · exact q
      have hb := (ih i).mpr (by omega)
      have h1 : qa_cd lab (W (T - 1 - d)) (qa_bo W lab T Z d) s i ≤ qa_bo W lab T Z (d + 1) s := qa_mx_ge hi
      rw [qa_cd_y hM1 hb] at h1
      have h2 : 0 ≤ (W (T - 1 - d) (qa_mk lab i) : Int) * qa_bo W lab T Z d i := Int.mul_nonneg (by omega) hb
      omega
/-- the greatest weight of a whole way -/
def qa_goal (W : Nat → Nat → Nat) (lab : Nat → Nat) (T Z : Nat) : Int := qa_bo W lab T Z T 0
theorem qa_goal_le (W : Nat → Nat → Nat) (lab : Nat → Nat) (T Z : Nat) : qa_goal W lab T Z ≤ (qa_tot W lab T Z : Int) := by
  rw [qa_totOn]
  exact qa_bo_on W lab T Z T 0
theorem qa_goal_pos (W : Nat → Nat → Nat) (lab : Nat → Nat) (T Z : Nat) (h : 0 < qa_tot W lab T Z) : 0 < qa_goal W lab T Z := by
  rw [qa_totOn] at h
  exact qa_bo_pos W lab T Z T 0 h
theorem qa_goal_ex (W : Nat → Nat → Nat) (lab : Nat → Nat) (T Z : Nat) : 0 ≤ qa_goal W lab T Z ↔ 0 < qa_tot qa_one lab T Z := by
  rw [qa_totOn]
  exact qa_bo_ex W lab T Z T 0

/-! the followed way -/
/-- the place s keeps the greatest weight g: from the place q, the weights so far o, at the frame u -/
def qa_kp (W : Nat → Nat → Nat) (lab : Nat → Nat) (T Z u o q s : Nat) : Bool := decide (qa_M lab q s = 1) && (decide (0 ≤ qa_bo W lab T Z (T - 1 - u) s) && decide (((o * W u (qa_mk lab s) : Nat) : Int) * qa_bo W lab T Z (T - 1 - u) s = qa_goal W lab T Z))
/-- the choice among the first n places -/
def qa_sel (lab : Nat → Nat) (K : Nat → Bool) : Nat → Option Nat
  | 0 => none
  | n + 1 => if K n = true then (match qa_sel lab K n with | none => some n | some q => if qa_mk lab q ≤ qa_mk lab n then some q else some n) else qa_sel lab K n
theorem qa_sel_in {lab : Nat → Nat} {K : Nat → Bool} {n q : Nat} (h : qa_sel lab K n = some q) : q < n ∧ K q = true := by
  induction n with
  | zero => exact absurd h (by show ¬ none = some q; exact fun z => nomatch z)
  | succ n ih =>
    have h' : (if K n = true then (match qa_sel lab K n with | none => some n | some q => if qa_mk lab q ≤ qa_mk lab n then some q else some n) else qa_sel lab K n) = some q := h
    by_cases hk : K n = true
    · rw [if_pos hk] at h'
      cases e : qa_sel lab K n with
      | none =>
        rw [e] at h'
        have e2 : n = q := Option.some.inj h'
        exact ⟨by omega, e2 ▸ hk⟩
      | some p =>
        rw [e] at h'
        have h2 : (if qa_mk lab p ≤ qa_mk lab n then some p else some n) = some q := h'
        by_cases c : qa_mk lab p ≤ qa_mk lab n
        · rw [if_pos c] at h2
          have h3 := ih (e.trans h2)
          exact ⟨by omega, h3.2⟩
        · rw [if_neg c] at h2
          have e2 : n = q := Option.some.inj h2
          exact ⟨by omega, e2 ▸ hk⟩
    · rw [if_neg hk] at h'
      have h3 := ih h'
      exact ⟨by omega, h3.2⟩
theorem qa_sel_some {lab : Nat → Nat} {K : Nat → Bool} {n s : Nat} (hs : s < n) (hk : K s = true) : ∃ q, qa_sel lab K n = some q := by
  induction n with
  | zero => exact absurd hs (by omega)
  | succ n ih =>
    show ∃ q, (if K n = true then (match qa_sel lab K n with | none => some n | some q => if qa_mk lab q ≤ qa_mk lab n then some q else some n) else qa_sel lab K n) = some q
    by_cases h : K n = true
    · rw [if_pos h]
      cases e : qa_sel lab K n with
      | none => exact ⟨n, rfl⟩
      | some p =>
        by_cases c : qa_mk lab p ≤ qa_mk lab n
        · exact ⟨p, if_pos c⟩
        · exact ⟨n, if_neg c⟩
    · rw [if_neg h]
      by_cases e : s = n
      · exact absurd (e ▸ hk) h
      · exact ih (by omega)
def qa_nx (W : Nat → Nat → Nat) (lab : Nat → Nat) (T Z u o q : Nat) : Nat := (qa_sel lab (qa_kp W lab T Z u o q) (2 * Z + 1)).getD 0
/-- the weights so far and the place, behind u frames -/
def qa_pt (W : Nat → Nat → Nat) (lab : Nat → Nat) (T Z : Nat) : Nat → Nat × Nat
  | 0 => (1, 0)
  | u + 1 => ((qa_pt W lab T Z u).1 * W u (qa_mk lab (qa_nx W lab T Z u (qa_pt W lab T Z u).1 (qa_pt W lab T Z u).2)), qa_nx W lab T Z u (qa_pt W lab T Z u).1 (qa_pt W lab T Z u).2)
theorem qa_pt_le {W : Nat → Nat → Nat} (hW : ∀ t m, W t m ≤ 8) (lab : Nat → Nat) (T Z u : Nat) : (qa_pt W lab T Z u).1 ≤ 8 ^ u := by
  induction u with
  | zero => exact Nat.le_refl _
  | succ u ih =>
    show (qa_pt W lab T Z u).1 * W u (qa_mk lab (qa_nx W lab T Z u (qa_pt W lab T Z u).1 (qa_pt W lab T Z u).2)) ≤ 8 ^ u * 8
    exact Nat.mul_le_mul ih (hW _ _)
theorem qa_kp_iff {W : Nat → Nat → Nat} {lab : Nat → Nat} {T Z u o q s : Nat} : qa_kp W lab T Z u o q s = true ↔ qa_M lab q s = 1 ∧ 0 ≤ qa_bo W lab T Z (T - 1 - u) s ∧ ((o * W u (qa_mk lab s) : Nat) : Int) * qa_bo W lab T Z (T - 1 - u) s = qa_goal W lab T Z := by
  unfold qa_kp
  rw [Bool.and_eq_true, Bool.and_eq_true, decide_eq_true_iff, decide_eq_true_iff, decide_eq_true_iff]
/-- what the way keeps -/
def qa_way (W : Nat → Nat → Nat) (lab : Nat → Nat) (T Z u o q : Nat) : Prop := 0 ≤ qa_bo W lab T Z (T - u) q ∧ (o : Int) * qa_bo W lab T Z (T - u) q = qa_goal W lab T Z
theorem qa_way_s {W : Nat → Nat → Nat} {lab : Nat → Nat} {T Z u o q : Nat} (hu : u < T) (h : qa_way W lab T Z u o q) : ∃ s, qa_sel lab (qa_kp W lab T Z u o q) (2 * Z + 1) = some s ∧ s < 2 * Z + 1 ∧ qa_way W lab T Z (u + 1) (o * W u (qa_mk lab s)) s := by
  have e1 : T - u = (T - 1 - u) + 1 := by omega
  have e2 : T - 1 - (T - 1 - u) = u := by omega
  obtain ⟨h1, h2⟩ := h
  rw [e1] at h1 h2
  have h3 : qa_bo W lab T Z (T - 1 - u + 1) q = qa_mx (qa_cd lab (W u) (qa_bo W lab T Z (T - 1 - u)) q) (2 * Z + 1) := by
    show qa_mx (qa_cd lab (W (T - 1 - (T - 1 - u))) (qa_bo W lab T Z (T - 1 - u)) q) (2 * Z + 1) = _
    rw [e2]
  rw [h3] at h1 h2
  obtain ⟨i, hi, he⟩ := qa_mx_at h1
  rw [← he] at h1 h2
  obtain ⟨c1, c2, c3⟩ := qa_cd_pos h1
  rw [c3] at h2
  have hk : qa_kp W lab T Z u o q i = true := by
    rw [qa_kp_iff]
    refine ⟨c1, c2, ?_⟩
    rw [Int.natCast_mul, Int.mul_assoc]
    exact h2
  obtain ⟨s, hs⟩ := qa_sel_some (lab := lab) hi hk
  obtain ⟨hs1, hs2⟩ := qa_sel_in hs
  rw [qa_kp_iff] at hs2
  refine ⟨s, hs, hs1, ?_⟩
  have e3 : T - (u + 1) = T - 1 - u := by omega
  unfold qa_way
  rw [e3]
  exact ⟨hs2.2.1, hs2.2.2⟩
theorem qa_pt_way {W : Nat → Nat → Nat} {lab : Nat → Nat} {T Z : Nat} (hg : 0 ≤ qa_goal W lab T Z) (u : Nat) (hu : u ≤ T) : qa_way W lab T Z u (qa_pt W lab T Z u).1 (qa_pt W lab T Z u).2 := by
  induction u with
  | zero =>
    show 0 ≤ qa_bo W lab T Z (T - 0) 0 ∧ ((1 : Nat) : Int) * qa_bo W lab T Z (T - 0) 0 = qa_bo W lab T Z T 0
    rw [Nat.sub_zero]
    exact ⟨hg, by omega⟩
  | succ u ih =>
    obtain ⟨s, hs, _, hw⟩ := qa_way_s (by omega) (ih (by omega))
    have e : qa_nx W lab T Z u (qa_pt W lab T Z u).1 (qa_pt W lab T Z u).2 = s := by
      unfold qa_nx
      rw [hs]
      rfl
    show qa_way W lab T Z (u + 1) ((qa_pt W lab T Z u).1 * W u (qa_mk lab (qa_nx W lab T Z u (qa_pt W lab T Z u).1 (qa_pt W lab T Z u).2))) (qa_nx W lab T Z u (qa_pt W lab T Z u).1 (qa_pt W lab T Z u).2)
    rw [e]
    exact hw
theorem qa_pt_sel {W : Nat → Nat → Nat} {lab : Nat → Nat} {T Z : Nat} (hg : 0 ≤ qa_goal W lab T Z) (u : Nat) (hu : u < T) : qa_sel lab (qa_kp W lab T Z u (qa_pt W lab T Z u).1 (qa_pt W lab T Z u).2) (2 * Z + 1) = some (qa_pt W lab T Z (u + 1)).2 ∧ (qa_pt W lab T Z (u + 1)).2 < 2 * Z + 1 := by
  obtain ⟨s, hs, hs2, _⟩ := qa_way_s hu (qa_pt_way hg u (by omega))
  have e : (qa_pt W lab T Z (u + 1)).2 = s := by
    show qa_nx W lab T Z u (qa_pt W lab T Z u).1 (qa_pt W lab T Z u).2 = s
    unfold qa_nx
    rw [hs]
    rfl
  rw [e]
  exact ⟨hs, hs2⟩
theorem qa_pt_end {W : Nat → Nat → Nat} {lab : Nat → Nat} {T Z : Nat} (hg : 0 ≤ qa_goal W lab T Z) : ((qa_pt W lab T Z T).1 : Int) = qa_goal W lab T Z := by
  obtain ⟨h1, h2⟩ := qa_pt_way hg T (Nat.le_refl _)
  rw [Nat.sub_self] at h1 h2
  have e : qa_bo W lab T Z 0 (qa_pt W lab T Z T).2 = if 2 * Z ≤ (qa_pt W lab T Z T).2 + 1 then 1 else -1 := rfl
  by_cases q : 2 * Z ≤ (qa_pt W lab T Z T).2 + 1
  · rw [if_pos q] at e
    rw [e, Int.mul_one] at h2
    exact h2
  · rw [if_neg q] at e
    omega

/-! weights that agree on the frames -/
theorem qa_up_congr {W V : Nat → Nat → Nat} {lab : Nat → Nat} (hl : qa_lab lab) {T : Nat} (h : ∀ t m, t < T → m < 4 → W t m = V t m) : ∀ t, t < T → ∀ s, qa_up W lab t s = qa_up V lab t s := by
  intro t
  induction t with
  | zero =>
    intro ht s
    show (if s ≤ 1 then 1 else 0) * W 0 (qa_mk lab s) = (if s ≤ 1 then 1 else 0) * V 0 (qa_mk lab s)
    rw [h 0 _ ht (by have := qa_mk_le hl s; omega)]
  | succ t ih =>
    intro ht s
    show qa_sg (fun r => qa_M lab r s * qa_up W lab t r) (s + 1) * W (t + 1) (qa_mk lab s) = qa_sg (fun r => qa_M lab r s * qa_up V lab t r) (s + 1) * V (t + 1) (qa_mk lab s)
    rw [h (t + 1) _ ht (by have := qa_mk_le hl s; omega)]
    rw [qa_sg_congr (f := fun r => qa_M lab r s * qa_up W lab t r) (g := fun r => qa_M lab r s * qa_up V lab t r) (fun i _ => by show qa_M lab i s * qa_up W lab t i = qa_M lab i s * qa_up V lab t i; rw [ih (by omega) i])]
theorem qa_tot_congr {W V : Nat → Nat → Nat} {lab : Nat → Nat} (hl : qa_lab lab) {T : Nat} (Z : Nat) (h : ∀ t m, t < T → m < 4 → W t m = V t m) : qa_tot W lab T Z = qa_tot V lab T Z := by
  unfold qa_tot
  by_cases e : T = 0
  · rw [if_pos e, if_pos e]
  · rw [if_neg e, if_neg e]
    refine qa_sg_congr (fun s _ => ?_)
    show (if 2 * Z ≤ s + 1 then 1 else 0) * qa_up W lab (T - 1) s = (if 2 * Z ≤ s + 1 then 1 else 0) * qa_up V lab (T - 1) s
    rw [qa_up_congr hl h (T - 1) (by omega) s]
end
section
/-- the state and the picture, for the walks that carry sums: W is what a frame's mark weighs -/
def qw_K (T Z : Nat) (W : Nat → Nat → Nat) (lab : Nat → Nat) (p : Int32) (a1 a2 : Nat → Int32) : Prop :=
  T ≤ 6 ∧ Z ≤ 4 ∧ qa_lab lab ∧ (∀ j, j < Z → a2 j = nI (lab j)) ∧ (p = 0 → ∀ t m, t < T → m < 4 → a1 (4 * t + m) = nI (W t m)) ∧ (¬ p = 0 → ∀ t m, t < T → m < 4 → W t m = 1)
theorem qw_ix (t s : Nat) : nI t * 9 + nI s = nI (9 * t + s) := by
  show nI t * nI 9 + nI s = nI (9 * t + s)
  rw [pk_mul, nI_add, Nat.mul_comm]
theorem qw_ix1 {t : Nat} (s : Nat) (h : 0 < t) : (nI t - 1) * 9 + nI s = nI (9 * (t - 1) + s) := by
  have e : nI t - 1 = nI (t - 1) := pk_sub (a := t) (b := 1) h
  rw [e, qw_ix]
theorem qw_ix4 (t m : Nat) : nI t * 4 + nI m = nI (4 * t + m) := by
  show nI t * nI 4 + nI m = nI (4 * t + m)
  rw [pk_mul, nI_add, Nat.mul_comm]
theorem qw_2Z (Z : Nat) : 2 * nI Z = nI (2 * Z) := pk_mul 2 Z
theorem qw_mark {post : Int32 → Prop} {f0 f1 f2 : Int32} {a1 a2 a3 a4 a5 : Nat → Int32} {Z s : Nat} {lab : Nat → Nat} (hZ : Z ≤ 4) (h2 : ∀ j, j < Z → a2 j = nI (lab j)) (hs : s < 2 * Z + 1) (hp : post (nI (qa_mk lab s))) : wpX_markAt post (f0, f1, f2, a1, a2, a3, a4, a5) (nI s) := by
  have e1 : nI s &&& 1 = nI (s % 2) := pk_andN (by omega) 1 (by decide)
  have e2 : nI s >>> ((1 : Int32) &&& 31) = nI (s / 2) := pk_shrN (by omega) _ 1 (by decide)
  by_cases h : s % 2 = 0
  · refine br_t ?_ ?_
    · rw [e1, h]
      rfl
    · rw [qa_mk_e h] at hp
      exact hp
  · refine br_f ?_ ⟨?_, ?_⟩
    · rw [e1]
      exact nI_ne0 (by omega) (by omega)
    · rw [e2]
      exact vp_in_nI (by omega) (by omega)
    · rw [e2, nI_clamp (by omega), h2 _ (by omega)]
      rw [qa_mk_o h] at hp
      exact hp
theorem qw_weight {post : Int32 → Prop} {f0 f1 p : Int32} {a1 a2 a3 a4 a5 : Nat → Int32} {T Z : Nat} {W : Nat → Nat → Nat} {lab : Nat → Nat} {t m : Nat} (k : qw_K T Z W lab p a1 a2) (ht : t < T) (hm : m < 4) (hp : post (nI (W t m))) : wpX_weightOf post (f0, f1, p, a1, a2, a3, a4, a5) (nI t) (nI m) := by
  obtain ⟨hT, hZ, hl, h2, w0, w1⟩ := k
  refine br_c (fun h => ⟨?_, ?_⟩) (fun h => ?_)
  · exact pk_in (4 * t + m) 24 (by omega) (qw_ix4 t m)
  · rw [pk_cl (4 * t + m) (qw_ix4 t m), w0 h t m ht hm]
    exact hp
  · rw [w1 h t m ht hm] at hp
    exact hp
theorem qw_leads {post : Int32 → Prop} {f0 f1 f2 : Int32} {a1 a2 a3 a4 a5 : Nat → Int32} {Z r s : Nat} {lab : Nat → Nat} (hZ : Z ≤ 4) (hl : qa_lab lab) (h2 : ∀ j, j < Z → a2 j = nI (lab j)) (hr : r < 2 * Z + 1) (hs : s < 2 * Z + 1) (hp : post (nI (qa_M lab r s))) : wpX_leads post (f0, f1, f2, a1, a2, a3, a4, a5) (nI r) (nI s) := by
  have e1 : nI s &&& 1 = nI (s % 2) := pk_andN (by omega) 1 (by decide)
  have m1 := qa_mk_le hl r
  have m2 := qa_mk_le hl s
  refine pk_eq s r (fun h => ?_) (fun h => pk_eq s (r + 1) (fun h' => ?_) (fun h' => pk_eq s (r + 2) (fun h'' => pk_eq (s % 2) 1 (fun ho => ?_) (fun ho => ?_) e1) (fun h'' => ?_) rfl (nI_add r 2)) rfl (nI_1 r))
  · rw [h, qa_M_s] at hp
    exact hp
  · rw [h', qa_M_1] at hp
    exact hp
  · refine qw_mark hZ h2 hs (qw_mark hZ h2 hr (pk_eq (qa_mk lab s) (qa_mk lab r) (fun q => ?_) (fun q => ?_)))
    · rw [h''] at q hp
      rw [qa_M_2n q] at hp
      exact hp
    · rw [h''] at q hp ho
      rw [qa_M_2y ho q] at hp
      exact hp
  · rw [h''] at ho hp
    rw [qa_M_2e (by omega)] at hp
    exact hp
  · have e : qa_M lab r s = 0 := by
      by_cases c : s < r
      · exact qa_M_lo c
      · exact qa_M_hi (by omega)
    rw [e] at hp
    exact hp
theorem qw_ends {post : Int32 → Prop} {f0 f2 : Int32} {a1 a2 a3 a4 a5 : Nat → Int32} {Z s : Nat} (hZ : Z ≤ 4) (hs : s < 2 * Z + 1) (hp : post (nI (if 2 * Z ≤ s + 1 then 1 else 0))) : wpX_endsAt post (f0, nI Z, f2, a1, a2, a3, a4, a5) (nI s) := by
  have e : nI s < 2 * nI Z - 1 ↔ ¬ 2 * Z ≤ s + 1 := by
    rw [qw_2Z]
    show nI s < nI (2 * Z) - nI 1 ↔ ¬ 2 * Z ≤ s + 1
    rw [Int32.lt_iff_toInt_lt, nI_toInt (by omega), pk_sub_toInt (by omega) (by omega)]
    omega
  refine ek_if e (fun h => ?_) (fun h => ?_)
  · rw [if_neg h] at hp
    exact hp
  · rw [if_pos (Classical.not_not.mp h)] at hp
    exact hp

/-! carryOn -/
theorem qw_on42 {post : St1 → Prop} {J2 J12 : Int32 → (Nat → Int32) → (Nat → Int32) → (Nat → Int32) → (Nat → Int32) → (Nat → Int32) → Prop} {p : Int32} {a1 a2 a3 a4 a5 : Nat → Int32} {T Z : Nat} {W : Nat → Nat → Nat} {lab : Nat → Nat} {t s : Nat} (k : qw_K T Z W lab p a1 a2) (ht : t < T) (hs : s < 2 * Z + 1)
    (h3 : ∀ r, r < 2 * Z + 1 → 0 < t → a3 (9 * (t - 1) + r) = nI (qa_up W lab (t - 1) r)) (c : Nat) (hc : c = if t = 0 ∧ s ≤ 1 then 1 else 0)
    (H : J12 (nI (s + 1)) a1 a2 (upd a3 (9 * t + s) (nI (qa_up W lab t s))) a4 a5) : ∃ n, wX_carryOn_42 post J2 J12 (nI t) (nI s) (nI T) (nI Z) p a1 a2 a3 a4 a5 n (nI c) (nI s - 2) := by
  have ⟨hT, hZ, hl, h2, _, _⟩ := k
  have hE : ∃ g : Nat → Nat, (∀ r, r + 2 < s → g r = 0) ∧ (t = 0 → ∀ r, g r = 0) ∧ (0 < t → ∀ r, g r = qa_M lab r s * qa_up W lab (t - 1) r) ∧ (c + qa_sg g (s + 1)) * W t (qa_mk lab s) = qa_up W lab t s := by
    cases t with
    | zero =>
      refine ⟨fun _ => 0, fun _ _ => rfl, fun _ _ => rfl, fun z => absurd z (by omega), ?_⟩
      rw [qa_sg_0 (fun _ _ => rfl), hc, Nat.add_zero]
      show _ = (if s ≤ 1 then 1 else 0) * W 0 (qa_mk lab s)
      by_cases q : s ≤ 1
      · rw [if_pos ⟨rfl, q⟩, if_pos q]
      · rw [if_neg (fun z => q z.2), if_neg q]
    | succ t =>
      refine ⟨fun r => qa_M lab r s * qa_up W lab t r, fun r hr => ?_, fun z => absurd z (by omega), fun _ r => rfl, ?_⟩
      · show qa_M lab r s * qa_up W lab t r = 0
        rw [qa_M_hi hr, Nat.zero_mul]
      · rw [hc, if_neg (fun z => absurd z.1 (by omega)), Nat.zero_add]
        rfl
  obtain ⟨g, g0, g1, g2, gE⟩ := hE
  refine pk_loop (σ := Int32) (fun n i x => wX_carryOn_42 post J2 J12 (nI t) (nI s) (nI T) (nI Z) p a1 a2 a3 a4 a5 n x (nI i - 2)) (fun i x => x = nI (c + qa_sg g (i - 2))) (s + 3) s (nI c) (by omega) ?_ ?_ ?_
  · show nI c = nI (c + qa_sg g (s - 2))
    rw [qa_sg_0 (fun i hi => g0 i (by omega)), Nat.add_zero]
  · intro n x hx
    have e : nI (s + 3) - 2 = nI (s + 1) := pk_sub (a := s + 3) (b := 2) (by omega)
    show wX_carryOn_42 post J2 J12 (nI t) (nI s) (nI T) (nI Z) p a1 a2 a3 a4 a5 (n + 1) x (nI (s + 3) - 2)
    rw [e]
    refine pk_lt s (s + 1) (fun _ => ?_) (fun z => absurd z (by omega))
    refine qw_mark hZ h2 hs (qw_weight k ht (by have := qa_mk_le hl s; omega) ⟨pk_in (9 * t + s) 54 (by omega) (qw_ix t s), ?_⟩)
    refine nm_r (e' := upd a3 (9 * t + s) (nI (qa_up W lab t s))) ?_ (nm_r (nI_1 s) H)
    have hx' : x = nI (c + qa_sg g (s + 1)) := hx
    rw [pk_cl (9 * t + s) (qw_ix t s), hx', pk_mul, gE]
  · intro n i x hi hx hw
    have hx' : x = nI (c + qa_sg g (i - 2)) := hx
    have hn : ∀ y, y = nI (c + qa_sg g (i + 1 - 2)) → wX_carryOn_42 post J2 J12 (nI t) (nI s) (nI T) (nI Z) p a1 a2 a3 a4 a5 n y (nI (i + 1) - 2) := fun y hy => hw y hy
    show wX_carryOn_42 post J2 J12 (nI t) (nI s) (nI T) (nI Z) p a1 a2 a3 a4 a5 (n + 1) x (nI i - 2)
    by_cases i2 : i < 2
    · have e1 : nI i - 2 + 1 = nI (i + 1) - 2 := by
        rw [← nI_1]
        grind
      have skip : wX_carryOn_71 post J2 J12 (wX_carryOn_42 post J2 J12 (nI t) (nI s) (nI T) (nI Z) p a1 a2 a3 a4 a5 n) (nI t) (nI s) x (nI i - 2) (nI T) (nI Z) p a1 a2 a3 a4 a5 := by
        refine br_t rfl (nm_r (Int32.add_zero x) (nm_r e1 (hn x ?_)))
        rw [hx', show i + 1 - 2 = i - 2 by omega]
      have hneg : nI i - 2 < 0 := pk_sneg (a := i) (b := 2) (by omega) i2
      refine br_f (c := nI s < nI i - 2) (fun z => ?_) (br_c (fun _ => skip) (fun _ => br_t hneg skip))
      have z1 : (nI s).toInt < (nI i - nI 2).toInt := Int32.lt_iff_toInt_lt.mp z
      rw [nI_toInt (by omega), pk_sub_toInt (by omega) (by omega)] at z1
      omega
    · have e : nI i - 2 = nI (i - 2) := pk_sub (a := i) (b := 2) (by omega)
      have e' : nI (i + 1) - 2 = nI (i - 2 + 1) := by
        have q : nI (i + 1) - 2 = nI (i + 1 - 2) := pk_sub (a := i + 1) (b := 2) (by omega)
        rw [q, show i + 1 - 2 = i - 2 + 1 by omega]
      rw [e]
      rw [e'] at hn
      rw [show i + 1 - 2 = i - 2 + 1 by omega] at hn
      have hg : qa_sg g (i - 2 + 1) = qa_sg g (i - 2) + g (i - 2) := rfl
      have skip : g (i - 2) = 0 → wX_carryOn_71 post J2 J12 (wX_carryOn_42 post J2 J12 (nI t) (nI s) (nI T) (nI Z) p a1 a2 a3 a4 a5 n) (nI t) (nI s) x (nI (i - 2)) (nI T) (nI Z) p a1 a2 a3 a4 a5 := by
        intro hz
        refine br_t rfl (nm_r (Int32.add_zero x) (nm_r (nI_1 (i - 2)) (hn x ?_)))
        rw [hx', hg, hz, Nat.add_zero]
      refine pk_lt s (i - 2) (fun z => absurd z (by omega)) (fun _ => pk_le t 0 (fun z => skip (g1 (by omega) _)) (fun z => pk_lt (i - 2) 0 (fun z' => absurd z' (by omega)) (fun _ => ?_)))
      refine qw_leads hZ hl h2 (by omega) hs ?_
      rcases qa_M_01 lab (i - 2) s with q | q
      · rw [q]
        exact br_t rfl (skip (by rw [g2 z, q, Nat.zero_mul]))
      · rw [q]
        refine br_f (by decide) (br_f (by decide) ⟨pk_in (9 * (t - 1) + (i - 2)) 54 (by omega) (qw_ix1 _ z), nm_r ?_ (nm_r (nI_1 (i - 2)) (hn _ rfl))⟩)
        rw [pk_cl (9 * (t - 1) + (i - 2)) (qw_ix1 _ z), h3 _ (by omega) z, hx', nI_add, hg, g2 z, q, Nat.one_mul, Nat.add_assoc]
theorem qw_cell {f s : Nat → Int32} {k : Nat} {x : Int32} {P : Nat → Prop} (h : ∀ j, P j → j ≠ k → s j = f j) (hx : x = f k) : ∀ j, P j → upd s k x j = f j := by
  intro j hj
  by_cases e : j = k
  · rw [e, pk_us, hx]
  · rw [pk_un e]
    exact h j hj e
theorem qw_on12 {post : St1 → Prop} {J2 : Int32 → (Nat → Int32) → (Nat → Int32) → (Nat → Int32) → (Nat → Int32) → (Nat → Int32) → Prop} {p : Int32} {a1 a2 a3 a4 a5 : Nat → Int32} {T Z : Nat} {W : Nat → Nat → Nat} {lab : Nat → Nat} {t : Nat} (k : qw_K T Z W lab p a1 a2) (ht : t < T)
    (h3 : ∀ u r, u < t → r < 2 * Z + 1 → a3 (9 * u + r) = nI (qa_up W lab u r))
    (H : ∀ a3', (∀ u r, u < t + 1 → r < 2 * Z + 1 → a3' (9 * u + r) = nI (qa_up W lab u r)) → J2 (nI (t + 1)) a1 a2 a3' a4 a5) : ∃ n, wX_carryOn_12 post J2 (nI t) (nI T) (nI Z) p n 0 a1 a2 a3 a4 a5 := by
  have ⟨hT, hZ, hl, h2, _, _⟩ := k
  refine pk_loop (fun n i s => wX_carryOn_12 post J2 (nI t) (nI T) (nI Z) p n (nI i) a1 a2 s a4 a5) (fun i s => (∀ u r, u < t → r < 2 * Z + 1 → s (9 * u + r) = nI (qa_up W lab u r)) ∧ ∀ r, r < i → s (9 * t + r) = nI (qa_up W lab t r)) (2 * Z + 1) 0 a3 (by omega) ⟨h3, fun r hr => absurd hr (by omega)⟩ ?_ ?_
  · intro n s hI
    refine pk_lt (2 * Z) (2 * Z + 1) (fun _ => nm_r (nI_1 t) (H s (fun u r hu hr => ?_))) (fun z => absurd z (by omega)) (qw_2Z Z)
    by_cases e : u = t
    · rw [e]
      exact hI.2 r hr
    · exact hI.1 u r (by omega) hr
  · intro n i s hi hI hw
    have go : ∀ c : Nat, (c = if t = 0 ∧ i ≤ 1 then 1 else 0) → ∃ m, wX_carryOn_42 post J2 (wX_carryOn_12 post J2 (nI t) (nI T) (nI Z) p n) (nI t) (nI i) (nI T) (nI Z) p a1 a2 s a4 a5 m (nI c) (nI i - 2) := by
      intro c hc
      refine qw_on42 k ht hi (fun r hr h0 => hI.1 (t - 1) r (by omega) hr) c hc (hw _ ⟨fun u r hu hr => ?_, fun r hr => ?_⟩)
      · rw [pk_un (by omega)]
        exact hI.1 u r hu hr
      · by_cases e : r = i
        · rw [e, pk_us]
        · rw [pk_un (by omega)]
          exact hI.2 r (by omega)
    refine pk_lt (2 * Z) i (fun z => absurd z (by omega)) (fun _ => pk_eq t 0 (fun h0 => pk_lt 1 i (fun h1 => nm_e ?_) (fun h1 => nm_e ?_)) (fun h0 => nm_e ?_)) (qw_2Z Z)
    · exact go 0 (by rw [if_neg (fun z => absurd z.2 (by omega))])
    · exact go 1 (by rw [if_pos ⟨h0, h1⟩])
    · exact go 0 (by rw [if_neg (fun z => h0 z.1)])
theorem qw_carryOn {post : St1 → Prop} {p : Int32} {a1 a2 a3 a4 a5 : Nat → Int32} {T Z : Nat} {W : Nat → Nat → Nat} {lab : Nat → Nat} (k : qw_K T Z W lab p a1 a2)
    (H : ∀ a3', (∀ u r, u < T → r < 2 * Z + 1 → a3' (9 * u + r) = nI (qa_up W lab u r)) → post (nI T, nI Z, p, a1, a2, a3', a4, a5)) : wpX_carryOn post (nI T, nI Z, p, a1, a2, a3, a4, a5) := by
  have ⟨hT, hZ, hl, h2, _, _⟩ := k
  refine pk_loop (fun n i s => wX_carryOn_2 post (nI T) (nI Z) p n (nI i) a1 a2 s a4 a5) (fun i s => ∀ u r, u < i → r < 2 * Z + 1 → s (9 * u + r) = nI (qa_up W lab u r)) T 0 a3 (by omega) (fun u r hu => absurd hu (by omega)) ?_ ?_
  · intro n s hI
    exact pk_le T T (fun _ => H s hI) (fun z => absurd z (by omega))
  · intro n i s hi hI hw
    exact pk_le T i (fun z => absurd z (by omega)) (fun _ => qw_on12 k hi hI (fun a h => hw a h))

/-! sums -/
theorem qw_sum28 {post : Int32 → St1 → Prop} {p : Int32} {a1 a2 a3 a4 a5 : Nat → Int32} {T Z : Nat} {W : Nat → Nat → Nat} {lab : Nat → Nat} (k : qw_K T Z W lab p a1 a2) (hT0 : 0 < T)
    (h3 : ∀ u r, u < T → r < 2 * Z + 1 → a3 (9 * u + r) = nI (qa_up W lab u r)) (H : post (nI (qa_tot W lab T Z)) (nI T, nI Z, p, a1, a2, a3, a4, a5)) : ∃ n, wX_sumAll_28 post (nI T) (nI Z) p a1 a2 a3 a4 a5 n 0 0 := by
  have ⟨hT, hZ, hl, h2, _, _⟩ := k
  refine pk_loop (σ := Int32) (fun n i x => wX_sumAll_28 post (nI T) (nI Z) p a1 a2 a3 a4 a5 n x (nI i)) (fun i x => x = nI (qa_sg (fun s => (if 2 * Z ≤ s + 1 then 1 else 0) * qa_up W lab (T - 1) s) i)) (2 * Z + 1) 0 0 (by omega) rfl ?_ ?_
  · intro n x hx
    refine pk_lt (2 * Z) (2 * Z + 1) (fun _ => ?_) (fun z => absurd z (by omega)) (qw_2Z Z)
    have e : qa_tot W lab T Z = qa_sg (fun s => (if 2 * Z ≤ s + 1 then 1 else 0) * qa_up W lab (T - 1) s) (2 * Z + 1) := if_neg (by omega)
    have hx' : x = nI (qa_sg (fun s => (if 2 * Z ≤ s + 1 then 1 else 0) * qa_up W lab (T - 1) s) (2 * Z + 1)) := hx
    rw [hx', ← e]
    exact H
  · intro n i x hi hx hw
    have hx' : x = nI (qa_sg (fun s => (if 2 * Z ≤ s + 1 then 1 else 0) * qa_up W lab (T - 1) s) i) := hx
    have hg : qa_sg (fun s => (if 2 * Z ≤ s + 1 then 1 else 0) * qa_up W lab (T - 1) s) (i + 1) = qa_sg (fun s => (if 2 * Z ≤ s + 1 then 1 else 0) * qa_up W lab (T - 1) s) i + (if 2 * Z ≤ i + 1 then 1 else 0) * qa_up W lab (T - 1) i := rfl
    refine pk_lt (2 * Z) i (fun z => absurd z (by omega)) (fun _ => qw_ends hZ hi ?_) (qw_2Z Z)
    by_cases q : 2 * Z ≤ i + 1
    · rw [if_pos q] at hg ⊢
      refine br_f (by decide) ⟨pk_in (9 * (T - 1) + i) 54 (by omega) (qw_ix1 _ hT0), nm_r (e' := nI (qa_sg (fun s => (if 2 * Z ≤ s + 1 then 1 else 0) * qa_up W lab (T - 1) s) (i + 1))) ?_ (nm_r (nI_1 i) (hw _ rfl))⟩
      rw [pk_cl (9 * (T - 1) + i) (qw_ix1 _ hT0), h3 _ _ (by omega) hi, hx', nI_add, hg, Nat.one_mul]
    · rw [if_neg q] at hg ⊢
      refine br_t rfl (nm_r (Int32.add_zero x) (nm_r (nI_1 i) (hw x ?_)))
      show x = nI (qa_sg (fun s => (if 2 * Z ≤ s + 1 then 1 else 0) * qa_up W lab (T - 1) s) (i + 1))
      rw [hx', hg, Nat.zero_mul, Nat.add_zero]
theorem qw_sumAll {post : Int32 → St1 → Prop} {p : Int32} {a1 a2 a3 a4 a5 : Nat → Int32} {T Z : Nat} {W : Nat → Nat → Nat} {lab : Nat → Nat} (k : qw_K T Z W lab p a1 a2)
    (H : ∀ a3', post (nI (qa_tot W lab T Z)) (nI T, nI Z, p, a1, a2, a3', a4, a5)) : wpX_sumAll post (nI T, nI Z, p, a1, a2, a3, a4, a5) := by
  have ⟨hT, hZ, hl, h2, _, _⟩ := k
  unfold wpX_sumAll
  refine qw_carryOn k (fun a3' h3 => pk_eq T 0 (fun h0 => pk_eq Z 0 (fun z0 => ?_) (fun z0 => ?_)) (fun h0 => qw_sum28 k (by omega) h3 (H a3')))
  · have e : qa_tot W lab T Z = 1 := by
      unfold qa_tot
      rw [if_pos h0, if_pos z0]
    have h := H a3'
    rw [e] at h
    exact h
  · have e : qa_tot W lab T Z = 0 := by
      unfold qa_tot
      rw [if_pos h0, if_neg z0]
    have h := H a3'
    rw [e] at h
    exact h
/-- the state and the picture -/
def qw_S (T Z : Nat) (wt lab : Nat → Nat) (a1 a2 : Nat → Int32) : Prop :=
  T ≤ 6 ∧ Z ≤ 4 ∧ (∀ j, wt j ≤ 8) ∧ qa_lab lab ∧ (∀ j, j < 24 → a1 j = nI (wt j)) ∧ (∀ j, j < Z → a2 j = nI (lab j))
def qw_W (wt : Nat → Nat) : Nat → Nat → Nat := fun t m => wt (4 * t + m)
theorem qw_S0 {T Z : Nat} {wt lab : Nat → Nat} {a1 a2 : Nat → Int32} (k : qw_S T Z wt lab a1 a2) : qw_K T Z (qw_W wt) lab 0 a1 a2 := by
  obtain ⟨hT, hZ, hw, hl, h1, h2⟩ := k
  exact ⟨hT, hZ, hl, h2, fun _ t m ht hm => h1 _ (by omega), fun z => absurd rfl z⟩
theorem qw_S1 {T Z : Nat} {wt lab : Nat → Nat} {a1 a2 : Nat → Int32} (k : qw_S T Z wt lab a1 a2) : qw_K T Z qa_one lab 1 a1 a2 := by
  obtain ⟨hT, hZ, hw, hl, h1, h2⟩ := k
  exact ⟨hT, hZ, hl, h2, fun z => absurd z (by decide), fun _ t m _ _ => rfl⟩
theorem qw_total {post : Int32 → St1 → Prop} {p : Int32} {a1 a2 a3 a4 a5 : Nat → Int32} {T Z : Nat} {wt lab : Nat → Nat} (k : qw_S T Z wt lab a1 a2)
    (H : ∀ a3', post (nI (qa_tot (qw_W wt) lab T Z)) (nI T, nI Z, 0, a1, a2, a3', a4, a5)) : wpX_total post (nI T, nI Z, p, a1, a2, a3, a4, a5) := by
  unfold wpX_total
  exact qw_sumAll (qw_S0 k) (fun a3' => H a3')
theorem qw_paths {post : Int32 → St1 → Prop} {p : Int32} {a1 a2 a3 a4 a5 : Nat → Int32} {T Z : Nat} {wt lab : Nat → Nat} (k : qw_S T Z wt lab a1 a2)
    (H : ∀ a3', post (nI (qa_tot qa_one lab T Z)) (nI T, nI Z, 1, a1, a2, a3', a4, a5)) : wpX_paths post (nI T, nI Z, p, a1, a2, a3, a4, a5) := by
  unfold wpX_paths
  exact qw_sumAll (qw_S1 k) (fun a3' => H a3')
end
section
/-- an int that may be -1 -/
def qw_I (z : Int) : Int32 := Int32.ofInt z
theorem qw_I_n (n : Nat) : qw_I (n : Int) = nI n := Int32.ofInt_eq_ofNat
theorem qw_I_m1 : qw_I (-1) = -1 := by decide
theorem qw_I_1 : qw_I 1 = nI 1 := by decide
theorem qw_I_t {z : Int} (h1 : -1 ≤ z) (h2 : z < 2 ^ 31) : (qw_I z).toInt = z := Int32.toInt_ofInt_of_le (by omega) h2
theorem qw_I_mul (a b : Int) : qw_I a * qw_I b = qw_I (a * b) := (Int32.ofInt_mul a b).symm
theorem qw_I_lt0 {z : Int} (h1 : -1 ≤ z) (h2 : z < 2 ^ 31) : qw_I z < 0 ↔ z < 0 := by
  rw [Int32.lt_iff_toInt_lt, qw_I_t h1 h2]
  exact Iff.rfl
theorem qw_I_0le {z : Int} (h1 : -1 ≤ z) (h2 : z < 2 ^ 31) : 0 ≤ qw_I z ↔ 0 ≤ z := by
  rw [Int32.le_iff_toInt_le, qw_I_t h1 h2]
  exact Iff.rfl
theorem qw_I_le {a b : Int} (h1 : -1 ≤ a) (h2 : a < 2 ^ 31) (h3 : -1 ≤ b) (h4 : b < 2 ^ 31) : qw_I a ≤ qw_I b ↔ a ≤ b := by
  rw [Int32.le_iff_toInt_le, qw_I_t h1 h2, qw_I_t h3 h4]
theorem qw_I_eq {a b : Int} (h1 : -1 ≤ a) (h2 : a < 2 ^ 31) (h3 : -1 ≤ b) (h4 : b < 2 ^ 31) : qw_I a = qw_I b ↔ a = b := by
  rw [← Int32.toInt_inj, qw_I_t h1 h2, qw_I_t h3 h4]
theorem qw_8 {d : Nat} (h : d ≤ 6) : 8 ^ d ≤ 262144 := by
  have e : d = 0 ∨ d = 1 ∨ d = 2 ∨ d = 3 ∨ d = 4 ∨ d = 5 ∨ d = 6 := by omega
  rcases e with rfl | rfl | rfl | rfl | rfl | rfl | rfl <;> decide
theorem qw_boR {W : Nat → Nat → Nat} (hW : ∀ t m, W t m ≤ 8) (lab : Nat → Nat) (T Z : Nat) {d : Nat} (hd : d ≤ 6) (s : Nat) : -1 ≤ qa_bo W lab T Z d s ∧ qa_bo W lab T Z d s ≤ 262144 := by
  have h1 := qa_bo_m1 W lab T Z d s
  have h2 := qa_bo_le hW lab T Z d s
  have h3 := qw_8 hd
  omega
theorem qw_weightX {post : Int32 → Prop} {f0 f1 p x : Int32} {a1 a2 a3 a4 a5 : Nat → Int32} {T Z : Nat} {W : Nat → Nat → Nat} {lab : Nat → Nat} {t m : Nat} (k : qw_K T Z W lab p a1 a2) (hx : x = nI t) (ht : t < T) (hm : m < 4) (hp : post (nI (W t m))) : wpX_weightOf post (f0, f1, p, a1, a2, a3, a4, a5) x (nI m) := by
  rw [hx]
  exact qw_weight k ht hm hp
theorem qw_b205 {post : St1 → Prop} {J7 J13 : Int32 → (Nat → Int32) → (Nat → Int32) → (Nat → Int32) → (Nat → Int32) → (Nat → Int32) → Prop} {f0 f1 f2 x3 x4 : Int32} {a1 a2 a3 a4 a5 : Nat → Int32} {t s : Nat} (ht : t < 6) (hs : s < 9)
    (H : J13 (nI (s + 1)) a1 a2 a3 (upd a4 (9 * t + s) x3) (upd a5 (9 * t + s) x4)) : wX_carryBack_205 post J7 J13 (nI t) (nI s) x3 x4 f0 f1 f2 a1 a2 a3 a4 a5 := by
  have v : vp_in (nI t * 9 + nI s) 54 := pk_in (9 * t + s) 54 (by omega) (qw_ix t s)
  refine ⟨v, nm_r (e' := upd a4 (9 * t + s) x3) ?_ ⟨v, nm_r (e' := upd a5 (9 * t + s) x4) ?_ (nm_r (nI_1 s) H)⟩⟩
  · rw [pk_cl (9 * t + s) (qw_ix t s)]
  · rw [pk_cl (9 * t + s) (qw_ix t s)]
theorem qw_b75e {post : St1 → Prop} {J7 J13 : Int32 → (Nat → Int32) → (Nat → Int32) → (Nat → Int32) → (Nat → Int32) → (Nat → Int32) → Prop} {f1 f2 x3 x4 : Int32} {a1 a2 a3 a4 a5 : Nat → Int32} {T t s : Nat} (hT : T ≤ 6) (ht : t + 1 = T) (hs : s < 9)
    (H : J13 (nI (s + 1)) a1 a2 a3 (upd a4 (9 * t + s) x3) (upd a5 (9 * t + s) x4)) : ∃ n, wX_carryBack_75 post J7 J13 (nI t) (nI s) (nI T) f1 f2 a1 a2 a3 a4 a5 n x3 x4 (nI s) := by
  have e : nI T - 1 = nI t := by
    rw [← ht]
    exact nI_pred t
  exact ⟨1, pk_le t t (fun _ => qw_b205 (by omega) hs H) (fun z => absurd z (by omega)) e⟩
theorem qw_b75 {post : St1 → Prop} {J7 J13 : Int32 → (Nat → Int32) → (Nat → Int32) → (Nat → Int32) → (Nat → Int32) → (Nat → Int32) → Prop} {p : Int32} {a1 a2 a3 a4 a5 : Nat → Int32} {T Z : Nat} {W : Nat → Nat → Nat} {lab : Nat → Nat} {t s : Nat} (k : qw_K T Z W lab p a1 a2) (hW : ∀ t m, W t m ≤ 8) (ht : t + 1 < T) (hs : s < 2 * Z + 1)
    (h4 : ∀ r, r < 2 * Z + 1 → a4 (9 * (t + 1) + r) = nI (qa_on W lab T Z (T - 2 - t) r)) (h5 : ∀ r, r < 2 * Z + 1 → a5 (9 * (t + 1) + r) = qw_I (qa_bo W lab T Z (T - 2 - t) r))
    (H : J13 (nI (s + 1)) a1 a2 a3 (upd a4 (9 * t + s) (nI (qa_on W lab T Z (T - 1 - t) s))) (upd a5 (9 * t + s) (qw_I (qa_bo W lab T Z (T - 1 - t) s)))) : ∃ n, wX_carryBack_75 post J7 J13 (nI t) (nI s) (nI T) (nI Z) p a1 a2 a3 a4 a5 n 0 (-1) (nI s) := by
  have ⟨hT, hZ, hl, h2, _, _⟩ := k
  have ed : T - 1 - t = (T - 2 - t) + 1 := by omega
  have ew : T - 1 - (T - 2 - t) = t + 1 := by omega
  have eO : qa_on W lab T Z (T - 1 - t) s = qa_sg (fun r => qa_M lab s r * (W (t + 1) (qa_mk lab r) * qa_on W lab T Z (T - 2 - t) r)) (2 * Z + 1) := by
    rw [ed]
    show qa_sg (fun r => qa_M lab s r * (W (T - 1 - (T - 2 - t)) (qa_mk lab r) * qa_on W lab T Z (T - 2 - t) r)) (2 * Z + 1) = _
    rw [ew]
  have eB : qa_bo W lab T Z (T - 1 - t) s = qa_mx (qa_cd lab (W (t + 1)) (qa_bo W lab T Z (T - 2 - t)) s) (2 * Z + 1) := by
    rw [ed]
    show qa_mx (qa_cd lab (W (T - 1 - (T - 2 - t))) (qa_bo W lab T Z (T - 2 - t)) s) (2 * Z + 1) = _
    rw [ew]
  have hR := fun r => qw_boR hW lab T Z (d := T - 2 - t) (by omega) r
  have hR1 := qw_boR hW lab T Z (d := T - 1 - t) (by omega) s
  have hW1 := fun r => hW (t + 1) (qa_mk lab r)
  rw [eO, eB] at H
  rw [eB] at hR1
  generalize qa_on W lab T Z (T - 2 - t) = on at h4 H
  generalize qa_bo W lab T Z (T - 2 - t) = bo at h5 H hR hR1
  have eT : nI T - 1 = nI (T - 1) := pk_sub (a := T) (b := 1) (by omega)
  have hmx : ∀ i, i ≤ 2 * Z + 1 → -1 ≤ qa_mx (qa_cd lab (W (t + 1)) bo s) i ∧ qa_mx (qa_cd lab (W (t + 1)) bo s) i < 2 ^ 31 := by
    intro i hi
    have q1 := qa_mx_m1 (qa_cd lab (W (t + 1)) bo s) i
    have q2 : qa_mx (qa_cd lab (W (t + 1)) bo s) i ≤ qa_mx (qa_cd lab (W (t + 1)) bo s) (2 * Z + 1) := qa_mx_le (by omega) (fun j hj => qa_mx_ge (by omega))
    omega
  refine pk_loop (σ := Int32 × Int32) (fun n i x => wX_carryBack_75 post J7 J13 (nI t) (nI s) (nI T) (nI Z) p a1 a2 a3 a4 a5 n x.1 x.2 (nI i)) (fun i x => x.1 = nI (qa_sg (fun r => qa_M lab s r * (W (t + 1) (qa_mk lab r) * on r)) i) ∧ x.2 = qw_I (qa_mx (qa_cd lab (W (t + 1)) bo s) i)) (min (s + 3) (2 * Z + 1)) s (0, -1) (by omega) ⟨?_, ?_⟩ ?_ ?_
  · show (0 : Int32) = nI (qa_sg (fun r => qa_M lab s r * (W (t + 1) (qa_mk lab r) * on r)) s)
    rw [qa_sg_0 (fun i hi => by show qa_M lab s i * (W (t + 1) (qa_mk lab i) * on i) = 0; rw [qa_M_lo hi, Nat.zero_mul])]
    rfl
  · show (-1 : Int32) = qw_I (qa_mx (qa_cd lab (W (t + 1)) bo s) s)
    rw [qa_mx_0 (fun i hi => qa_cd_n (qa_M_lo hi)), qw_I_m1]
  · intro n x hx
    have hx1 : x.1 = nI (qa_sg (fun r => qa_M lab s r * (W (t + 1) (qa_mk lab r) * on r)) (min (s + 3) (2 * Z + 1))) := hx.1
    have hx2 : x.2 = qw_I (qa_mx (qa_cd lab (W (t + 1)) bo s) (min (s + 3) (2 * Z + 1))) := hx.2
    rw [← qa_sg_tail (f := fun r => qa_M lab s r * (W (t + 1) (qa_mk lab r) * on r)) (a := min (s + 3) (2 * Z + 1)) (b := 2 * Z + 1) (by omega) (fun i c1 c2 => by show qa_M lab s i * (W (t + 1) (qa_mk lab i) * on i) = 0; rw [qa_M_hi (by omega), Nat.zero_mul])] at hx1
    rw [← qa_mx_tail (f := qa_cd lab (W (t + 1)) bo s) (a := min (s + 3) (2 * Z + 1)) (b := 2 * Z + 1) (by omega) (fun i c1 c2 => qa_cd_n (qa_M_hi (by omega)))] at hx2
    have Q : wX_carryBack_205 post J7 J13 (nI t) (nI s) x.1 x.2 (nI T) (nI Z) p a1 a2 a3 a4 a5 := by
      refine qw_b205 (by omega) (by omega) ?_
      rw [hx1, hx2]
      exact H
    exact pk_le (T - 1) t (fun z => absurd z (by omega)) (fun _ => pk_lt (s + 2) (min (s + 3) (2 * Z + 1)) (fun _ => Q) (fun z => pk_lt (2 * Z) (min (s + 3) (2 * Z + 1)) (fun _ => Q) (fun z' => absurd z' (by omega)) (qw_2Z Z)) (nI_add s 2)) eT
  · intro n i x hi hx hw
    have hx1 : x.1 = nI (qa_sg (fun r => qa_M lab s r * (W (t + 1) (qa_mk lab r) * on r)) i) := hx.1
    have hx2 : x.2 = qw_I (qa_mx (qa_cd lab (W (t + 1)) bo s) i) := hx.2
    have hg : qa_sg (fun r => qa_M lab s r * (W (t + 1) (qa_mk lab r) * on r)) (i + 1) = qa_sg (fun r => qa_M lab s r * (W (t + 1) (qa_mk lab r) * on r)) i + qa_M lab s i * (W (t + 1) (qa_mk lab i) * on i) := rfl
    have hm : qa_mx (qa_cd lab (W (t + 1)) bo s) (i + 1) = max (qa_mx (qa_cd lab (W (t + 1)) bo s) i) (qa_cd lab (W (t + 1)) bo s i) := rfl
    have hn : ∀ y z, y = nI (qa_sg (fun r => qa_M lab s r * (W (t + 1) (qa_mk lab r) * on r)) (i + 1)) → z = qw_I (qa_mx (qa_cd lab (W (t + 1)) bo s) (i + 1)) → wX_carryBack_75 post J7 J13 (nI t) (nI s) (nI T) (nI Z) p a1 a2 a3 a4 a5 n y z (nI (i + 1)) := fun y z hy hz => hw (y, z) ⟨hy, hz⟩
    have m0 := hmx i (by omega)
    have m1 := hmx (i + 1) (by omega)
    refine pk_le (T - 1) t (fun z => absurd z (by omega)) (fun _ => pk_lt (s + 2) i (fun z => absurd z (by omega)) (fun _ => pk_lt (2 * Z) i (fun z => absurd z (by omega)) (fun _ => qw_leads hZ hl h2 hs (by omega) ?_) (qw_2Z Z)) (nI_add s 2)) eT
    rcases qa_M_01 lab s i with q | q
    · rw [q]
      refine br_t rfl (nm_r (nI_1 i) (hn _ _ ?_ ?_))
      · rw [hx1, hg, q, Nat.zero_mul]
        rfl
      · rw [hx2, hm, qa_cd_n q, Int.max_eq_left m0.1]
    · rw [q]
      refine br_f (by decide) (nm_r (e' := nI (9 * (t + 1) + i)) (by rw [nI_1, qw_ix]) (qw_mark hZ h2 (by omega) (qw_weightX k (nI_1 t) ht (by have := qa_mk_le hl i; omega) ?_)))
      have v : vp_in (nI (9 * (t + 1) + i)) 54 := vp_in_nI (by omega) (by omega)
      have cl : (nI (9 * (t + 1) + i)).toNatClampNeg = 9 * (t + 1) + i := nI_clamp (by omega)
      rw [cl, h4 i (by omega), h5 i (by omega)]
      refine ⟨v, nm_r (e' := nI (qa_sg (fun r => qa_M lab s r * (W (t + 1) (qa_mk lab r) * on r)) (i + 1))) ?_ ⟨v, ?_⟩⟩
      · rw [hx1, hg, q, Nat.one_mul, pk_mul, nI_add]
      · have r1 := hR i
        have w8 := hW1 i
        by_cases b0 : bo i < 0
        · refine br_t ((qw_I_lt0 r1.1 (by omega)).mpr b0) (nm_r (nI_1 i) (hn _ _ rfl ?_))
          rw [hx2, hm, qa_cd_b b0, Int.max_eq_left m0.1]
        · have ec : qa_cd lab (W (t + 1)) bo s i = (W (t + 1) (qa_mk lab i) : Int) * bo i := qa_cd_y q (by omega)
          have ew2 : nI (W (t + 1) (qa_mk lab i)) * qw_I (bo i) = qw_I (qa_cd lab (W (t + 1)) bo s i) := by
            rw [ec, ← qw_I_n, qw_I_mul]
          have c0 : 0 ≤ qa_cd lab (W (t + 1)) bo s i := by
            rw [ec]
            exact Int.mul_nonneg (by omega) (by omega)
          refine br_f (fun z => b0 ((qw_I_lt0 r1.1 (by omega)).mp z)) ⟨v, ?_⟩
          rw [ew2, hx2]
          have hle : qw_I (qa_cd lab (W (t + 1)) bo s i) ≤ qw_I (qa_mx (qa_cd lab (W (t + 1)) bo s) i) ↔ qa_cd lab (W (t + 1)) bo s i ≤ qa_mx (qa_cd lab (W (t + 1)) bo s) i := qw_I_le (by omega) (by omega) m0.1 m0.2
          refine ek_if hle (fun c => nm_r (nI_1 i) (hn _ _ rfl ?_)) (fun c => ⟨v, nm_e (nm_r (nI_1 i) (hn _ _ rfl ?_))⟩)
          · rw [hm, Int.max_eq_left c]
          · rw [hm, Int.max_eq_right (by omega)]
theorem qw_b13 {post : St1 → Prop} {J7 : Int32 → (Nat → Int32) → (Nat → Int32) → (Nat → Int32) → (Nat → Int32) → (Nat → Int32) → Prop} {p : Int32} {a1 a2 a3 a4 a5 : Nat → Int32} {T Z : Nat} {W : Nat → Nat → Nat} {lab : Nat → Nat} {t : Nat} (k : qw_K T Z W lab p a1 a2) (hW : ∀ t m, W t m ≤ 8) (ht : t < T)
    (h4 : ∀ u r, t < u → u < T → r < 2 * Z + 1 → a4 (9 * u + r) = nI (qa_on W lab T Z (T - 1 - u) r)) (h5 : ∀ u r, t < u → u < T → r < 2 * Z + 1 → a5 (9 * u + r) = qw_I (qa_bo W lab T Z (T - 1 - u) r))
    (H : ∀ a4' a5', (∀ u r, t ≤ u → u < T → r < 2 * Z + 1 → a4' (9 * u + r) = nI (qa_on W lab T Z (T - 1 - u) r)) → (∀ u r, t ≤ u → u < T → r < 2 * Z + 1 → a5' (9 * u + r) = qw_I (qa_bo W lab T Z (T - 1 - u) r)) → J7 (nI t + (-1)) a1 a2 a3 a4' a5') : ∃ n, wX_carryBack_13 post J7 (nI t) (nI T) (nI Z) p n 0 a1 a2 a3 a4 a5 := by
  have ⟨hT, hZ, hl, h2, _, _⟩ := k
  have eT : nI T - 1 = nI (T - 1) := pk_sub (a := T) (b := 1) (by omega)
  refine pk_loop (σ := (Nat → Int32) × (Nat → Int32)) (fun n i s => wX_carryBack_13 post J7 (nI t) (nI T) (nI Z) p n (nI i) a1 a2 a3 s.1 s.2) (fun i s => (∀ u r, t < u → u < T → r < 2 * Z + 1 → s.1 (9 * u + r) = nI (qa_on W lab T Z (T - 1 - u) r) ∧ s.2 (9 * u + r) = qw_I (qa_bo W lab T Z (T - 1 - u) r)) ∧ ∀ r, r < i → s.1 (9 * t + r) = nI (qa_on W lab T Z (T - 1 - t) r) ∧ s.2 (9 * t + r) = qw_I (qa_bo W lab T Z (T - 1 - t) r)) (2 * Z + 1) 0 (a4, a5) (by omega) ⟨fun u r c1 c2 c3 => ⟨h4 u r c1 c2 c3, h5 u r c1 c2 c3⟩, fun r hr => absurd hr (by omega)⟩ ?_ ?_
  · intro n s hI
    refine pk_lt (2 * Z) (2 * Z + 1) (fun _ => nm_e (H s.1 s.2 (fun u r c1 c2 c3 => ?_) (fun u r c1 c2 c3 => ?_))) (fun z => absurd z (by omega)) (qw_2Z Z)
    · by_cases e : u = t
      · rw [e]
        exact (hI.2 r c3).1
      · exact (hI.1 u r (by omega) c2 c3).1
    · by_cases e : u = t
      · rw [e]
        exact (hI.2 r c3).2
      · exact (hI.1 u r (by omega) c2 c3).2
  · intro n i s hi hI hw
    have fin : wX_carryBack_13 post J7 (nI t) (nI T) (nI Z) p n (nI (i + 1)) a1 a2 a3 (upd s.1 (9 * t + i) (nI (qa_on W lab T Z (T - 1 - t) i))) (upd s.2 (9 * t + i) (qw_I (qa_bo W lab T Z (T - 1 - t) i))) := by
      refine hw (upd s.1 (9 * t + i) (nI (qa_on W lab T Z (T - 1 - t) i)), upd s.2 (9 * t + i) (qw_I (qa_bo W lab T Z (T - 1 - t) i))) ⟨fun u r c1 c2 c3 => ?_, fun r hr => ?_⟩
      · show upd s.1 (9 * t + i) _ (9 * u + r) = _ ∧ upd s.2 (9 * t + i) _ (9 * u + r) = _
        rw [pk_un (by omega), pk_un (by omega)]
        exact hI.1 u r c1 c2 c3
      · show upd s.1 (9 * t + i) _ (9 * t + r) = _ ∧ upd s.2 (9 * t + i) _ (9 * t + r) = _
        by_cases e : r = i
        · rw [e, pk_us, pk_us]
          exact ⟨rfl, rfl⟩
        · rw [pk_un (by omega), pk_un (by omega)]
          exact hI.2 r (by omega)
    refine pk_lt (2 * Z) i (fun z => absurd z (by omega)) (fun _ => pk_eq t (T - 1) (fun h0 => qw_ends hZ hi ?_) (fun h0 => ?_) rfl eT) (qw_2Z Z)
    · have e0 : T - 1 - t = 0 := by omega
      rw [e0] at fin
      have f1 : qa_on W lab T Z 0 i = if 2 * Z ≤ i + 1 then 1 else 0 := rfl
      have f2 : qa_bo W lab T Z 0 i = if 2 * Z ≤ i + 1 then 1 else -1 := rfl
      rw [f1, f2] at fin
      by_cases q : 2 * Z ≤ i + 1
      · rw [if_pos q] at fin ⊢
        rw [if_pos q] at fin
        refine br_f (by decide) (pk_eq t (T - 1) (fun _ => qw_ends hZ hi ?_) (fun z => absurd h0 z) rfl eT)
        rw [if_pos q]
        exact br_f (by decide) (qw_b75e hT (by omega) (by omega) fin)
      · rw [if_neg q] at fin ⊢
        rw [if_neg q, qw_I_m1] at fin
        refine br_t rfl (pk_eq t (T - 1) (fun _ => qw_ends hZ hi ?_) (fun z => absurd h0 z) rfl eT)
        rw [if_neg q]
        exact br_t rfl (qw_b75e hT (by omega) (by omega) fin)
    · refine pk_eq t (T - 1) (fun z => absurd z h0) (fun _ => ?_) rfl eT
      have e1 : T - 1 - (t + 1) = T - 2 - t := by omega
      refine qw_b75 k hW (by omega) hi (fun r hr => ?_) (fun r hr => ?_) fin
      · have h := (hI.1 (t + 1) r (by omega) (by omega) hr).1
        rw [e1] at h
        exact h
      · have h := (hI.1 (t + 1) r (by omega) (by omega) hr).2
        rw [e1] at h
        exact h
theorem qw_carryBack {post : St1 → Prop} {p : Int32} {a1 a2 a3 a4 a5 : Nat → Int32} {T Z : Nat} {W : Nat → Nat → Nat} {lab : Nat → Nat} (k : qw_K T Z W lab p a1 a2) (hW : ∀ t m, W t m ≤ 8)
    (H : ∀ a4' a5', (∀ u r, u < T → r < 2 * Z + 1 → a4' (9 * u + r) = nI (qa_on W lab T Z (T - 1 - u) r)) → (∀ u r, u < T → r < 2 * Z + 1 → a5' (9 * u + r) = qw_I (qa_bo W lab T Z (T - 1 - u) r)) → post (nI T, nI Z, p, a1, a2, a3, a4', a5')) : wpX_carryBack post (nI T, nI Z, p, a1, a2, a3, a4, a5) := by
  have ⟨hT, hZ, hl, h2, _, _⟩ := k
  refine nm_e ⟨T + 1, ?_⟩
  have main := pk_loopD (σ := (Nat → Int32) × (Nat → Int32)) (fun n i s => i ≤ T → wX_carryBack_7 post (nI T) (nI Z) p n (nI i - 1) a1 a2 a3 s.1 s.2) (fun i s => (∀ u r, i ≤ u → u < T → r < 2 * Z + 1 → s.1 (9 * u + r) = nI (qa_on W lab T Z (T - 1 - u) r)) ∧ (∀ u r, i ≤ u → u < T → r < 2 * Z + 1 → s.2 (9 * u + r) = qw_I (qa_bo W lab T Z (T - 1 - u) r))) ?_ ?_ T (a4, a5) ⟨fun u r c1 c2 => absurd c2 (by omega), fun u r c1 c2 => absurd c2 (by omega)⟩
  · exact main (Nat.le_refl _)
  · intro n s hI _
    have hneg : nI 0 - 1 < 0 := pk_sneg (a := 0) (b := 1) (by omega) (by omega)
    exact br_t hneg (H s.1 s.2 (fun u r c1 c2 => hI.1 u r (by omega) c1 c2) (fun u r c1 c2 => hI.2 u r (by omega) c1 c2))
  · intro n i s hI hw hi
    show wX_carryBack_7 post (nI T) (nI Z) p (n + 1) (nI (i + 1) - 1) a1 a2 a3 s.1 s.2
    rw [nI_pred]
    refine pk_lt i 0 (fun z => absurd z (by omega)) (fun _ => qw_b13 k hW hi (fun u r c1 c2 c3 => hI.1 u r c1 c2 c3) (fun u r c1 c2 c3 => hI.2 u r c1 c2 c3) (fun b4 b5 q4 q5 => ?_))
    have e : nI i + (-1) = nI i - 1 := by grind
    rw [e]
    exact hw (b4, b5) ⟨q4, q5⟩ (by omega)

/-! through -/
theorem qw_isFrame {post : Int32 → Prop} {f1 f2 : Int32} {a1 a2 a3 a4 a5 : Nat → Int32} {T t : Nat} (hT : T ≤ 6) (ht : t < 100) (h0 : T ≤ t → post 0) (h1 : t < T → post 1) : wpX_isFrame post (nI T, f1, f2, a1, a2, a3, a4, a5) (nI t) :=
  pk_lt t 0 (fun z => absurd z (by omega)) (fun _ => pk_le T t h0 h1)
theorem qw_isMark {post : Int32 → Prop} {m : Nat} (hm : m < 4) (h1 : post 1) : wpX_isMark post () (nI m) :=
  pk_lt m 0 (fun z => absurd z (by omega)) (fun _ => pk_le 4 m (fun z => absurd z (by omega)) (fun _ => h1))
def qa_thr (W : Nat → Nat → Nat) (lab : Nat → Nat) (T Z t m : Nat) : Nat := qa_sg (fun s => if qa_mk lab s = m then qa_up W lab t s * qa_on W lab T Z (T - 1 - t) s else 0) (2 * Z + 1)
theorem qa_thr_sum {W : Nat → Nat → Nat} {lab : Nat → Nat} (hl : qa_lab lab) {T Z t : Nat} (ht : t < T) : qa_thr W lab T Z t 0 + qa_thr W lab T Z t 1 + qa_thr W lab T Z t 2 + qa_thr W lab T Z t 3 = qa_tot W lab T Z := by
  have h := qa_fb (W := W) (lab := lab) (T := T) (Z := Z) (T - 1 - t) (by omega)
  rw [show T - 1 - (T - 1 - t) = t by omega] at h
  rw [← h]
  unfold qa_thr
  rw [← qa_sg_add, ← qa_sg_add, ← qa_sg_add]
  refine qa_sg_congr (fun s _ => ?_)
  have hm := qa_mk_le hl s
  generalize qa_mk lab s = m at hm
  have e : m = 0 ∨ m = 1 ∨ m = 2 ∨ m = 3 := by omega
  rcases e with rfl | rfl | rfl | rfl <;> simp
theorem qw_thr35 {post : Int32 → St1 → Prop} {f2 : Int32} {a1 a2 a3 a4 a5 : Nat → Int32} {T Z : Nat} {W : Nat → Nat → Nat} {lab : Nat → Nat} {t m : Nat} (hT : T ≤ 6) (hZ : Z ≤ 4) (hl : qa_lab lab) (h2 : ∀ j, j < Z → a2 j = nI (lab j)) (ht : t < T) (hm : m < 4)
    (h3 : ∀ u r, u < T → r < 2 * Z + 1 → a3 (9 * u + r) = nI (qa_up W lab u r)) (h4 : ∀ u r, u < T → r < 2 * Z + 1 → a4 (9 * u + r) = nI (qa_on W lab T Z (T - 1 - u) r))
    (H : post (nI (qa_thr W lab T Z t m)) (nI T, nI Z, f2, a1, a2, a3, a4, a5)) : ∃ n, wX_through_35 post (nI t) (nI m) (nI T) (nI Z) f2 a1 a2 a3 a4 a5 n 0 0 := by
  refine pk_loop (σ := Int32) (fun n i x => wX_through_35 post (nI t) (nI m) (nI T) (nI Z) f2 a1 a2 a3 a4 a5 n x (nI i)) (fun i x => x = nI (qa_sg (fun s => if qa_mk lab s = m then qa_up W lab t s * qa_on W lab T Z (T - 1 - t) s else 0) i)) (2 * Z + 1) 0 0 (by omega) rfl ?_ ?_
  · intro n x hx
    refine pk_lt (2 * Z) (2 * Z + 1) (fun _ => ?_) (fun z => absurd z (by omega)) (qw_2Z Z)
    have hx' : x = nI (qa_thr W lab T Z t m) := hx
    rw [hx']
    exact H
  · intro n i x hi hx hw
    have hx' : x = nI (qa_sg (fun s => if qa_mk lab s = m then qa_up W lab t s * qa_on W lab T Z (T - 1 - t) s else 0) i) := hx
    have hg : qa_sg (fun s => if qa_mk lab s = m then qa_up W lab t s * qa_on W lab T Z (T - 1 - t) s else 0) (i + 1) = qa_sg (fun s => if qa_mk lab s = m then qa_up W lab t s * qa_on W lab T Z (T - 1 - t) s else 0) i + (if qa_mk lab i = m then qa_up W lab t i * qa_on W lab T Z (T - 1 - t) i else 0) := rfl
    have mi := qa_mk_le hl i
    have v : vp_in (nI t * 9 + nI i) 54 := pk_in (9 * t + i) 54 (by omega) (qw_ix t i)
    refine pk_lt (2 * Z) i (fun z => absurd z (by omega)) (fun _ => qw_mark hZ h2 hi (pk_eq (qa_mk lab i) m (fun q => ⟨v, v, ?_⟩) (fun q => ?_))) (qw_2Z Z)
    · refine nm_r ?_ (nm_r (nI_1 i) (hw _ rfl))
      rw [pk_cl (9 * t + i) (qw_ix t i), h3 t i ht hi, h4 t i ht hi, pk_mul, hx', nI_add, hg, if_pos q]
    · refine nm_r (Int32.add_zero x) (nm_r (nI_1 i) (hw x ?_))
      show x = nI (qa_sg (fun s => if qa_mk lab s = m then qa_up W lab t s * qa_on W lab T Z (T - 1 - t) s else 0) (i + 1))
      rw [hx', hg, if_neg q, Nat.add_zero]
theorem qw_W8 {wt : Nat → Nat} (h : ∀ j, wt j ≤ 8) : ∀ t m, qw_W wt t m ≤ 8 := fun t m => h _
theorem qw_through {post : Int32 → St1 → Prop} {p : Int32} {a1 a2 a3 a4 a5 : Nat → Int32} {T Z : Nat} {wt lab : Nat → Nat} {t m : Nat} (k : qw_S T Z wt lab a1 a2) (ht : t < 100) (hm : m < 4)
    (H0 : T ≤ t → post (-1) (nI T, nI Z, p, a1, a2, a3, a4, a5)) (H1 : t < T → ∀ a3' a4' a5', post (nI (qa_thr (qw_W wt) lab T Z t m)) (nI T, nI Z, 0, a1, a2, a3', a4', a5')) : wpX_through post (nI T, nI Z, p, a1, a2, a3, a4, a5) (nI t) (nI m) := by
  have ⟨hT, hZ, hw, hl, h1, h2⟩ := k
  unfold wpX_through
  refine qw_isFrame hT ht (fun c => br_t rfl (H0 c)) (fun c => br_f (by decide) (qw_isMark hm (br_f (by decide) ?_)))
  refine qw_carryOn (qw_S0 k) (fun a3' h3 => qw_carryBack (qw_S0 k) (qw_W8 hw) (fun a4' a5' h4 h5 => ?_))
  exact qw_thr35 hT hZ hl h2 c hm h3 h4 (H1 c a3' a4' a5')
end
section
theorem qw_bf {post : Int32 → Prop} {a1 a2 a3 a4 a5 : Nat → Int32} {T Z : Nat} {W : Nat → Nat → Nat} {lab : Nat → Nat} {s : Nat} (k : qw_K T Z W lab 0 a1 a2) (hW : ∀ t m, W t m ≤ 8) (hT0 : 0 < T) (hs : s < 2 * Z + 1) (hs1 : s ≤ 1)
    (h5 : ∀ u r, u < T → r < 2 * Z + 1 → a5 (9 * u + r) = qw_I (qa_bo W lab T Z (T - 1 - u) r)) (hp : post (qw_I (qa_cd lab (W 0) (qa_bo W lab T Z (T - 1)) 0 s))) : wpX_bestFrom post (nI T, nI Z, 0, a1, a2, a3, a4, a5) (nI s) := by
  have ⟨hT, hZ, hl, h2, _, _⟩ := k
  have v : vp_in (nI s) 54 := vp_in_nI (by omega) (by omega)
  have e5 : a5 (nI s).toNatClampNeg = qw_I (qa_bo W lab T Z (T - 1) s) := by
    rw [nI_clamp (by omega)]
    have h := h5 0 s hT0 hs
    rw [Nat.mul_zero, Nat.zero_add, Nat.sub_zero] at h
    exact h
  have r1 := qw_boR hW lab T Z (d := T - 1) (by omega) s
  have hM : qa_M lab 0 s = 1 := by rw [qa_M_0, if_pos hs1]
  unfold wpX_bestFrom
  refine qw_mark hZ h2 hs ⟨v, ?_⟩
  rw [e5]
  refine ek_if (qw_I_0le r1.1 (by omega)) (fun c => ⟨v, qw_weight (t := 0) k hT0 (by have := qa_mk_le hl s; omega) ?_⟩) (fun c => ?_)
  · rw [qa_cd_y hM c] at hp
    rw [← qw_I_n, qw_I_mul, Int.mul_comm]
    exact hp
  · rw [qa_cd_b (by omega), qw_I_m1] at hp
    exact hp
theorem qw_51 {post : Int32 → St1 → Prop} {f0 f1 f2 : Int32} {a1 a2 a3 a4 a5 : Nat → Int32} {x z : Int} (hx : -1 ≤ x ∧ x < 2 ^ 31) (hz : -1 ≤ z ∧ z < 2 ^ 31) (hp : post (qw_I (max x z)) (f0, f1, f2, a1, a2, a3, a4, a5)) : wX_greatest_51 post (qw_I x) (qw_I z) f0 f1 f2 a1 a2 a3 a4 a5 := by
  refine ek_if (qw_I_le hz.1 hz.2 hx.1 hx.2) (fun c => ?_) (fun c => ?_)
  · rw [Int.max_eq_left c] at hp
    exact hp
  · rw [Int.max_eq_right (by omega)] at hp
    exact hp
theorem qa_cd_m1 (lab w : Nat → Nat) (b : Nat → Int) (r s : Nat) : -1 ≤ qa_cd lab w b r s := by
  by_cases q : qa_M lab r s = 1 ∧ 0 ≤ b s
  · rw [qa_cd_y q.1 q.2]
    have h : 0 ≤ (w (qa_mk lab s) : Int) * b s := Int.mul_nonneg (by omega) q.2
    omega
  · have e : qa_cd lab w b r s = -1 := if_neg q
    omega
theorem qa_goal_1 {W : Nat → Nat → Nat} {lab : Nat → Nat} {T Z : Nat} (hT0 : 0 < T) : qa_goal W lab T Z = qa_mx (qa_cd lab (W 0) (qa_bo W lab T Z (T - 1)) 0) (2 * Z + 1) := by
  unfold qa_goal
  have e : qa_bo W lab T Z T 0 = qa_bo W lab T Z (T - 1 + 1) 0 := by rw [show T - 1 + 1 = T by omega]
  rw [e]
  show qa_mx (qa_cd lab (W (T - 1 - (T - 1))) (qa_bo W lab T Z (T - 1)) 0) (2 * Z + 1) = _
  rw [Nat.sub_self]
theorem qw_goalR {W : Nat → Nat → Nat} (hW : ∀ t m, W t m ≤ 8) (lab : Nat → Nat) {T : Nat} (hT : T ≤ 6) (Z : Nat) : -1 ≤ qa_goal W lab T Z ∧ qa_goal W lab T Z ≤ 262144 := qw_boR hW lab T Z hT 0
theorem qw_greatest {post : Int32 → St1 → Prop} {p : Int32} {a1 a2 a3 a4 a5 : Nat → Int32} {T Z : Nat} {wt lab : Nat → Nat} (k : qw_S T Z wt lab a1 a2)
    (H : ∀ a4' a5', (∀ u r, u < T → r < 2 * Z + 1 → a5' (9 * u + r) = qw_I (qa_bo (qw_W wt) lab T Z (T - 1 - u) r)) → post (qw_I (qa_goal (qw_W wt) lab T Z)) (nI T, nI Z, 0, a1, a2, a3, a4', a5')) : wpX_greatest post (nI T, nI Z, p, a1, a2, a3, a4, a5) := by
  have ⟨hT, hZ, hw, hl, h1, h2⟩ := k
  have gR := qw_goalR (qw_W8 hw) lab hT Z
  unfold wpX_greatest
  refine pk_eq T 0 (fun h0 => pk_eq Z 0 (fun z0 => ?_) (fun z0 => ?_)) (fun h0 => ?_)
  · have e : qa_goal (qw_W wt) lab T Z = 1 := by
      rw [h0, z0]
      rfl
    have h := H a4 a5 (fun u r hu => absurd hu (by omega))
    rw [e] at h
    exact h
  · have e : qa_goal (qw_W wt) lab T Z = -1 := by
      rw [h0]
      show (if 2 * Z ≤ 0 + 1 then (1 : Int) else -1) = -1
      rw [if_neg (by omega)]
    have h := H a4 a5 (fun u r hu => absurd hu (by omega))
    rw [e, qw_I_m1] at h
    exact h
  · refine qw_carryBack (qw_S0 k) (qw_W8 hw) (fun a4' a5' h4 h5 => ?_)
    have h := H a4' a5' h5
    have eg := qa_goal_1 (W := qw_W wt) (lab := lab) (T := T) (Z := Z) (by omega)
    have cR : ∀ s, s < 2 * Z + 1 → -1 ≤ qa_cd lab (qw_W wt 0) (qa_bo (qw_W wt) lab T Z (T - 1)) 0 s ∧ qa_cd lab (qw_W wt 0) (qa_bo (qw_W wt) lab T Z (T - 1)) 0 s < 2 ^ 31 := by
      intro s hs
      have q1 := qa_cd_m1 lab (qw_W wt 0) (qa_bo (qw_W wt) lab T Z (T - 1)) 0 s
      have q2 : qa_cd lab (qw_W wt 0) (qa_bo (qw_W wt) lab T Z (T - 1)) 0 s ≤ qa_mx (qa_cd lab (qw_W wt 0) (qa_bo (qw_W wt) lab T Z (T - 1)) 0) (2 * Z + 1) := qa_mx_ge hs
      omega
    refine qw_bf (s := 0) (qw_S0 k) (qw_W8 hw) (by omega) (by omega) (by omega) h5 (pk_le Z 0 (fun z0 => ?_) (fun z0 => qw_bf (s := 1) (qw_S0 k) (qw_W8 hw) (by omega) (by omega) (by omega) h5 ?_))
    · have c0 := cR 0 (by omega)
      have e : qa_goal (qw_W wt) lab T Z = max (qa_cd lab (qw_W wt 0) (qa_bo (qw_W wt) lab T Z (T - 1)) 0 0) (-1) := by
        rw [eg, show 2 * Z + 1 = 0 + 1 by omega]
        show max (-1 : Int) (qa_cd lab (qw_W wt 0) (qa_bo (qw_W wt) lab T Z (T - 1)) 0 0) = _
        exact Int.max_comm _ _
      rw [e] at h
      have g := qw_51 (post := post) c0 (z := -1) (by omega) h
      rw [qw_I_m1] at g
      exact g
    · have c0 := cR 0 (by omega)
      have c1 := cR 1 (by omega)
      have e : qa_goal (qw_W wt) lab T Z = max (qa_cd lab (qw_W wt 0) (qa_bo (qw_W wt) lab T Z (T - 1)) 0 0) (qa_cd lab (qw_W wt 0) (qa_bo (qw_W wt) lab T Z (T - 1)) 0 1) := by
        rw [eg, qa_mx_tail (a := 2) (b := 2 * Z + 1) (by omega) (fun i q1 q2 => qa_cd_n (by rw [qa_M_0, if_neg (by omega)]))]
        show max (max (-1 : Int) (qa_cd lab (qw_W wt 0) (qa_bo (qw_W wt) lab T Z (T - 1)) 0 0)) (qa_cd lab (qw_W wt 0) (qa_bo (qw_W wt) lab T Z (T - 1)) 0 1) = _
        rw [Int.max_eq_right c0.1]
      rw [e] at h
      exact qw_51 c0 c1 h
/-- best: no way counts 0 -/
theorem qw_best {post : Int32 → St1 → Prop} {p : Int32} {a1 a2 a3 a4 a5 : Nat → Int32} {T Z : Nat} {wt lab : Nat → Nat} (k : qw_S T Z wt lab a1 a2)
    (H : ∀ a4' a5', post (nI (qa_goal (qw_W wt) lab T Z).toNat) (nI T, nI Z, 0, a1, a2, a3, a4', a5')) : wpX_best post (nI T, nI Z, p, a1, a2, a3, a4, a5) := by
  have ⟨hT, hZ, hw, hl, h1, h2⟩ := k
  have gR := qw_goalR (qw_W8 hw) lab hT Z
  unfold wpX_best
  refine qw_greatest k (fun a4' a5' _ => ?_)
  have h := H a4' a5'
  refine ek_if (qw_I_0le gR.1 (by omega)) (fun c => ?_) (fun c => ?_)
  · rw [← qw_I_n, Int.toNat_of_nonneg c] at h
    exact h
  · rw [show (qa_goal (qw_W wt) lab T Z).toNat = 0 by omega] at h
    exact h

/-! bestAt -/
def qw_enc : Option Nat → Int32
  | none => -1
  | some q => nI q
def qw_at (q u : Nat) : Int32 := if u = 0 then -1 else nI q
theorem qw_prodR {o w b u d : Nat} (ho : o ≤ 8 ^ u) (hw : w ≤ 8) (hb : b ≤ 8 ^ d) (h : u + d ≤ 5) : o * w * b ≤ 262144 := by
  have h1 : o * w * b ≤ 8 ^ u * 8 * 8 ^ d := Nat.mul_le_mul (Nat.mul_le_mul ho hw) hb
  have h2 : 8 ^ u * 8 * 8 ^ d = 8 ^ (u + d + 1) := by
    rw [Nat.pow_succ, Nat.pow_add, Nat.mul_assoc, Nat.mul_comm 8, ← Nat.mul_assoc]
  have h3 := qw_8 (d := u + d + 1) (by omega)
  omega
theorem qw_at136 {post : Int32 → St1 → Prop} {J29 : Int32 → Int32 → Int32 → Prop} {J41 : Int32 → Int32 → Prop} {x1 x2 x3 x4 x5 : Int32} {f0 f2 : Int32} {a1 a2 a3 a4 a5 : Nat → Int32} {Z s : Nat} {lab : Nat → Nat} {K : Nat → Bool} {z0 : Int32} (hZ : Z ≤ 4) (hl : qa_lab lab) (h2 : ∀ j, j < Z → a2 j = nI (lab j)) (hs : s < 2 * Z + 1)
    (hz : (z0 = 0 ∧ ¬ K s = true) ∨ (z0 = 1 ∧ K s = true)) (H : J41 (qw_enc (qa_sel lab K (s + 1))) (nI (s + 1))) :
    wX_bestAt_136 post J29 J41 x1 x2 x3 x4 x5 (qw_enc (qa_sel lab K s)) (nI s) (nI (qa_mk lab s)) z0 f0 (nI Z) f2 a1 a2 a3 a4 a5 := by
  have e : qa_sel lab K (s + 1) = if K s = true then (match qa_sel lab K s with | none => some s | some q => if qa_mk lab q ≤ qa_mk lab s then some q else some s) else qa_sel lab K s := rfl
  rcases hz with ⟨hz, hk⟩ | ⟨hz, hk⟩
  · rw [if_neg hk] at e
    rw [e] at H
    rw [hz]
    exact br_t rfl (nm_r (nI_1 s) H)
  · rw [if_pos hk] at e
    rw [hz]
    refine br_f (by decide) ?_
    cases es : qa_sel lab K s with
    | none =>
      rw [es] at e
      have e' : qa_sel lab K (s + 1) = some s := e
      rw [e'] at H
      have hneg : (-1 : Int32) < 0 := by decide
      exact br_t hneg (nm_r (nI_1 s) H)
    | some q =>
      rw [es] at e
      have e' : qa_sel lab K (s + 1) = if qa_mk lab q ≤ qa_mk lab s then some q else some s := e
      have hq := qa_sel_in es
      have m1 := qa_mk_le hl q
      have m2 := qa_mk_le hl s
      refine pk_lt q 0 (fun z => absurd z (by omega)) (fun _ => qw_mark hZ h2 (by omega) (pk_le (qa_mk lab q) (qa_mk lab s) (fun c => ?_) (fun c => ?_)))
      · rw [if_pos c] at e'
        rw [e'] at H
        exact nm_r (nI_1 s) H
      · rw [if_neg (by omega)] at e'
        rw [e'] at H
        exact nm_r (nI_1 s) H
theorem qw_at79 {post : Int32 → St1 → Prop} {J29 : Int32 → Int32 → Int32 → Prop} {J41 : Int32 → Int32 → Prop} {x1 x4 : Int32} {a1 a2 a3 a4 a5 : Nat → Int32} {T Z : Nat} {W : Nat → Nat → Nat} {lab : Nat → Nat} {u o q s : Nat} (k : qw_K T Z W lab 0 a1 a2) (hW : ∀ t m, W t m ≤ 8) (hu : u < T) (hs : s < 2 * Z + 1) (ho : o ≤ 8 ^ u)
    (h5 : ∀ u r, u < T → r < 2 * Z + 1 → a5 (9 * u + r) = qw_I (qa_bo W lab T Z (T - 1 - u) r)) (H : J41 (qw_enc (qa_sel lab (qa_kp W lab T Z u o q) (s + 1))) (nI (s + 1))) :
    wX_bestAt_79 post J29 J41 x1 (qw_I (qa_goal W lab T Z)) (nI o) x4 (nI u) (qw_enc (qa_sel lab (qa_kp W lab T Z u o q) s)) (nI s) (nI (qa_M lab q s)) (nI T) (nI Z) 0 a1 a2 a3 a4 a5 := by
  have ⟨hT, hZ, hl, h2, _, _⟩ := k
  have gR := qw_goalR hW lab hT Z
  have bR := qw_boR hW lab T Z (d := T - 1 - u) (by omega) s
  have b8 := qa_bo_le hW lab T Z (T - 1 - u) s
  have w8 := hW u (qa_mk lab s)
  have no : ¬ qa_kp W lab T Z u o q s = true → wX_bestAt_135 post J29 J41 x1 (qw_I (qa_goal W lab T Z)) (nI o) x4 (nI u) (qw_enc (qa_sel lab (qa_kp W lab T Z u o q) s)) (nI s) (nI (qa_mk lab s)) (nI T) (nI Z) 0 a1 a2 a3 a4 a5 := fun hk => qw_at136 (z0 := 0) hZ hl h2 hs (Or.inl ⟨rfl, hk⟩) H
  unfold wX_bestAt_79
  refine qw_mark hZ h2 hs ⟨pk_in (9 * u + s) 54 (by omega) (qw_ix u s), nm_r (e' := qw_I (qa_bo W lab T Z (T - 1 - u) s)) ?_ ?_⟩
  · rw [pk_cl (9 * u + s) (qw_ix u s), h5 u s hu hs]
  · rcases qa_M_01 lab q s with c | c
    · rw [c]
      exact br_t rfl (no (fun z => by rw [qa_kp_iff] at z; omega))
    · rw [c]
      refine br_f (by decide) (ek_if (qw_I_lt0 bR.1 (by omega)) (fun b0 => no (fun z => by rw [qa_kp_iff] at z; omega)) (fun b0 => qw_weight k hu (by have := qa_mk_le hl s; omega) ?_))
      have e : nI o * nI (W u (qa_mk lab s)) * qw_I (qa_bo W lab T Z (T - 1 - u) s) = qw_I (((o * W u (qa_mk lab s) : Nat) : Int) * qa_bo W lab T Z (T - 1 - u) s) := by
        rw [pk_mul, ← qw_I_n, qw_I_mul]
      rw [e]
      have hb : 0 ≤ qa_bo W lab T Z (T - 1 - u) s := by omega
      have pR : 0 ≤ ((o * W u (qa_mk lab s) : Nat) : Int) * qa_bo W lab T Z (T - 1 - u) s ∧ ((o * W u (qa_mk lab s) : Nat) : Int) * qa_bo W lab T Z (T - 1 - u) s ≤ 262144 := by
        refine ⟨Int.mul_nonneg (by omega) hb, ?_⟩
        have q1 := qw_prodR (o := o) (w := W u (qa_mk lab s)) (b := (qa_bo W lab T Z (T - 1 - u) s).toNat) (u := u) (d := T - 1 - u) ho w8 (by omega) (by omega)
        have q2 : ((o * W u (qa_mk lab s) * (qa_bo W lab T Z (T - 1 - u) s).toNat : Nat) : Int) = ((o * W u (qa_mk lab s) : Nat) : Int) * qa_bo W lab T Z (T - 1 - u) s := by
          rw [Int.natCast_mul (o * W u (qa_mk lab s)), Int.toNat_of_nonneg hb]
        omega
      refine ek_if (qw_I_eq (by omega) (by omega) gR.1 (by omega)) (fun g => ?_) (fun g => no (fun z => by rw [qa_kp_iff] at z; exact g z.2.2))
      exact qw_at136 (z0 := 1) hZ hl h2 hs (Or.inr ⟨rfl, qa_kp_iff.mpr ⟨c, hb, g⟩⟩) H
theorem qw_at41 {post : Int32 → St1 → Prop} {J29 : Int32 → Int32 → Int32 → Prop} {x1 : Int32} {a1 a2 a3 a4 a5 : Nat → Int32} {T Z : Nat} {W : Nat → Nat → Nat} {lab : Nat → Nat} {u o q e : Nat} (k : qw_K T Z W lab 0 a1 a2) (hW : ∀ t m, W t m ≤ 8) (hu : u < T) (ho : o ≤ 8 ^ u) (hq : q < 2 * Z + 1) (hq0 : u = 0 → q = 0)
    (h5 : ∀ u r, u < T → r < 2 * Z + 1 → a5 (9 * u + r) = qw_I (qa_bo W lab T Z (T - 1 - u) r)) (hs : qa_sel lab (qa_kp W lab T Z u o q) (2 * Z + 1) = some e)
    (H : J29 (nI (o * W u (qa_mk lab e))) (nI e) (nI (u + 1))) :
    ∃ n, wX_bestAt_41 post J29 x1 (qw_I (qa_goal W lab T Z)) (nI o) (qw_at q u) (nI u) (nI T) (nI Z) 0 a1 a2 a3 a4 a5 n (-1) 0 := by
  have ⟨hT, hZ, hl, h2, _, _⟩ := k
  have he := (qa_sel_in hs).1
  refine pk_loop (σ := Int32) (fun n i x => wX_bestAt_41 post J29 x1 (qw_I (qa_goal W lab T Z)) (nI o) (qw_at q u) (nI u) (nI T) (nI Z) 0 a1 a2 a3 a4 a5 n x (nI i)) (fun i x => x = qw_enc (qa_sel lab (qa_kp W lab T Z u o q) i)) (2 * Z + 1) 0 (-1) (by omega) rfl ?_ ?_
  · intro n x hx
    have hx' : x = nI e := by
      have hx2 : x = qw_enc (qa_sel lab (qa_kp W lab T Z u o q) (2 * Z + 1)) := hx
      rw [hs] at hx2
      exact hx2
    rw [hx']
    exact pk_lt (2 * Z) (2 * Z + 1) (fun _ => qw_mark hZ h2 he (qw_weight k hu (by have := qa_mk_le hl e; omega) (nm_r (pk_mul _ _) (nm_r (nI_1 u) H)))) (fun z => absurd z (by omega)) (qw_2Z Z)
  · intro n i x hi hx hw
    have hx' : x = qw_enc (qa_sel lab (qa_kp W lab T Z u o q) i) := hx
    rw [hx']
    have go := qw_at79 (post := post) (J29 := J29) (x1 := x1) (x4 := qw_at q u) (a3 := a3) (a4 := a4) (u := u) (o := o) (q := q) (s := i) k hW hu hi ho h5 (hw _ rfl)
    refine pk_lt (2 * Z) i (fun z => absurd z (by omega)) (fun _ => ?_) (qw_2Z Z)
    by_cases u0 : u = 0
    · have ea : qw_at q u = -1 := if_pos u0
      have hneg : ¬ (0 : Int32) ≤ -1 := by decide
      rw [hq0 u0, qa_M_0] at go
      rw [hq0 u0] at ea
      rw [hq0 u0]
      rw [ea] at go ⊢
      refine br_f hneg (pk_lt 1 i (fun c => ?_) (fun c => ?_))
      · rw [if_neg (by omega)] at go
        exact go
      · rw [if_pos c] at go
        exact go
    · have ea : qw_at q u = nI q := if_neg u0
      rw [ea] at go ⊢
      exact br_t (nI_pos' (by omega)) (qw_leads hZ hl h2 hq hi go)
theorem qw_bestAt {post : Int32 → St1 → Prop} {p : Int32} {a1 a2 a3 a4 a5 : Nat → Int32} {T Z : Nat} {wt lab : Nat → Nat} {t : Nat} (k : qw_S T Z wt lab a1 a2) (ht : t < T)
    (H0 : qa_goal (qw_W wt) lab T Z < 0 → ∀ a4' a5', post (-1) (nI T, nI Z, 0, a1, a2, a3, a4', a5')) (H1 : 0 ≤ qa_goal (qw_W wt) lab T Z → ∀ a4' a5', post (nI (qa_mk lab (qa_pt (qw_W wt) lab T Z (t + 1)).2)) (nI T, nI Z, 0, a1, a2, a3, a4', a5')) : wpX_bestAt post (nI T, nI Z, p, a1, a2, a3, a4, a5) (nI t) := by
  have ⟨hT, hZ, hw, hl, h1, h2⟩ := k
  have gR := qw_goalR (qw_W8 hw) lab hT Z
  unfold wpX_bestAt
  refine qw_isFrame hT (by omega) (fun c => absurd c (by omega)) (fun _ => br_f (by decide) (qw_greatest k (fun a4' a5' h5 => ek_if (qw_I_0le gR.1 (by omega)) (fun g => ?_) (fun g => H0 (by omega) a4' a5'))))
  refine pk_loop (σ := Unit) (fun n i _ => wX_bestAt_29 post (nI t) (qw_I (qa_goal (qw_W wt) lab T Z)) (nI T) (nI Z) 0 a1 a2 a3 a4' a5' n (nI (qa_pt (qw_W wt) lab T Z i).1) (qw_at (qa_pt (qw_W wt) lab T Z i).2 i) (nI i)) (fun _ _ => True) (t + 1) 0 () (by omega) trivial ?_ ?_
  · intro n _ _
    have e : qw_at (qa_pt (qw_W wt) lab T Z (t + 1)).2 (t + 1) = nI (qa_pt (qw_W wt) lab T Z (t + 1)).2 := if_neg (by omega)
    show wX_bestAt_29 post (nI t) (qw_I (qa_goal (qw_W wt) lab T Z)) (nI T) (nI Z) 0 a1 a2 a3 a4' a5' (n + 1) (nI (qa_pt (qw_W wt) lab T Z (t + 1)).1) (qw_at (qa_pt (qw_W wt) lab T Z (t + 1)).2 (t + 1)) (nI (t + 1))
    rw [e]
    exact pk_lt t (t + 1) (fun _ => qw_mark hZ h2 (qa_pt_sel g t ht).2 (H1 g a4' a5')) (fun z => absurd z (by omega))
  · intro n i _ hi _ hn
    refine pk_lt t i (fun z => absurd z (by omega)) (fun _ => ?_)
    have hS := qa_pt_sel g i (by omega)
    refine qw_at41 (qw_S0 k) (qw_W8 hw) (by omega) (qa_pt_le (qw_W8 hw) lab T Z i) ?_ ?_ h5 hS.1 ?_
    · cases i with
      | zero =>
        show 0 < 2 * Z + 1
        omega
      | succ i => exact (qa_pt_sel g i (by omega)).2
    · intro i0
      rw [i0]
      rfl
    · have h := hn () trivial
      have e : qw_at (qa_pt (qw_W wt) lab T Z (i + 1)).2 (i + 1) = nI (qa_pt (qw_W wt) lab T Z (i + 1)).2 := if_neg (by omega)
      have h' : wX_bestAt_29 post (nI t) (qw_I (qa_goal (qw_W wt) lab T Z)) (nI T) (nI Z) 0 a1 a2 a3 a4' a5' n (nI (qa_pt (qw_W wt) lab T Z (i + 1)).1) (qw_at (qa_pt (qw_W wt) lab T Z (i + 1)).2 (i + 1)) (nI (i + 1)) := h
      rw [e] at h'
      exact h'
end
section
theorem qw_frameSum {post : Int32 → Prop} {f0 f1 f2 : Int32} {a1 a2 a3 a4 a5 : Nat → Int32} {wt : Nat → Nat} {t : Nat} (h1 : ∀ j, j < 24 → a1 j = nI (wt j)) (ht : t < 6) (hp : post (nI (qa_F (qw_W wt) t))) : wpX_frameSum post (f0, f1, f2, a1, a2, a3, a4, a5) (nI t) := by
  refine pk_loop (σ := Int32) (fun n i x => wX_frameSum_4 post (nI t) f0 f1 f2 a1 a2 a3 a4 a5 n x (nI i)) (fun i x => x = nI (qa_sg (qw_W wt t) i)) 4 0 0 (by omega) rfl ?_ ?_
  · intro n x hx
    refine pk_le 4 4 (fun _ => ?_) (fun z => absurd z (by omega))
    have hx' : x = nI (0 + qw_W wt t 0 + qw_W wt t 1 + qw_W wt t 2 + qw_W wt t 3) := hx
    rw [Nat.zero_add] at hx'
    rw [hx']
    exact hp
  · intro n i x hi hx hw
    have hx' : x = nI (qa_sg (qw_W wt t) i) := hx
    have hg : qa_sg (qw_W wt t) (i + 1) = qa_sg (qw_W wt t) i + wt (4 * t + i) := rfl
    refine pk_le 4 i (fun z => absurd z (by omega)) (fun _ => ⟨pk_in (4 * t + i) 24 (by omega) (qw_ix4 t i), nm_r ?_ (nm_r (nI_1 i) (hw _ rfl))⟩)
    rw [pk_cl (4 * t + i) (qw_ix4 t i), h1 _ (by omega), hx', nI_add, hg]
theorem qw_every {post : Int32 → Prop} {f1 f2 : Int32} {a1 a2 a3 a4 a5 : Nat → Int32} {wt : Nat → Nat} {T : Nat} (hT : T ≤ 6) (h1 : ∀ j, j < 24 → a1 j = nI (wt j)) (hp : post (nI (qa_PB (qa_F (qw_W wt)) 0 T))) : wpX_everything post (nI T, f1, f2, a1, a2, a3, a4, a5) := by
  refine pk_loop (σ := Int32) (fun n i x => wX_everything_4 post (nI T) f1 f2 a1 a2 a3 a4 a5 n x (nI i)) (fun i x => x = nI (qa_PB (qa_F (qw_W wt)) 0 i)) T 0 1 (by omega) rfl ?_ ?_
  · intro n x hx
    refine pk_le T T (fun _ => ?_) (fun z => absurd z (by omega))
    have hx' : x = nI (qa_PB (qa_F (qw_W wt)) 0 T) := hx
    rw [hx']
    exact hp
  · intro n i x hi hx hw
    have hx' : x = nI (qa_PB (qa_F (qw_W wt)) 0 i) := hx
    have hg : qa_PB (qa_F (qw_W wt)) 0 (i + 1) = qa_PB (qa_F (qw_W wt)) 0 i * qa_F (qw_W wt) (0 + i) := rfl
    refine pk_le T i (fun z => absurd z (by omega)) (fun _ => qw_frameSum h1 (by omega) (nm_r ?_ (nm_r (nI_1 i) (hw _ rfl))))
    rw [hx', pk_mul, hg, Nat.zero_add]
theorem qw_p158 {post : Int32 → St1 → Prop} {J41 : Int32 → Int32 → Prop} {x1 x2 f1 f2 : Int32} {a1 a2 a3 a4 a5 : Nat → Int32} {wt : Nat → Nat} {T t y v : Nat} (hT : T ≤ 6) (h1 : ∀ j, j < 24 → a1 j = nI (wt j)) (ht : t < T) (H : J41 (nI (y + v * qa_PB (qa_F (qw_W wt)) (t + 1) (T - (t + 1)))) (nI (t + 1))) : ∃ n, wX_prefix_158 post J41 x1 x2 (nI y) (nI t) (nI T) f1 f2 a1 a2 a3 a4 a5 n (nI v) (nI (t + 1)) := by
  refine pk_loop (σ := Int32) (fun n i x => wX_prefix_158 post J41 x1 x2 (nI y) (nI t) (nI T) f1 f2 a1 a2 a3 a4 a5 n x (nI i)) (fun i x => x = nI (v * qa_PB (qa_F (qw_W wt)) (t + 1) (i - (t + 1))) ∧ t + 1 ≤ i) T (t + 1) (nI v) (by omega) ?_ ?_ ?_
  · refine ⟨?_, Nat.le_refl _⟩
    rw [Nat.sub_self]
    show nI v = nI (v * 1)
    rw [Nat.mul_one]
  · intro n x hx
    refine pk_le T T (fun _ => nm_r ?_ (nm_r (nI_1 t) H)) (fun z => absurd z (by omega))
    rw [hx.1, nI_add]
  · intro n i x hi hx hw
    refine pk_le T i (fun z => absurd z (by omega)) (fun _ => qw_frameSum h1 (by omega) (nm_r ?_ (nm_r (nI_1 i) (hw _ ⟨rfl, by omega⟩))))
    have h2 := hx.2
    have e : i + 1 - (t + 1) = i - (t + 1) + 1 := by omega
    have e2 : t + 1 + (i - (t + 1)) = i := by omega
    have hg : qa_PB (qa_F (qw_W wt)) (t + 1) (i - (t + 1) + 1) = qa_PB (qa_F (qw_W wt)) (t + 1) (i - (t + 1)) * qa_F (qw_W wt) (t + 1 + (i - (t + 1))) := rfl
    rw [e2] at hg
    rw [hx.1, pk_mul, e, hg, Nat.mul_assoc]
theorem qw_p72 {post : Int32 → St1 → Prop} {J41 : Int32 → Int32 → Prop} {a1 a2 a3 a4 a5 : Nat → Int32} {T Z : Nat} {wt lab : Nat → Nat} {t y e : Nat} (k : qw_S T Z wt lab a1 a2) (ht : t < T) (he : e < 2 * Z + 1) (he1 : 1 ≤ e)
    (h3 : ∀ u r, u < T → r < 2 * Z + 1 → a3 (9 * u + r) = nI (qa_up (qw_W wt) lab u r)) (c : Nat) (hc : c = if t = 0 ∧ e = 1 then 1 else 0)
    (H : J41 (nI (y + qa_fp (qw_W wt) lab e t * qw_W wt t (qa_mk lab e) * qa_PB (qa_F (qw_W wt)) (t + 1) (T - (t + 1)))) (nI (t + 1))) :
    ∃ n, wX_prefix_72 post J41 (nI e) (nI (qa_mk lab e)) (nI y) (nI t) (nI T) (nI Z) 0 a1 a2 a3 a4 a5 n (nI c) (nI e - 2) := by
  have ⟨hT, hZ, hwt, hl, h1, h2⟩ := k
  have hE : ∃ g : Nat → Nat, (∀ r, r + 2 < e → g r = 0) ∧ (t = 0 → ∀ r, g r = 0) ∧ (0 < t → ∀ r, g r = qa_M lab r e * qa_up (qw_W wt) lab (t - 1) r) ∧ c + qa_sg g e = qa_fp (qw_W wt) lab e t := by
    cases t with
    | zero =>
      refine ⟨fun _ => 0, fun _ _ => rfl, fun _ _ => rfl, fun z => absurd z (by omega), ?_⟩
      rw [qa_sg_0 (fun _ _ => rfl), hc, Nat.add_zero]
      show _ = if e = 1 then 1 else 0
      by_cases q : e = 1
      · rw [if_pos ⟨rfl, q⟩, if_pos q]
      · rw [if_neg (fun z => q z.2), if_neg q]
    | succ t =>
      refine ⟨fun r => qa_M lab r e * qa_up (qw_W wt) lab t r, fun r hr => ?_, fun z => absurd z (by omega), fun _ r => rfl, ?_⟩
      · show qa_M lab r e * qa_up (qw_W wt) lab t r = 0
        rw [qa_M_hi hr, Nat.zero_mul]
      · rw [hc, if_neg (fun z => absurd z.1 (by omega)), Nat.zero_add]
        rfl
  obtain ⟨g, g0, g1, g2, gE⟩ := hE
  refine pk_loop (σ := Int32) (fun n i x => wX_prefix_72 post J41 (nI e) (nI (qa_mk lab e)) (nI y) (nI t) (nI T) (nI Z) 0 a1 a2 a3 a4 a5 n x (nI i - 2)) (fun i x => x = nI (c + qa_sg g (i - 2))) (e + 2) e (nI c) (by omega) ?_ ?_ ?_
  · show nI c = nI (c + qa_sg g (e - 2))
    rw [qa_sg_0 (fun i hi => g0 i (by omega)), Nat.add_zero]
  · intro n x hx
    have ee : nI (e + 2) - 2 = nI e := pk_sub (a := e + 2) (b := 2) (by omega)
    show wX_prefix_72 post J41 (nI e) (nI (qa_mk lab e)) (nI y) (nI t) (nI T) (nI Z) 0 a1 a2 a3 a4 a5 (n + 1) x (nI (e + 2) - 2)
    rw [ee]
    have hx' : x = nI (c + qa_sg g e) := hx
    rw [gE] at hx'
    refine pk_le e e (fun _ => qw_weight (qw_S0 k) ht (by have := qa_mk_le hl e; omega) (nm_r ?_ (nm_r (nI_1 t) (qw_p158 hT h1 ht H)))) (fun z => absurd z (by omega))
    rw [hx', pk_mul]
  · intro n i x hi hx hw
    have hx' : x = nI (c + qa_sg g (i - 2)) := hx
    have hn : ∀ y', y' = nI (c + qa_sg g (i + 1 - 2)) → wX_prefix_72 post J41 (nI e) (nI (qa_mk lab e)) (nI y) (nI t) (nI T) (nI Z) 0 a1 a2 a3 a4 a5 n y' (nI (i + 1) - 2) := fun y' hy => hw y' hy
    show wX_prefix_72 post J41 (nI e) (nI (qa_mk lab e)) (nI y) (nI t) (nI T) (nI Z) 0 a1 a2 a3 a4 a5 (n + 1) x (nI i - 2)
    by_cases i2 : i < 2
    · have e1 : nI i - 2 + 1 = nI (i + 1) - 2 := by
        rw [← nI_1]
        grind
      have skip : wX_prefix_102 post J41 (wX_prefix_72 post J41 (nI e) (nI (qa_mk lab e)) (nI y) (nI t) (nI T) (nI Z) 0 a1 a2 a3 a4 a5 n) (nI e) (nI (qa_mk lab e)) (nI y) (nI t) x (nI i - 2) (nI T) (nI Z) 0 a1 a2 a3 a4 a5 := by
        refine br_t rfl (nm_r (Int32.add_zero x) (nm_r e1 (hn x ?_)))
        rw [hx', show i + 1 - 2 = i - 2 by omega]
      have hneg : nI i - 2 < 0 := pk_sneg (a := i) (b := 2) (by omega) i2
      refine br_f (c := nI e ≤ nI i - 2) (fun z => ?_) (br_c (fun _ => skip) (fun _ => br_t hneg skip))
      have z1 : (nI e).toInt ≤ (nI i - nI 2).toInt := Int32.le_iff_toInt_le.mp z
      rw [nI_toInt (by omega), pk_sub_toInt (by omega) (by omega)] at z1
      omega
    · have ee : nI i - 2 = nI (i - 2) := pk_sub (a := i) (b := 2) (by omega)
      have e' : nI (i + 1) - 2 = nI (i - 2 + 1) := by
        have q : nI (i + 1) - 2 = nI (i + 1 - 2) := pk_sub (a := i + 1) (b := 2) (by omega)
        rw [q, show i + 1 - 2 = i - 2 + 1 by omega]
      rw [ee]
      rw [e'] at hn
      rw [show i + 1 - 2 = i - 2 + 1 by omega] at hn
      have hg : qa_sg g (i - 2 + 1) = qa_sg g (i - 2) + g (i - 2) := rfl
      have skip : g (i - 2) = 0 → wX_prefix_102 post J41 (wX_prefix_72 post J41 (nI e) (nI (qa_mk lab e)) (nI y) (nI t) (nI T) (nI Z) 0 a1 a2 a3 a4 a5 n) (nI e) (nI (qa_mk lab e)) (nI y) (nI t) x (nI (i - 2)) (nI T) (nI Z) 0 a1 a2 a3 a4 a5 := by
        intro hz
        refine br_t rfl (nm_r (Int32.add_zero x) (nm_r (nI_1 (i - 2)) (hn x ?_)))
        rw [hx', hg, hz, Nat.add_zero]
      refine pk_le e (i - 2) (fun z => absurd z (by omega)) (fun _ => pk_le t 0 (fun z => skip (g1 (by omega) _)) (fun z => pk_lt (i - 2) 0 (fun z' => absurd z' (by omega)) (fun _ => ?_)))
      refine qw_leads hZ hl h2 (by omega) he ?_
      rcases qa_M_01 lab (i - 2) e with q | q
      · rw [q]
        exact br_t rfl (skip (by rw [g2 z, q, Nat.zero_mul]))
      · rw [q]
        refine br_f (by decide) (br_f (by decide) ⟨pk_in (9 * (t - 1) + (i - 2)) 54 (by omega) (qw_ix1 _ z), nm_r ?_ (nm_r (nI_1 (i - 2)) (hn _ rfl))⟩)
        rw [pk_cl (9 * (t - 1) + (i - 2)) (qw_ix1 _ z), h3 _ _ (by omega) (by omega), hx', nI_add, hg, g2 z, q, Nat.one_mul, Nat.add_assoc]
theorem qw_p41 {post : Int32 → St1 → Prop} {a1 a2 a3 a4 a5 : Nat → Int32} {T Z : Nat} {wt lab : Nat → Nat} {e : Nat} (k : qw_S T Z wt lab a1 a2) (he : e < 2 * Z + 1) (he1 : 1 ≤ e)
    (h3 : ∀ u r, u < T → r < 2 * Z + 1 → a3 (9 * u + r) = nI (qa_up (qw_W wt) lab u r)) (H : post (nI (qa_D (qw_W wt) lab e T)) (nI T, nI Z, 0, a1, a2, a3, a4, a5)) :
    ∃ n, wX_prefix_41 post (nI e) (nI (qa_mk lab e)) (nI T) (nI Z) 0 a1 a2 a3 a4 a5 n 0 0 := by
  have ⟨hT, hZ, hwt, hl, h1, h2⟩ := k
  refine pk_loop (σ := Int32) (fun n i x => wX_prefix_41 post (nI e) (nI (qa_mk lab e)) (nI T) (nI Z) 0 a1 a2 a3 a4 a5 n x (nI i)) (fun i x => x = nI (qa_D (qw_W wt) lab e i * qa_PB (qa_F (qw_W wt)) i (T - i))) T 0 0 (by omega) ?_ ?_ ?_
  · show (0 : Int32) = nI (0 * qa_PB (qa_F (qw_W wt)) 0 (T - 0))
    rw [Nat.zero_mul]
    rfl
  · intro n x hx
    refine pk_le T T (fun _ => ?_) (fun z => absurd z (by omega))
    have hx' : x = nI (qa_D (qw_W wt) lab e T * qa_PB (qa_F (qw_W wt)) T (T - T)) := hx
    rw [Nat.sub_self] at hx'
    have hx2 : x = nI (qa_D (qw_W wt) lab e T * 1) := hx'
    rw [Nat.mul_one] at hx2
    rw [hx2]
    exact H
  · intro n i x hi hx hw
    have hx' : x = nI (qa_D (qw_W wt) lab e i * qa_PB (qa_F (qw_W wt)) i (T - i)) := hx
    have e0 : T - i = T - (i + 1) + 1 := by omega
    have e1 : qa_D (qw_W wt) lab e i * qa_PB (qa_F (qw_W wt)) i (T - i) + qa_fp (qw_W wt) lab e i * qw_W wt i (qa_mk lab e) * qa_PB (qa_F (qw_W wt)) (i + 1) (T - (i + 1)) = qa_D (qw_W wt) lab e (i + 1) * qa_PB (qa_F (qw_W wt)) (i + 1) (T - (i + 1)) := by
      rw [e0, qa_PB_l]
      show _ = (qa_D (qw_W wt) lab e i * qa_F (qw_W wt) i + qa_fp (qw_W wt) lab e i * qw_W wt i (qa_mk lab e)) * qa_PB (qa_F (qw_W wt)) (i + 1) (T - (i + 1))
      rw [Nat.add_mul, Nat.mul_assoc (qa_D (qw_W wt) lab e i)]
    have fin : wX_prefix_41 post (nI e) (nI (qa_mk lab e)) (nI T) (nI Z) 0 a1 a2 a3 a4 a5 n (nI (qa_D (qw_W wt) lab e i * qa_PB (qa_F (qw_W wt)) i (T - i) + qa_fp (qw_W wt) lab e i * qw_W wt i (qa_mk lab e) * qa_PB (qa_F (qw_W wt)) (i + 1) (T - (i + 1)))) (nI (i + 1)) := by
      rw [e1]
      exact hw _ rfl
    rw [hx']
    refine pk_le T i (fun z => absurd z (by omega)) (fun _ => pk_eq i 0 (fun i0 => pk_eq e 1 (fun q => nm_e ?_) (fun q => nm_e ?_)) (fun i0 => nm_e ?_))
    · exact qw_p72 k hi he he1 h3 1 (by rw [if_pos ⟨i0, q⟩]) fin
    · exact qw_p72 k hi he he1 h3 0 (by rw [if_neg (fun z => q z.2)]) fin
    · exact qw_p72 k hi he he1 h3 0 (by rw [if_neg (fun z => i0 z.1)]) fin
theorem qw_pref {post : Int32 → St1 → Prop} {p : Int32} {a1 a2 a3 a4 a5 : Nat → Int32} {T Z : Nat} {wt lab : Nat → Nat} (k : qw_S T Z wt lab a1 a2)
    (H0 : Z = 0 → post (nI (qa_PB (qa_F (qw_W wt)) 0 T)) (nI T, nI Z, p, a1, a2, a3, a4, a5)) (H1 : 0 < Z → ∀ a3', post (nI (qa_D (qw_W wt) lab (2 * Z - 1) T)) (nI T, nI Z, 0, a1, a2, a3', a4, a5)) : wpX_prefix post (nI T, nI Z, p, a1, a2, a3, a4, a5) := by
  have ⟨hT, hZ, hwt, hl, h1, h2⟩ := k
  unfold wpX_prefix
  refine pk_eq Z 0 (fun z0 => qw_every hT h1 (H0 z0)) (fun z0 => qw_carryOn (qw_S0 k) (fun a3' h3 => ?_))
  have e : 2 * nI Z - 1 = nI (2 * Z - 1) := by
    rw [qw_2Z]
    exact pk_sub (a := 2 * Z) (b := 1) (by omega)
  exact nm_r e (qw_mark hZ h2 (by omega) (qw_p41 k (by omega) (by omega) h3 (H1 (by omega) a3')))
end
section
theorem qw_b8 : ∀ d, d < 128 → (nI d).toInt8.toInt32 = nI d := by decide +kernel
theorem qw_drop {post : Int32 → St1 → Prop} {p : Int32} {a1 a2 a3 a4 a5 : Nat → Int32} {T Z : Nat} {wt lab : Nat → Nat} (k : qw_S T Z wt lab a1 a2)
    (H : ∀ r T', T' ≤ T → qw_S T' Z wt lab a1 a2 → post r (nI T', nI Z, p, a1, a2, a3, a4, a5)) : wpX_dropFrame post (nI T, nI Z, p, a1, a2, a3, a4, a5) := by
  have ⟨hT, hZ, hw, hl, h1, h2⟩ := k
  unfold wpX_dropFrame
  refine pk_eq T 0 (fun h0 => H _ T (Nat.le_refl _) k) (fun h0 => ?_)
  have e : nI T - 1 = nI (T - 1) := pk_sub (a := T) (b := 1) (by omega)
  exact nm_r e (H _ (T - 1) (by omega) ⟨by omega, hZ, hw, hl, h1, h2⟩)
theorem qw_weigh {post : Int32 → St1 → Prop} {p : Int32} {a1 a2 a3 a4 a5 : Nat → Int32} {T Z : Nat} {wt lab : Nat → Nat} {t m w : Nat} (k : qw_S T Z wt lab a1 a2) (ht : t < 6) (hm : m < 4) (hw8 : w ≤ 8)
    (H0 : T ≤ t → post 0 (nI T, nI Z, p, a1, a2, a3, a4, a5)) (H1 : t < T → ∀ a1', qw_S T Z (fun j => if j = 4 * t + m then w else wt j) lab a1' a2 → post 1 (nI T, nI Z, p, a1', a2, a3, a4, a5)) : wpX_weigh post (nI T, nI Z, p, a1, a2, a3, a4, a5) (nI t) (nI m) (nI w) := by
  have ⟨hT, hZ, hw, hl, h1, h2⟩ := k
  unfold wpX_weigh
  refine qw_isFrame hT (by omega) (fun c => br_t rfl (H0 c)) (fun c => br_f (by decide) (qw_isMark hm (br_f (by decide) (pk_lt w 0 (fun z => absurd z (by omega)) (fun _ => pk_le w 8 (fun _ => ⟨pk_in (4 * t + m) 24 (by omega) (qw_ix4 t m), nm_r (e' := upd a1 (4 * t + m) (nI w)) ?_ (H1 c _ ?_)⟩) (fun z => absurd z (by omega)))))))
  · rw [pk_cl (4 * t + m) (qw_ix4 t m), qw_b8 w (by omega)]
  · refine ⟨hT, hZ, fun j => ?_, hl, fun j hj => ?_, h2⟩
    · show (if j = 4 * t + m then w else wt j) ≤ 8
      by_cases e : j = 4 * t + m
      · rw [if_pos e]
        exact hw8
      · rw [if_neg e]
        exact hw j
    · show upd a1 (4 * t + m) (nI w) j = nI (if j = 4 * t + m then w else wt j)
      by_cases e : j = 4 * t + m
      · rw [if_pos e, e, pk_us]
      · rw [if_neg e, pk_un e, h1 j hj]
def qa_ul (lab : Nat → Nat) (Z m : Nat) : Nat → Nat := fun j => if j = Z then m else lab j
theorem qa_ul_lab {lab : Nat → Nat} {Z m : Nat} (hl : qa_lab lab) (h : 1 ≤ m ∧ m ≤ 3) : qa_lab (qa_ul lab Z m) := by
  intro j
  unfold qa_ul
  by_cases e : j = Z
  · rw [if_pos e]
    exact h
  · rw [if_neg e]
    exact hl j
theorem qw_write {post : Int32 → St1 → Prop} {p : Int32} {a1 a2 a3 a4 a5 : Nat → Int32} {T Z : Nat} {wt lab : Nat → Nat} {m : Nat} (k : qw_S T Z wt lab a1 a2) (hm : 1 ≤ m ∧ m ≤ 3)
    (H0 : Z = 4 → post (-2) (nI T, nI Z, p, a1, a2, a3, a4, a5)) (H1 : Z < 4 → ∀ a2', qw_S T (Z + 1) wt (qa_ul lab Z m) a1 a2' → post (nI (Z + 1)) (nI T, nI (Z + 1), p, a1, a2', a3, a4, a5)) : wpX_write post (nI T, nI Z, p, a1, a2, a3, a4, a5) (nI m) := by
  have ⟨hT, hZ, hw, hl, h1, h2⟩ := k
  unfold wpX_write
  refine pk_lt m 1 (fun z => absurd z (by omega)) (fun _ => pk_le m 3 (fun _ => pk_lt Z 4 (fun c => ⟨pk_in Z 4 c, nm_r (e' := upd a2 Z (nI m)) ?_ (nm_r (nI_1 Z) (H1 c _ ⟨hT, by omega, hw, qa_ul_lab hl hm, h1, fun j hj => ?_⟩))⟩) (fun c => H0 (by omega))) (fun z => absurd z (by omega)))
  · rw [nI_clamp (by omega), qw_b8 m (by omega)]
  · show upd a2 Z (nI m) j = nI (if j = Z then m else lab j)
    by_cases e : j = Z
    · rw [if_pos e, e, pk_us]
    · rw [if_neg e, pk_un e, h2 j (by omega)]
theorem qw_rub {post : Int32 → St1 → Prop} {p : Int32} {a1 a2 a3 a4 a5 : Nat → Int32} {T Z : Nat} {wt lab : Nat → Nat} (k : qw_S T Z wt lab a1 a2)
    (H0 : Z = 0 → post (-1) (nI T, nI Z, p, a1, a2, a3, a4, a5)) (H1 : ∀ z, Z = z + 1 → qw_S T z wt lab a1 a2 → post (nI (lab z)) (nI T, nI z, p, a1, a2, a3, a4, a5)) : wpX_rub post (nI T, nI Z, p, a1, a2, a3, a4, a5) := by
  have ⟨hT, hZ, hw, hl, h1, h2⟩ := k
  unfold wpX_rub
  refine pk_eq Z 0 H0 (fun h0 => ?_)
  have e : nI Z - 1 = nI (Z - 1) := pk_sub (a := Z) (b := 1) (by omega)
  refine nm_r e ⟨pk_in (Z - 1) 4 (by omega), ?_⟩
  rw [nI_clamp (by omega), h2 (Z - 1) (by omega)]
  exact H1 (Z - 1) (by omega) ⟨hT, by omega, hw, hl, h1, fun j hj => h2 j (by omega)⟩
theorem qw_S_lab {T Z : Nat} {wt lab lab' : Nat → Nat} {a1 a2 : Nat → Int32} (k : qw_S T Z wt lab' a1 a2) (hl : qa_lab lab) (h : ∀ j, j < Z → lab' j = lab j) : qw_S T Z wt lab a1 a2 := by
  obtain ⟨hT, hZ, hw, _, h1, h2⟩ := k
  exact ⟨hT, hZ, hw, hl, h1, fun j hj => by rw [h2 j hj, h j hj]⟩
theorem qa_F32 {W : Nat → Nat → Nat} (h : ∀ t m, W t m ≤ 8) (t : Nat) : qa_F W t ≤ 32 := by
  have h0 := h t 0
  have h1 := h t 1
  have h2 := h t 2
  have h3 := h t 3
  unfold qa_F
  omega
theorem qa_32 {d : Nat} (h : d ≤ 6) : 32 ^ d ≤ 1073741824 := by
  have e : d = 0 ∨ d = 1 ∨ d = 2 ∨ d = 3 ∨ d = 4 ∨ d = 5 ∨ d = 6 := by omega
  rcases e with rfl | rfl | rfl | rfl | rfl | rfl | rfl <;> decide
theorem qa_allR {W : Nat → Nat → Nat} (h : ∀ t m, W t m ≤ 8) {T : Nat} (hT : T ≤ 6) : qa_PB (qa_F W) 0 T ≤ 1073741824 :=
  Nat.le_trans (qa_PB_le (qa_F32 h) 0 T) (qa_32 hT)
theorem qa_totR {W : Nat → Nat → Nat} (h : ∀ t m, W t m ≤ 8) {lab : Nat → Nat} (hl : qa_lab lab) {T : Nat} (hT : T ≤ 6) (Z : Nat) : qa_tot W lab T Z ≤ 1073741824 :=
  Nat.le_trans (qa_tot_all hl T Z) (qa_allR h hT)
theorem qw_bestNext {post : Int32 → St1 → Prop} {p : Int32} {a1 a2 a3 a4 a5 : Nat → Int32} {T Z : Nat} {wt lab : Nat → Nat} (k : qw_S T Z wt lab a1 a2)
    (H : ∀ b p' a2' a3', b ≤ 3 → (b = 0 ∨ (Z < 4 ∧ 0 < qa_tot (qw_W wt) (qa_ul lab Z b) T (Z + 1))) → qw_S T Z wt lab a1 a2' → post (nI b) (nI T, nI Z, p', a1, a2', a3', a4, a5)) : wpX_bestNext post (nI T, nI Z, p, a1, a2, a3, a4, a5) := by
  have ⟨hT, hZ, hw, hl, h1, h2⟩ := k
  refine pk_loop (σ := Nat × Nat × Int32 × (Nat → Int32) × (Nat → Int32)) (fun n i s => wX_bestNext_6 post n (nI s.1) (nI s.2.1) (nI i) (nI T) (nI Z) s.2.2.1 a1 s.2.2.2.1 s.2.2.2.2 a4 a5) (fun i s => 1 ≤ i ∧ s.1 ≤ 3 ∧ s.2.1 ≤ 1073741824 ∧ (s.1 = 0 ∨ (Z < 4 ∧ 0 < qa_tot (qw_W wt) (qa_ul lab Z s.1) T (Z + 1))) ∧ qw_S T Z wt lab a1 s.2.2.2.1) 4 1 (0, 0, p, a2, a3) (by omega) ⟨by omega, Nat.zero_le _, Nat.zero_le _, Or.inl rfl, k⟩ ?_ ?_
  · intro n s hI
    exact pk_le 4 4 (fun _ => H s.1 _ _ _ hI.2.1 hI.2.2.2.1 hI.2.2.2.2) (fun z => absurd z (by omega))
  · intro n i s hi hI hn
    obtain ⟨i1, i2, i3, i4, i5⟩ := hI
    refine pk_le 4 i (fun z => absurd z (by omega)) (fun _ => pk_le 4 Z (fun z => H s.1 _ _ _ i2 i4 i5) (fun z => qw_write i5 ⟨i1, by omega⟩ (fun q => absurd q (by omega)) (fun _ b2 k2 => qw_total k2 (fun b3 => qw_rub k2 (fun q => absurd q (by omega)) (fun z' hz' k3 => ?_)))))
    have ez : z' = Z := by omega
    rw [ez] at k3 ⊢
    have k4 : qw_S T Z wt lab a1 b2 := qw_S_lab k3 hl (fun j hj => if_neg (by omega))
    have tR := qa_totR (qw_W8 hw) (qa_ul_lab (Z := Z) (m := i) hl ⟨i1, by omega⟩) hT (Z + 1)
    refine pk_le (qa_tot (qw_W wt) (qa_ul lab Z i) T (Z + 1)) s.2.1 (fun c => nm_r (nI_1 i) ?_) (fun c => nm_r (nI_1 i) ?_)
    · exact hn (s.1, s.2.1, 0, b2, b3) ⟨by omega, i2, i3, i4, k4⟩
    · exact hn (i, qa_tot (qw_W wt) (qa_ul lab Z i) T (Z + 1), 0, b2, b3) ⟨by omega, by show i ≤ 3; omega, tR, Or.inr ⟨z, by show 0 < qa_tot (qw_W wt) (qa_ul lab Z i) T (Z + 1); omega⟩, k4⟩

/-! frame -/
theorem qw_10 : ¬ (10 : Int32) = 0 := by decide
theorem qw_pw {v i : Nat} (hv : v ≤ 8888) : v / 10 ^ i ≤ 8888 := Nat.le_trans (Nat.div_le_self _ _) hv
theorem qw_pw1 (v i : Nat) : v / 10 ^ (i + 1) = v / 10 ^ i / 10 := by
  rw [Nat.pow_succ, Nat.div_div_eq_div_mul]
def qa_fr (wt : Nat → Nat) (T v : Nat) : Nat → Nat := fun j => if 4 * T ≤ j ∧ j < 4 * T + 4 then v / 10 ^ (j - 4 * T) % 10 else wt j
theorem qw_f60 {post : Int32 → St1 → Prop} {f1 f2 : Int32} {a1 a2 a3 a4 a5 : Nat → Int32} {wt : Nat → Nat} {T v : Nat} (hT : T < 6) (hv : v ≤ 8888) (h1 : ∀ j, j < 24 → a1 j = nI (wt j))
    (H : ∀ a1', (∀ j, j < 24 → a1' j = nI (qa_fr wt T v j)) → post (nI T) (nI (T + 1), f1, f2, a1', a2, a3, a4, a5)) : ∃ n, wX_frame_60 post (nI T) f1 f2 n (nI v) 0 a1 a2 a3 a4 a5 := by
  refine Exists.elim (pk_loop (σ := Nat → Int32) (fun n i s => wX_frame_60 post (nI T) f1 f2 n (nI (v / 10 ^ i)) (nI i) s a2 a3 a4 a5) (fun i s => ∀ j, j < 24 → s j = nI (if 4 * T ≤ j ∧ j < 4 * T + i then v / 10 ^ (j - 4 * T) % 10 else wt j)) 4 0 a1 (by omega) (fun j hj => ?_) ?_ ?_) (fun n hn => ⟨n, ?_⟩)
  · rw [if_neg (by omega)]
    exact h1 j hj
  · intro n s hI
    refine pk_le 4 4 (fun _ => nm_r (nI_1 T) ?_) (fun z => absurd z (by omega))
    rw [nI_pred]
    exact H s hI
  · intro n i s hi hI hw
    have hd := qw_pw (i := i) hv
    have e1 : nI (v / 10 ^ i) - nI (v / 10 ^ i) / 10 * 10 = nI (v / 10 ^ i % 10) := pk_rem (d := 10) (by omega) (by omega) (by omega)
    have e2 : nI (v / 10 ^ i) / 10 = nI (v / 10 ^ (i + 1)) := by
      rw [qw_pw1]
      exact pk_div (d := 10) (by omega) (by omega) (by omega)
    refine pk_le 4 i (fun z => absurd z (by omega)) (fun _ => ⟨qw_10, pk_in (4 * T + i) 24 (by omega) (qw_ix4 T i), nm_r (e' := upd s (4 * T + i) (nI (v / 10 ^ i % 10))) ?_ ⟨qw_10, nm_r e2 (nm_r (nI_1 i) (hw _ (fun j hj => ?_)))⟩⟩)
    · rw [pk_cl (4 * T + i) (qw_ix4 T i), e1, qw_b8 _ (by omega)]
    · by_cases e : j = 4 * T + i
      · rw [e, pk_us, if_pos (by omega), show 4 * T + i - 4 * T = i by omega]
      · rw [pk_un e, hI j hj]
        by_cases q : 4 * T ≤ j ∧ j < 4 * T + i
        · rw [if_pos q, if_pos (by omega)]
        · rw [if_neg q, if_neg (by omega)]
  · have hn' : wX_frame_60 post (nI T) f1 f2 n (nI (v / 10 ^ 0)) (nI 0) a1 a2 a3 a4 a5 := hn
    rw [show v / 10 ^ 0 = v by rw [Nat.pow_zero, Nat.div_one]] at hn'
    exact hn'
theorem qw_frame {post : Int32 → St1 → Prop} {p : Int32} {a1 a2 a3 a4 a5 : Nat → Int32} {T Z : Nat} {wt lab : Nat → Nat} {v : Nat} (k : qw_S T Z wt lab a1 a2) (hv : v ≤ 8888) (hd : ∀ i, i < 4 → v / 10 ^ i % 10 ≤ 8)
    (H0 : T = 6 → post (-2) (nI T, nI Z, p, a1, a2, a3, a4, a5)) (H1 : T < 6 → ∀ a1', qw_S (T + 1) Z (qa_fr wt T v) lab a1' a2 → post (nI T) (nI (T + 1), nI Z, p, a1', a2, a3, a4, a5)) : wpX_frame post (nI T, nI Z, p, a1, a2, a3, a4, a5) (nI v) := by
  have ⟨hT, hZ, hw, hl, h1, h2⟩ := k
  unfold wpX_frame
  refine pk_lt v 0 (fun z => absurd z (by omega)) (fun _ => pk_le v 8888 (fun _ => ?_) (fun z => absurd z (by omega)))
  refine Exists.elim (pk_loop (σ := Unit) (fun n i _ => wX_frame_17 post (nI v) (nI T) (nI Z) p a1 a2 a3 a4 a5 n (nI (v / 10 ^ i)) (nI i)) (fun _ _ => True) 4 0 () (by omega) trivial ?_ ?_) (fun n hn => ⟨n, ?_⟩)
  · intro n _ _
    refine pk_le 4 4 (fun _ => pk_lt T 6 (fun c => qw_f60 c hv h1 (fun a1' h1' => H1 c a1' ⟨by omega, hZ, fun j => ?_, hl, h1', h2⟩)) (fun c => H0 (by omega))) (fun z => absurd z (by omega))
    unfold qa_fr
    by_cases q : 4 * T ≤ j ∧ j < 4 * T + 4
    · rw [if_pos q]
      exact hd _ (by omega)
    · rw [if_neg q]
      exact hw j
  · intro n i _ hi _ hn
    have hq := qw_pw (i := i) hv
    have hd' := hd i hi
    have e1 : nI (v / 10 ^ i) - nI (v / 10 ^ i) / 10 * 10 = nI (v / 10 ^ i % 10) := pk_rem (d := 10) (by omega) (by omega) (by omega)
    have e2 : nI (v / 10 ^ i) / 10 = nI (v / 10 ^ (i + 1)) := by
      rw [qw_pw1]
      exact pk_div (d := 10) (by omega) (by omega) (by omega)
    exact pk_le 4 i (fun z => absurd z (by omega)) (fun _ => ⟨qw_10, pk_eq (v / 10 ^ i % 10) 9 (fun z => absurd z (by omega)) (fun _ => ⟨qw_10, nm_r e2 (nm_r (nI_1 i) (hn () trivial))⟩) e1⟩)
  · have hn' : wX_frame_17 post (nI v) (nI T) (nI Z) p a1 a2 a3 a4 a5 n (nI (v / 10 ^ 0)) (nI 0) := hn
    rw [show v / 10 ^ 0 = v by rw [Nat.pow_zero, Nat.div_one]] at hn'
    exact hn'
end
section
/-! the law's own record of the weights: nibbles of two longs -/
def qb_g (x : Int64) (i : Nat) : Bool := x.toBitVec.getLsbD i
theorem qb_c : ∀ k, k < 64 → ((nI k).toInt64 &&& 63) = lN k := by decide +kernel
theorem qb_sm : ∀ k, k < 64 → ((lN k).toBitVec.smod 64).toNat = k := by decide +kernel
theorem qb_m1 : ∀ i, i < 64 → qb_g (-1) i = true := by decide +kernel
theorem qb_15 : ∀ i, i < 64 → qb_g 15 i = decide (i < 4) := by decide +kernel
theorem qb_65535 : ∀ i, i < 64 → qb_g 65535 i = decide (i < 16) := by decide +kernel
theorem qb_shl (x : Int64) {k i : Nat} (hk : k < 64) (hi : i < 64) : qb_g (x <<< ((nI k).toInt64 &&& 63)) i = (decide (k ≤ i) && qb_g x (i - k)) := by
  unfold qb_g
  rw [qb_c k hk, Int64.toBitVec_shiftLeft, BitVec.getLsbD_shiftLeft', qb_sm k hk]
  by_cases h : k ≤ i
  · rw [decide_eq_true hi, decide_eq_false (show ¬ i < k by omega), decide_eq_true h]
    rfl
  · rw [decide_eq_true hi, decide_eq_true (show i < k by omega), decide_eq_false h]
    rfl
theorem qb_shr (x : Int64) {k i : Nat} (hk : k < 64) (h : k + i < 64) : qb_g (x >>> ((nI k).toInt64 &&& 63)) i = qb_g x (k + i) := by
  unfold qb_g
  rw [qb_c k hk, Int64.toBitVec_shiftRight, BitVec.getLsbD_sshiftRight', qb_sm k hk, if_pos h, decide_eq_false (show ¬ 64 ≤ i by omega)]
  rfl
theorem qb_or (x y : Int64) (i : Nat) : qb_g (x ||| y) i = (qb_g x i || qb_g y i) := by
  unfold qb_g
  rw [Int64.toBitVec_or, BitVec.getLsbD_or]
theorem qb_and (x y : Int64) (i : Nat) : qb_g (x &&& y) i = (qb_g x i && qb_g y i) := by
  unfold qb_g
  rw [Int64.toBitVec_and, BitVec.getLsbD_and]
theorem qb_xor (x y : Int64) (i : Nat) : qb_g (x ^^^ y) i = (qb_g x i ^^ qb_g y i) := by
  unfold qb_g
  rw [Int64.toBitVec_xor, BitVec.getLsbD_xor]
theorem qb_lN (n : Nat) {i : Nat} (hi : i < 64) : qb_g (lN n) i = n.testBit i := by
  unfold qb_g
  show (BitVec.ofNat 64 n).getLsbD i = n.testBit i
  rw [BitVec.getLsbD_ofNat, decide_eq_true hi, Bool.true_and]
def qb_set (x mk c : Int64) (k : Nat) : Int64 := (x &&& ((mk <<< ((nI k).toInt64 &&& 63)) ^^^ (-1))) ||| (c <<< ((nI k).toInt64 &&& 63))
theorem qb_set_lo {x mk c : Int64} {k i : Nat} (hk : k < 64) (hi : i < k) : qb_g (qb_set x mk c k) i = qb_g x i := by
  unfold qb_set
  rw [qb_or, qb_and, qb_xor, qb_shl mk hk (by omega), qb_shl c hk (by omega), qb_m1 i (by omega), decide_eq_false (show ¬ k ≤ i by omega)]
  cases qb_g x i <;> rfl
theorem qb_set_in {x mk c : Int64} {w k i : Nat} (hk : k < 64) (hm : ∀ i, i < 64 → qb_g mk i = decide (i < w)) (h : k ≤ i) (hw : i - k < w) (hi : i < 64) : qb_g (qb_set x mk c k) i = qb_g c (i - k) := by
  unfold qb_set
  rw [qb_or, qb_and, qb_xor, qb_shl mk hk (by omega), qb_shl c hk (by omega), qb_m1 i (by omega), decide_eq_true h, hm (i - k) (by omega), decide_eq_true hw]
  cases qb_g x i <;> cases qb_g c (i - k) <;> rfl
theorem qb_set_hi {x mk c : Int64} {w k i : Nat} (hk : k < 64) (hm : ∀ i, i < 64 → qb_g mk i = decide (i < w)) (h : k ≤ i) (hw : w ≤ i - k) (hi : i < 64) (hc : qb_g c (i - k) = false) : qb_g (qb_set x mk c k) i = qb_g x i := by
  unfold qb_set
  rw [qb_or, qb_and, qb_xor, qb_shl mk hk (by omega), qb_shl c hk (by omega), qb_m1 i (by omega), decide_eq_true h, hm (i - k) (by omega), decide_eq_false (show ¬ i - k < w by omega), hc]
  cases qb_g x i <;> rfl
theorem qb_small {c n i : Nat} (hc : c < 2 ^ n) (h : n ≤ i) : c.testBit i = false :=
  Nat.testBit_lt_two_pow (Nat.lt_of_lt_of_le hc (Nat.pow_le_pow_right (by decide) h))
/-- the first n nibbles of x (at most 12) hold f -/
def qb_R (x : Int64) (n : Nat) (f : Nat → Nat) : Prop := ∀ j b, j < n → j < 12 → b < 4 → qb_g x (4 * j + b) = (f j).testBit b
theorem qb_R_congr {x : Int64} {n m : Nat} {f g : Nat → Nat} (h : qb_R x n f) (hm : ∀ j, j < m → j < 12 → j < n ∧ g j = f j) : qb_R x m g := by
  intro j b hj h12 hb
  obtain ⟨h1, h2⟩ := hm j hj h12
  rw [h2]
  exact h j b h1 h12 hb
theorem qb_read {x : Int64} {n : Nat} {f : Nat → Nat} {t m : Nat} (h : qb_R x n f) (ht : t < 3) (hm : m < 4) (hn : 4 * t + m < n) (hf : f (4 * t + m) ≤ 8) : (((x >>> ((16 * nI t).toInt64 &&& 63)) >>> ((4 * nI m).toInt64 &&& 63)) &&& 15).toInt32 = nI (f (4 * t + m)) := by
  have e1 : 16 * nI t = nI (16 * t) := pk_mul 16 t
  have e2 : 4 * nI m = nI (4 * m) := pk_mul 4 m
  rw [e1, e2]
  have e3 : ((x >>> ((nI (16 * t)).toInt64 &&& 63)) >>> ((nI (4 * m)).toInt64 &&& 63)) &&& 15 = lN (f (4 * t + m)) := by
    apply Int64.toBitVec_inj.mp
    apply BitVec.eq_of_getLsbD_eq
    intro i hi
    show qb_g (((x >>> ((nI (16 * t)).toInt64 &&& 63)) >>> ((nI (4 * m)).toInt64 &&& 63)) &&& 15) i = qb_g (lN (f (4 * t + m))) i
    rw [qb_and, qb_15 i hi, qb_lN _ hi]
    by_cases q : i < 4
    · rw [qb_shr _ (by omega) (by omega), qb_shr _ (by omega) (by omega), decide_eq_true q, Bool.and_true, show 16 * t + (4 * m + i) = 4 * (4 * t + m) + i by omega]
      exact h (4 * t + m) i hn (by omega) q
    · rw [decide_eq_false q, Bool.and_false]
      exact (qb_small (n := 4) (by omega) (by omega)).symm
  rw [e3, lN_i]
theorem qb_weigh {x : Int64} {n : Nat} {f : Nat → Nat} {w o : Nat} (h : qb_R x n f) (ho : o < 12) (hw : w ≤ 8) : qb_R (qb_set x 15 (lN w) (4 * o)) n (fun j => if j = o then w else f j) := by
  intro j b hj h12 hb
  show qb_g (qb_set x 15 (lN w) (4 * o)) (4 * j + b) = (if j = o then w else f j).testBit b
  by_cases e : j = o
  · rw [if_pos e, qb_set_in (w := 4) (by omega) qb_15 (by omega) (by omega) (by omega), qb_lN _ (by omega), e, show 4 * o + b - 4 * o = b by omega]
  · rw [if_neg e, ← h j b hj h12 hb]
    by_cases c : j < o
    · exact qb_set_lo (by omega) (by omega)
    · exact qb_set_hi (w := 4) (by omega) qb_15 (by omega) (by omega) (by omega) (by rw [qb_lN _ (by omega)]; exact qb_small (n := 4) (by omega) (by omega))
theorem qb_frame {x : Int64} {f d : Nat → Nat} {q c : Nat} (h : qb_R x (4 * q) f) (hq : q < 3) (hc : c < 65536) (hd : ∀ m b, m < 4 → b < 4 → c.testBit (4 * m + b) = (d m).testBit b) : qb_R (qb_set x 65535 (lN c) (16 * q)) (4 * (q + 1)) (fun j => if 4 * q ≤ j then d (j - 4 * q) else f j) := by
  intro j b hj h12 hb
  show qb_g (qb_set x 65535 (lN c) (16 * q)) (4 * j + b) = (if 4 * q ≤ j then d (j - 4 * q) else f j).testBit b
  by_cases e : 4 * q ≤ j
  · rw [if_pos e, qb_set_in (w := 16) (by omega) qb_65535 (by omega) (by omega) (by omega), qb_lN _ (by omega), ← hd (j - 4 * q) b (by omega) hb, show 4 * j + b - 16 * q = 4 * (j - 4 * q) + b by omega]
  · rw [if_neg e, ← h j b (by omega) h12 hb]
    exact qb_set_lo (by omega) (by omega)
/-- the cells of a frame: base 16 and base 10 have the same digits -/
theorem qb_dig {d0 d1 d2 d3 : Nat} (h0 : d0 ≤ 8) (h1 : d1 ≤ 8) (h2 : d2 ≤ 8) (h3 : d3 ≤ 8) : ∀ m b, m < 4 → b < 4 → (d0 + 16 * d1 + 256 * d2 + 4096 * d3).testBit (4 * m + b) = ((d0 + 10 * d1 + 100 * d2 + 1000 * d3) / 10 ^ m % 10).testBit b := by
  intro m b hm hb
  have e : (d0 + 16 * d1 + 256 * d2 + 4096 * d3) / 2 ^ (4 * m) % 2 ^ 4 = (d0 + 10 * d1 + 100 * d2 + 1000 * d3) / 10 ^ m % 10 := by
    have hx : m = 0 ∨ m = 1 ∨ m = 2 ∨ m = 3 := by omega
    rcases hx with rfl | rfl | rfl | rfl
    · show (d0 + 16 * d1 + 256 * d2 + 4096 * d3) / 1 % 16 = (d0 + 10 * d1 + 100 * d2 + 1000 * d3) / 1 % 10
      omega
    · show (d0 + 16 * d1 + 256 * d2 + 4096 * d3) / 16 % 16 = (d0 + 10 * d1 + 100 * d2 + 1000 * d3) / 10 % 10
      omega
    · show (d0 + 16 * d1 + 256 * d2 + 4096 * d3) / 256 % 16 = (d0 + 10 * d1 + 100 * d2 + 1000 * d3) / 100 % 10
      rw [show (d0 + 16 * d1 + 256 * d2 + 4096 * d3) / 256 = d2 + 16 * d3 by omega, show (d0 + 10 * d1 + 100 * d2 + 1000 * d3) / 100 = d2 + 10 * d3 by omega]
      omega
    · show (d0 + 16 * d1 + 256 * d2 + 4096 * d3) / 4096 % 16 = (d0 + 10 * d1 + 100 * d2 + 1000 * d3) / 1000 % 10
      rw [show (d0 + 16 * d1 + 256 * d2 + 4096 * d3) / 4096 = d3 by omega, show (d0 + 10 * d1 + 100 * d2 + 1000 * d3) / 1000 = d3 by omega]
      omega
  rw [← e, Nat.testBit_mod_two_pow, decide_eq_true hb, Bool.true_and, Nat.testBit_div_two_pow, Nat.add_comm b]
theorem qb_dig8 {d0 d1 d2 d3 : Nat} (h0 : d0 ≤ 8) (h1 : d1 ≤ 8) (h2 : d2 ≤ 8) (h3 : d3 ≤ 8) : ∀ m, m < 4 → (d0 + 10 * d1 + 100 * d2 + 1000 * d3) / 10 ^ m % 10 ≤ 8 := by
  intro m hm
  have hx : m = 0 ∨ m = 1 ∨ m = 2 ∨ m = 3 := by omega
  rcases hx with rfl | rfl | rfl | rfl
  · show (d0 + 10 * d1 + 100 * d2 + 1000 * d3) / 1 % 10 ≤ 8
    omega
  · show (d0 + 10 * d1 + 100 * d2 + 1000 * d3) / 10 % 10 ≤ 8
    omega
  · show (d0 + 10 * d1 + 100 * d2 + 1000 * d3) / 100 % 10 ≤ 8
    omega
  · show (d0 + 10 * d1 + 100 * d2 + 1000 * d3) / 1000 % 10 ≤ 8
    omega
/-- both longs -/
def qb_B (lo hi : Int64) (T : Nat) (wt : Nat → Nat) : Prop := qb_R lo (4 * T) wt ∧ qb_R hi (4 * T - 12) (fun j => wt (12 + j))
theorem qb_B_drop {lo hi : Int64} {T T' : Nat} {wt : Nat → Nat} (h : qb_B lo hi T wt) (hT : T' ≤ T) : qb_B lo hi T' wt :=
  ⟨qb_R_congr h.1 (fun j hj _ => ⟨by omega, rfl⟩), qb_R_congr h.2 (fun j hj _ => ⟨by omega, rfl⟩)⟩
theorem qb_B_w0 {lo hi : Int64} {T t m w : Nat} {wt : Nat → Nat} (h : qb_B lo hi T wt) (ht : t < 3) (hm : m < 4) (hw : w ≤ 8) : qb_B (qb_set lo 15 (lN w) (4 * (4 * t + m))) hi T (fun j => if j = 4 * t + m then w else wt j) :=
  ⟨qb_weigh h.1 (by omega) hw, qb_R_congr h.2 (fun j hj _ => ⟨by omega, by show (if 12 + j = 4 * t + m then w else wt (12 + j)) = wt (12 + j); rw [if_neg (by omega)]⟩)⟩
theorem qb_B_w1 {lo hi : Int64} {T t m w : Nat} {wt : Nat → Nat} (h : qb_B lo hi T wt) (ht : 3 ≤ t) (ht6 : t < 6) (hm : m < 4) (hw : w ≤ 8) : qb_B lo (qb_set hi 15 (lN w) (4 * (4 * (t - 3) + m))) T (fun j => if j = 4 * t + m then w else wt j) := by
  refine ⟨qb_R_congr h.1 (fun j hj h12 => ⟨by omega, by show (if j = 4 * t + m then w else wt j) = wt j; rw [if_neg (by omega)]⟩), qb_R_congr (qb_weigh h.2 (o := 4 * (t - 3) + m) (by omega) hw) (fun j hj _ => ⟨hj, ?_⟩)⟩
  show (if 12 + j = 4 * t + m then w else wt (12 + j)) = if j = 4 * (t - 3) + m then w else wt (12 + j)
  by_cases e : j = 4 * (t - 3) + m
  · rw [if_pos e, if_pos (by omega)]
  · rw [if_neg e, if_neg (by omega)]
theorem qb_B_f0 {lo hi : Int64} {T v c : Nat} {wt : Nat → Nat} (h : qb_B lo hi T wt) (hT : T < 3) (hc : c < 65536) (hd : ∀ m b, m < 4 → b < 4 → c.testBit (4 * m + b) = (v / 10 ^ m % 10).testBit b) : qb_B (qb_set lo 65535 (lN c) (16 * T)) hi (T + 1) (qa_fr wt T v) := by
  refine ⟨qb_R_congr (qb_frame h.1 hT hc hd) (fun j hj _ => ⟨hj, ?_⟩), fun j b hj => absurd hj (by omega)⟩
  show (if 4 * T ≤ j ∧ j < 4 * T + 4 then v / 10 ^ (j - 4 * T) % 10 else wt j) = if 4 * T ≤ j then v / 10 ^ (j - 4 * T) % 10 else wt j
  by_cases e : 4 * T ≤ j
  · rw [if_pos e, if_pos (by omega)]
  · rw [if_neg e, if_neg (by omega)]
theorem qb_B_f1 {lo hi : Int64} {T v c : Nat} {wt : Nat → Nat} (h : qb_B lo hi T wt) (hT : 3 ≤ T) (hT6 : T < 6) (hc : c < 65536) (hd : ∀ m b, m < 4 → b < 4 → c.testBit (4 * m + b) = (v / 10 ^ m % 10).testBit b) : qb_B lo (qb_set hi 65535 (lN c) (16 * (T - 3))) (T + 1) (qa_fr wt T v) := by
  have h2 := h.2
  rw [show 4 * T - 12 = 4 * (T - 3) by omega] at h2
  refine ⟨qb_R_congr h.1 (fun j hj _ => ⟨by omega, ?_⟩), qb_R_congr (qb_frame h2 (by omega) hc hd) (fun j hj _ => ⟨by omega, ?_⟩)⟩
  · show (if 4 * T ≤ j ∧ j < 4 * T + 4 then v / 10 ^ (j - 4 * T) % 10 else wt j) = wt j
    rw [if_neg (by omega)]
  · show (if 4 * T ≤ 12 + j ∧ 12 + j < 4 * T + 4 then v / 10 ^ (12 + j - 4 * T) % 10 else wt (12 + j)) = if 4 * (T - 3) ≤ j then v / 10 ^ (j - 4 * (T - 3)) % 10 else wt (12 + j)
    by_cases e : 4 * (T - 3) ≤ j
    · rw [if_pos e, if_pos (by omega), show 12 + j - 4 * T = j - 4 * (T - 3) by omega]
    · rw [if_neg e, if_neg (by omega)]
end
section
theorem qw_ne_m1 {n : Nat} (h : n < 2 ^ 31) : ¬ nI n = -1 := by
  intro z
  have e : (nI n).toInt = (-1 : Int32).toInt := by rw [z]
  rw [nI_toInt h] at e
  have e2 : ((-1 : Int32)).toInt = -1 := by decide
  omega
theorem qa_thr_le {W : Nat → Nat → Nat} {lab : Nat → Nat} (hl : qa_lab lab) {T Z t m : Nat} (ht : t < T) (hm : m < 4) : qa_thr W lab T Z t m ≤ qa_tot W lab T Z := by
  have h := qa_thr_sum (W := W) (Z := Z) hl ht
  have hx : m = 0 ∨ m = 1 ∨ m = 2 ∨ m = 3 := by omega
  rcases hx with rfl | rfl | rfl | rfl <;> omega
/-! summed -/
theorem qw_sm24 {post : Int32 → St1 → Prop} {J12 : Int32 → Int32 → Int32 → Int32 → (Nat → Int32) → (Nat → Int32) → (Nat → Int32) → (Nat → Int32) → (Nat → Int32) → Prop} {p : Int32} {a1 a2 a3 a4 a5 : Nat → Int32} {T Z : Nat} {wt lab : Nat → Nat} {t : Nat} (k : qw_S T Z wt lab a1 a2) (ht : t < 6)
    (H : ∀ p a3 a4 a5, J12 (nI (t + 1)) (nI T) (nI Z) p a1 a2 a3 a4 a5) : ∃ n, wL_summed_24 post J12 (nI (qa_tot (qw_W wt) lab T Z)) (nI T) (nI t) n 0 0 (nI T) (nI Z) p a1 a2 a3 a4 a5 := by
  have ⟨hT, hZ, hw, hl, h1, h2⟩ := k
  have tR := qa_totR (qw_W8 hw) hl hT Z
  refine pk_loop (σ := Int32 × Int32 × (Nat → Int32) × (Nat → Int32) × (Nat → Int32)) (fun n i s => wL_summed_24 post J12 (nI (qa_tot (qw_W wt) lab T Z)) (nI T) (nI t) n s.1 (nI i) (nI T) (nI Z) s.2.1 a1 a2 s.2.2.1 s.2.2.2.1 s.2.2.2.2) (fun i s => t < T → s.1 = nI (qa_sg (qa_thr (qw_W wt) lab T Z t) i)) 4 0 (0, p, a3, a4, a5) (by omega) (fun _ => rfl) ?_ ?_
  · intro n s hI
    refine pk_le 4 4 (fun _ => pk_le T t (fun _ => nm_r (nI_1 t) (H _ _ _ _)) (fun c => br_t ?_ (nm_r (nI_1 t) (H _ _ _ _)))) (fun z => absurd z (by omega))
    have e : s.1 = nI (0 + qa_thr (qw_W wt) lab T Z t 0 + qa_thr (qw_W wt) lab T Z t 1 + qa_thr (qw_W wt) lab T Z t 2 + qa_thr (qw_W wt) lab T Z t 3) := hI c
    rw [e, Nat.zero_add, qa_thr_sum hl c]
  · intro n i s hi hI hn
    refine pk_le 4 i (fun z => absurd z (by omega)) (fun _ => qw_through k (by omega) hi (fun c => ?_) (fun c b3 b4 b5 => ?_))
    · refine br_t rfl (pk_lt t T (fun z => absurd z (by omega)) (fun _ => br_t rfl (nm_e (nm_r (nI_1 i) ?_))))
      exact hn (s.1 + (-1), s.2.1, s.2.2.1, s.2.2.2.1, s.2.2.2.2) (fun z => absurd z (by omega))
    · have q := qa_thr_le (W := qw_W wt) (Z := Z) hl c hi
      have hI' := hI c
      refine br_f (qw_ne_m1 (by omega)) (pk_lt t T (fun _ => br_t rfl (nm_r (e' := nI (qa_sg (qa_thr (qw_W wt) lab T Z t) (i + 1))) ?_ (nm_r (nI_1 i) ?_))) (fun z => absurd z (by omega)))
      · rw [hI', nI_add]
        rfl
      · exact hn (nI (qa_sg (qa_thr (qw_W wt) lab T Z t) (i + 1)), 0, b3, b4, b5) (fun _ => rfl)
theorem qw_summed {post : Int32 → St1 → Prop} {p : Int32} {a1 a2 a3 a4 a5 : Nat → Int32} {T Z : Nat} {wt lab : Nat → Nat} (k : qw_S T Z wt lab a1 a2)
    (H : ∀ p a3 a4 a5, post 1 (nI T, nI Z, p, a1, a2, a3, a4, a5)) : wpL_summed post (nI T, nI Z, p, a1, a2, a3, a4, a5) := by
  have ⟨hT, hZ, hw, hl, h1, h2⟩ := k
  have tR := qa_totR (qw_W8 hw) hl hT Z
  have aR := qa_allR (qw_W8 hw) hT
  have tA := qa_tot_all (W := qw_W wt) hl T Z
  unfold wpL_summed
  refine qw_total k (fun b3 => ?_)
  refine pk_loop (σ := Int32 × (Nat → Int32) × (Nat → Int32) × (Nat → Int32)) (fun n i s => wL_summed_12 post (nI (qa_tot (qw_W wt) lab T Z)) (nI T) n (nI i) (nI T) (nI Z) s.1 a1 a2 s.2.1 s.2.2.1 s.2.2.2) (fun _ _ => True) 6 0 (0, b3, a4, a5) (by omega) trivial ?_ ?_
  · intro n s _
    refine pk_le 6 6 (fun _ => qw_pref k (fun z0 => qw_every hT h1 ?_) (fun z0 c3 => qw_every hT h1 ?_)) (fun z => absurd z (by omega))
    · refine pk_lt (qa_tot (qw_W wt) lab T Z) 0 (fun z => absurd z (by omega)) (fun _ => pk_lt (qa_PB (qa_F (qw_W wt)) 0 T) (qa_tot (qw_W wt) lab T Z) (fun z => absurd z (by omega)) (fun _ => pk_lt (qa_PB (qa_F (qw_W wt)) 0 T) (qa_PB (qa_F (qw_W wt)) 0 T) (fun z => absurd z (by omega)) (fun _ => ?_)))
      exact pk_lt 0 Z (fun _ => H _ _ _ _) (fun _ => br_t rfl (H _ _ _ _))
    · have d1 := qa_D_tot (W := qw_W wt) hl (T := T) z0
      have d2 := qa_D_le (W := qw_W wt) hl (e := 2 * Z - 1) (by omega) T
      refine pk_lt (qa_tot (qw_W wt) lab T Z) 0 (fun z => absurd z (by omega)) (fun _ => pk_lt (qa_D (qw_W wt) lab (2 * Z - 1) T) (qa_tot (qw_W wt) lab T Z) (fun z => absurd z (by omega)) (fun _ => pk_lt (qa_PB (qa_F (qw_W wt)) 0 T) (qa_D (qw_W wt) lab (2 * Z - 1) T) (fun z => absurd z (by omega)) (fun _ => ?_)))
      exact pk_lt 0 Z (fun _ => H _ _ _ _) (fun z => absurd z (by omega))
  · intro n i s hi _ hn
    exact pk_le 6 i (fun z => absurd z (by omega)) (fun _ => qw_sm24 k hi (fun p' c3 c4 c5 => hn (p', c3, c4, c5) trivial))

/-! led -/
theorem qw_led133 {post : Int32 → St1 → Prop} {p : Int32} {a1 a2 a3 a4 a5 : Nat → Int32} {T Z : Nat} {wt lab : Nat → Nat} {x7 : Int32} (k : qw_S T Z wt lab a1 a2) (hx : 0 ≤ qa_goal (qw_W wt) lab T Z → x7 = nI (qa_goal (qw_W wt) lab T Z).toNat)
    (H : ∀ p a3 a4 a5, post 1 (nI T, nI Z, p, a1, a2, a3, a4, a5)) : wL_led_133 post (nI (qa_goal (qw_W wt) lab T Z).toNat) (nI T) x7 (nI T) (nI Z) p a1 a2 a3 a4 a5 := by
  have ⟨hT, hZ, hw, hl, h1, h2⟩ := k
  have tR := qa_totR (qw_W8 hw) hl hT Z
  have gR := qw_goalR (qw_W8 hw) lab hT Z
  have gl := qa_goal_le (qw_W wt) lab T Z
  have gp := qa_goal_pos (qw_W wt) lab T Z
  generalize qa_goal (qw_W wt) lab T Z = g at hx gR gl gp
  unfold wL_led_133
  refine pk_lt g.toNat 0 (fun z => absurd z (by omega)) (fun _ => qw_total k (fun b3 => pk_lt (qa_tot (qw_W wt) lab T Z) g.toNat (fun z => absurd z (by omega)) (fun _ => qw_total k (fun c3 => ?_))))
  refine pk_eq (qa_tot (qw_W wt) lab T Z) 0 (fun z => pk_eq g.toNat 0 (fun z' => br_t rfl (pk_le T 6 (fun _ => pk_eq g.toNat 0 (fun _ => H _ _ _ _) (fun q => absurd z' q)) (fun q => absurd q (by omega)))) (fun z' => absurd z' (by omega))) (fun z => pk_eq g.toNat 0 (fun z' => absurd z' (by omega)) (fun z' => br_t rfl (pk_le T 6 (fun _ => pk_eq g.toNat 0 (fun q => absurd q z') (fun _ => br_t (hx (by omega)) (H _ _ _ _))) (fun q => absurd q (by omega)))))
theorem qw_led51 {post : Int32 → St1 → Prop} {J18 : Int32 → Int32 → Int32 → Int32 → Int32 → (Nat → Int32) → (Nat → Int32) → (Nat → Int32) → (Nat → Int32) → (Nat → Int32) → Prop} {lo hi : Int64} {x5 x6 x7 p : Int32} {a1 a2 a3 a4 a5 : Nat → Int32} {T Z : Nat} {wt lab : Nat → Nat} {t m : Nat} (k : qw_S T Z wt lab a1 a2) (hB : qb_B lo hi T wt) (ht : t < T) (hm : m < 4) (hg : 0 ≤ qa_goal (qw_W wt) lab T Z)
    (H : ∀ p a3, J18 (x7 * nI (wt (4 * t + m))) (nI (t + 1)) (nI T) (nI Z) p a1 a2 a3 a4 a5) : wL_led_51 post J18 lo hi x5 x6 x7 (nI t) (nI m) 0 (nI T) (nI Z) p a1 a2 a3 a4 a5 := by
  have ⟨hT, hZ, hw, hl, h1, h2⟩ := k
  have oR := qa_totR (W := qa_one) (fun _ _ => by show 1 ≤ 8; omega) hl hT Z
  have hx := (qa_goal_ex (qw_W wt) lab T Z).mp hg
  unfold wL_led_51
  refine qw_paths k (fun b3 => pk_eq (qa_tot qa_one lab T Z) 0 (fun z => absurd z (by omega)) (fun _ => br_t rfl (pk_le m 3 (fun _ => pk_le 3 t (fun c => ?_) (fun c => ?_)) (fun z => absurd z (by omega)))))
  · have e3 : nI t - 3 = nI (t - 3) := pk_sub (a := t) (b := 3) c
    have e := qb_read hB.2 (t := t - 3) (m := m) (by omega) hm (by omega) (hw _)
    have e4 : 12 + (4 * (t - 3) + m) = 4 * t + m := by omega
    refine br_t (nI_pos' (by omega)) (nm_r ?_ (nm_r (nI_1 t) (H 1 b3)))
    rw [e3, e]
    show x7 * nI (wt (12 + (4 * (t - 3) + m))) = _
    rw [e4]
  · have e := qb_read hB.1 (t := t) (m := m) (by omega) hm (by omega) (hw _)
    refine br_t (nI_pos' (by omega)) (nm_r ?_ (nm_r (nI_1 t) (H 1 b3)))
    rw [e]
theorem qw_led51n {post : Int32 → St1 → Prop} {J18 : Int32 → Int32 → Int32 → Int32 → Int32 → (Nat → Int32) → (Nat → Int32) → (Nat → Int32) → (Nat → Int32) → (Nat → Int32) → Prop} {lo hi : Int64} {x5 x6 x7 p : Int32} {a1 a2 a3 a4 a5 : Nat → Int32} {T Z : Nat} {wt lab : Nat → Nat} {t : Nat} (k : qw_S T Z wt lab a1 a2) (ht : t < T) (hg : qa_goal (qw_W wt) lab T Z < 0)
    (H : ∀ p a3, J18 (x7 * 0) (nI (t + 1)) (nI T) (nI Z) p a1 a2 a3 a4 a5) : wL_led_51 post J18 lo hi x5 x6 x7 (nI t) (-1) 1 (nI T) (nI Z) p a1 a2 a3 a4 a5 := by
  have ⟨hT, hZ, hw, hl, h1, h2⟩ := k
  have oR := qa_totR (W := qa_one) (fun _ _ => by show 1 ≤ 8; omega) hl hT Z
  have hx : ¬ 0 < qa_tot qa_one lab T Z := fun z => absurd ((qa_goal_ex (qw_W wt) lab T Z).mpr z) (by omega)
  have n3 : (-1 : Int32) ≤ 3 := by decide
  have n0 : ¬ (0 : Int32) ≤ -1 := by decide
  unfold wL_led_51
  exact qw_paths k (fun b3 => pk_eq (qa_tot qa_one lab T Z) 0 (fun _ => br_t rfl (br_t n3 (pk_le 3 t (fun c => br_f n0 (nm_e (nm_r (nI_1 t) (H 1 b3)))) (fun c => br_f n0 (nm_e (nm_r (nI_1 t) (H 1 b3))))))) (fun z => absurd z (by omega)))
theorem qw_led {post : Int32 → St1 → Prop} {lo hi : Int64} {p : Int32} {a1 a2 a3 a4 a5 : Nat → Int32} {T Z : Nat} {wt lab : Nat → Nat} (k : qw_S T Z wt lab a1 a2) (hB : qb_B lo hi T wt)
    (H : ∀ p a3 a4 a5, post 1 (nI T, nI Z, p, a1, a2, a3, a4, a5)) : wpL_led post (nI T, nI Z, p, a1, a2, a3, a4, a5) lo hi := by
  have ⟨hT, hZ, hw, hl, h1, h2⟩ := k
  unfold wpL_led
  refine qw_best k (fun b4 b5 => ?_)
  refine pk_loop (σ := Int32 × Int32 × (Nat → Int32) × (Nat → Int32) × (Nat → Int32)) (fun n i s => wL_led_18 post lo hi (nI (qa_goal (qw_W wt) lab T Z).toNat) (nI T) n s.1 (nI i) (nI T) (nI Z) s.2.1 a1 a2 s.2.2.1 s.2.2.2.1 s.2.2.2.2) (fun i s => 0 ≤ qa_goal (qw_W wt) lab T Z → s.1 = nI (qa_pt (qw_W wt) lab T Z i).1) T 0 (1, 0, a3, b4, b5) (by omega) (fun _ => rfl) ?_ ?_
  · intro n s hI
    refine pk_le T T (fun _ => qw_led133 k (fun g => ?_) H) (fun z => absurd z (by omega))
    rw [hI g, ← qa_pt_end g]
    rfl
  · intro n i s hi hI hn
    refine pk_le T i (fun z => absurd z (by omega)) (fun _ => pk_le 6 i (fun z => absurd z (by omega)) (fun _ => qw_bestAt k hi (fun g c4 c5 => ?_) (fun g c4 c5 => ?_)))
    · exact br_t rfl (qw_led51n k hi g (fun p' d3 => hn (s.1 * 0, p', d3, c4, c5) (fun z => absurd z (by omega))))
    · have m3 := qa_mk_le hl (qa_pt (qw_W wt) lab T Z (i + 1)).2
      refine br_f (qw_ne_m1 (by omega)) (qw_led51 k hB hi (by omega) g (fun p' d3 => hn (s.1 * nI (wt (4 * i + qa_mk lab (qa_pt (qw_W wt) lab T Z (i + 1)).2)), p', d3, c4, c5) (fun _ => ?_)))
      show s.1 * nI (wt (4 * i + qa_mk lab (qa_pt (qw_W wt) lab T Z (i + 1)).2)) = nI (qa_pt (qw_W wt) lab T Z (i + 1)).1
      rw [hI g, pk_mul]
      rfl

/-! next -/
theorem qw_next {post : Int32 → St1 → Prop} {p : Int32} {a1 a2 a3 a4 a5 : Nat → Int32} {T Z : Nat} {wt lab : Nat → Nat} (k : qw_S T Z wt lab a1 a2)
    (H : ∀ p a2' a3 a4 a5, qw_S T Z wt lab a1 a2' → post 1 (nI T, nI Z, p, a1, a2', a3, a4, a5)) : wpL_next post (nI T, nI Z, p, a1, a2, a3, a4, a5) := by
  have ⟨hT, hZ, hw, hl, h1, h2⟩ := k
  unfold wpL_next
  refine qw_bestNext k (fun b p' b2 b3 hb hc k2 => ?_)
  refine pk_lt b 0 (fun z => absurd z (by omega)) (fun _ => pk_le b 3 (fun _ => pk_eq b 0 (fun _ => H _ _ _ _ _ k2) (fun b0 => ?_)) (fun z => absurd z (by omega)))
  have hc' : Z < 4 ∧ 0 < qa_tot (qw_W wt) (qa_ul lab Z b) T (Z + 1) := by
    rcases hc with q | q
    · exact absurd q b0
    · exact q
  have hbm : 1 ≤ b ∧ b ≤ 3 := by omega
  have tR := qa_totR (qw_W8 hw) (qa_ul_lab (Z := Z) hl hbm) hT (Z + 1)
  refine qw_write k2 hbm (fun q => absurd q (by omega)) (fun _ c2 k3 => br_t (nI_1 Z).symm (qw_total k3 (fun c3 => pk_le (qa_tot (qw_W wt) (qa_ul lab Z b) T (Z + 1)) 0 (fun q => absurd q (by omega)) (fun _ => qw_rub k3 (fun q => absurd q (by omega)) (fun z hz k4 => ?_)))))
  have ez : z = Z := by omega
  rw [ez] at k4 ⊢
  have k5 : qw_S T Z wt lab a1 c2 := qw_S_lab k4 hl (fun j hj => if_neg (by omega))
  have e : qa_ul lab Z b Z = b := if_pos rfl
  rw [e]
  exact br_t rfl (br_t rfl (H _ _ _ _ _ k5))
end
section
theorem qw_423 {post : Int32 → Prop} {L : Nat} {xs : Nat → Int32} {J16 : Int64 → Int64 → Int32 → Int32 → Int32 → Int32 → (Nat → Int32) → (Nat → Int32) → (Nat → Int32) → (Nat → Int32) → (Nat → Int32) → Prop} {x2 x4 lo hi : Int64} {kc ks : Nat} {p : Int32} {a1 a2 a3 a4 a5 : Nat → Int32} {T Z i : Nat} {wt lab : Nat → Nat} (e2 : x2 = lo) (e4 : x4 = hi) (k : qw_S T Z wt lab a1 a2) (hB : qb_B lo hi T wt)
    (H : ∀ p a2' a3 a4 a5, qw_S T Z wt lab a1 a2' → J16 lo hi (nI (i + 3)) (nI T) (nI Z) p a1 a2' a3 a4 a5) : wL_law_423 post L xs J16 x2 x4 (nI i) kc ks (nI T) (nI Z) p a1 a2 a3 a4 a5 := by
  subst e2 e4
  unfold wL_law_423
  exact qw_summed k (fun p a3 a4 a5 => br_f (by decide) (qw_led k hB (fun p a3 a4 a5 => br_f (by decide) (qw_next k (fun p a2' a3 a4 a5 k' => br_f (by decide) (nm_r (nI_add i 3) (H _ _ _ _ _ k')))))))
theorem qw_pick {post : Int32 → Prop} {L : Nat} {xs : Nat → Int32} {x : Int32} (q n : Nat) (hx : x = nI q) (hL : L ≤ 260) (hq : q < 1000) (hn : 0 < n) (hn2 : n < 10000) (H : ∀ r, r < n → post (nI r)) : wpL_pick post L xs () x (nI n) := by
  have hN : ¬ nI n = 0 := nI_ne0 hn (by omega)
  have go : ∀ y : Int32, post ((y &&& 2147483647) - (y &&& 2147483647) / nI n * nI n) := by
    intro y
    obtain ⟨j, hj, e⟩ := pk_andE y (m := 2147483647) 31 (by decide)
    rw [e, pk_rem hj hn (by omega)]
    exact H _ (Nat.mod_lt _ hn)
  rw [hx]
  unfold wpL_pick
  exact pk_le L q (fun c => ⟨hN, go 0⟩) (fun c => ⟨pk_in q L c, nm_e ⟨hN, go _⟩⟩)
theorem qw_div {a d : Nat} (x y : Int32) (hx : x = nI a) (hy : y = nI d) (ha : a < 2 ^ 31) (h0 : 0 < d) (hd : d < 2 ^ 31) : x / y = nI (a / d) := by
  rw [hx, hy, pk_div ha h0 hd]
theorem qw_rem {a d : Nat} (x y : Int32) (hx : x = nI a) (hy : y = nI d) (ha : a < 2 ^ 31) (h0 : 0 < d) (hd : d < 2 ^ 31) : x - x / y * y = nI (a % d) := by
  rw [hx, hy, pk_rem ha h0 hd]
theorem qb_setE {x mk c d : Int64} {y z : Int32} {k : Nat} (hy : y = nI k) (hz : z = nI k) (hc : c = d) : (x &&& ((mk <<< (y.toInt64 &&& 63)) ^^^ (-1))) ||| (c <<< (z.toInt64 &&& 63)) = qb_set x mk d k := by
  subst hy hz hc
  rfl
theorem qw_sh (t m : Nat) : 16 * nI t + 4 * nI m = nI (4 * (4 * t + m)) := by
  show nI 16 * nI t + nI 4 * nI m = nI (4 * (4 * t + m))
  rw [pk_mul, pk_mul, nI_add, show 16 * t + 4 * m = 4 * (4 * t + m) by omega]
theorem qw_sh3 {t : Nat} (m : Nat) (h : 3 ≤ t) : 16 * (nI t - 3) + 4 * nI m = nI (4 * (4 * (t - 3) + m)) := by
  have e : nI t - 3 = nI (t - 3) := pk_sub (a := t) (b := 3) h
  rw [e, qw_sh]
theorem qw_s16 (t : Nat) : 16 * nI t = nI (16 * t) := pk_mul 16 t
theorem qw_s163 {t : Nat} (h : 3 ≤ t) : 16 * (nI t - 3) = nI (16 * (t - 3)) := by
  have e : nI t - 3 = nI (t - 3) := pk_sub (a := t) (b := 3) h
  rw [e, qw_s16]
theorem qw_cells {d0 d1 d2 d3 : Nat} (h0 : d0 ≤ 8) (h1 : d1 ≤ 8) (h2 : d2 ≤ 8) (h3 : d3 ≤ 8) : ((nI d0).toInt64 + 16 * (nI d1).toInt64) + 256 * (nI d2).toInt64 + 4096 * (nI d3).toInt64 = lN (d0 + 16 * d1 + 256 * d2 + 4096 * d3) := by
  rw [nI_l (by omega), nI_l (by omega), nI_l (by omega), nI_l (by omega)]
  show lN d0 + lN 16 * lN d1 + lN 256 * lN d2 + lN 4096 * lN d3 = lN (d0 + 16 * d1 + 256 * d2 + 4096 * d3)
  rw [lN_mul, lN_mul, lN_mul, lN_add, lN_add, lN_add]
theorem qw_digits (d0 d1 d2 d3 : Nat) : (nI d0 + 10 * nI d1) + 100 * nI d2 + 1000 * nI d3 = nI (d0 + 10 * d1 + 100 * d2 + 1000 * d3) := by
  show nI d0 + nI 10 * nI d1 + nI 100 * nI d2 + nI 1000 * nI d3 = nI (d0 + 10 * d1 + 100 * d2 + 1000 * d3)
  rw [pk_mul, pk_mul, pk_mul, nI_add, nI_add, nI_add]
theorem qw_n9 : ¬ (9 : Int32) = 0 := by decide
theorem qw_n81 : ¬ (81 : Int32) = 0 := by decide
theorem qw_n6 : ¬ (6 : Int32) = 0 := by decide
theorem qw_n4 : ¬ (4 : Int32) = 0 := by decide
theorem qw_n3 : ¬ (3 : Int32) = 0 := by decide
theorem qw_turn {post : Int32 → Prop} {L : Nat} {xs : Nat → Int32} {lo hi : Int64} {kc ks n : Nat} {p : Int32} {a1 a2 a3 a4 a5 : Nat → Int32} {T Z i : Nat} {wt lab : Nat → Nat} (hL : L ≤ 260) (hi0 : i < L) (k : qw_S T Z wt lab a1 a2) (hB : qb_B lo hi T wt)
    (H : ∀ lo hi T Z wt lab p a1 a2 a3 a4 a5, qw_S T Z wt lab a1 a2 → qb_B lo hi T wt → wL_law_16 post L xs kc ks n lo hi (nI (i + 3)) (nI T) (nI Z) p a1 a2 a3 a4 a5) : wL_law_16 post L xs kc ks (n + 1) lo hi (nI i) (nI T) (nI Z) p a1 a2 a3 a4 a5 := by
  have ⟨hT, hZ, hw, hl, h1, h2⟩ := k
  refine pk_le L i (fun z => absurd z (by omega)) (fun _ => qw_pick i 16 rfl hL (by omega) (by omega) (by omega) (fun o ho => qw_pick (i + 1) 6561 (nI_1 i) hL (by omega) (by omega) (by omega) (fun a ha => qw_pick (i + 2) 9 (nI_add i 2) hL (by omega) (by omega) (by omega) (fun b hb => ?_))))
  refine ⟨qw_n9, nm_r (e' := nI (a % 9)) (qw_rem _ _ rfl rfl (by omega) (by omega) (by omega)) ⟨qw_n9, qw_n9, nm_r (e' := nI (a / 9 % 9)) (qw_rem _ _ (qw_div _ _ rfl rfl (by omega) (by omega) (by omega)) rfl (by omega) (by omega) (by omega)) ⟨qw_n81, qw_n9, nm_r (e' := nI (a / 81 % 9)) (qw_rem _ _ (qw_div (d := 81) _ _ rfl rfl (by omega) (by omega) (by omega)) rfl (by omega) (by omega) (by omega)) ⟨qw_n6, nm_r (e' := nI (a % 6)) (qw_rem _ _ rfl rfl (by omega) (by omega) (by omega)) ⟨qw_n6, qw_n4, nm_r (e' := nI (a / 6 % 4)) (qw_rem _ _ (qw_div (d := 6) _ _ rfl rfl (by omega) (by omega) (by omega)) rfl (by omega) (by omega) (by omega)) ?_⟩⟩⟩⟩⟩
  have b0 : a % 9 ≤ 8 := by omega
  have b1 : a / 9 % 9 ≤ 8 := by omega
  have b2 : a / 81 % 9 ≤ 8 := by omega
  have b3 : b ≤ 8 := by omega
  have bt : a % 6 < 6 := by omega
  have bm : a / 6 % 4 < 4 := by omega
  generalize a % 9 = d0 at b0
  generalize a / 9 % 9 = d1 at b1
  generalize a / 81 % 9 = d2 at b2
  generalize a % 6 = t at bt
  generalize a / 6 % 4 = m at bm
  refine pk_lt 5 o (fun _ => pk_eq o 6 (fun _ => ?_) (fun _ => pk_lt 9 o (fun _ => pk_lt 13 o (fun _ => ?_) (fun _ => ⟨qw_n3, ?_⟩)) (fun _ => ?_))) (fun _ => ?_)
  · exact qw_drop k (fun r T' hT' k' => qw_423 (L := L) (xs := xs) (kc := kc) (ks := ks) (p := p) rfl rfl k' (qb_B_drop hB hT') (fun p a2' a3 a4 a5 k2 => H _ _ _ _ _ _ _ _ _ _ _ _ k2 (qb_B_drop hB hT')))
  · exact qw_rub k (fun _ => qw_423 (L := L) (xs := xs) (kc := kc) (ks := ks) (p := p) rfl rfl k hB (fun p a2' a3 a4 a5 k2 => H _ _ _ _ _ _ _ _ _ _ _ _ k2 hB)) (fun z _ k' => qw_423 (L := L) (xs := xs) (kc := kc) (ks := ks) (p := p) rfl rfl k' hB (fun p a2' a3 a4 a5 k2 => H _ _ _ _ _ _ _ _ _ _ _ _ k2 hB))
  · have e : 1 + (nI b - nI b / 3 * 3) = nI (1 + b % 3) := by
      rw [qw_rem (a := b) (d := 3) (nI b) 3 rfl rfl (by omega) (by omega) (by omega)]
      exact nI_add 1 _
    rw [e]
    exact qw_write k (by omega) (fun _ => qw_423 (L := L) (xs := xs) (kc := kc) (ks := ks) (p := p) rfl rfl k hB (fun p a2' a3 a4 a5 k2 => H _ _ _ _ _ _ _ _ _ _ _ _ k2 hB)) (fun _ c2 k' => qw_423 (L := L) (xs := xs) (kc := kc) (ks := ks) (p := p) rfl rfl k' hB (fun p a2' a3 a4 a5 k2 => H _ _ _ _ _ _ _ _ _ _ _ _ k2 hB))
  · refine qw_weigh k bt bm b3 (fun _ => br_t rfl (br_t rfl (qw_423 (L := L) (xs := xs) (kc := kc) (ks := ks) (p := p) rfl rfl k hB (fun p a2' a3 a4 a5 k2 => H _ _ _ _ _ _ _ _ _ _ _ _ k2 hB)))) (fun _ c1 k' => br_f (by decide) (pk_le 3 t (fun c => br_f (by decide) (pk_lt t 3 (fun z => absurd z (by omega)) (fun _ => ?_))) (fun c => br_f (by decide) (pk_lt t 3 (fun _ => ?_) (fun z => absurd z (by omega))))))
    · have hB' := qb_B_w1 hB c bt bm b3
      exact qw_423 (L := L) (xs := xs) (kc := kc) (ks := ks) (p := p) rfl (qb_setE (qw_sh3 m c) (qw_sh3 m c) (nI_l (by omega))) k' hB' (fun p a2' a3 a4 a5 k2 => H _ _ _ _ _ _ _ _ _ _ _ _ k2 hB')
    · have hB' := qb_B_w0 hB (show t < 3 by omega) bm b3
      exact qw_423 (L := L) (xs := xs) (kc := kc) (ks := ks) (p := p) (qb_setE (qw_sh t m) (qw_sh t m) (nI_l (by omega))) rfl k' hB' (fun p a2' a3 a4 a5 k2 => H _ _ _ _ _ _ _ _ _ _ _ _ k2 hB')
  · rw [qw_digits d0 d1 d2 b]
    have m2 : (-2 : Int32) < 0 := by decide
    have m23 : (-2 : Int32) < 3 := by decide
    refine qw_frame k (by omega) (qb_dig8 b0 b1 b2 b3) (fun _ => nm_e (br_t m2 (br_t m23 (qw_423 (L := L) (xs := xs) (kc := kc) (ks := ks) (p := p) rfl rfl k hB (fun p a2' a3 a4 a5 k2 => H _ _ _ _ _ _ _ _ _ _ _ _ k2 hB))))) (fun c6 c1 k' => nm_r (qw_cells b0 b1 b2 b3) (br_f (nI_pos (by omega)) (pk_le 3 T (fun c => pk_lt T 3 (fun z => absurd z (by omega)) (fun _ => ?_)) (fun c => pk_lt T 3 (fun _ => ?_) (fun z => absurd z (by omega))))))
    · have hB' := qb_B_f1 hB c c6 (by omega) (qb_dig b0 b1 b2 b3)
      exact qw_423 (L := L) (xs := xs) (kc := kc) (ks := ks) (p := p) rfl (qb_setE (qw_s163 c) (qw_s163 c) rfl) k' hB' (fun p a2' a3 a4 a5 k2 => H _ _ _ _ _ _ _ _ _ _ _ _ k2 hB')
    · have hB' := qb_B_f0 hB c (by omega) (qb_dig b0 b1 b2 b3)
      exact qw_423 (L := L) (xs := xs) (kc := kc) (ks := ks) (p := p) (qb_setE (qw_s16 T) (qw_s16 T) rfl) rfl k' hB' (fun p a2' a3 a4 a5 k2 => H _ _ _ _ _ _ _ _ _ _ _ _ k2 hB')
end
section
theorem qw_end {post : Int32 → Prop} {L : Nat} {xs : Nat → Int32} {kc ks : Nat} {p : Int32} {a1 a2 a3 a4 a5 : Nat → Int32} {T Z : Nat} {wt lab : Nat → Nat} (k : qw_S T Z wt lab a1 a2) (H : post 1) : ∃ n, wL_law_458 post L xs kc ks n 0 (nI T) (nI Z) p a1 a2 a3 a4 a5 := by
  have ⟨hT, hZ, hw, hl, h1, h2⟩ := k
  refine pk_loop (σ := Nat → Int32) (fun n i s => wL_law_458 post L xs kc ks n (nI i) (nI T) (nI Z) p s a2 a3 a4 a5) (fun i s => ∃ v, qw_S T Z v lab s a2 ∧ ∀ j, j < i → j < 4 * T → v j = 1) 24 0 a1 (by omega) ⟨wt, k, fun j hj => absurd hj (by omega)⟩ ?_ ?_
  · intro n s hI
    obtain ⟨v, kv, h⟩ := hI
    have e : qa_tot (qw_W v) lab T Z = qa_tot qa_one lab T Z := qa_tot_congr hl Z (fun t m ht hm => h (4 * t + m) (by omega) (by omega))
    exact pk_le 24 24 (fun _ => qw_total kv (fun b3 => qw_paths kv (fun c3 => br_t (by rw [e]) H))) (fun z => absurd z (by omega))
  · intro n i s hi hI hn
    obtain ⟨v, kv, h⟩ := hI
    have e1 : nI i / 4 = nI (i / 4) := pk_div (d := 4) (by omega) (by omega) (by omega)
    have e2 : nI i - nI i / 4 * 4 = nI (i % 4) := pk_rem (d := 4) (by omega) (by omega) (by omega)
    refine pk_le 24 i (fun z => absurd z (by omega)) (fun _ => ⟨qw_n4, qw_n4, ?_⟩)
    rw [e2, e1]
    refine qw_weigh (w := 1) kv (by omega) (by omega) (by omega) (fun c => nm_r (nI_1 i) (hn s ⟨v, kv, fun j hj hj4 => h j (by omega) hj4⟩)) (fun c s' k' => nm_r (nI_1 i) (hn s' ⟨_, k', fun j hj hj4 => ?_⟩))
    show (if j = 4 * (i / 4) + i % 4 then 1 else v j) = 1
    by_cases q : j = 4 * (i / 4) + i % 4
    · rw [if_pos q]
    · rw [if_neg q]
      exact h j (by omega) hj4
theorem qw_main {post : Int32 → Prop} {L : Nat} {xs : Nat → Int32} {kc ks : Nat} (hL : L ≤ 260) (H : post 1) : ∀ (n i : Nat) (lo hi : Int64) (T Z : Nat) (wt lab : Nat → Nat) (p : Int32) (a1 a2 a3 a4 a5 : Nat → Int32), i ≤ L + 2 → L - i < n → qw_S T Z wt lab a1 a2 → qb_B lo hi T wt → wL_law_16 post L xs kc ks n lo hi (nI i) (nI T) (nI Z) p a1 a2 a3 a4 a5 := by
  intro n
  induction n with
  | zero => exact fun i lo hi T Z wt lab p a1 a2 a3 a4 a5 _ h => absurd h (by omega)
  | succ n ih =>
    intro i lo hi T Z wt lab p a1 a2 a3 a4 a5 h1 h2 k hB
    by_cases c : L ≤ i
    · exact pk_le L i (fun _ => qw_end k H) (fun z => absurd z (by omega))
    · exact qw_turn hL (by omega) k hB (fun lo hi T Z wt lab p a1 a2 a3 a4 a5 k' hB' => ih (i + 3) lo hi T Z wt lab p a1 a2 a3 a4 a5 (by omega) (by omega) k' hB')
theorem i_vc (xs : Nat → Int32) (L : Nat) (hL : L ≤ 260) : wpL_law (fun r => r = 1) L xs := by
  have k : qw_S 0 0 (fun _ => 0) (fun _ => 1) (fun _ => 0) (fun _ => 0) := ⟨by omega, by omega, fun _ => Nat.zero_le 8, fun _ => ⟨Nat.le_refl 1, show 1 ≤ 3 by omega⟩, fun _ _ => rfl, fun j hj => absurd hj (by omega)⟩
  have hB : qb_B 0 0 0 (fun _ => 0) := ⟨fun j b hj => absurd hj (by omega), fun j b hj => absurd hj (by omega)⟩
  refine ⟨5, 190, by omega, by omega, by omega, by omega, by omega, by omega, by omega, by omega, by omega, by omega, by omega, by omega, L + 1, ?_⟩
  exact qw_main (post := fun r => r = 1) hL rfl (L + 1) 0 0 0 0 0 (fun _ => 0) (fun _ => 1) 0 (fun _ => 0) (fun _ => 0) (fun _ => 0) (fun _ => 0) (fun _ => 0) (by omega) (by omega) k hB
end
