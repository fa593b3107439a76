section
/-- the sum of g over 0 .. m - 1 -/
def sq_sm (g : Nat → Nat) : Nat → Nat
  | 0 => 0
  | m + 1 => sq_sm g m + g m
theorem sq_sm_le {g h : Nat → Nat} {m : Nat} (H : ∀ i, i < m → g i ≤ h i) : sq_sm g m ≤ sq_sm h m := by
  induction m with
  | zero => exact Nat.le_refl _
  | succ m ih =>
    have h1 := ih (fun i hi => H i (by omega))
    have h2 := H m (by omega)
    show sq_sm g m + g m ≤ sq_sm h m + h m
    omega
theorem sq_sm_eq {g h : Nat → Nat} {m : Nat} (H : ∀ i, i < m → g i = h i) : sq_sm g m = sq_sm h m :=
  Nat.le_antisymm (sq_sm_le (fun i hi => Nat.le_of_eq (H i hi))) (sq_sm_le (fun i hi => Nat.le_of_eq (H i hi).symm))
theorem sq_sm_0 {g : Nat → Nat} {m : Nat} (H : ∀ i, i < m → g i = 0) : sq_sm g m = 0 := by
  induction m with
  | zero => rfl
  | succ m ih =>
    have h1 := ih (fun i hi => H i (by omega))
    have h2 := H m (by omega)
    show sq_sm g m + g m = 0
    omega
theorem sq_sm_add (g h : Nat → Nat) (m : Nat) : sq_sm (fun i => g i + h i) m = sq_sm g m + sq_sm h m := by
  induction m with
  | zero => rfl
  | succ m ih =>
    show sq_sm (fun i => g i + h i) m + (g m + h m) = (sq_sm g m + g m) + (sq_sm h m + h m)
    omega
theorem sq_sm_mulr (g : Nat → Nat) (c m : Nat) : sq_sm (fun i => g i * c) m = sq_sm g m * c := by
  induction m with
  | zero => exact (Nat.zero_mul c).symm
  | succ m ih =>
    show sq_sm (fun i => g i * c) m + g m * c = (sq_sm g m + g m) * c
    rw [Nat.add_mul, ih]
theorem sq_sm_comm (g : Nat → Nat → Nat) (a b : Nat) : sq_sm (fun i => sq_sm (fun j => g i j) b) a = sq_sm (fun j => sq_sm (fun i => g i j) a) b := by
  induction a with
  | zero => exact (sq_sm_0 (fun _ _ => rfl)).symm
  | succ a ih =>
    have h := sq_sm_add (fun j => sq_sm (fun i => g i j) a) (fun j => g a j) b
    show sq_sm (fun i => sq_sm (fun j => g i j) b) a + sq_sm (fun j => g a j) b = sq_sm (fun j => sq_sm (fun i => g i j) a + g a j) b
    rw [ih]
    exact h.symm
theorem sq_sm_mono {g : Nat → Nat} {a b : Nat} (h : a ≤ b) : sq_sm g a ≤ sq_sm g b := by
  induction b with
  | zero =>
    have e : a = 0 := by omega
    rw [e]
    exact Nat.le_refl _
  | succ b ih =>
    by_cases e : a = b + 1
    · rw [e]
      exact Nat.le_refl _
    · have h1 := ih (by omega)
      show sq_sm g a ≤ sq_sm g b + g b
      omega
theorem sq_sm_ext {g : Nat → Nat} {a b : Nat} (h : a ≤ b) (H : ∀ i, a ≤ i → i < b → g i = 0) : sq_sm g b = sq_sm g a := by
  induction b with
  | zero =>
    have e : a = 0 := by omega
    rw [e]
  | succ b ih =>
    by_cases e : a = b + 1
    · rw [e]
    · have h1 := ih (by omega) (fun i h1 h2 => H i h1 (by omega))
      have h2 := H b (by omega) (by omega)
      show sq_sm g b + g b = sq_sm g a
      omega
theorem sq_sm_c {g : Nat → Nat} {m c : Nat} (H : ∀ i, i < m → g i ≤ c) : sq_sm g m ≤ m * c := by
  induction m with
  | zero => exact Nat.zero_le _
  | succ m ih =>
    have h1 := ih (fun i hi => H i (by omega))
    have h2 := H m (by omega)
    show sq_sm g m + g m ≤ (m + 1) * c
    rw [Nat.add_mul, Nat.one_mul]
    omega
theorem sq_sm_last (R : Nat → Nat) (K : Nat) : sq_sm (fun k => R k * (if k + 1 = K then 1 else 0)) K = if K = 0 then 0 else R (K - 1) := by
  cases K with
  | zero => rfl
  | succ m =>
    have h1 : sq_sm (fun k => R k * (if k + 1 = m + 1 then 1 else 0)) m = 0 := sq_sm_0 (fun i hi => by
      show R i * (if i + 1 = m + 1 then 1 else 0) = 0
      rw [if_neg (show ¬ i + 1 = m + 1 by omega), Nat.mul_zero])
    show sq_sm (fun k => R k * (if k + 1 = m + 1 then 1 else 0)) m + R m * (if m + 1 = m + 1 then 1 else 0) = if m + 1 = 0 then 0 else R (m + 1 - 1)
    rw [h1, if_pos (show m + 1 = m + 1 from rfl), if_neg (show ¬ m + 1 = 0 by omega), Nat.mul_one, Nat.zero_add, Nat.add_sub_cancel]
/-- what event y gets at step k from event x: to stay, or to come from the step ahead -/
def sq_ct (s a : Nat → Nat → Nat → Nat) (T : Nat → Nat → Nat) (x y : Nat) : Nat → Nat
  | 0 => T x 0 * s 0 x y
  | k + 1 => T x (k + 1) * s (k + 1) x y + T x k * a k x y
theorem sq_ct_c {s a s' a' : Nat → Nat → Nat → Nat} {T T' : Nat → Nat → Nat} {x y : Nat} (hs : ∀ k, s k x y = s' k x y) (ha : ∀ k, a k x y = a' k x y) (h : ∀ k, T x k = T' x k) (k : Nat) : sq_ct s a T x y k = sq_ct s' a' T' x y k := by
  cases k with
  | zero =>
    show T x 0 * s 0 x y = T' x 0 * s' 0 x y
    rw [h 0, hs 0]
  | succ k =>
    show T x (k + 1) * s (k + 1) x y + T x k * a k x y = T' x (k + 1) * s' (k + 1) x y + T' x k * a' k x y
    rw [h (k + 1), hs (k + 1), h k, ha k]
theorem sq_ct_le {s a s' a' : Nat → Nat → Nat → Nat} {T T' : Nat → Nat → Nat} {x y : Nat} (hs : ∀ k, s k x y ≤ s' k x y) (ha : ∀ k, a k x y ≤ a' k x y) (h : ∀ k, T x k ≤ T' x k) (k : Nat) : sq_ct s a T x y k ≤ sq_ct s' a' T' x y k := by
  cases k with
  | zero => exact Nat.mul_le_mul (h 0) (hs 0)
  | succ k => exact Nat.add_le_add (Nat.mul_le_mul (h (k + 1)) (hs (k + 1))) (Nat.mul_le_mul (h k) (ha k))
theorem sq_ct_0 {s a : Nat → Nat → Nat → Nat} {T : Nat → Nat → Nat} {x y : Nat} (h : ∀ k, T x k = 0) (k : Nat) : sq_ct s a T x y k = 0 := by
  cases k with
  | zero =>
    show T x 0 * s 0 x y = 0
    rw [h 0, Nat.zero_mul]
  | succ k =>
    show T x (k + 1) * s (k + 1) x y + T x k * a k x y = 0
    rw [h (k + 1), h k, Nat.zero_mul, Nat.zero_mul]
    all_goals omega
theorem sq_ct_w0 {s a : Nat → Nat → Nat → Nat} {T : Nat → Nat → Nat} {x y : Nat} (hs : ∀ k, s k x y = 0) (ha : ∀ k, a k x y = 0) (k : Nat) : sq_ct s a T x y k = 0 := by
  cases k with
  | zero =>
    show T x 0 * s 0 x y = 0
    rw [hs 0, Nat.mul_zero]
  | succ k =>
    show T x (k + 1) * s (k + 1) x y + T x k * a k x y = 0
    rw [hs (k + 1), ha k, Nat.mul_zero, Nat.mul_zero]
    all_goals omega
theorem sq_ct_b {s a : Nat → Nat → Nat → Nat} {T : Nat → Nat → Nat} {x y c : Nat} (hs : ∀ k, s k x y ≤ 1) (ha : ∀ k, a k x y ≤ 1) (h : ∀ k, T x k ≤ c) (k : Nat) : sq_ct s a T x y k ≤ 2 * c := by
  cases k with
  | zero =>
    have h1 := Nat.mul_le_mul (h 0) (hs 0)
    show T x 0 * s 0 x y ≤ 2 * c
    omega
  | succ k =>
    have h1 := Nat.mul_le_mul (h (k + 1)) (hs (k + 1))
    have h2 := Nat.mul_le_mul (h k) (ha k)
    show T x (k + 1) * s (k + 1) x y + T x k * a k x y ≤ 2 * c
    omega
/-- the part of it that the steps below i have given -/
def sq_pc (s a : Nat → Nat → Nat → Nat) (T : Nat → Nat → Nat) (x y i : Nat) : Nat → Nat
  | 0 => if 0 < i then T x 0 * s 0 x y else 0
  | k + 1 => (if k + 1 < i then T x (k + 1) * s (k + 1) x y else 0) + (if k < i then T x k * a k x y else 0)
theorem sq_pc_0 {s a : Nat → Nat → Nat → Nat} {T : Nat → Nat → Nat} {x y : Nat} (k : Nat) : sq_pc s a T x y 0 k = 0 := by
  cases k with
  | zero => rfl
  | succ k =>
    show (if k + 1 < 0 then T x (k + 1) * s (k + 1) x y else 0) + (if k < 0 then T x k * a k x y else 0) = 0
    rw [if_neg (show ¬ k + 1 < 0 by omega), if_neg (show ¬ k < 0 by omega)]
    all_goals omega
theorem sq_pc_K {s a : Nat → Nat → Nat → Nat} {T : Nat → Nat → Nat} {x y K : Nat} (hs : ∀ k, ¬ k < K → s k x y = 0) (ha : ∀ k, ¬ k < K → a k x y = 0) (k : Nat) : sq_pc s a T x y K k = sq_ct s a T x y k := by
  have e : ∀ (u v : Nat) (k : Nat), (¬ k < K → v = 0) → (if k < K then u * v else 0) = u * v := by
    intro u v k h
    by_cases z : k < K
    · rw [if_pos z]
    · rw [if_neg z, h z, Nat.mul_zero]
  cases k with
  | zero => exact e _ _ 0 (hs 0)
  | succ k =>
    show (if k + 1 < K then T x (k + 1) * s (k + 1) x y else 0) + (if k < K then T x k * a k x y else 0) = T x (k + 1) * s (k + 1) x y + T x k * a k x y
    rw [e _ _ (k + 1) (hs (k + 1)), e _ _ k (ha k)]
theorem sq_pc_s {s a : Nat → Nat → Nat → Nat} {T : Nat → Nat → Nat} {x y : Nat} (i k : Nat) : sq_pc s a T x y (i + 1) k = (sq_pc s a T x y i k + if k = i then T x i * s i x y else 0) + if k = i + 1 then T x i * a i x y else 0 := by
  cases k with
  | zero =>
    show (if 0 < i + 1 then T x 0 * s 0 x y else 0) = ((if 0 < i then T x 0 * s 0 x y else 0) + if 0 = i then T x i * s i x y else 0) + if 0 = i + 1 then T x i * a i x y else 0
    rw [if_pos (show 0 < i + 1 by omega), if_neg (show ¬ 0 = i + 1 by omega)]
    by_cases e : 0 = i
    · rw [if_neg (show ¬ 0 < i by omega), if_pos e, ← e]
      all_goals omega
    · rw [if_pos (show 0 < i by omega), if_neg e]
      all_goals omega
  | succ k =>
    show (if k + 1 < i + 1 then T x (k + 1) * s (k + 1) x y else 0) + (if k < i + 1 then T x k * a k x y else 0) = (((if k + 1 < i then T x (k + 1) * s (k + 1) x y else 0) + (if k < i then T x k * a k x y else 0)) + if k + 1 = i then T x i * s i x y else 0) + if k + 1 = i + 1 then T x i * a i x y else 0
    by_cases e1 : k + 1 = i
    · rw [if_pos (show k + 1 < i + 1 by omega), if_pos (show k < i + 1 by omega), if_neg (show ¬ k + 1 < i by omega), if_pos (show k < i by omega), if_pos e1, if_neg (show ¬ k + 1 = i + 1 by omega), ← e1]
      all_goals omega
    · by_cases e2 : k = i
      · rw [if_neg (show ¬ k + 1 < i + 1 by omega), if_pos (show k < i + 1 by omega), if_neg (show ¬ k + 1 < i by omega), if_neg (show ¬ k < i by omega), if_neg e1, if_pos (show k + 1 = i + 1 by omega), ← e2]
        all_goals omega
      · by_cases e3 : k < i
        · rw [if_pos (show k + 1 < i + 1 by omega), if_pos (show k < i + 1 by omega), if_pos (show k + 1 < i by omega), if_pos e3, if_neg e1, if_neg (show ¬ k + 1 = i + 1 by omega)]
          all_goals omega
        · rw [if_neg (show ¬ k + 1 < i + 1 by omega), if_neg (show ¬ k < i + 1 by omega), if_neg (show ¬ k + 1 < i by omega), if_neg e3, if_neg e1, if_neg (show ¬ k + 1 = i + 1 by omega)]
          all_goals omega
/-- the runs, with fuel -/
def sq_RT (s a : Nat → Nat → Nat → Nat) (b : Nat → Nat → Nat) : Nat → Nat → Nat → Nat
  | 0 => fun _ _ => 0
  | d + 1 => fun e k => b e k + sq_sm (fun x => sq_ct s a (sq_RT s a b d) x e k) e
def sq_R (s a : Nat → Nat → Nat → Nat) (b : Nat → Nat → Nat) (e k : Nat) : Nat := sq_RT s a b (e + 1) e k
theorem sq_RT_st {s a : Nat → Nat → Nat → Nat} {b : Nat → Nat → Nat} : ∀ d d' e k, e < d → e < d' → sq_RT s a b d e k = sq_RT s a b d' e k := by
  intro d
  induction d with
  | zero =>
    intro d' e k h
    omega
  | succ d ih =>
    intro d' e k h h'
    cases d' with
    | zero => omega
    | succ d' =>
      have t := sq_sm_eq (g := fun x => sq_ct s a (sq_RT s a b d) x e k) (h := fun x => sq_ct s a (sq_RT s a b d') x e k) (m := e) (fun x hx => sq_ct_c (fun _ => rfl) (fun _ => rfl) (fun k' => ih d' x k' (by omega) (by omega)) k)
      show b e k + sq_sm (fun x => sq_ct s a (sq_RT s a b d) x e k) e = b e k + sq_sm (fun x => sq_ct s a (sq_RT s a b d') x e k) e
      rw [t]
theorem sq_R_eq (s a : Nat → Nat → Nat → Nat) (b : Nat → Nat → Nat) (e k : Nat) : sq_R s a b e k = b e k + sq_sm (fun x => sq_ct s a (sq_R s a b) x e k) e := by
  have t := sq_sm_eq (g := fun x => sq_ct s a (sq_RT s a b e) x e k) (h := fun x => sq_ct s a (sq_R s a b) x e k) (m := e) (fun x hx => sq_ct_c (T' := sq_R s a b) (fun _ => rfl) (fun _ => rfl) (fun k' => sq_RT_st e (x + 1) x k' hx (by omega)) k)
  show b e k + sq_sm (fun x => sq_ct s a (sq_RT s a b e) x e k) e = b e k + sq_sm (fun x => sq_ct s a (sq_R s a b) x e k) e
  rw [t]
theorem sq_R_0 {s a : Nat → Nat → Nat → Nat} {b : Nat → Nat → Nat} {f : Nat} (hb : ∀ e k, e < f → b e k = 0) : ∀ e k, e < f → sq_R s a b e k = 0 := by
  intro e
  induction e using Nat.strongRecOn with
  | ind e ih =>
    intro k he
    have t : sq_sm (fun x => sq_ct s a (sq_R s a b) x e k) e = 0 := sq_sm_0 (fun x hx => sq_ct_0 (fun k' => ih x hx k' (by omega)) k)
    rw [sq_R_eq, t, hb e k he]
    all_goals omega
theorem sq_R_pow (e : Nat) : sq_sm (fun x => 2 * 3 ^ x) e + 1 = 3 ^ e := by
  induction e with
  | zero => rfl
  | succ e ih =>
    show sq_sm (fun x => 2 * 3 ^ x) e + 2 * 3 ^ e + 1 = 3 ^ (e + 1)
    rw [Nat.pow_succ]
    omega
theorem sq_R_b {s a : Nat → Nat → Nat → Nat} {b : Nat → Nat → Nat} (hs : ∀ k x y, s k x y ≤ 1) (ha : ∀ k x y, a k x y ≤ 1) (hb : ∀ e k, b e k ≤ 1) : ∀ e k, sq_R s a b e k ≤ 3 ^ e := by
  intro e
  induction e using Nat.strongRecOn with
  | ind e ih =>
    intro k
    have t : sq_sm (fun x => sq_ct s a (sq_R s a b) x e k) e ≤ sq_sm (fun x => 2 * 3 ^ x) e := sq_sm_le (fun x hx => sq_ct_b (fun k' => hs k' x e) (fun k' => ha k' x e) (fun k' => ih x hx k') k)
    have p := sq_R_pow e
    have q := hb e k
    rw [sq_R_eq]
    omega
theorem sq_R_m {s a s' a' : Nat → Nat → Nat → Nat} {b : Nat → Nat → Nat} (hs : ∀ k x y, s k x y ≤ s' k x y) (ha : ∀ k x y, a k x y ≤ a' k x y) : ∀ e k, sq_R s a b e k ≤ sq_R s' a' b e k := by
  intro e
  induction e using Nat.strongRecOn with
  | ind e ih =>
    intro k
    rw [sq_R_eq s a b e k, sq_R_eq s' a' b e k]
    exact Nat.add_le_add_left (sq_sm_le (fun x hx => sq_ct_le (fun k' => hs k' x e) (fun k' => ha k' x e) (fun k' => ih x hx k') k)) _
/-- the ways, with fuel -/
def sq_WT (s a : Nat → Nat → Nat → Nat) (l : Nat → Nat) (n : Nat) : Nat → Nat → Nat → Nat
  | 0 => fun _ _ => 0
  | d + 1 => fun x k => l k + sq_sm (fun y => s k x y * sq_WT s a l n d y k + a k x y * sq_WT s a l n d y (k + 1)) n
def sq_W (s a : Nat → Nat → Nat → Nat) (l : Nat → Nat) (n x k : Nat) : Nat := sq_WT s a l n n x k
theorem sq_WT_st {s a : Nat → Nat → Nat → Nat} {l : Nat → Nat} {n : Nat} (hs : ∀ k x y, ¬ x < y → s k x y = 0) (ha : ∀ k x y, ¬ x < y → a k x y = 0) : ∀ d d' x k, x < n → n - x ≤ d → n - x ≤ d' → sq_WT s a l n d x k = sq_WT s a l n d' x k := by
  intro d
  induction d with
  | zero =>
    intro d' x k h h1
    omega
  | succ d ih =>
    intro d' x k h h1 h2
    cases d' with
    | zero => omega
    | succ d' =>
      have t := sq_sm_eq (g := fun y => s k x y * sq_WT s a l n d y k + a k x y * sq_WT s a l n d y (k + 1)) (h := fun y => s k x y * sq_WT s a l n d' y k + a k x y * sq_WT s a l n d' y (k + 1)) (m := n) (fun y hy => by
        show s k x y * sq_WT s a l n d y k + a k x y * sq_WT s a l n d y (k + 1) = s k x y * sq_WT s a l n d' y k + a k x y * sq_WT s a l n d' y (k + 1)
        by_cases z : x < y
        · rw [ih d' y k hy (by omega) (by omega), ih d' y (k + 1) hy (by omega) (by omega)]
        · rw [hs k x y z, ha k x y z, Nat.zero_mul, Nat.zero_mul, Nat.zero_mul, Nat.zero_mul])
      show l k + sq_sm (fun y => s k x y * sq_WT s a l n d y k + a k x y * sq_WT s a l n d y (k + 1)) n = l k + sq_sm (fun y => s k x y * sq_WT s a l n d' y k + a k x y * sq_WT s a l n d' y (k + 1)) n
      rw [t]
theorem sq_W_eq {s a : Nat → Nat → Nat → Nat} {l : Nat → Nat} {n : Nat} (hs : ∀ k x y, ¬ x < y → s k x y = 0) (ha : ∀ k x y, ¬ x < y → a k x y = 0) {x : Nat} (k : Nat) (hx : x < n) : sq_W s a l n x k = l k + sq_sm (fun y => s k x y * sq_W s a l n y k + a k x y * sq_W s a l n y (k + 1)) n :=
  sq_WT_st hs ha n (n + 1) x k hx (by omega) (by omega)
end
section
theorem sq_split (g : Nat → Nat) (t : Nat) : ∀ n, t < n → sq_sm (fun y => if t ≤ y then g y else 0) n = sq_sm (fun y => if t + 1 ≤ y then g y else 0) n + g t := by
  intro n
  induction n with
  | zero =>
    intro h
    omega
  | succ n ih =>
    intro h
    show sq_sm (fun y => if t ≤ y then g y else 0) n + (if t ≤ n then g n else 0) = (sq_sm (fun y => if t + 1 ≤ y then g y else 0) n + (if t + 1 ≤ n then g n else 0)) + g t
    by_cases e : t = n
    · have h1 : sq_sm (fun y => if t ≤ y then g y else 0) n = 0 := sq_sm_0 (fun i hi => if_neg (by omega))
      have h2 : sq_sm (fun y => if t + 1 ≤ y then g y else 0) n = 0 := sq_sm_0 (fun i hi => if_neg (by omega))
      rw [h1, h2, if_pos (show t ≤ n by omega), if_neg (show ¬ t + 1 ≤ n by omega), e]
      all_goals omega
    · have h1 := ih (by omega)
      rw [if_pos (show t ≤ n by omega), if_pos (show t + 1 ≤ n by omega), h1]
      omega
/-- what comes behind (k, x) by events from t on -/
def sq_V (s a : Nat → Nat → Nat → Nat) (W : Nat → Nat → Nat) (l : Nat → Nat) (n t x k : Nat) : Nat :=
  l k + sq_sm (fun y => if t ≤ y then s k x y * W y k + a k x y * W y (k + 1) else 0) n
theorem sq_V_s {s a : Nat → Nat → Nat → Nat} {W : Nat → Nat → Nat} {l : Nat → Nat} {n t x k : Nat} (h : t < n) : sq_V s a W l n t x k = sq_V s a W l n (t + 1) x k + (s k x t * W t k + a k x t * W t (k + 1)) := by
  have e := sq_split (fun y => s k x y * W y k + a k x y * W y (k + 1)) t n h
  show l k + sq_sm (fun y => if t ≤ y then s k x y * W y k + a k x y * W y (k + 1) else 0) n = (l k + sq_sm (fun y => if t + 1 ≤ y then s k x y * W y k + a k x y * W y (k + 1) else 0) n) + (s k x t * W t k + a k x t * W t (k + 1))
  have e' : sq_sm (fun y => if t ≤ y then s k x y * W y k + a k x y * W y (k + 1) else 0) n = sq_sm (fun y => if t + 1 ≤ y then s k x y * W y k + a k x y * W y (k + 1) else 0) n + (s k x t * W t k + a k x t * W t (k + 1)) := e
  rw [e', Nat.add_assoc]
theorem sq_V_n {s a : Nat → Nat → Nat → Nat} {W : Nat → Nat → Nat} {l : Nat → Nat} {n x k : Nat} : sq_V s a W l n n x k = l k := by
  have e : sq_sm (fun y => if n ≤ y then s k x y * W y k + a k x y * W y (k + 1) else 0) n = 0 := sq_sm_0 (fun i hi => if_neg (by omega))
  show l k + sq_sm (fun y => if n ≤ y then s k x y * W y k + a k x y * W y (k + 1) else 0) n = l k
  rw [e, Nat.add_zero]
theorem sq_V_W {s a : Nat → Nat → Nat → Nat} {W : Nat → Nat → Nat} {l : Nat → Nat} {n x k : Nat} (hs : ∀ k x y, ¬ x < y → s k x y = 0) (ha : ∀ k x y, ¬ x < y → a k x y = 0)
    (hW : W x k = l k + sq_sm (fun y => s k x y * W y k + a k x y * W y (k + 1)) n) : sq_V s a W l n (x + 1) x k = W x k := by
  have e : sq_sm (fun y => if x + 1 ≤ y then s k x y * W y k + a k x y * W y (k + 1) else 0) n = sq_sm (fun y => s k x y * W y k + a k x y * W y (k + 1)) n := sq_sm_eq (fun y _ => by
    show (if x + 1 ≤ y then s k x y * W y k + a k x y * W y (k + 1) else 0) = s k x y * W y k + a k x y * W y (k + 1)
    by_cases z : x < y
    · rw [if_pos (show x + 1 ≤ y by omega)]
    · rw [if_neg (show ¬ x + 1 ≤ y by omega), hs k x y z, ha k x y z, Nat.zero_mul, Nat.zero_mul])
  show l k + sq_sm (fun y => if x + 1 ≤ y then s k x y * W y k + a k x y * W y (k + 1) else 0) n = W x k
  rw [e, ← hW]
theorem sq_shift {s a : Nat → Nat → Nat → Nat} {R : Nat → Nat → Nat} {u : Nat → Nat} {x t : Nat} : ∀ m, sq_sm (fun k => sq_ct s a R x t k * u k) (m + 1) + R x m * (a m x t * u (m + 1)) = sq_sm (fun k => R x k * (s k x t * u k + a k x t * u (k + 1))) (m + 1) := by
  intro m
  induction m with
  | zero =>
    show (0 + R x 0 * s 0 x t * u 0) + R x 0 * (a 0 x t * u (0 + 1)) = 0 + R x 0 * (s 0 x t * u 0 + a 0 x t * u (0 + 1))
    have e1 := Nat.mul_add (R x 0) (s 0 x t * u 0) (a 0 x t * u (0 + 1))
    have e2 := Nat.mul_assoc (R x 0) (s 0 x t) (u 0)
    rw [e1, e2]
    omega
  | succ m ih =>
    have e1 := Nat.add_mul (R x (m + 1) * s (m + 1) x t) (R x m * a m x t) (u (m + 1))
    have e2 := Nat.mul_add (R x (m + 1)) (s (m + 1) x t * u (m + 1)) (a (m + 1) x t * u (m + 1 + 1))
    have e3 := Nat.mul_assoc (R x (m + 1)) (s (m + 1) x t) (u (m + 1))
    have e4 := Nat.mul_assoc (R x m) (a m x t) (u (m + 1))
    show (sq_sm (fun k => sq_ct s a R x t k * u k) (m + 1) + (R x (m + 1) * s (m + 1) x t + R x m * a m x t) * u (m + 1)) + R x (m + 1) * (a (m + 1) x t * u (m + 1 + 1)) = sq_sm (fun k => R x k * (s k x t * u k + a k x t * u (k + 1))) (m + 1) + R x (m + 1) * (s (m + 1) x t * u (m + 1) + a (m + 1) x t * u (m + 1 + 1))
    rw [← ih, e1, e2, e3, e4]
    omega
theorem sq_cross {s a : Nat → Nat → Nat → Nat} {R W : Nat → Nat → Nat} {K t : Nat} (haK : ∀ k x y, ¬ k + 1 < K → a k x y = 0)
    (hR : ∀ e k, sq_sm (fun x => sq_ct s a R x e k) e ≤ R e k) :
    sq_sm (fun x => sq_sm (fun k => R x k * (s k x t * W t k + a k x t * W t (k + 1))) K) t ≤ sq_sm (fun k => R t k * W t k) K := by
  have h1 : ∀ x, sq_sm (fun k => R x k * (s k x t * W t k + a k x t * W t (k + 1))) K = sq_sm (fun k => sq_ct s a R x t k * W t k) K := by
    intro x
    cases K with
    | zero => rfl
    | succ m =>
      have e := sq_shift (s := s) (a := a) (R := R) (u := W t) (x := x) (t := t) m
      rw [haK m x t (by omega), Nat.zero_mul, Nat.mul_zero, Nat.add_zero] at e
      exact e.symm
  have h2 : sq_sm (fun x => sq_sm (fun k => R x k * (s k x t * W t k + a k x t * W t (k + 1))) K) t = sq_sm (fun x => sq_sm (fun k => sq_ct s a R x t k * W t k) K) t := sq_sm_eq (fun x _ => h1 x)
  have h3 := sq_sm_comm (fun x k => sq_ct s a R x t k * W t k) t K
  have h4 : sq_sm (fun k => sq_sm (fun x => sq_ct s a R x t k * W t k) t) K ≤ sq_sm (fun k => R t k * W t k) K := sq_sm_le (fun k _ => by
    have e := sq_sm_mulr (fun x => sq_ct s a R x t k) (W t k) t
    show sq_sm (fun x => sq_ct s a R x t k * W t k) t ≤ R t k * W t k
    rw [e]
    exact Nat.mul_le_mul_right _ (hR t k))
  rw [h2]
  exact Nat.le_trans (Nat.le_of_eq h3) h4
theorem sq_phi {s a : Nat → Nat → Nat → Nat} {R W : Nat → Nat → Nat} {l : Nat → Nat} {K n : Nat} (hs : ∀ k x y, ¬ x < y → s k x y = 0) (ha : ∀ k x y, ¬ x < y → a k x y = 0) (haK : ∀ k x y, ¬ k + 1 < K → a k x y = 0)
    (hR : ∀ e k, sq_sm (fun x => sq_ct s a R x e k) e ≤ R e k) (hW : ∀ x k, x < n → W x k = l k + sq_sm (fun y => s k x y * W y k + a k x y * W y (k + 1)) n) {e : Nat} (he : e < n) :
    sq_sm (fun k => R e k * W e k) K ≤ sq_sm (fun x => sq_sm (fun k => R x k * l k) K) n := by
  have lastT : ∀ t, t < n → sq_sm (fun k => R t k * sq_V s a W l n (t + 1) t k) K = sq_sm (fun k => R t k * W t k) K := fun t ht => sq_sm_eq (fun k _ => by
    show R t k * sq_V s a W l n (t + 1) t k = R t k * W t k
    rw [sq_V_W hs ha (hW t k ht)])
  have step : ∀ t, t < n → sq_sm (fun x => sq_sm (fun k => R x k * sq_V s a W l n t x k) K) t ≤ sq_sm (fun x => sq_sm (fun k => R x k * sq_V s a W l n (t + 1) x k) K) (t + 1) := by
    intro t ht
    have e1 : ∀ x, sq_sm (fun k => R x k * sq_V s a W l n t x k) K = sq_sm (fun k => R x k * sq_V s a W l n (t + 1) x k) K + sq_sm (fun k => R x k * (s k x t * W t k + a k x t * W t (k + 1))) K := by
      intro x
      have c := sq_sm_add (fun k => R x k * sq_V s a W l n (t + 1) x k) (fun k => R x k * (s k x t * W t k + a k x t * W t (k + 1))) K
      have d : sq_sm (fun k => R x k * sq_V s a W l n t x k) K = sq_sm (fun k => R x k * sq_V s a W l n (t + 1) x k + R x k * (s k x t * W t k + a k x t * W t (k + 1))) K := sq_sm_eq (fun k _ => by
        show R x k * sq_V s a W l n t x k = R x k * sq_V s a W l n (t + 1) x k + R x k * (s k x t * W t k + a k x t * W t (k + 1))
        rw [sq_V_s ht, Nat.mul_add])
      exact d.trans c
    have e2 : sq_sm (fun x => sq_sm (fun k => R x k * sq_V s a W l n t x k) K) t = sq_sm (fun x => sq_sm (fun k => R x k * sq_V s a W l n (t + 1) x k) K) t + sq_sm (fun x => sq_sm (fun k => R x k * (s k x t * W t k + a k x t * W t (k + 1))) K) t := by
      have c := sq_sm_add (fun x => sq_sm (fun k => R x k * sq_V s a W l n (t + 1) x k) K) (fun x => sq_sm (fun k => R x k * (s k x t * W t k + a k x t * W t (k + 1))) K) t
      have d : sq_sm (fun x => sq_sm (fun k => R x k * sq_V s a W l n t x k) K) t = sq_sm (fun x => sq_sm (fun k => R x k * sq_V s a W l n (t + 1) x k) K + sq_sm (fun k => R x k * (s k x t * W t k + a k x t * W t (k + 1))) K) t := sq_sm_eq (fun x _ => e1 x)
      exact d.trans c
    have e3 := sq_cross (W := W) (t := t) haK hR
    show sq_sm (fun x => sq_sm (fun k => R x k * sq_V s a W l n t x k) K) t ≤ sq_sm (fun x => sq_sm (fun k => R x k * sq_V s a W l n (t + 1) x k) K) t + sq_sm (fun k => R t k * sq_V s a W l n (t + 1) t k) K
    rw [e2, lastT t ht]
    exact Nat.add_le_add_left e3 _
  have up : ∀ d, e + 1 + d ≤ n → sq_sm (fun x => sq_sm (fun k => R x k * sq_V s a W l n (e + 1) x k) K) (e + 1) ≤ sq_sm (fun x => sq_sm (fun k => R x k * sq_V s a W l n (e + 1 + d) x k) K) (e + 1 + d) := by
    intro d
    induction d with
    | zero => exact fun _ => Nat.le_refl _
    | succ d ih => exact fun h => Nat.le_trans (ih (by omega)) (step (e + 1 + d) (by omega))
  have top := up (n - (e + 1)) (by omega)
  rw [show e + 1 + (n - (e + 1)) = n by omega] at top
  have last : sq_sm (fun x => sq_sm (fun k => R x k * sq_V s a W l n n x k) K) n = sq_sm (fun x => sq_sm (fun k => R x k * l k) K) n := sq_sm_eq (fun x _ => sq_sm_eq (fun k _ => by
    show R x k * sq_V s a W l n n x k = R x k * l k
    rw [sq_V_n]))
  rw [last] at top
  have low : sq_sm (fun k => R e k * W e k) K ≤ sq_sm (fun x => sq_sm (fun k => R x k * sq_V s a W l n (e + 1) x k) K) (e + 1) := by
    rw [← lastT e he]
    show sq_sm (fun k => R e k * sq_V s a W l n (e + 1) e k) K ≤ sq_sm (fun x => sq_sm (fun k => R x k * sq_V s a W l n (e + 1) x k) K) e + sq_sm (fun k => R e k * sq_V s a W l n (e + 1) e k) K
    exact Nat.le_add_left _ _
  exact Nat.le_trans low top
end
section
/-- the checks of meets behind the one of the type -/
def sq_m27 (a2 a3 a6 : Nat → Int32) (f k : Nat) (b : Int32) (e : Nat) : Bool :=
  if a3 k = 1 then (if b < 0 then true else if a6 e ≤ a6 b.toNatClampNeg then false else true)
  else if a3 k = 2 then (if b < 0 then true else if a6 b.toNatClampNeg ≤ a6 e then false else true)
  else if a3 k = 3 then (if a6 e = a2 k then true else false)
  else if a3 k = 4 then (if a6 e = a6 f then true else false)
  else true
def sq_mt (K : Nat) (w : Int32) (a1 a2 a3 a4 a5 a6 a7 : Nat → Int32) (f k : Nat) (b : Int32) (e : Nat) : Bool := if a1 k = 4 ∨ a1 k = a5 e then sq_m27 a2 a3 a6 f k b e else false
def sq_iw (K : Nat) (w : Int32) (a1 a2 a3 a4 a5 a6 a7 : Nat → Int32) (f e : Nat) : Bool := if w < a7 e - a7 f then false else true
def sq_es (K : Nat) (w : Int32) (a1 a2 a3 a4 a5 a6 a7 : Nat → Int32) (f k x y : Nat) : Nat := if k < K ∧ ¬ a4 k = 0 ∧ sq_mt K w a1 a2 a3 a4 a5 a6 a7 f k (nI x) y = true then 1 else 0
def sq_ea (K : Nat) (w : Int32) (a1 a2 a3 a4 a5 a6 a7 : Nat → Int32) (f k x y : Nat) : Nat := if k + 1 < K ∧ sq_mt K w a1 a2 a3 a4 a5 a6 a7 f (k + 1) (nI x) y = true then 1 else 0
def sq_g (K : Nat) (w : Int32) (a1 a2 a3 a4 a5 a6 a7 : Nat → Int32) (f x y : Nat) : Nat := if x < y ∧ sq_iw K w a1 a2 a3 a4 a5 a6 a7 f y = true then 1 else 0
def sq_s (K : Nat) (w : Int32) (a1 a2 a3 a4 a5 a6 a7 : Nat → Int32) (f k x y : Nat) : Nat := sq_g K w a1 a2 a3 a4 a5 a6 a7 f x y * sq_es K w a1 a2 a3 a4 a5 a6 a7 f k x y
def sq_a (K : Nat) (w : Int32) (a1 a2 a3 a4 a5 a6 a7 : Nat → Int32) (f k x y : Nat) : Nat := sq_g K w a1 a2 a3 a4 a5 a6 a7 f x y * sq_ea K w a1 a2 a3 a4 a5 a6 a7 f k x y
def sq_b (K : Nat) (w : Int32) (a1 a2 a3 a4 a5 a6 a7 : Nat → Int32) (f e k : Nat) : Nat := if e = f ∧ k = 0 ∧ 0 < K ∧ sq_mt K w a1 a2 a3 a4 a5 a6 a7 f 0 (-1) f = true then 1 else 0
def sq_l (K k : Nat) : Nat := if k + 1 = K then 1 else 0
def sq_Rn (K : Nat) (w : Int32) (a1 a2 a3 a4 a5 a6 a7 : Nat → Int32) (f : Nat) : Nat → Nat → Nat := sq_R (sq_s K w a1 a2 a3 a4 a5 a6 a7 f) (sq_a K w a1 a2 a3 a4 a5 a6 a7 f) (sq_b K w a1 a2 a3 a4 a5 a6 a7 f)
def sq_Wn (n : Nat) (K : Nat) (w : Int32) (a1 a2 a3 a4 a5 a6 a7 : Nat → Int32) (f : Nat) : Nat → Nat → Nat := sq_W (sq_s K w a1 a2 a3 a4 a5 a6 a7 f) (sq_a K w a1 a2 a3 a4 a5 a6 a7 f) (sq_l K) n
def sq_wh (K : Nat) (w : Int32) (a1 a2 a3 a4 a5 a6 a7 : Nat → Int32) (f x : Nat) : Nat := if K = 0 then 0 else sq_Rn K w a1 a2 a3 a4 a5 a6 a7 f x (K - 1)
def sq_beg (n : Nat) (K : Nat) (w : Int32) (a1 a2 a3 a4 a5 a6 a7 : Nat → Int32) (f : Nat) : Nat := sq_sm (fun x => sq_wh K w a1 a2 a3 a4 a5 a6 a7 f x) n
def sq_fin (n : Nat) (K : Nat) (w : Int32) (a1 a2 a3 a4 a5 a6 a7 : Nat → Int32) : Nat := sq_sm (fun f => sq_beg n K w a1 a2 a3 a4 a5 a6 a7 f) n
def sq_end (K : Nat) (w : Int32) (a1 a2 a3 a4 a5 a6 a7 : Nat → Int32) (e : Nat) : Nat := sq_sm (fun f => sq_wh K w a1 a2 a3 a4 a5 a6 a7 f e) (e + 1)
def sq_uf (n : Nat) (K : Nat) (w : Int32) (a1 a2 a3 a4 a5 a6 a7 : Nat → Int32) (e f : Nat) : Nat := sq_sm (fun k => sq_Rn K w a1 a2 a3 a4 a5 a6 a7 f e k * sq_Wn n K w a1 a2 a3 a4 a5 a6 a7 f e k) K
def sq_use (n : Nat) (K : Nat) (w : Int32) (a1 a2 a3 a4 a5 a6 a7 : Nat → Int32) (e : Nat) : Nat := sq_sm (fun f => sq_uf n K w a1 a2 a3 a4 a5 a6 a7 e f) (e + 1)
theorem sq_if1 {c : Prop} [Decidable c] : (if c then 1 else 0 : Nat) ≤ 1 := by
  by_cases h : c
  · rw [if_pos h]
    exact Nat.le_refl _
  · rw [if_neg h]
    exact Nat.zero_le _
theorem sq_g1 {K : Nat} {w : Int32} {a1 a2 a3 a4 a5 a6 a7 : Nat → Int32} {f x y : Nat} : sq_g K w a1 a2 a3 a4 a5 a6 a7 f x y ≤ 1 := sq_if1
theorem sq_s1 {K : Nat} {w : Int32} {a1 a2 a3 a4 a5 a6 a7 : Nat → Int32} {f : Nat} (k x y : Nat) : sq_s K w a1 a2 a3 a4 a5 a6 a7 f k x y ≤ 1 := Nat.mul_le_mul sq_g1 sq_if1
theorem sq_a1 {K : Nat} {w : Int32} {a1 a2 a3 a4 a5 a6 a7 : Nat → Int32} {f : Nat} (k x y : Nat) : sq_a K w a1 a2 a3 a4 a5 a6 a7 f k x y ≤ 1 := Nat.mul_le_mul sq_g1 sq_if1
theorem sq_b1 {K : Nat} {w : Int32} {a1 a2 a3 a4 a5 a6 a7 : Nat → Int32} {f : Nat} (e k : Nat) : sq_b K w a1 a2 a3 a4 a5 a6 a7 f e k ≤ 1 := sq_if1
theorem sq_g0 {K : Nat} {w : Int32} {a1 a2 a3 a4 a5 a6 a7 : Nat → Int32} {f x y : Nat} (h : ¬ x < y) : sq_g K w a1 a2 a3 a4 a5 a6 a7 f x y = 0 := if_neg (fun z => h z.1)
theorem sq_gw {K : Nat} {w : Int32} {a1 a2 a3 a4 a5 a6 a7 : Nat → Int32} {f x y : Nat} (h : sq_iw K w a1 a2 a3 a4 a5 a6 a7 f y = false) : sq_g K w a1 a2 a3 a4 a5 a6 a7 f x y = 0 := if_neg (fun z => by
  rw [h] at z
  exact absurd z.2 (by decide))
theorem sq_gt {K : Nat} {w : Int32} {a1 a2 a3 a4 a5 a6 a7 : Nat → Int32} {f x y : Nat} (h : x < y) (hw : sq_iw K w a1 a2 a3 a4 a5 a6 a7 f y = true) : sq_g K w a1 a2 a3 a4 a5 a6 a7 f x y = 1 := if_pos ⟨h, hw⟩
theorem sq_s0 {K : Nat} {w : Int32} {a1 a2 a3 a4 a5 a6 a7 : Nat → Int32} {f : Nat} (k x y : Nat) (h : ¬ x < y) : sq_s K w a1 a2 a3 a4 a5 a6 a7 f k x y = 0 := by
  unfold sq_s
  rw [sq_g0 h, Nat.zero_mul]
theorem sq_a0 {K : Nat} {w : Int32} {a1 a2 a3 a4 a5 a6 a7 : Nat → Int32} {f : Nat} (k x y : Nat) (h : ¬ x < y) : sq_a K w a1 a2 a3 a4 a5 a6 a7 f k x y = 0 := by
  unfold sq_a
  rw [sq_g0 h, Nat.zero_mul]
theorem sq_sw {K : Nat} {w : Int32} {a1 a2 a3 a4 a5 a6 a7 : Nat → Int32} {f : Nat} (k x y : Nat) (h : sq_iw K w a1 a2 a3 a4 a5 a6 a7 f y = false) : sq_s K w a1 a2 a3 a4 a5 a6 a7 f k x y = 0 := by
  unfold sq_s
  rw [sq_gw h, Nat.zero_mul]
theorem sq_aw {K : Nat} {w : Int32} {a1 a2 a3 a4 a5 a6 a7 : Nat → Int32} {f : Nat} (k x y : Nat) (h : sq_iw K w a1 a2 a3 a4 a5 a6 a7 f y = false) : sq_a K w a1 a2 a3 a4 a5 a6 a7 f k x y = 0 := by
  unfold sq_a
  rw [sq_gw h, Nat.zero_mul]
theorem sq_st {K : Nat} {w : Int32} {a1 a2 a3 a4 a5 a6 a7 : Nat → Int32} {f : Nat} (k x y : Nat) (h : x < y) (hw : sq_iw K w a1 a2 a3 a4 a5 a6 a7 f y = true) : sq_s K w a1 a2 a3 a4 a5 a6 a7 f k x y = sq_es K w a1 a2 a3 a4 a5 a6 a7 f k x y := by
  unfold sq_s
  rw [sq_gt h hw, Nat.one_mul]
theorem sq_at {K : Nat} {w : Int32} {a1 a2 a3 a4 a5 a6 a7 : Nat → Int32} {f : Nat} (k x y : Nat) (h : x < y) (hw : sq_iw K w a1 a2 a3 a4 a5 a6 a7 f y = true) : sq_a K w a1 a2 a3 a4 a5 a6 a7 f k x y = sq_ea K w a1 a2 a3 a4 a5 a6 a7 f k x y := by
  unfold sq_a
  rw [sq_gt h hw, Nat.one_mul]
theorem sq_esK {K : Nat} {w : Int32} {a1 a2 a3 a4 a5 a6 a7 : Nat → Int32} {f k x y : Nat} (h : ¬ k < K) : sq_es K w a1 a2 a3 a4 a5 a6 a7 f k x y = 0 := if_neg (fun z => h z.1)
theorem sq_eaK {K : Nat} {w : Int32} {a1 a2 a3 a4 a5 a6 a7 : Nat → Int32} {f k x y : Nat} (h : ¬ k + 1 < K) : sq_ea K w a1 a2 a3 a4 a5 a6 a7 f k x y = 0 := if_neg (fun z => h z.1)
theorem sq_aK {K : Nat} {w : Int32} {a1 a2 a3 a4 a5 a6 a7 : Nat → Int32} {f : Nat} (k x y : Nat) (h : ¬ k + 1 < K) : sq_a K w a1 a2 a3 a4 a5 a6 a7 f k x y = 0 := by
  unfold sq_a
  rw [sq_eaK h, Nat.mul_zero]
theorem sq_Rn_eq {K : Nat} {w : Int32} {a1 a2 a3 a4 a5 a6 a7 : Nat → Int32} {f : Nat} (e k : Nat) : sq_Rn K w a1 a2 a3 a4 a5 a6 a7 f e k = sq_b K w a1 a2 a3 a4 a5 a6 a7 f e k + sq_sm (fun x => sq_ct (sq_s K w a1 a2 a3 a4 a5 a6 a7 f) (sq_a K w a1 a2 a3 a4 a5 a6 a7 f) (sq_Rn K w a1 a2 a3 a4 a5 a6 a7 f) x e k) e := sq_R_eq _ _ _ e k
theorem sq_Rn_lt {K : Nat} {w : Int32} {a1 a2 a3 a4 a5 a6 a7 : Nat → Int32} {f e : Nat} (k : Nat) (h : e < f) : sq_Rn K w a1 a2 a3 a4 a5 a6 a7 f e k = 0 :=
  sq_R_0 (f := f) (fun e k he => if_neg (fun z => absurd z.1 (by omega))) e k h
theorem sq_Rn_f {K : Nat} {w : Int32} {a1 a2 a3 a4 a5 a6 a7 : Nat → Int32} {f : Nat} (k : Nat) : sq_Rn K w a1 a2 a3 a4 a5 a6 a7 f f k = sq_b K w a1 a2 a3 a4 a5 a6 a7 f f k := by
  have t : sq_sm (fun x => sq_ct (sq_s K w a1 a2 a3 a4 a5 a6 a7 f) (sq_a K w a1 a2 a3 a4 a5 a6 a7 f) (sq_Rn K w a1 a2 a3 a4 a5 a6 a7 f) x f k) f = 0 := sq_sm_0 (fun x hx => sq_ct_0 (fun k' => sq_Rn_lt k' hx) k)
  rw [sq_Rn_eq, t, Nat.add_zero]
theorem sq_Rn_gt {K : Nat} {w : Int32} {a1 a2 a3 a4 a5 a6 a7 : Nat → Int32} {f e : Nat} (k : Nat) (h : f < e) : sq_Rn K w a1 a2 a3 a4 a5 a6 a7 f e k = sq_sm (fun x => sq_ct (sq_s K w a1 a2 a3 a4 a5 a6 a7 f) (sq_a K w a1 a2 a3 a4 a5 a6 a7 f) (sq_Rn K w a1 a2 a3 a4 a5 a6 a7 f) x e k) e := by
  have t : sq_b K w a1 a2 a3 a4 a5 a6 a7 f e k = 0 := if_neg (fun z => absurd z.1 (by omega))
  rw [sq_Rn_eq, t, Nat.zero_add]
theorem sq_Rn_out {K : Nat} {w : Int32} {a1 a2 a3 a4 a5 a6 a7 : Nat → Int32} {f e : Nat} (k : Nat) (h : f < e) (hw : sq_iw K w a1 a2 a3 a4 a5 a6 a7 f e = false) : sq_Rn K w a1 a2 a3 a4 a5 a6 a7 f e k = 0 := by
  rw [sq_Rn_gt k h]
  exact sq_sm_0 (fun x _ => sq_ct_w0 (fun k' => sq_sw k' x e hw) (fun k' => sq_aw k' x e hw) k)
theorem sq_Rn_b {K : Nat} {w : Int32} {a1 a2 a3 a4 a5 a6 a7 : Nat → Int32} {f : Nat} (e k : Nat) : sq_Rn K w a1 a2 a3 a4 a5 a6 a7 f e k ≤ 3 ^ e := sq_R_b sq_s1 sq_a1 sq_b1 e k
theorem sq_Wn_eq {K : Nat} {w : Int32} {a1 a2 a3 a4 a5 a6 a7 : Nat → Int32} {n f x : Nat} (k : Nat) (hx : x < n) : sq_Wn n K w a1 a2 a3 a4 a5 a6 a7 f x k = sq_l K k + sq_sm (fun y => sq_s K w a1 a2 a3 a4 a5 a6 a7 f k x y * sq_Wn n K w a1 a2 a3 a4 a5 a6 a7 f y k + sq_a K w a1 a2 a3 a4 a5 a6 a7 f k x y * sq_Wn n K w a1 a2 a3 a4 a5 a6 a7 f y (k + 1)) n :=
  sq_W_eq sq_s0 sq_a0 k hx
theorem sq_iw_m {K : Nat} {w w' : Int32} {a1 a2 a3 a4 a5 a6 a7 : Nat → Int32} {f y : Nat} (hw : w ≤ w') (h : sq_iw K w a1 a2 a3 a4 a5 a6 a7 f y = true) : sq_iw K w' a1 a2 a3 a4 a5 a6 a7 f y = true := by
  unfold sq_iw at h ⊢
  by_cases z : w' < a7 y - a7 f
  · have z' : w < a7 y - a7 f := by
      rw [Int32.lt_iff_toInt_lt] at z ⊢
      rw [Int32.le_iff_toInt_le] at hw
      omega
    rw [if_pos z'] at h
    exact absurd h (by decide)
  · rw [if_neg z]
theorem sq_g_m {K : Nat} {w w' : Int32} {a1 a2 a3 a4 a5 a6 a7 : Nat → Int32} {f x y : Nat} (hw : w ≤ w') : sq_g K w a1 a2 a3 a4 a5 a6 a7 f x y ≤ sq_g K w' a1 a2 a3 a4 a5 a6 a7 f x y := by
  by_cases z : x < y ∧ sq_iw K w a1 a2 a3 a4 a5 a6 a7 f y = true
  · have z' : sq_g K w' a1 a2 a3 a4 a5 a6 a7 f x y = 1 := sq_gt z.1 (sq_iw_m hw z.2)
    rw [z']
    exact sq_g1
  · have z' : sq_g K w a1 a2 a3 a4 a5 a6 a7 f x y = 0 := if_neg z
    rw [z']
    exact Nat.zero_le _
theorem sq_Rn_m {K : Nat} {w w' : Int32} {a1 a2 a3 a4 a5 a6 a7 : Nat → Int32} {f : Nat} (hw : w ≤ w') (e k : Nat) : sq_Rn K w a1 a2 a3 a4 a5 a6 a7 f e k ≤ sq_Rn K w' a1 a2 a3 a4 a5 a6 a7 f e k :=
  sq_R_m (s' := sq_s K w' a1 a2 a3 a4 a5 a6 a7 f) (a' := sq_a K w' a1 a2 a3 a4 a5 a6 a7 f) (fun k x y => Nat.mul_le_mul_right (sq_es K w a1 a2 a3 a4 a5 a6 a7 f k x y) (sq_g_m hw)) (fun k x y => Nat.mul_le_mul_right (sq_ea K w a1 a2 a3 a4 a5 a6 a7 f k x y) (sq_g_m hw)) e k
theorem sq_wh_m {K : Nat} {w w' : Int32} {a1 a2 a3 a4 a5 a6 a7 : Nat → Int32} {f : Nat} (hw : w ≤ w') (x : Nat) : sq_wh K w a1 a2 a3 a4 a5 a6 a7 f x ≤ sq_wh K w' a1 a2 a3 a4 a5 a6 a7 f x := by
  unfold sq_wh
  by_cases z : K = 0
  · rw [if_pos z]
    exact Nat.zero_le _
  · rw [if_neg z, if_neg z]
    exact sq_Rn_m hw x (K - 1)
theorem sq_fin_m {K n : Nat} {w w' : Int32} {a1 a2 a3 a4 a5 a6 a7 : Nat → Int32} (hw : w ≤ w') : sq_fin n K w a1 a2 a3 a4 a5 a6 a7 ≤ sq_fin n K w' a1 a2 a3 a4 a5 a6 a7 :=
  sq_sm_le (fun f _ => sq_sm_le (fun x _ => sq_wh_m hw x))
theorem sq_wh_b {K : Nat} {w : Int32} {a1 a2 a3 a4 a5 a6 a7 : Nat → Int32} {f x : Nat} (hx : x < 10) : sq_wh K w a1 a2 a3 a4 a5 a6 a7 f x ≤ 19683 := by
  unfold sq_wh
  by_cases z : K = 0
  · rw [if_pos z]
    exact Nat.zero_le _
  · rw [if_neg z]
    exact Nat.le_trans (sq_Rn_b x (K - 1)) (Nat.le_trans (Nat.pow_le_pow_right (by decide) (show x ≤ 9 by omega)) (by decide))
theorem sq_fin_b {K : Nat} {w : Int32} {a1 a2 a3 a4 a5 a6 a7 : Nat → Int32} {n : Nat} (hn : n ≤ 10) : sq_fin n K w a1 a2 a3 a4 a5 a6 a7 ≤ 1968300 := by
  have h1 : ∀ f, f < n → sq_beg n K w a1 a2 a3 a4 a5 a6 a7 f ≤ 196830 := fun f _ => by
    have h := sq_sm_c (g := fun x => sq_wh K w a1 a2 a3 a4 a5 a6 a7 f x) (m := n) (c := 19683) (fun x hx => sq_wh_b (by omega))
    show sq_sm (fun x => sq_wh K w a1 a2 a3 a4 a5 a6 a7 f x) n ≤ 196830
    omega
  have h2 := sq_sm_c (g := fun f => sq_beg n K w a1 a2 a3 a4 a5 a6 a7 f) (m := n) (c := 196830) h1
  show sq_sm (fun f => sq_beg n K w a1 a2 a3 a4 a5 a6 a7 f) n ≤ 1968300
  omega
theorem sq_wh_lt {K : Nat} {w : Int32} {a1 a2 a3 a4 a5 a6 a7 : Nat → Int32} {f x : Nat} (h : x < f) : sq_wh K w a1 a2 a3 a4 a5 a6 a7 f x = 0 := by
  unfold sq_wh
  by_cases z : K = 0
  · rw [if_pos z]
  · rw [if_neg z, sq_Rn_lt _ h]
theorem sq_uf_le {K : Nat} {w : Int32} {a1 a2 a3 a4 a5 a6 a7 : Nat → Int32} {n e f : Nat} (he : e < n) : sq_uf n K w a1 a2 a3 a4 a5 a6 a7 e f ≤ sq_beg n K w a1 a2 a3 a4 a5 a6 a7 f := by
  have h := sq_phi (s := sq_s K w a1 a2 a3 a4 a5 a6 a7 f) (a := sq_a K w a1 a2 a3 a4 a5 a6 a7 f) (R := sq_Rn K w a1 a2 a3 a4 a5 a6 a7 f) (W := sq_Wn n K w a1 a2 a3 a4 a5 a6 a7 f) (l := sq_l K) (K := K) (n := n) sq_s0 sq_a0 sq_aK
    (fun e k => by
      rw [sq_Rn_eq e k]
      exact Nat.le_add_left _ _) (fun x k hx => sq_Wn_eq k hx) he
  have h2 : sq_sm (fun x => sq_sm (fun k => sq_Rn K w a1 a2 a3 a4 a5 a6 a7 f x k * sq_l K k) K) n = sq_sm (fun x => sq_wh K w a1 a2 a3 a4 a5 a6 a7 f x) n := sq_sm_eq (fun x _ => sq_sm_last (fun k => sq_Rn K w a1 a2 a3 a4 a5 a6 a7 f x k) K)
  rw [h2] at h
  exact h
theorem sq_use_le {K : Nat} {w : Int32} {a1 a2 a3 a4 a5 a6 a7 : Nat → Int32} {n e : Nat} (he : e < n) : sq_use n K w a1 a2 a3 a4 a5 a6 a7 e ≤ sq_fin n K w a1 a2 a3 a4 a5 a6 a7 :=
  Nat.le_trans (sq_sm_le (h := fun f => sq_beg n K w a1 a2 a3 a4 a5 a6 a7 f) (fun f _ => sq_uf_le he)) (sq_sm_mono (show e + 1 ≤ n by omega))
theorem sq_end_n {K : Nat} {w : Int32} {a1 a2 a3 a4 a5 a6 a7 : Nat → Int32} {n e : Nat} (he : e < n) : sq_end K w a1 a2 a3 a4 a5 a6 a7 e = sq_sm (fun f => sq_wh K w a1 a2 a3 a4 a5 a6 a7 f e) n :=
  (sq_sm_ext (g := fun f => sq_wh K w a1 a2 a3 a4 a5 a6 a7 f e) (show e + 1 ≤ n by omega) (fun f h _ => sq_wh_lt (by omega))).symm
theorem sq_end_sum (K : Nat) (w : Int32) (a1 a2 a3 a4 a5 a6 a7 : Nat → Int32) (n : Nat) : sq_sm (fun e => sq_end K w a1 a2 a3 a4 a5 a6 a7 e) n = sq_fin n K w a1 a2 a3 a4 a5 a6 a7 := by
  have h1 : sq_sm (fun e => sq_end K w a1 a2 a3 a4 a5 a6 a7 e) n = sq_sm (fun e => sq_sm (fun f => sq_wh K w a1 a2 a3 a4 a5 a6 a7 f e) n) n := sq_sm_eq (fun e he => sq_end_n he)
  rw [h1]
  exact sq_sm_comm (fun e f => sq_wh K w a1 a2 a3 a4 a5 a6 a7 f e) n n
end
section
theorem sq_ix (k e : Nat) : nI k * 10 + nI e = nI (k * 10 + e) := by
  rw [show (10 : Int32) = nI 10 from rfl, pk_mul, nI_add]
theorem sq_n0 {a : Nat} (c : Nat) (h : nI a = 0) : nI (a * c) = 0 := by
  rw [← pk_mul, h, Int32.zero_mul]
theorem sq_nz {a c : Nat} (h : c = 0) : nI (a * c) = 0 := by
  rw [h, Nat.mul_zero]
  exact nI_0
theorem sq_meets27 {post : Int32 → Prop} {S w c b : Int32} {a1 a2 a3 a4 a5 a6 a7 a8 a9 a10 : Nat → Int32} {f k e : Nat} (hk : k < 4) (he : e < 10) (hf : f < 10) (hb : ¬ b < 0 → vp_in b 10)
    (h1 : sq_m27 a2 a3 a6 f k b e = true → post 1) (h0 : sq_m27 a2 a3 a6 f k b e = false → post 0) : wX_meets_27 post (nI k) b (nI e) S w c (nI f) a1 a2 a3 a4 a5 a6 a7 a8 a9 a10 := by
  unfold wX_meets_27
  rw [nI_clamp (show k < 2 ^ 31 by omega), nI_clamp (show e < 2 ^ 31 by omega), nI_clamp (show f < 2 ^ 31 by omega)]
  refine ⟨pk_in k 4 hk, br_c (fun z1 => br_c (fun zb => h1 ?_) (fun zb => ⟨pk_in e 10 he, hb zb, br_c (fun zc => h0 ?_) (fun zc => h1 ?_)⟩)) (fun z1 => ⟨pk_in k 4 hk, br_c (fun z2 => br_c (fun zb => h1 ?_) (fun zb => ⟨pk_in e 10 he, hb zb, br_c (fun zc => h0 ?_) (fun zc => h1 ?_)⟩)) (fun z2 => ⟨pk_in k 4 hk, br_c (fun z3 => ⟨pk_in e 10 he, pk_in k 4 hk, br_c (fun zc => h1 ?_) (fun zc => h0 ?_)⟩) (fun z3 => ⟨pk_in k 4 hk, br_c (fun z4 => ⟨pk_in e 10 he, pk_in f 10 hf, br_c (fun zc => h1 ?_) (fun zc => h0 ?_)⟩) (fun z4 => h1 ?_)⟩)⟩)⟩)⟩
  · unfold sq_m27
    rw [if_pos z1, if_pos zb]
  · unfold sq_m27
    rw [if_pos z1, if_neg zb, if_pos zc]
  · unfold sq_m27
    rw [if_pos z1, if_neg zb, if_neg zc]
  · unfold sq_m27
    rw [if_neg z1, if_pos z2, if_pos zb]
  · unfold sq_m27
    rw [if_neg z1, if_pos z2, if_neg zb, if_pos zc]
  · unfold sq_m27
    rw [if_neg z1, if_pos z2, if_neg zb, if_neg zc]
  · unfold sq_m27
    rw [if_neg z1, if_neg z2, if_pos z3, if_pos zc]
  · unfold sq_m27
    rw [if_neg z1, if_neg z2, if_pos z3, if_neg zc]
  · unfold sq_m27
    rw [if_neg z1, if_neg z2, if_neg z3, if_pos z4, if_pos zc]
  · unfold sq_m27
    rw [if_neg z1, if_neg z2, if_neg z3, if_pos z4, if_neg zc]
  · unfold sq_m27
    rw [if_neg z1, if_neg z2, if_neg z3, if_neg z4]
theorem sq_meets {post : Int32 → Prop} {K : Nat} {w : Int32} {a1 a2 a3 a4 a5 a6 a7 : Nat → Int32} {a8 a9 a10 : Nat → Int32} {c b : Int32} {f k e : Nat} (hk : k < 4) (he : e < 10) (hf : f < 10) (hb : ¬ b < 0 → vp_in b 10)
    (h1 : sq_mt K w a1 a2 a3 a4 a5 a6 a7 f k b e = true → post 1) (h0 : sq_mt K w a1 a2 a3 a4 a5 a6 a7 f k b e = false → post 0) : wpX_meets post (nI K, w, c, nI f, a1, a2, a3, a4, a5, a6, a7, a8, a9, a10) (nI k) b (nI e) := by
  unfold wpX_meets
  dsimp only
  rw [nI_clamp (show k < 2 ^ 31 by omega), nI_clamp (show e < 2 ^ 31 by omega)]
  refine ⟨pk_in k 4 hk, br_c (fun z => sq_meets27 hk he hf hb (fun m => h1 ?_) (fun m => h0 ?_)) (fun z => ⟨pk_in k 4 hk, pk_in e 10 he, br_c (fun y => sq_meets27 hk he hf hb (fun m => h1 ?_) (fun m => h0 ?_)) (fun y => h0 ?_)⟩)⟩
  · unfold sq_mt
    rw [if_pos (Or.inl z)]
    exact m
  · unfold sq_mt
    rw [if_pos (Or.inl z)]
    exact m
  · unfold sq_mt
    rw [if_pos (Or.inr y)]
    exact m
  · unfold sq_mt
    rw [if_pos (Or.inr y)]
    exact m
  · unfold sq_mt
    rw [if_neg (fun t => t.elim z y)]
theorem sq_inW {post : Int32 → Prop} {K : Nat} {w : Int32} {a1 a2 a3 a4 a5 a6 a7 : Nat → Int32} {a8 a9 a10 : Nat → Int32} {c : Int32} {f e : Nat} (he : e < 10) (hf : f < 10)
    (h1 : sq_iw K w a1 a2 a3 a4 a5 a6 a7 f e = true → post 1) (h0 : sq_iw K w a1 a2 a3 a4 a5 a6 a7 f e = false → post 0) : wpX_inWindow post (nI K, w, c, nI f, a1, a2, a3, a4, a5, a6, a7, a8, a9, a10) (nI e) := by
  unfold wpX_inWindow
  dsimp only
  rw [nI_clamp (show e < 2 ^ 31 by omega), nI_clamp (show f < 2 ^ 31 by omega)]
  refine ⟨pk_in e 10 he, pk_in f 10 hf, br_c (fun z => h0 ?_) (fun z => h1 ?_)⟩
  · unfold sq_iw
    rw [if_pos z]
  · unfold sq_iw
    rw [if_neg z]
theorem sq_add {post : St1 → Prop} {S w c fi : Int32} {a1 a2 a3 a4 a5 a6 a7 a8 a9 a10 : Nat → Int32} {p0 p1 p2 : Int32} {j : Nat} (hp : p0 = nI j) (hj : j < 40)
    (H : ∀ b10, post (S, w, c, fi, a1, a2, a3, a4, a5, a6, a7, upd a8 j (a8 j + p1), a9, b10)) : wpX_add post (S, w, c, fi, a1, a2, a3, a4, a5, a6, a7, a8, a9, a10) p0 p1 p2 := by
  subst hp
  unfold wpX_add
  dsimp only
  rw [nI_clamp (show j < 2 ^ 31 by omega)]
  exact ⟨pk_in j 40 hj, pk_in j 40 hj, nm_e ⟨pk_in j 40 hj, br_c (fun _ => ⟨pk_in j 40 hj, pk_in j 40 hj, nm_e (H _)⟩) (fun _ => ⟨pk_in j 40 hj, nm_e (H _)⟩)⟩⟩
/-- the array of runs holds the table g (event, step) -/
def sq_T (a : Nat → Int32) (g : Nat → Nat → Nat) : Prop := ∀ k y, k < 4 → y < 10 → a (k * 10 + y) = nI (g y k)
theorem sq_T_c {a : Nat → Int32} {g g' : Nat → Nat → Nat} (h : sq_T a g) (e : ∀ k y, k < 4 → y < 10 → g y k = g' y k) : sq_T a g' := fun k y hk hy => by
  rw [h k y hk hy, e k y hk hy]
theorem sq_T_add {a : Nat → Int32} {g : Nat → Nat → Nat} {k y d j : Nat} {v : Int32} (h : sq_T a g) (hy : y < 10) (hj : j = k * 10 + y) (hv : v = nI d) : sq_T (upd a j (a j + v)) (fun y' k' => g y' k' + if y' = y ∧ k' = k then d else 0) := by
  intro k' y' hk' hy'
  show upd a j (a j + v) (k' * 10 + y') = nI (g y' k' + if y' = y ∧ k' = k then d else 0)
  by_cases e : y' = y ∧ k' = k
  · have ej : k' * 10 + y' = j := by omega
    have ha := h k' y' hk' hy'
    rw [ej] at ha ⊢
    rw [pk_us, ha, hv, nI_add, if_pos e]
  · rw [pk_un (show k' * 10 + y' ≠ j by omega), h k' y' hk' hy', if_neg e, Nat.add_zero]
theorem sq_T_z {a : Nat → Int32} {g : Nat → Nat → Nat} {k y d : Nat} (h : sq_T a g) (hd : nI d = 0) : sq_T a (fun y' k' => g y' k' + if y' = y ∧ k' = k then d else 0) := by
  intro k' y' hk' hy'
  show a (k' * 10 + y') = nI (g y' k' + if y' = y ∧ k' = k then d else 0)
  rw [h k' y' hk' hy']
  by_cases e : y' = y ∧ k' = k
  · rw [if_pos e, ← nI_add, hd, Int32.add_zero]
  · rw [if_neg e, Nat.add_zero]
theorem sq_ext64 {post : St1 → Prop} {K : Nat} {w : Int32} {a1 a2 a3 a4 a5 a6 a7 : Nat → Int32} {a8 a9 a10 : Nat → Int32} {c : Int32} {k x e f : Nat} {g : Nat → Nat → Nat} (hK : K ≤ 4) (hk : k < K) (hx : x < 10) (he : e < 10) (hf : f < 10) (h : sq_T a8 g)
    (H : ∀ b8 b10, sq_T b8 (fun y' k' => g y' k' + if y' = e ∧ k' = k + 1 then g x k * sq_ea K w a1 a2 a3 a4 a5 a6 a7 f k x e else 0) → post (nI K, w, c, nI f, a1, a2, a3, a4, a5, a6, a7, b8, a9, b10)) :
    wX_extend_64 post (nI k) (nI x) (nI e) (nI (k * 10 + x)) (nI K) w c (nI f) a1 a2 a3 a4 a5 a6 a7 a8 a9 a10 := by
  unfold wX_extend_64
  rw [nI_1 k, nI_clamp (show k * 10 + x < 2 ^ 31 by omega)]
  refine pk_le K (k + 1) (fun z => H _ _ (sq_T_z h (sq_nz (sq_eaK (by omega))))) (fun z => sq_meets (by omega) he hf (fun _ => pk_in x 10 hx) (fun m => br_f (by decide) ⟨pk_in (k * 10 + x) 40 (by omega), pk_in (k * 10 + x) 40 (by omega), sq_add (j := (k + 1) * 10 + e) (sq_ix (k + 1) e) (by omega) (fun b10 => H _ _ (sq_T_add h he rfl ?_))⟩) (fun m => br_t rfl (H _ _ (sq_T_z h (sq_nz ?_)))))
  · have t : sq_ea K w a1 a2 a3 a4 a5 a6 a7 f k x e = 1 := if_pos ⟨z, m⟩
    rw [t, Nat.mul_one]
    exact h k x (by omega) hx
  · exact if_neg (fun t => by
      rw [m] at t
      exact absurd t.2 (by decide))
theorem sq_extend {post : St1 → Prop} {K : Nat} {w : Int32} {a1 a2 a3 a4 a5 a6 a7 : Nat → Int32} {a8 a9 a10 : Nat → Int32} {c : Int32} {k x e f : Nat} {g : Nat → Nat → Nat} (hK : K ≤ 4) (hk : k < K) (hx : x < 10) (he : e < 10) (hxe : x ≠ e) (hf : f < 10) (h : sq_T a8 g)
    (H : ∀ b8 b10, sq_T b8 (fun y' k' => (g y' k' + if y' = e ∧ k' = k then g x k * sq_es K w a1 a2 a3 a4 a5 a6 a7 f k x e else 0) + if y' = e ∧ k' = k + 1 then g x k * sq_ea K w a1 a2 a3 a4 a5 a6 a7 f k x e else 0) → post (nI K, w, c, nI f, a1, a2, a3, a4, a5, a6, a7, b8, a9, b10)) :
    wpX_extend post (nI K, w, c, nI f, a1, a2, a3, a4, a5, a6, a7, a8, a9, a10) (nI k) (nI x) (nI e) := by
  have hn : ∀ b8 b10, sq_T b8 (fun y' k' => g y' k' + if y' = e ∧ k' = k then g x k * sq_es K w a1 a2 a3 a4 a5 a6 a7 f k x e else 0) → wX_extend_64 post (nI k) (nI x) (nI e) (nI (k * 10 + x)) (nI K) w c (nI f) a1 a2 a3 a4 a5 a6 a7 b8 a9 b10 := fun b8 b10 hb =>
    sq_ext64 hK hk hx he hf hb (fun c8 c10 hc => H c8 c10 (sq_T_c hc (fun k' y' _ _ => by
      show (g y' k' + if y' = e ∧ k' = k then g x k * sq_es K w a1 a2 a3 a4 a5 a6 a7 f k x e else 0) + (if y' = e ∧ k' = k + 1 then (g x k + if x = e ∧ k = k then g x k * sq_es K w a1 a2 a3 a4 a5 a6 a7 f k x e else 0) * sq_ea K w a1 a2 a3 a4 a5 a6 a7 f k x e else 0) = (g y' k' + if y' = e ∧ k' = k then g x k * sq_es K w a1 a2 a3 a4 a5 a6 a7 f k x e else 0) + if y' = e ∧ k' = k + 1 then g x k * sq_ea K w a1 a2 a3 a4 a5 a6 a7 f k x e else 0
      rw [if_neg (show ¬ (x = e ∧ k = k) from fun t => hxe t.1), Nat.add_zero (g x k)])))
  unfold wpX_extend
  dsimp only
  refine nm_r (sq_ix k x) ?_
  rw [nI_clamp (show k * 10 + x < 2 ^ 31 by omega), nI_clamp (show k < 2 ^ 31 by omega)]
  have hg := h k x (by omega) hx
  refine ⟨pk_in (k * 10 + x) 40 (by omega), br_c (fun z => H _ _ (sq_T_z (sq_T_z h (sq_n0 _ (hg.symm.trans z))) (sq_n0 _ (hg.symm.trans z)))) (fun z => ⟨pk_in k 4 (by omega), br_c (fun z4 => hn _ _ (sq_T_z h (sq_nz (if_neg (fun t => t.2.1 z4))))) (fun z4 => sq_meets (by omega) he hf (fun _ => pk_in x 10 hx) (fun m => br_f (by decide) ⟨pk_in (k * 10 + x) 40 (by omega), pk_in (k * 10 + x) 40 (by omega), sq_add (j := k * 10 + e) (sq_ix k e) (by omega) (fun b10 => hn _ _ (sq_T_add h he rfl ?_))⟩) (fun m => br_t rfl (hn _ _ (sq_T_z h (sq_nz ?_)))))⟩)⟩
  · have t : sq_es K w a1 a2 a3 a4 a5 a6 a7 f k x e = 1 := if_pos ⟨hk, z4, m⟩
    rw [t, Nat.mul_one]
    exact hg
  · exact if_neg (fun t => by
      rw [m] at t
      exact absurd t.2.2 (by decide))
theorem sq_extAll {post : St1 → Prop} {K : Nat} {w : Int32} {a1 a2 a3 a4 a5 a6 a7 : Nat → Int32} {a8 a9 a10 : Nat → Int32} {c : Int32} {x e f : Nat} {g : Nat → Nat → Nat} (hK : K ≤ 4) (hx : x < 10) (he : e < 10) (hxe : x ≠ e) (hf : f < 10) (h : sq_T a8 g)
    (H : ∀ b8 b10, sq_T b8 (fun y' k' => g y' k' + if y' = e then sq_ct (sq_es K w a1 a2 a3 a4 a5 a6 a7 f) (sq_ea K w a1 a2 a3 a4 a5 a6 a7 f) g x e k' else 0) → post (nI K, w, c, nI f, a1, a2, a3, a4, a5, a6, a7, b8, a9, b10)) :
    wpX_extendAll post (nI K, w, c, nI f, a1, a2, a3, a4, a5, a6, a7, a8, a9, a10) (nI x) (nI e) := by
  unfold wpX_extendAll
  dsimp only
  refine pk_loop (σ := (Nat → Int32) × (Nat → Int32)) (fun m i s => wX_extendAll_2 post (nI x) (nI e) m (nI i) (nI K) w c (nI f) a1 a2 a3 a4 a5 a6 a7 s.1 a9 s.2) (fun i s => sq_T s.1 (fun y' k' => g y' k' + if y' = e then sq_pc (sq_es K w a1 a2 a3 a4 a5 a6 a7 f) (sq_ea K w a1 a2 a3 a4 a5 a6 a7 f) g x e i k' else 0)) K 0 (a8, a10) (by omega) ?_ ?_ ?_
  · exact sq_T_c h (fun k y _ _ => by
      show g y k = g y k + if y = e then sq_pc (sq_es K w a1 a2 a3 a4 a5 a6 a7 f) (sq_ea K w a1 a2 a3 a4 a5 a6 a7 f) g x e 0 k else 0
      by_cases z : y = e
      · rw [if_pos z, sq_pc_0, Nat.add_zero]
      · rw [if_neg z, Nat.add_zero])
  · intro m s hI
    exact pk_le K K (fun _ => H s.1 s.2 (sq_T_c hI (fun k y _ _ => by
      show (g y k + if y = e then sq_pc (sq_es K w a1 a2 a3 a4 a5 a6 a7 f) (sq_ea K w a1 a2 a3 a4 a5 a6 a7 f) g x e K k else 0) = g y k + if y = e then sq_ct (sq_es K w a1 a2 a3 a4 a5 a6 a7 f) (sq_ea K w a1 a2 a3 a4 a5 a6 a7 f) g x e k else 0
      rw [sq_pc_K (fun k' hk' => sq_esK hk') (fun k' hk' => sq_eaK (by omega)) k]))) (fun z => absurd z (by omega))
  · intro m i s hi hI hw
    refine pk_le K i (fun z => absurd z (by omega)) (fun _ => sq_extend hK hi hx he hxe hf hI (fun b8 b10 hb => nm_r (nI_1 i) (hw (b8, b10) (sq_T_c hb (fun k y _ _ => ?_)))))
    show ((g y k + if y = e then sq_pc (sq_es K w a1 a2 a3 a4 a5 a6 a7 f) (sq_ea K w a1 a2 a3 a4 a5 a6 a7 f) g x e i k else 0) + if y = e ∧ k = i then (g x i + if x = e then sq_pc (sq_es K w a1 a2 a3 a4 a5 a6 a7 f) (sq_ea K w a1 a2 a3 a4 a5 a6 a7 f) g x e i i else 0) * sq_es K w a1 a2 a3 a4 a5 a6 a7 f i x e else 0) + (if y = e ∧ k = i + 1 then (g x i + if x = e then sq_pc (sq_es K w a1 a2 a3 a4 a5 a6 a7 f) (sq_ea K w a1 a2 a3 a4 a5 a6 a7 f) g x e i i else 0) * sq_ea K w a1 a2 a3 a4 a5 a6 a7 f i x e else 0) = g y k + if y = e then sq_pc (sq_es K w a1 a2 a3 a4 a5 a6 a7 f) (sq_ea K w a1 a2 a3 a4 a5 a6 a7 f) g x e (i + 1) k else 0
    rw [if_neg hxe, Nat.add_zero (g x i), sq_pc_s i k]
    by_cases z : y = e
    · rw [if_pos z, if_pos z]
      by_cases z1 : k = i
      · rw [if_pos ⟨z, z1⟩, if_pos z1, if_neg (show ¬ (y = e ∧ k = i + 1) by omega), if_neg (show ¬ k = i + 1 by omega)]
        omega
      · rw [if_neg (show ¬ (y = e ∧ k = i) by omega), if_neg z1]
        by_cases z2 : k = i + 1
        · rw [if_pos ⟨z, z2⟩, if_pos z2]
          omega
        · rw [if_neg (show ¬ (y = e ∧ k = i + 1) by omega), if_neg z2]
          omega
    · rw [if_neg z, if_neg (show ¬ (y = e ∧ k = i) by omega), if_neg (show ¬ (y = e ∧ k = i + 1) by omega), if_neg z]
      all_goals omega
end
section
theorem sq_rf79 {post : St1 → Prop} {J : Int32 → Int32 → Int32 → Int32 → Int32 → (Nat → Int32) → (Nat → Int32) → (Nat → Int32) → (Nat → Int32) → (Nat → Int32) → (Nat → Int32) → (Nat → Int32) → (Nat → Int32) → (Nat → Int32) → (Nat → Int32) → Prop}
    {K : Nat} {w : Int32} {a1 a2 a3 a4 a5 a6 a7 : Nat → Int32} {a8 a9 a10 : Nat → Int32} {c : Int32} {e f : Nat} (hK : K ≤ 4) (hfe : f < e) (he : e < 10) (hw : sq_iw K w a1 a2 a3 a4 a5 a6 a7 f e = true) (h : sq_T a8 (fun y k => if y < e then sq_Rn K w a1 a2 a3 a4 a5 a6 a7 f y k else 0))
    (H : ∀ b8 b10, sq_T b8 (fun y k => if y < e + 1 then sq_Rn K w a1 a2 a3 a4 a5 a6 a7 f y k else 0) → J (nI (e + 1)) (nI K) w c (nI f) a1 a2 a3 a4 a5 a6 a7 b8 a9 b10) :
    ∃ m, wX_runFrom_79 post J (nI f) (nI e) m (nI f) (nI K) w c (nI f) a1 a2 a3 a4 a5 a6 a7 a8 a9 a10 := by
  refine pk_loop (σ := (Nat → Int32) × (Nat → Int32)) (fun m i s => wX_runFrom_79 post J (nI f) (nI e) m (nI i) (nI K) w c (nI f) a1 a2 a3 a4 a5 a6 a7 s.1 a9 s.2) (fun i s => sq_T s.1 (fun y k => if y < e then sq_Rn K w a1 a2 a3 a4 a5 a6 a7 f y k else if y = e then sq_sm (fun x => sq_ct (sq_s K w a1 a2 a3 a4 a5 a6 a7 f) (sq_a K w a1 a2 a3 a4 a5 a6 a7 f) (sq_Rn K w a1 a2 a3 a4 a5 a6 a7 f) x e k) i else 0)) e f (a8, a10) (by omega) ?_ ?_ ?_
  · exact sq_T_c h (fun k y _ _ => by
      show (if y < e then sq_Rn K w a1 a2 a3 a4 a5 a6 a7 f y k else 0) = if y < e then sq_Rn K w a1 a2 a3 a4 a5 a6 a7 f y k else if y = e then sq_sm (fun x => sq_ct (sq_s K w a1 a2 a3 a4 a5 a6 a7 f) (sq_a K w a1 a2 a3 a4 a5 a6 a7 f) (sq_Rn K w a1 a2 a3 a4 a5 a6 a7 f) x e k) f else 0
      have t : sq_sm (fun x => sq_ct (sq_s K w a1 a2 a3 a4 a5 a6 a7 f) (sq_a K w a1 a2 a3 a4 a5 a6 a7 f) (sq_Rn K w a1 a2 a3 a4 a5 a6 a7 f) x e k) f = 0 := sq_sm_0 (fun x hx => sq_ct_0 (fun k' => sq_Rn_lt k' hx) k)
      rw [t]
      by_cases z : y = e
      · rw [if_pos z]
      · rw [if_neg z])
  · intro m s hI
    refine pk_le e e (fun _ => nm_r (nI_1 e) (H s.1 s.2 (sq_T_c hI (fun k y _ _ => ?_)))) (fun z => absurd z (by omega))
    show (if y < e then sq_Rn K w a1 a2 a3 a4 a5 a6 a7 f y k else if y = e then sq_sm (fun x => sq_ct (sq_s K w a1 a2 a3 a4 a5 a6 a7 f) (sq_a K w a1 a2 a3 a4 a5 a6 a7 f) (sq_Rn K w a1 a2 a3 a4 a5 a6 a7 f) x e k) e else 0) = if y < e + 1 then sq_Rn K w a1 a2 a3 a4 a5 a6 a7 f y k else 0
    by_cases z : y < e
    · rw [if_pos z, if_pos (show y < e + 1 by omega)]
    · by_cases z2 : y = e
      · rw [if_neg z, if_pos z2, if_pos (show y < e + 1 by omega), z2, sq_Rn_gt k hfe]
      · rw [if_neg z, if_neg z2, if_neg (show ¬ y < e + 1 by omega)]
  · intro m i s hi hI hn
    refine pk_le e i (fun z => absurd z (by omega)) (fun _ => sq_extAll hK (by omega) he (by omega) (by omega) hI (fun b8 b10 hb => nm_r (nI_1 i) (hn (b8, b10) (sq_T_c hb (fun k y _ _ => ?_)))))
    have t : sq_ct (sq_es K w a1 a2 a3 a4 a5 a6 a7 f) (sq_ea K w a1 a2 a3 a4 a5 a6 a7 f) (fun y k => if y < e then sq_Rn K w a1 a2 a3 a4 a5 a6 a7 f y k else if y = e then sq_sm (fun x => sq_ct (sq_s K w a1 a2 a3 a4 a5 a6 a7 f) (sq_a K w a1 a2 a3 a4 a5 a6 a7 f) (sq_Rn K w a1 a2 a3 a4 a5 a6 a7 f) x e k) i else 0) i e k = sq_ct (sq_s K w a1 a2 a3 a4 a5 a6 a7 f) (sq_a K w a1 a2 a3 a4 a5 a6 a7 f) (sq_Rn K w a1 a2 a3 a4 a5 a6 a7 f) i e k :=
      sq_ct_c (fun k' => (sq_st k' i e hi hw).symm) (fun k' => (sq_at k' i e hi hw).symm) (fun k' => if_pos hi) k
    show (if y < e then sq_Rn K w a1 a2 a3 a4 a5 a6 a7 f y k else if y = e then sq_sm (fun x => sq_ct (sq_s K w a1 a2 a3 a4 a5 a6 a7 f) (sq_a K w a1 a2 a3 a4 a5 a6 a7 f) (sq_Rn K w a1 a2 a3 a4 a5 a6 a7 f) x e k) i else 0) + (if y = e then sq_ct (sq_es K w a1 a2 a3 a4 a5 a6 a7 f) (sq_ea K w a1 a2 a3 a4 a5 a6 a7 f) (fun y k => if y < e then sq_Rn K w a1 a2 a3 a4 a5 a6 a7 f y k else if y = e then sq_sm (fun x => sq_ct (sq_s K w a1 a2 a3 a4 a5 a6 a7 f) (sq_a K w a1 a2 a3 a4 a5 a6 a7 f) (sq_Rn K w a1 a2 a3 a4 a5 a6 a7 f) x e k) i else 0) i e k else 0) = if y < e then sq_Rn K w a1 a2 a3 a4 a5 a6 a7 f y k else if y = e then sq_sm (fun x => sq_ct (sq_s K w a1 a2 a3 a4 a5 a6 a7 f) (sq_a K w a1 a2 a3 a4 a5 a6 a7 f) (sq_Rn K w a1 a2 a3 a4 a5 a6 a7 f) x e k) i + sq_ct (sq_s K w a1 a2 a3 a4 a5 a6 a7 f) (sq_a K w a1 a2 a3 a4 a5 a6 a7 f) (sq_Rn K w a1 a2 a3 a4 a5 a6 a7 f) i e k else 0
    rw [t]
    by_cases z : y < e
    · rw [if_pos z, if_pos z, if_neg (show ¬ y = e by omega), Nat.add_zero]
    · by_cases z2 : y = e
      · rw [if_neg z, if_neg z, if_pos z2, if_pos z2, if_pos z2]
      · rw [if_neg z, if_neg z, if_neg z2, if_neg z2, if_neg z2]
theorem sq_rf61 {post : St1 → Prop} {K : Nat} {w : Int32} {a1 a2 a3 a4 a5 a6 a7 : Nat → Int32} {a8 a9 a10 : Nat → Int32} {n f : Nat} (hK : K ≤ 4) (hn : n ≤ 10) (hf : f < n) (h : sq_T a8 (fun y k => if y < f + 1 then sq_Rn K w a1 a2 a3 a4 a5 a6 a7 f y k else 0))
    (H : ∀ b8 b10, sq_T b8 (fun y k => if y < n then sq_Rn K w a1 a2 a3 a4 a5 a6 a7 f y k else 0) → post (nI K, w, nI n, nI f, a1, a2, a3, a4, a5, a6, a7, b8, a9, b10)) :
    ∃ m, wX_runFrom_61 post (nI f) m (nI (f + 1)) (nI K) w (nI n) (nI f) a1 a2 a3 a4 a5 a6 a7 a8 a9 a10 := by
  refine pk_loop (σ := (Nat → Int32) × (Nat → Int32)) (fun m i s => wX_runFrom_61 post (nI f) m (nI i) (nI K) w (nI n) (nI f) a1 a2 a3 a4 a5 a6 a7 s.1 a9 s.2) (fun i s => f < i ∧ sq_T s.1 (fun y k => if y < i then sq_Rn K w a1 a2 a3 a4 a5 a6 a7 f y k else 0)) n (f + 1) (a8, a10) (by omega) ⟨by omega, h⟩ ?_ ?_
  · intro m s hI
    exact pk_le n n (fun _ => H s.1 s.2 hI.2) (fun z => absurd z (by omega))
  · intro m i s hi hI hw
    have hfi := hI.1
    refine pk_le n i (fun z => absurd z (by omega)) (fun _ => sq_inW (by omega) (by omega) (fun t => br_f (by decide) (sq_rf79 hK hfi (by omega) t hI.2 (fun b8 b10 hb => hw (b8, b10) ⟨by omega, hb⟩))) (fun t => br_t rfl (nm_r (nI_1 i) (hw s ⟨by omega, sq_T_c hI.2 (fun k y _ _ => ?_)⟩))))
    show (if y < i then sq_Rn K w a1 a2 a3 a4 a5 a6 a7 f y k else 0) = if y < i + 1 then sq_Rn K w a1 a2 a3 a4 a5 a6 a7 f y k else 0
    by_cases z : y < i
    · rw [if_pos z, if_pos (show y < i + 1 by omega)]
    · by_cases z2 : y = i
      · rw [if_neg z, if_pos (show y < i + 1 by omega), z2, sq_Rn_out k hfi t]
      · rw [if_neg z, if_neg (show ¬ y < i + 1 by omega)]
theorem sq_base {K : Nat} {w : Int32} {a1 a2 a3 a4 a5 a6 a7 : Nat → Int32} {f : Nat} {u : Nat} (hu : sq_b K w a1 a2 a3 a4 a5 a6 a7 f f 0 = u) (k y : Nat) : (0 + if y = f ∧ k = 0 then u else 0) = if y < f + 1 then sq_Rn K w a1 a2 a3 a4 a5 a6 a7 f y k else 0 := by
  by_cases z : y < f
  · rw [if_neg (show ¬ (y = f ∧ k = 0) by omega), if_pos (show y < f + 1 by omega), sq_Rn_lt k z]
  · by_cases z2 : y = f
    · rw [if_pos (show y < f + 1 by omega), z2, sq_Rn_f]
      by_cases z3 : k = 0
      · rw [if_pos ⟨rfl, z3⟩, z3, hu, Nat.zero_add]
      · have t : sq_b K w a1 a2 a3 a4 a5 a6 a7 f f k = 0 := if_neg (fun t => z3 t.2.1)
        rw [if_neg (fun t => z3 t.2), t]
    · rw [if_neg (show ¬ (y = f ∧ k = 0) by omega), if_neg (show ¬ y < f + 1 by omega)]
theorem sq_runFrom {post : St1 → Prop} {K : Nat} {w : Int32} {a1 a2 a3 a4 a5 a6 a7 : Nat → Int32} {a8 a9 a10 : Nat → Int32} {fi : Int32} {n f : Nat} (hK : K ≤ 4) (hn : n ≤ 10) (hf : f < n)
    (H : ∀ b8 b10, sq_T b8 (fun y k => if y < n then sq_Rn K w a1 a2 a3 a4 a5 a6 a7 f y k else 0) → post (nI K, w, nI n, nI f, a1, a2, a3, a4, a5, a6, a7, b8, a9, b10)) :
    wpX_runFrom post (nI K, w, nI n, fi, a1, a2, a3, a4, a5, a6, a7, a8, a9, a10) (nI f) := by
  unfold wpX_runFrom
  dsimp only
  refine pk_loop (σ := (Nat → Int32) × (Nat → Int32)) (fun m i s => wX_runFrom_7 post (nI f) (nI K) w (nI n) (nI f) m (nI i) a1 a2 a3 a4 a5 a6 a7 s.1 a9 s.2) (fun i s => ∀ j, j < i → s.1 j = 0) 40 0 (a8, a10) (by omega) (fun j hj => absurd hj (by omega)) ?_ ?_
  · intro m s hI
    have h0 : sq_T s.1 (fun _ _ => 0) := fun k y hk hy => by
      rw [hI (k * 10 + y) (by omega)]
      exact nI_0.symm
    refine pk_le 40 40 (fun _ => pk_le K 0 (fun z => nm_r (nI_1 f) (sq_rf61 hK hn hf (sq_T_c (sq_T_z (k := 0) (y := f) (d := 0) h0 nI_0) (fun k y _ _ => sq_base ?_ k y)) H)) (fun z => sq_meets (k := 0) (b := -1) (by omega) (by omega) (by omega) (fun t => absurd (by decide) t) (fun t => br_f (by decide) (sq_add (j := f) rfl (by omega) (fun b10 => nm_r (nI_1 f) (sq_rf61 hK hn hf (sq_T_c (sq_T_add (k := 0) (y := f) (d := 1) h0 (by omega) (by omega) rfl) (fun k y _ _ => sq_base ?_ k y)) H)))) (fun t => br_t rfl (nm_r (nI_1 f) (sq_rf61 hK hn hf (sq_T_c (sq_T_z (k := 0) (y := f) (d := 0) h0 nI_0) (fun k y _ _ => sq_base ?_ k y)) H))))) (fun z => absurd z (by omega))
    · exact if_neg (fun t => absurd t.2.2.1 (by omega))
    · exact if_pos ⟨rfl, rfl, z, t⟩
    · exact if_neg (fun q => by
        rw [t] at q
        exact absurd q.2.2.2 (by decide))
  · intro m i s hi hI hw
    refine pk_le 40 i (fun z => absurd z (by omega)) (fun _ => ⟨pk_in i 40 hi, nm_e ⟨pk_in i 40 hi, nm_e (nm_r (nI_1 i) (hw (_, _) (fun j hj => ?_)))⟩⟩)
    show upd s.1 (nI i).toNatClampNeg 0 j = 0
    rw [nI_clamp (show i < 2 ^ 31 by omega)]
    by_cases z : j = i
    · rw [z, pk_us]
    · rw [pk_un z]
      exact hI j (by omega)
theorem sq_k1 {K : Nat} (h : 0 < K) : nI K - 1 = nI (K - 1) := by
  obtain ⟨m, rfl⟩ : ∃ m, K = m + 1 := ⟨K - 1, by omega⟩
  rw [nI_pred, Nat.add_sub_cancel]
theorem sq_whole {post : Int32 → Prop} {K : Nat} {w : Int32} {a1 a2 a3 a4 a5 a6 a7 : Nat → Int32} {a8 a9 a10 : Nat → Int32} {c fi : Int32} {n f e : Nat} (hK : K ≤ 4) (hn : n ≤ 10) (he : e < n) (h : sq_T a8 (fun y k => if y < n then sq_Rn K w a1 a2 a3 a4 a5 a6 a7 f y k else 0))
    (H : post (nI (sq_wh K w a1 a2 a3 a4 a5 a6 a7 f e))) : wpX_whole post (nI K, w, c, fi, a1, a2, a3, a4, a5, a6, a7, a8, a9, a10) (nI e) := by
  unfold wpX_whole
  dsimp only
  refine pk_eq K 0 (fun z => ?_) (fun z => ?_)
  · have t : sq_wh K w a1 a2 a3 a4 a5 a6 a7 f e = 0 := if_pos z
    rw [t] at H
    exact H
  · have t : sq_wh K w a1 a2 a3 a4 a5 a6 a7 f e = sq_Rn K w a1 a2 a3 a4 a5 a6 a7 f e (K - 1) := if_neg z
    have q : a8 ((K - 1) * 10 + e) = nI (if e < n then sq_Rn K w a1 a2 a3 a4 a5 a6 a7 f e (K - 1) else 0) := h (K - 1) e (by omega) (by omega)
    rw [t] at H
    rw [sq_k1 (by omega), sq_ix]
    refine ⟨pk_in ((K - 1) * 10 + e) 40 (by omega), ?_⟩
    rw [nI_clamp (show (K - 1) * 10 + e < 2 ^ 31 by omega), q, if_pos he]
    exact H
theorem sq_noEv {post : Int32 → Prop} {K : Nat} {w : Int32} {a1 a2 a3 a4 a5 a6 a7 : Nat → Int32} {a8 a9 a10 : Nat → Int32} {fi : Int32} {n e : Nat} (hn : n ≤ 10) (he : e < n) (H : post 0) : wpX_noEvent post (nI K, w, nI n, fi, a1, a2, a3, a4, a5, a6, a7, a8, a9, a10) (nI e) := by
  unfold wpX_noEvent
  dsimp only
  exact br_f (nI_pos (by omega)) (pk_lt e n (fun _ => H) (fun z => absurd z (by omega)))
theorem sq_beginningAt {post : Int32 → St1 → Prop} {K : Nat} {w : Int32} {a1 a2 a3 a4 a5 a6 a7 : Nat → Int32} {a8 a9 a10 : Nat → Int32} {fi : Int32} {n e : Nat} (hK : K ≤ 4) (hn : n ≤ 10) (he : e < n)
    (H : ∀ f' b8 b10, post (nI (sq_beg n K w a1 a2 a3 a4 a5 a6 a7 e)) (nI K, w, nI n, f', a1, a2, a3, a4, a5, a6, a7, b8, a9, b10)) : wpX_beginningAt post (nI K, w, nI n, fi, a1, a2, a3, a4, a5, a6, a7, a8, a9, a10) (nI e) := by
  unfold wpX_beginningAt
  dsimp only
  refine sq_noEv hn he (br_t rfl (sq_runFrom hK hn he (fun b8 b10 hb => ?_)))
  refine pk_loop (σ := Int32) (fun m i s => wX_beginningAt_20 post (nI K) w (nI n) (nI e) a1 a2 a3 a4 a5 a6 a7 b8 a9 b10 m s (nI i)) (fun i s => s = nI (sq_sm (fun x => sq_wh K w a1 a2 a3 a4 a5 a6 a7 e x) i)) n e 0 (by omega) ?_ ?_ ?_
  · have t : sq_sm (fun x => sq_wh K w a1 a2 a3 a4 a5 a6 a7 e x) e = 0 := sq_sm_0 (fun x hx => sq_wh_lt hx)
    show (0 : Int32) = nI (sq_sm (fun x => sq_wh K w a1 a2 a3 a4 a5 a6 a7 e x) e)
    rw [t]
    exact nI_0.symm
  · intro m s hI
    refine pk_le n n (fun _ => ?_) (fun z => absurd z (by omega))
    have hI' : s = nI (sq_sm (fun x => sq_wh K w a1 a2 a3 a4 a5 a6 a7 e x) n) := hI
    rw [hI']
    exact H _ _ _
  · intro m i s hi hI hw
    have hI' : s = nI (sq_sm (fun x => sq_wh K w a1 a2 a3 a4 a5 a6 a7 e x) i) := hI
    refine pk_le n i (fun z => absurd z (by omega)) (fun _ => sq_whole (f := e) hK hn hi hb (nm_r ?_ (nm_r (nI_1 i) (hw (nI (sq_sm (fun x => sq_wh K w a1 a2 a3 a4 a5 a6 a7 e x) i + sq_wh K w a1 a2 a3 a4 a5 a6 a7 e i)) rfl))))
    rw [hI', nI_add]
theorem sq_finds {post : Int32 → St1 → Prop} {K : Nat} {w : Int32} {a1 a2 a3 a4 a5 a6 a7 : Nat → Int32} {a8 a9 a10 : Nat → Int32} {fi : Int32} {n : Nat} (hK : K ≤ 4) (hn : n ≤ 10)
    (H : ∀ f' b8 b10, post (nI (sq_fin n K w a1 a2 a3 a4 a5 a6 a7)) (nI K, w, nI n, f', a1, a2, a3, a4, a5, a6, a7, b8, a9, b10)) : wpX_finds post (nI K, w, nI n, fi, a1, a2, a3, a4, a5, a6, a7, a8, a9, a10) := by
  unfold wpX_finds
  dsimp only
  refine pk_loop (σ := Int32 × Int32 × (Nat → Int32) × (Nat → Int32)) (fun m i s => wX_finds_4 post m s.1 (nI i) (nI K) w (nI n) s.2.1 a1 a2 a3 a4 a5 a6 a7 s.2.2.1 a9 s.2.2.2) (fun i s => s.1 = nI (sq_sm (fun f => sq_beg n K w a1 a2 a3 a4 a5 a6 a7 f) i)) n 0 (0, fi, a8, a10) (by omega) rfl ?_ ?_
  · intro m s hI
    refine pk_le n n (fun _ => ?_) (fun z => absurd z (by omega))
    have hI' : s.1 = nI (sq_sm (fun f => sq_beg n K w a1 a2 a3 a4 a5 a6 a7 f) n) := hI
    rw [hI']
    exact H _ _ _
  · intro m i s hi hI hw
    have hI' : s.1 = nI (sq_sm (fun f => sq_beg n K w a1 a2 a3 a4 a5 a6 a7 f) i) := hI
    refine pk_le n i (fun z => absurd z (by omega)) (fun _ => sq_beginningAt hK hn hi (fun f' b8 b10 => nm_r ?_ (nm_r (nI_1 i) (hw (nI (sq_sm (fun f => sq_beg n K w a1 a2 a3 a4 a5 a6 a7 f) i + sq_beg n K w a1 a2 a3 a4 a5 a6 a7 i), f', b8, b10) rfl))))
    rw [hI', nI_add]
theorem sq_endingAt {post : Int32 → St1 → Prop} {K : Nat} {w : Int32} {a1 a2 a3 a4 a5 a6 a7 : Nat → Int32} {a8 a9 a10 : Nat → Int32} {fi : Int32} {n e : Nat} (hK : K ≤ 4) (hn : n ≤ 10) (he : e < n)
    (H : ∀ f' b8 b10, post (nI (sq_end K w a1 a2 a3 a4 a5 a6 a7 e)) (nI K, w, nI n, f', a1, a2, a3, a4, a5, a6, a7, b8, a9, b10)) : wpX_endingAt post (nI K, w, nI n, fi, a1, a2, a3, a4, a5, a6, a7, a8, a9, a10) (nI e) := by
  unfold wpX_endingAt
  dsimp only
  refine sq_noEv hn he (br_t rfl ?_)
  refine pk_loop (σ := Int32 × Int32 × (Nat → Int32) × (Nat → Int32)) (fun m i s => wX_endingAt_15 post (nI e) m s.1 (nI i) (nI K) w (nI n) s.2.1 a1 a2 a3 a4 a5 a6 a7 s.2.2.1 a9 s.2.2.2) (fun i s => s.1 = nI (sq_sm (fun f => sq_wh K w a1 a2 a3 a4 a5 a6 a7 f e) i)) (e + 1) 0 (0, fi, a8, a10) (by omega) rfl ?_ ?_
  · intro m s hI
    refine pk_lt e (e + 1) (fun _ => ?_) (fun z => absurd z (by omega))
    have hI' : s.1 = nI (sq_sm (fun f => sq_wh K w a1 a2 a3 a4 a5 a6 a7 f e) (e + 1)) := hI
    rw [hI']
    exact H _ _ _
  · intro m i s hi hI hw
    have hI' : s.1 = nI (sq_sm (fun f => sq_wh K w a1 a2 a3 a4 a5 a6 a7 f e) i) := hI
    refine pk_lt e i (fun z => absurd z (by omega)) (fun _ => sq_runFrom hK hn (by omega) (fun b8 b10 hb => sq_whole (f := i) hK hn he hb (nm_r ?_ (nm_r (nI_1 i) (hw (nI (sq_sm (fun f => sq_wh K w a1 a2 a3 a4 a5 a6 a7 f e) i + sq_wh K w a1 a2 a3 a4 a5 a6 a7 i e), nI i, b8, b10) rfl)))))
    rw [hI', nI_add]
end
section
theorem sq_m1 (x : Int32) : x + (-1) = x - 1 := (Int32.sub_eq_add_neg x 1).symm
theorem sq_wo74 {post : Int32 → Prop} {J : Int32 → Int32 → Prop} {K : Nat} {w : Int32} {a1 a2 a3 a4 a5 a6 a7 : Nat → Int32} {a8 a9 a10 : Nat → Int32} {c : Int32} {k e y f q d : Nat} (hK : K ≤ 4) (hk : k < K) (he : e < 10) (hy : y < 10) (hf : f < 10) (h9 : k + 1 < K → a9 ((k + 1) * 10 + y) = nI d)
    (H : J (nI (q + sq_ea K w a1 a2 a3 a4 a5 a6 a7 f k e y * d)) (nI (y + 1))) : wX_waysOn_74 post J (nI k) (nI e) (nI q) (nI y) (nI K) w c (nI f) a1 a2 a3 a4 a5 a6 a7 a8 a9 a10 := by
  have H0 : sq_ea K w a1 a2 a3 a4 a5 a6 a7 f k e y = 0 → J (nI q) (nI (y + 1)) := fun t => by
    rw [t, Nat.zero_mul, Nat.add_zero] at H
    exact H
  unfold wX_waysOn_74
  rw [nI_1 k]
  refine pk_le K (k + 1) (fun z => nm_r (nI_1 y) (H0 (sq_eaK (by omega)))) (fun z => sq_meets (by omega) hy hf (fun _ => pk_in e 10 he) (fun m => br_f (by decide) ⟨pk_in ((k + 1) * 10 + y) 40 (by omega) (sq_ix (k + 1) y), nm_r ?_ (nm_r (nI_1 y) H)⟩) (fun m => br_t rfl (nm_r (nI_1 y) (H0 (if_neg (fun t => ?_))))))
  · have t : sq_ea K w a1 a2 a3 a4 a5 a6 a7 f k e y = 1 := if_pos ⟨z, m⟩
    rw [sq_ix (k + 1) y, nI_clamp (show (k + 1) * 10 + y < 2 ^ 31 by omega), h9 z, nI_add, t, Nat.one_mul]
  · rw [m] at t
    exact absurd t.2 (by decide)
theorem sq_waysOn {post : Int32 → Prop} {K : Nat} {w : Int32} {a1 a2 a3 a4 a5 a6 a7 : Nat → Int32} {a8 a9 a10 : Nat → Int32} {n k e f : Nat} (hK : K ≤ 4) (hn : n ≤ 10) (hk : k < K) (he : e < n) (hf : f < 10) (h9 : ∀ y k, e < y → y < n → k < K → a9 (k * 10 + y) = nI (sq_Wn n K w a1 a2 a3 a4 a5 a6 a7 f y k))
    (H : post (nI (sq_Wn n K w a1 a2 a3 a4 a5 a6 a7 f e k))) : wpX_waysOn post (nI K, w, nI n, nI f, a1, a2, a3, a4, a5, a6, a7, a8, a9, a10) (nI k) (nI e) := by
  have L : ∀ q, q = sq_l K k → ∃ m, wX_waysOn_21 post (nI k) (nI e) (nI K) w (nI n) (nI f) a1 a2 a3 a4 a5 a6 a7 a8 a9 a10 m (nI q) (nI (e + 1)) := by
    intro q hq
    refine pk_loop (σ := Int32) (fun m i s => wX_waysOn_21 post (nI k) (nI e) (nI K) w (nI n) (nI f) a1 a2 a3 a4 a5 a6 a7 a8 a9 a10 m s (nI i)) (fun i s => e < i ∧ s = nI (sq_l K k + sq_sm (fun y => sq_s K w a1 a2 a3 a4 a5 a6 a7 f k e y * sq_Wn n K w a1 a2 a3 a4 a5 a6 a7 f y k + sq_a K w a1 a2 a3 a4 a5 a6 a7 f k e y * sq_Wn n K w a1 a2 a3 a4 a5 a6 a7 f y (k + 1)) i)) n (e + 1) (nI q) (by omega) ⟨by omega, ?_⟩ ?_ ?_
    · have t : sq_sm (fun y => sq_s K w a1 a2 a3 a4 a5 a6 a7 f k e y * sq_Wn n K w a1 a2 a3 a4 a5 a6 a7 f y k + sq_a K w a1 a2 a3 a4 a5 a6 a7 f k e y * sq_Wn n K w a1 a2 a3 a4 a5 a6 a7 f y (k + 1)) (e + 1) = 0 := sq_sm_0 (fun y hy => by
        show sq_s K w a1 a2 a3 a4 a5 a6 a7 f k e y * sq_Wn n K w a1 a2 a3 a4 a5 a6 a7 f y k + sq_a K w a1 a2 a3 a4 a5 a6 a7 f k e y * sq_Wn n K w a1 a2 a3 a4 a5 a6 a7 f y (k + 1) = 0
        rw [sq_s0 k e y (by omega), sq_a0 k e y (by omega), Nat.zero_mul, Nat.zero_mul])
      rw [t, hq, Nat.add_zero]
    · intro m s hI
      have hI' : s = nI (sq_l K k + sq_sm (fun y => sq_s K w a1 a2 a3 a4 a5 a6 a7 f k e y * sq_Wn n K w a1 a2 a3 a4 a5 a6 a7 f y k + sq_a K w a1 a2 a3 a4 a5 a6 a7 f k e y * sq_Wn n K w a1 a2 a3 a4 a5 a6 a7 f y (k + 1)) n) := hI.2
      rw [← sq_Wn_eq k he] at hI'
      refine pk_le n n (fun _ => ?_) (fun z => absurd z (by omega))
      rw [hI']
      exact H
    · intro m i s hi hI hw
      have hei : e < i := hI.1
      have hI' : s = nI (sq_l K k + sq_sm (fun y => sq_s K w a1 a2 a3 a4 a5 a6 a7 f k e y * sq_Wn n K w a1 a2 a3 a4 a5 a6 a7 f y k + sq_a K w a1 a2 a3 a4 a5 a6 a7 f k e y * sq_Wn n K w a1 a2 a3 a4 a5 a6 a7 f y (k + 1)) i) := hI.2
      generalize hQ : sq_l K k + sq_sm (fun y => sq_s K w a1 a2 a3 a4 a5 a6 a7 f k e y * sq_Wn n K w a1 a2 a3 a4 a5 a6 a7 f y k + sq_a K w a1 a2 a3 a4 a5 a6 a7 f k e y * sq_Wn n K w a1 a2 a3 a4 a5 a6 a7 f y (k + 1)) i = Q at hI'
      have hw' : ∀ Q', Q' = Q + (sq_s K w a1 a2 a3 a4 a5 a6 a7 f k e i * sq_Wn n K w a1 a2 a3 a4 a5 a6 a7 f i k + sq_a K w a1 a2 a3 a4 a5 a6 a7 f k e i * sq_Wn n K w a1 a2 a3 a4 a5 a6 a7 f i (k + 1)) → wX_waysOn_21 post (nI k) (nI e) (nI K) w (nI n) (nI f) a1 a2 a3 a4 a5 a6 a7 a8 a9 a10 m (nI Q') (nI (i + 1)) := fun Q' hQ' => hw (nI Q') ⟨by omega, by
        show nI Q' = nI (sq_l K k + (sq_sm (fun y => sq_s K w a1 a2 a3 a4 a5 a6 a7 f k e y * sq_Wn n K w a1 a2 a3 a4 a5 a6 a7 f y k + sq_a K w a1 a2 a3 a4 a5 a6 a7 f k e y * sq_Wn n K w a1 a2 a3 a4 a5 a6 a7 f y (k + 1)) i + (sq_s K w a1 a2 a3 a4 a5 a6 a7 f k e i * sq_Wn n K w a1 a2 a3 a4 a5 a6 a7 f i k + sq_a K w a1 a2 a3 a4 a5 a6 a7 f k e i * sq_Wn n K w a1 a2 a3 a4 a5 a6 a7 f i (k + 1))))
        rw [hQ', ← hQ, Nat.add_assoc]⟩
      subst hI'
      refine pk_le n i (fun z => absurd z (by omega)) (fun _ => sq_inW (by omega) (by omega) (fun t => br_f (by decide) ⟨pk_in k 4 (by omega), br_c (fun z4 => sq_wo74 (d := sq_Wn n K w a1 a2 a3 a4 a5 a6 a7 f i (k + 1)) hK hk (by omega) (by omega) hf (fun hk1 => h9 i (k + 1) hei hi hk1) (hw' _ ?_)) (fun z4 => sq_meets (by omega) (by omega) (by omega) (fun _ => pk_in e 10 (by omega)) (fun u => br_f (by decide) ⟨pk_in (k * 10 + i) 40 (by omega) (sq_ix k i), nm_r (e' := nI (Q + sq_Wn n K w a1 a2 a3 a4 a5 a6 a7 f i k)) ?_ (sq_wo74 (d := sq_Wn n K w a1 a2 a3 a4 a5 a6 a7 f i (k + 1)) hK hk (by omega) (by omega) hf (fun hk1 => h9 i (k + 1) hei hi hk1) (hw' _ ?_))⟩) (fun u => br_t rfl (sq_wo74 (d := sq_Wn n K w a1 a2 a3 a4 a5 a6 a7 f i (k + 1)) hK hk (by omega) (by omega) hf (fun hk1 => h9 i (k + 1) hei hi hk1) (hw' _ ?_))))⟩) (fun t => br_t rfl (nm_r (nI_1 i) (hw' _ ?_))))
      · rw [nI_clamp (show k < 2 ^ 31 by omega)] at z4
        have t2 : sq_es K w a1 a2 a3 a4 a5 a6 a7 f k e i = 0 := if_neg (fun q => q.2.1 z4)
        rw [sq_st k e i hei t, sq_at k e i hei t, t2, Nat.zero_mul, Nat.zero_add]
      · rw [sq_ix k i, nI_clamp (show k * 10 + i < 2 ^ 31 by omega), h9 i k hei hi hk, nI_add]
      · rw [nI_clamp (show k < 2 ^ 31 by omega)] at z4
        have t2 : sq_es K w a1 a2 a3 a4 a5 a6 a7 f k e i = 1 := if_pos ⟨hk, z4, u⟩
        rw [sq_st k e i hei t, sq_at k e i hei t, t2, Nat.one_mul, Nat.add_assoc]
      · have t2 : sq_es K w a1 a2 a3 a4 a5 a6 a7 f k e i = 0 := if_neg (fun q => by
          rw [u] at q
          exact absurd q.2.2 (by decide))
        rw [sq_st k e i hei t, sq_at k e i hei t, t2, Nat.zero_mul, Nat.zero_add]
      · rw [sq_sw k e i t, sq_aw k e i t, Nat.zero_mul, Nat.zero_mul]
        rfl
  unfold wpX_waysOn
  dsimp only
  refine pk_eq k (K - 1) (fun z => nm_r (nI_1 e) (L 1 ?_)) (fun z => nm_r (nI_1 e) (L 0 ?_)) rfl (sq_k1 (by omega))
  · exact (if_pos (show k + 1 = K by omega)).symm
  · exact (if_neg (show ¬ k + 1 = K by omega)).symm
theorem sq_wf24 {post : St1 → Prop} {J : Int32 → (Nat → Int32) → (Nat → Int32) → (Nat → Int32) → (Nat → Int32) → (Nat → Int32) → (Nat → Int32) → (Nat → Int32) → (Nat → Int32) → (Nat → Int32) → (Nat → Int32) → Prop}
    {K : Nat} {w : Int32} {a1 a2 a3 a4 a5 a6 a7 : Nat → Int32} {a8 a9 a10 : Nat → Int32} {n e f : Nat} (hK : K ≤ 4) (hn : n ≤ 10) (he : e < n) (hf : f < 10) (h9 : ∀ y k, e < y → y < n → k < K → a9 (k * 10 + y) = nI (sq_Wn n K w a1 a2 a3 a4 a5 a6 a7 f y k))
    (H : ∀ b9, (∀ y k, e ≤ y → y < n → k < K → b9 (k * 10 + y) = nI (sq_Wn n K w a1 a2 a3 a4 a5 a6 a7 f y k)) → J (nI e - 1) a1 a2 a3 a4 a5 a6 a7 a8 b9 a10) :
    ∃ m, wX_waysFrom_24 post J (nI f) (nI e) (nI K) w (nI n) (nI f) m (nI K - 1) a1 a2 a3 a4 a5 a6 a7 a8 a9 a10 := by
  refine ⟨K + 1, pk_loopD (σ := Nat → Int32) (fun m i s => wX_waysFrom_24 post J (nI f) (nI e) (nI K) w (nI n) (nI f) m (nI i - 1) a1 a2 a3 a4 a5 a6 a7 a8 s a10) (fun i s => i ≤ K ∧ (∀ y k, e < y → y < n → k < K → s (k * 10 + y) = nI (sq_Wn n K w a1 a2 a3 a4 a5 a6 a7 f y k)) ∧ (∀ k, i ≤ k → k < K → s (k * 10 + e) = nI (sq_Wn n K w a1 a2 a3 a4 a5 a6 a7 f e k))) ?_ ?_ K a9 ⟨Nat.le_refl K, h9, fun k h1 h2 => absurd h1 (by omega)⟩⟩
  · intro m s hI
    refine br_t (by decide) (nm_r (sq_m1 (nI e)) (H s (fun y k h1 h2 h3 => ?_)))
    by_cases z : y = e
    · rw [z]
      exact hI.2.2 k (Nat.zero_le k) h3
    · exact hI.2.1 y k (by omega) h2 h3
  · intro m i s hI hw
    have hi : i + 1 ≤ K := hI.1
    show wX_waysFrom_24 post J (nI f) (nI e) (nI K) w (nI n) (nI f) (m + 1) (nI (i + 1) - 1) a1 a2 a3 a4 a5 a6 a7 a8 s a10
    rw [nI_pred i]
    refine br_f (nI_pos (by omega)) (sq_waysOn hK hn (by omega) he hf hI.2.1 ⟨pk_in (i * 10 + e) 40 (by omega) (sq_ix i e), nm_r (e' := upd s (i * 10 + e) (nI (sq_Wn n K w a1 a2 a3 a4 a5 a6 a7 f e i))) ?_ (nm_r (sq_m1 (nI i)) (hw _ ⟨by omega, fun y k h1 h2 h3 => ?_, fun k h1 h2 => ?_⟩))⟩)
    · rw [sq_ix i e, nI_clamp (show i * 10 + e < 2 ^ 31 by omega)]
    · rw [pk_un (show k * 10 + y ≠ i * 10 + e by omega)]
      exact hI.2.1 y k h1 h2 h3
    · by_cases z : k = i
      · rw [z, pk_us]
      · rw [pk_un (show k * 10 + e ≠ i * 10 + e by omega)]
        exact hI.2.2 k (by omega) h2
theorem sq_dec (f : Nat) (hf : f < 10) : nI f - 1 < nI f := by
  cases f with
  | zero => decide
  | succ m =>
    rw [nI_pred m]
    exact nI_lt (by omega) (by omega)
theorem sq_waysFrom {post : St1 → Prop} {K : Nat} {w : Int32} {a1 a2 a3 a4 a5 a6 a7 : Nat → Int32} {a8 a9 a10 : Nat → Int32} {fi : Int32} {n f : Nat} (hK : K ≤ 4) (hn : n ≤ 10) (hf : f < n)
    (H : ∀ b9, (∀ y k, f ≤ y → y < n → k < K → b9 (k * 10 + y) = nI (sq_Wn n K w a1 a2 a3 a4 a5 a6 a7 f y k)) → post (nI K, w, nI n, nI f, a1, a2, a3, a4, a5, a6, a7, a8, b9, a10)) :
    wpX_waysFrom post (nI K, w, nI n, fi, a1, a2, a3, a4, a5, a6, a7, a8, a9, a10) (nI f) := by
  unfold wpX_waysFrom
  dsimp only
  refine nm_r (e' := nI (f + (n - f)) - 1) (by rw [show f + (n - f) = n by omega]) ⟨n - f + 1, ?_⟩
  refine pk_loopD (σ := Nat → Int32) (fun m j s => wX_waysFrom_12 post (nI f) (nI K) w (nI n) (nI f) m (nI (f + j) - 1) a1 a2 a3 a4 a5 a6 a7 a8 s a10) (fun j s => f + j ≤ n ∧ ∀ y k, f + j ≤ y → y < n → k < K → s (k * 10 + y) = nI (sq_Wn n K w a1 a2 a3 a4 a5 a6 a7 f y k)) ?_ ?_ (n - f) a9 ⟨by omega, fun y k h1 h2 _ => absurd h1 (by omega)⟩
  · intro m s hI
    exact br_t (sq_dec f (by omega)) (H s hI.2)
  · intro m j s hI hw
    have hj : f + (j + 1) ≤ n := hI.1
    show wX_waysFrom_12 post (nI f) (nI K) w (nI n) (nI f) (m + 1) (nI (f + j + 1) - 1) a1 a2 a3 a4 a5 a6 a7 a8 s a10
    rw [nI_pred (f + j)]
    exact br_f (nI_nlt (by omega) (by omega)) (nm_e (sq_wf24 hK hn (by omega) (by omega) (fun y k h1 h2 h3 => hI.2 y k (by omega) h2 h3) (fun b9 hb => hw b9 ⟨by omega, hb⟩)))
theorem sq_us33 {post : Int32 → St1 → Prop} {J : Int32 → Int32 → Int32 → Int32 → Int32 → Int32 → (Nat → Int32) → (Nat → Int32) → (Nat → Int32) → (Nat → Int32) → (Nat → Int32) → (Nat → Int32) → (Nat → Int32) → (Nat → Int32) → (Nat → Int32) → (Nat → Int32) → Prop}
    {K : Nat} {w : Int32} {a1 a2 a3 a4 a5 a6 a7 : Nat → Int32} {a8 a9 a10 : Nat → Int32} {c fi : Int32} {n e f q : Nat} (hK : K ≤ 4) (he : e < 10) (h8 : ∀ k, k < K → a8 (k * 10 + e) = nI (sq_Rn K w a1 a2 a3 a4 a5 a6 a7 f e k)) (h9 : ∀ k, k < K → a9 (k * 10 + e) = nI (sq_Wn n K w a1 a2 a3 a4 a5 a6 a7 f e k)) (hf : f < 10)
    (H : J (nI (q + sq_uf n K w a1 a2 a3 a4 a5 a6 a7 e f)) (nI (f + 1)) (nI K) w c fi a1 a2 a3 a4 a5 a6 a7 a8 a9 a10) :
    ∃ m, wX_using_33 post J (nI e) (nI f) (nI K) w c fi a1 a2 a3 a4 a5 a6 a7 a8 a9 a10 m (nI q) 0 := by
  refine pk_loop (σ := Int32) (fun m i s => wX_using_33 post J (nI e) (nI f) (nI K) w c fi a1 a2 a3 a4 a5 a6 a7 a8 a9 a10 m s (nI i)) (fun i s => s = nI (q + sq_sm (fun k => sq_Rn K w a1 a2 a3 a4 a5 a6 a7 f e k * sq_Wn n K w a1 a2 a3 a4 a5 a6 a7 f e k) i)) K 0 (nI q) (by omega) rfl ?_ ?_
  · intro m s hI
    have hI' : s = nI (q + sq_sm (fun k => sq_Rn K w a1 a2 a3 a4 a5 a6 a7 f e k * sq_Wn n K w a1 a2 a3 a4 a5 a6 a7 f e k) K) := hI
    refine pk_le K K (fun _ => nm_r (nI_1 f) ?_) (fun z => absurd z (by omega))
    rw [hI']
    exact H
  · intro m i s hi hI hw
    have hI' : s = nI (q + sq_sm (fun k => sq_Rn K w a1 a2 a3 a4 a5 a6 a7 f e k * sq_Wn n K w a1 a2 a3 a4 a5 a6 a7 f e k) i) := hI
    refine pk_le K i (fun z => absurd z (by omega)) (fun _ => ⟨pk_in (i * 10 + e) 40 (by omega) (sq_ix i e), pk_in (i * 10 + e) 40 (by omega) (sq_ix i e), nm_r ?_ (nm_r (nI_1 i) (hw (nI (q + (sq_sm (fun k => sq_Rn K w a1 a2 a3 a4 a5 a6 a7 f e k * sq_Wn n K w a1 a2 a3 a4 a5 a6 a7 f e k) i + sq_Rn K w a1 a2 a3 a4 a5 a6 a7 f e i * sq_Wn n K w a1 a2 a3 a4 a5 a6 a7 f e i))) rfl))⟩)
    rw [sq_ix i e, nI_clamp (show i * 10 + e < 2 ^ 31 by omega), h8 i hi, h9 i hi, hI', pk_mul, nI_add, Nat.add_assoc]
theorem sq_using {post : Int32 → St1 → Prop} {K : Nat} {w : Int32} {a1 a2 a3 a4 a5 a6 a7 : Nat → Int32} {a8 a9 a10 : Nat → Int32} {fi : Int32} {n e : Nat} (hK : K ≤ 4) (hn : n ≤ 10) (he : e < n)
    (H : ∀ f' b8 b9 b10, post (nI (sq_use n K w a1 a2 a3 a4 a5 a6 a7 e)) (nI K, w, nI n, f', a1, a2, a3, a4, a5, a6, a7, b8, b9, b10)) : wpX_using post (nI K, w, nI n, fi, a1, a2, a3, a4, a5, a6, a7, a8, a9, a10) (nI e) := by
  unfold wpX_using
  dsimp only
  refine sq_noEv hn he (br_t rfl ?_)
  refine pk_loop (σ := Int32 × Int32 × (Nat → Int32) × (Nat → Int32) × (Nat → Int32)) (fun m i s => wX_using_15 post (nI e) m s.1 (nI i) (nI K) w (nI n) s.2.1 a1 a2 a3 a4 a5 a6 a7 s.2.2.1 s.2.2.2.1 s.2.2.2.2) (fun i s => s.1 = nI (sq_sm (fun f => sq_uf n K w a1 a2 a3 a4 a5 a6 a7 e f) i)) (e + 1) 0 (0, fi, a8, a9, a10) (by omega) rfl ?_ ?_
  · intro m s hI
    refine pk_lt e (e + 1) (fun _ => ?_) (fun z => absurd z (by omega))
    have hI' : s.1 = nI (sq_sm (fun f => sq_uf n K w a1 a2 a3 a4 a5 a6 a7 e f) (e + 1)) := hI
    rw [hI']
    exact H _ _ _ _
  · intro m i s hi hI hw
    have hI' : s.1 = nI (sq_sm (fun f => sq_uf n K w a1 a2 a3 a4 a5 a6 a7 e f) i) := hI
    refine pk_lt e i (fun z => absurd z (by omega)) (fun _ => sq_runFrom hK hn (by omega) (fun b8 b10 hb => sq_waysFrom hK hn (by omega) (fun b9 h9 => ?_)))
    show ∃ m', wX_using_33 post (wX_using_15 post (nI e) m) (nI e) (nI i) (nI K) w (nI n) (nI i) a1 a2 a3 a4 a5 a6 a7 b8 b9 b10 m' s.1 0
    rw [hI']
    exact sq_us33 (n := n) hK (by omega) (fun k hk => (hb k e (by omega) (by omega)).trans (congrArg nI (if_pos he))) (fun k hk => h9 e k (by omega) he hk) (by omega) (hw (nI (sq_sm (fun f => sq_uf n K w a1 a2 a3 a4 a5 a6 a7 e f) i + sq_uf n K w a1 a2 a3 a4 a5 a6 a7 e i), nI i, b8, b9, b10) rfl)
theorem sq_without {post : Int32 → St1 → Prop} {K : Nat} {w : Int32} {a1 a2 a3 a4 a5 a6 a7 : Nat → Int32} {a8 a9 a10 : Nat → Int32} {fi : Int32} {n e : Nat} (hK : K ≤ 4) (hn : n ≤ 10) (he : e < n)
    (H : ∀ f' b8 b9 b10, post (nI (sq_fin n K w a1 a2 a3 a4 a5 a6 a7) - nI (sq_use n K w a1 a2 a3 a4 a5 a6 a7 e)) (nI K, w, nI n, f', a1, a2, a3, a4, a5, a6, a7, b8, b9, b10)) : wpX_without post (nI K, w, nI n, fi, a1, a2, a3, a4, a5, a6, a7, a8, a9, a10) (nI e) := by
  unfold wpX_without
  dsimp only
  exact sq_noEv hn he (br_t rfl (sq_finds hK hn (fun f' b8 b10 => sq_using hK hn he (fun f'' c8 c9 c10 => H _ _ _ _))))
end
section
theorem sq_events {post : Int32 → Prop} {S w c fi : Int32} {a1 a2 a3 a4 a5 a6 a7 a8 a9 a10 : Nat → Int32} (H : post c) : wpX_events post (S, w, c, fi, a1, a2, a3, a4, a5, a6, a7, a8, a9, a10) := H
theorem sq_window {post : Int32 → St1 → Prop} {S w c fi : Int32} {a1 a2 a3 a4 a5 a6 a7 a8 a9 a10 : Nat → Int32} {q : Nat} (hq : q ≤ 40) (H : post w (S, nI q, c, fi, a1, a2, a3, a4, a5, a6, a7, a8, a9, a10)) : wpX_window post (S, w, c, fi, a1, a2, a3, a4, a5, a6, a7, a8, a9, a10) (nI q) := by
  unfold wpX_window
  dsimp only
  exact br_f (nI_pos (by omega)) (pk_le q 40 (fun _ => H) (fun z => absurd z (by omega)))
theorem sq_endNone {post : Int32 → St1 → Prop} {S w fi : Int32} {a1 a2 a3 a4 a5 a6 a7 a8 a9 a10 : Nat → Int32} {n : Nat} (hn : n ≤ 10) (H : post (-4) (S, w, nI n, fi, a1, a2, a3, a4, a5, a6, a7, a8, a9, a10)) : wpX_endingAt post (S, w, nI n, fi, a1, a2, a3, a4, a5, a6, a7, a8, a9, a10) (nI n) := by
  unfold wpX_endingAt
  dsimp only
  unfold wpX_noEvent
  dsimp only
  exact br_f (nI_pos (by omega)) (pk_lt n n (fun z => absurd z (by omega)) (fun _ => br_f (by decide) H))
theorem sq_witNone {post : Int32 → St1 → Prop} {S w c fi : Int32} {a1 a2 a3 a4 a5 a6 a7 a8 a9 a10 : Nat → Int32} (H : post (-4) (S, w, c, fi, a1, a2, a3, a4, a5, a6, a7, a8, a9, a10)) : wpX_without post (S, w, c, fi, a1, a2, a3, a4, a5, a6, a7, a8, a9, a10) (-1) := by
  unfold wpX_without
  dsimp only
  unfold wpX_noEvent
  dsimp only
  exact br_t (by decide) (br_f (by decide) H)
theorem sq_ev92 {post : Int32 → St1 → Prop} {K : Nat} {w : Int32} {a1 a2 a3 a4 a5 a6 a7 : Nat → Int32} {a8 a9 a10 : Nat → Int32} {x3 z0 fi : Int32} {n : Nat} (hK : K ≤ 4) (hn : n < 10)
    (H : ∀ b7 f' b8 b10, post (nI (sq_end K w a1 a2 a3 a4 a5 a6 b7 n)) (nI K, w, nI (n + 1), f', a1, a2, a3, a4, a5, a6, b7, b8, a9, b10)) : wX_event_92 post x3 z0 (nI n) (nI K) w (nI n) fi a1 a2 a3 a4 a5 a6 a7 a8 a9 a10 := by
  unfold wX_event_92
  refine ⟨pk_in n 10 hn, nm_e (nm_r (nI_1 n) ?_)⟩
  rw [nI_pred n]
  exact sq_endingAt hK (by omega) (by omega) (fun f' b8 b10 => H _ _ _ _)
theorem sq_event {post : Int32 → St1 → Prop} {K : Nat} {w : Int32} {a1 a2 a3 a4 a5 a6 a7 : Nat → Int32} {a8 a9 a10 : Nat → Int32} {p0 p1 p2 fi : Int32} {n : Nat} (hK : K ≤ 4) (hn : n ≤ 10) (H1 : ∀ r, r < 0 → post r (nI K, w, nI n, fi, a1, a2, a3, a4, a5, a6, a7, a8, a9, a10))
    (H : ∀ b5 b6 b7 f' b8 b10, n < 10 → post (nI (sq_end K w a1 a2 a3 a4 b5 b6 b7 n)) (nI K, w, nI (n + 1), f', a1, a2, a3, a4, b5, b6, b7, b8, a9, b10)) : wpX_event post (nI K, w, nI n, fi, a1, a2, a3, a4, a5, a6, a7, a8, a9, a10) p0 p1 p2 := by
  unfold wpX_event
  dsimp only
  exact br_c (fun _ => H1 _ (by decide)) (fun _ => br_c (fun _ => H1 _ (by decide)) (fun _ => br_c (fun _ => H1 _ (by decide)) (fun _ => br_c (fun _ => H1 _ (by decide)) (fun _ => br_c (fun _ => H1 _ (by decide)) (fun _ => br_c (fun _ => pk_eq n 10 (fun _ => H1 _ (by decide)) (fun z => ⟨pk_in n 10 (by omega), nm_e ⟨pk_in n 10 (by omega), nm_e (pk_eq n 0 (fun _ => sq_ev92 hK (by omega) (fun b7 f' b8 b10 => H _ _ _ _ _ _ (by omega))) (fun z0 => ⟨pk_in (n - 1) 10 (by omega) (sq_k1 (by omega)), sq_ev92 hK (by omega) (fun b7 f' b8 b10 => H _ _ _ _ _ _ (by omega))⟩))⟩⟩)) (fun _ => H1 _ (by decide)))))))
theorem sq_st106 {post : Int32 → St1 → Prop} {K : Nat} {w : Int32} {a1 a2 a3 a4 a5 a6 a7 : Nat → Int32} {a8 a9 a10 : Nat → Int32} {z0 c fi : Int32} (hK : K < 4)
    (H : ∀ b4, post (nI (K + 1)) (nI (K + 1), w, c, fi, a1, a2, a3, b4, a5, a6, a7, a8, a9, a10)) : wX_step_106 post z0 (nI K) (nI K) w c fi a1 a2 a3 a4 a5 a6 a7 a8 a9 a10 := by
  unfold wX_step_106
  exact ⟨pk_in K 4 hK, nm_e (nm_r (nI_1 K) (H _))⟩
theorem sq_step {post : Int32 → St1 → Prop} {K : Nat} {w : Int32} {a1 a2 a3 a4 a5 a6 a7 : Nat → Int32} {a8 a9 a10 : Nat → Int32} {p0 p1 p2 c fi : Int32} (hK : K ≤ 4)
    (H : ∀ r K' b1 b2 b3 b4, K' ≤ 4 → post r (nI K', w, c, fi, b1, b2, b3, b4, a5, a6, a7, a8, a9, a10)) : wpX_step post (nI K, w, c, fi, a1, a2, a3, a4, a5, a6, a7, a8, a9, a10) p0 p1 p2 := by
  unfold wpX_step
  dsimp only
  exact nm_e (br_c (fun _ => H _ _ _ _ _ _ hK) (fun _ => br_c (fun _ => H _ _ _ _ _ _ hK) (fun _ => br_c (fun _ => H _ _ _ _ _ _ hK) (fun _ => br_c (fun _ => br_c (fun _ => H _ _ _ _ _ _ hK) (fun _ => br_c (fun _ => H _ _ _ _ _ _ hK) (fun _ => br_c (fun _ => pk_eq K 4 (fun _ => H _ _ _ _ _ _ hK) (fun z => ⟨pk_in K 4 (by omega), nm_e ⟨pk_in K 4 (by omega), nm_e ⟨pk_in K 4 (by omega), nm_e (br_c (fun _ => sq_st106 (by omega) (fun b4 => H _ _ _ _ _ _ (by omega))) (fun _ => sq_st106 (by omega) (fun b4 => H _ _ _ _ _ _ (by omega))))⟩⟩⟩)) (fun _ => H _ _ _ _ _ _ hK)))) (fun _ => H _ _ _ _ _ _ hK)))))
theorem sq_turn {post : Int32 → St1 → Prop} {K : Nat} {a1 a2 a3 a4 a5 a6 a7 : Nat → Int32} {a8 a9 a10 : Nat → Int32} {p1 p2 fi : Int32} {n v : Nat} (hK : K ≤ 4) (hn : n ≤ 10) (hv : v ≤ 40)
    (H : ∀ r K' v' n' f' b1 b2 b3 b4 b5 b6 b7 b8 b9 b10, K' ≤ 4 → v' ≤ 40 → n' ≤ 10 → (20 ≤ p1 &&& 31 ∨ r < 0 ∨ ∃ e, n' = e + 1 ∧ r = nI (sq_end K' (nI v') b1 b2 b3 b4 b5 b6 b7 e)) → post r (nI K', nI v', nI n', f', b1, b2, b3, b4, b5, b6, b7, b8, b9, b10)) :
    wpL_turn post (nI K, nI v, nI n, fi, a1, a2, a3, a4, a5, a6, a7, a8, a9, a10) p1 p2 := by
  obtain ⟨q, hq, eq⟩ := pk_andE p2 (m := 31) 5 (by decide)
  unfold wpL_turn
  dsimp only
  rw [eq]
  refine nm_e (br_c (fun z => br_c (fun _ => br_c (fun _ => br_c (fun _ => br_c (fun _ => ?_) (fun _ => ?_)) (fun _ => ?_)) (fun _ => ?_)) (fun _ => ⟨by decide, by decide, ?_⟩)) (fun z => ⟨by decide, ?_⟩))
  · exact H 0 K v 0 fi _ _ _ _ _ _ _ _ _ _ hK hv (by omega) (Or.inl z)
  · exact H 0 K v n fi _ _ _ _ _ _ _ _ _ _ hK hv hn (Or.inl z)
  · exact H 0 0 v n fi _ _ _ _ _ _ _ _ _ _ (by omega) hv hn (Or.inl z)
  · exact sq_window (q := q) (by omega) (H _ K q n fi _ _ _ _ _ _ _ _ _ _ hK (by omega) hn (Or.inl z))
  · exact sq_step hK (fun r K' b1 b2 b3 b4 hK' => H r K' v n fi _ _ _ _ _ _ _ _ _ _ hK' hv hn (Or.inl z))
  · exact sq_event hK hn (fun r hr => H r K v n fi _ _ _ _ _ _ _ _ _ _ hK hv hn (Or.inr (Or.inl hr))) (fun b5 b6 b7 f' b8 b10 h10 => H _ K v (n + 1) f' _ _ _ _ _ _ _ _ _ _ hK hv (by omega) (Or.inr (Or.inr ⟨n, rfl, rfl⟩)))
end
section
theorem sq_law189 {post : Int32 → Prop} {L : Nat} {xs : Nat → Int32} {x2 fi : Int32} {kc ks : Nat} {K n v : Nat} {a1 a2 a3 a4 a5 a6 a7 a8 a9 a10 : Nat → Int32} (h1 : post 1) (hK : K ≤ 4) (hn : n ≤ 10) (hv : v ≤ 40) :
    wL_law_189 post L xs x2 (nI n) (nI (sq_fin n K (nI v) a1 a2 a3 a4 a5 a6 a7)) (nI (sq_fin n K (nI v) a1 a2 a3 a4 a5 a6 a7)) (nI (sq_fin n K (nI v) a1 a2 a3 a4 a5 a6 a7)) kc ks (nI K) (nI v) (nI n) fi a1 a2 a3 a4 a5 a6 a7 a8 a9 a10 := by
  obtain ⟨q, hq, eq⟩ := pk_andE x2 (m := 31) 5 (by decide)
  obtain ⟨q2, hq2, eq2⟩ := pk_andE (x2 >>> ((5 : Int32) &&& 31)) (m := 7) 3 (by decide)
  have hm : sq_fin n K (nI q) a1 a2 a3 a4 a5 a6 a7 ≤ sq_fin n K (nI (q + q2)) a1 a2 a3 a4 a5 a6 a7 := sq_fin_m (nI_le (by omega) (by omega))
  have hb : sq_fin n K (nI (q + q2)) a1 a2 a3 a4 a5 a6 a7 ≤ 1968300 := sq_fin_b hn
  unfold wL_law_189
  rw [eq, eq2, nI_add q q2]
  exact sq_window (q := q) (by omega) (sq_finds hK hn (fun f1 b8 b10 => sq_window (q := q + q2) (by omega) (sq_finds hK hn (fun f2 c8 c10 => sq_window (q := v) hv (br_t rfl (br_t rfl (pk_lt (sq_fin n K (nI (q + q2)) a1 a2 a3 a4 a5 a6 a7) (sq_fin n K (nI q) a1 a2 a3 a4 a5 a6 a7) (fun z => absurd z (by omega)) (fun _ => sq_finds hK hn (fun f3 d8 d10 => br_t rfl (sq_endNone hn (br_t rfl (sq_witNone (br_t rfl h1)))))))))))))
theorem sq_law112 {post : Int32 → Prop} {L : Nat} {xs : Nat → Int32} {x2 fi : Int32} {kc ks : Nat} {K n v : Nat} {a1 a2 a3 a4 a5 a6 a7 a8 a9 a10 : Nat → Int32} (h1 : post 1) (hK : K ≤ 4) (hn : n ≤ 10) (hv : v ≤ 40) :
    ∃ m, wL_law_112 post L xs x2 (nI n) (nI (sq_fin n K (nI v) a1 a2 a3 a4 a5 a6 a7)) kc ks m 0 0 0 (nI K) (nI v) (nI n) fi a1 a2 a3 a4 a5 a6 a7 a8 a9 a10 := by
  have hb : sq_fin n K (nI v) a1 a2 a3 a4 a5 a6 a7 ≤ 1968300 := sq_fin_b hn
  refine pk_loop (σ := Int32 × Int32 × Int32 × (Nat → Int32) × (Nat → Int32) × (Nat → Int32)) (fun m i s => wL_law_112 post L xs x2 (nI n) (nI (sq_fin n K (nI v) a1 a2 a3 a4 a5 a6 a7)) kc ks m s.1 s.2.1 (nI i) (nI K) (nI v) (nI n) s.2.2.1 a1 a2 a3 a4 a5 a6 a7 s.2.2.2.1 s.2.2.2.2.1 s.2.2.2.2.2)
    (fun i s => s.1 = nI (sq_sm (fun e => sq_end K (nI v) a1 a2 a3 a4 a5 a6 a7 e) i) ∧ s.2.1 = nI (sq_sm (fun f => sq_beg n K (nI v) a1 a2 a3 a4 a5 a6 a7 f) i)) n 0 (0, 0, fi, a8, a9, a10) (by omega) ⟨rfl, rfl⟩ ?_ ?_
  · intro m s hI
    have e1 : s.1 = nI (sq_fin n K (nI v) a1 a2 a3 a4 a5 a6 a7) := by
      rw [← sq_end_sum]
      exact hI.1
    have e2 : s.2.1 = nI (sq_fin n K (nI v) a1 a2 a3 a4 a5 a6 a7) := hI.2
    have t : wL_law_189 post L xs x2 (nI n) (nI (sq_fin n K (nI v) a1 a2 a3 a4 a5 a6 a7)) s.1 s.2.1 kc ks (nI K) (nI v) (nI n) s.2.2.1 a1 a2 a3 a4 a5 a6 a7 s.2.2.2.1 s.2.2.2.2.1 s.2.2.2.2.2 := by
      rw [e1, e2]
      exact sq_law189 h1 hK hn hv
    exact pk_le 10 n (fun _ => t) (fun _ => pk_le n n (fun _ => t) (fun z => absurd z (by omega)))
  · intro m i s hi hI hw
    have e1 : s.1 = nI (sq_sm (fun e => sq_end K (nI v) a1 a2 a3 a4 a5 a6 a7 e) i) := hI.1
    have e2 : s.2.1 = nI (sq_sm (fun f => sq_beg n K (nI v) a1 a2 a3 a4 a5 a6 a7 f) i) := hI.2
    have hu : sq_use n K (nI v) a1 a2 a3 a4 a5 a6 a7 i ≤ sq_fin n K (nI v) a1 a2 a3 a4 a5 a6 a7 := sq_use_le hi
    refine pk_le 10 i (fun z => absurd z (by omega)) (fun _ => pk_le n i (fun z => absurd z (by omega)) (fun _ => sq_using hK hn hi (fun f1 c8 c9 c10 => sq_endingAt hK hn hi (fun f2 d8 d10 => nm_r (e' := nI (sq_sm (fun e => sq_end K (nI v) a1 a2 a3 a4 a5 a6 a7 e) i + sq_end K (nI v) a1 a2 a3 a4 a5 a6 a7 i)) ?_ (sq_beginningAt hK hn hi (fun f3 g8 g10 => nm_r (e' := nI (sq_sm (fun f => sq_beg n K (nI v) a1 a2 a3 a4 a5 a6 a7 f) i + sq_beg n K (nI v) a1 a2 a3 a4 a5 a6 a7 i)) ?_ (sq_without hK hn hi (fun f4 j8 j9 j10 => br_t rfl (br_f (nI_pos (by omega)) (pk_le (sq_use n K (nI v) a1 a2 a3 a4 a5 a6 a7 i) (sq_fin n K (nI v) a1 a2 a3 a4 a5 a6 a7) (fun _ => nm_r (nI_1 i) (hw (_, _, f4, j8, j9, j10) ⟨rfl, rfl⟩)) (fun z => absurd z (by omega))))))))))))
    · rw [e1, nI_add]
    · rw [e2, nI_add]
theorem sq_law23 {post : Int32 → Prop} {L : Nat} {xs : Nat → Int32} {x2 : Int32} {kc ks : Nat} (h1 : post 1) (hL : L ≤ 260) : ∀ (m i K v n : Nat) (fi : Int32) (b1 b2 b3 b4 b5 b6 b7 b8 b9 b10 : Nat → Int32), K ≤ 4 → v ≤ 40 → n ≤ 10 → i ≤ L + 1 → L ≤ i + 1 + 2 * m →
    wL_law_23 post L xs x2 kc ks (m + 1) (nI i) (nI K) (nI v) (nI n) fi b1 b2 b3 b4 b5 b6 b7 b8 b9 b10 := by
  intro m
  induction m with
  | zero =>
    intro i K v n fi b1 b2 b3 b4 b5 b6 b7 b8 b9 b10 hK hv hn hi hm
    exact pk_le L (i + 1) (fun z => sq_events (sq_finds hK hn (fun f' c8 c10 => sq_law112 h1 hK hn hv))) (fun z => absurd z (by omega)) rfl (nI_1 i)
  | succ m ih =>
    intro i K v n fi b1 b2 b3 b4 b5 b6 b7 b8 b9 b10 hK hv hn hi hm
    refine pk_le L (i + 1) (fun z => sq_events (sq_finds hK hn (fun f' c8 c10 => sq_law112 h1 hK hn hv))) (fun z => ⟨pk_in i L (by omega), nm_e ⟨pk_in i L (by omega), pk_in (i + 1) L (by omega) (nI_1 i), sq_turn hK hn hv ?_⟩⟩) rfl (nI_1 i)
    intro r K' v' n' f' b1 b2 b3 b4 b5 b6 b7 b8 b9 b10 hK' hv' hn' hr
    refine sq_events (fun x6 hx6 => br_c (fun z1 => nm_r (nI_add i 2) (ih (i + 2) K' v' n' _ _ _ _ _ _ _ _ _ _ _ hK' hv' hn' (by omega) (by omega))) (fun z1 => br_c (fun z2 => nm_r (nI_add i 2) (ih (i + 2) K' v' n' _ _ _ _ _ _ _ _ _ _ _ hK' hv' hn' (by omega) (by omega))) (fun z2 => ?_)))
    rcases hr with hr | hr | ⟨e, he, hr⟩
    · exact absurd hr z1
    · exact absurd hr z2
    · subst he hr
      rw [hx6, nI_pred e]
      exact sq_endingAt hK' hn' (by omega) (fun f2 c8 c10 => br_t rfl (nm_r (nI_add i 2) (ih (i + 2) K' v' (e + 1) _ _ _ _ _ _ _ _ _ _ _ hK' hv' hn' (by omega) (by omega))))
theorem i_vc (xs : Nat → Int32) (L : Nat) (hL : L ≤ 260) : wpL_law (fun r => r = 1) L xs := by
  unfold wpL_law
  refine ⟨10, 166, by decide, by decide, ?_⟩
  unfold wpX_init
  refine ⟨by decide, by decide, by decide, by decide, by decide, by decide, by decide, by decide, by decide, by decide, by decide, by decide, by decide, by decide, by decide, by decide, by decide, by decide, by decide, by decide, nm_e ?_⟩
  exact pk_le L 0 (fun z => ⟨L + 1, sq_law23 (post := fun r => r = 1) rfl hL L 1 1 10 0 0 _ _ _ _ _ _ _ _ _ _ (by omega) (by omega) (by omega) (by omega) (by omega)⟩) (fun z => ⟨pk_in 0 L (by omega), nm_e ⟨L + 1, sq_law23 (post := fun r => r = 1) rfl hL L 1 1 10 0 0 _ _ _ _ _ _ _ _ _ _ (by omega) (by omega) (by omega) (by omega) (by omega)⟩⟩)
end
