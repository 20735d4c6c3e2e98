section
/-- the sum of f over the numbers below n -/
def os_sm (f : Nat → Nat) : Nat → Nat
  | 0 => 0
  | n + 1 => os_sm f n + f n
theorem os_sm_s (f : Nat → Nat) (n : Nat) : os_sm f (n + 1) = os_sm f n + f n := rfl
theorem os_sm_congr {f g : Nat → Nat} {n : Nat} (h : ∀ i, i < n → f i = g i) : os_sm f n = os_sm g n := by
  induction n with
  | zero => rfl
  | succ n ih =>
    rw [os_sm_s, os_sm_s, ih (fun i hi => h i (by omega)), h n (by omega)]
theorem os_sm_le {f g : Nat → Nat} {n : Nat} (h : ∀ i, i < n → f i ≤ g i) : os_sm f n ≤ os_sm g n := by
  induction n with
  | zero => exact Nat.le_refl _
  | succ n ih =>
    rw [os_sm_s, os_sm_s]
    exact Nat.add_le_add (ih (fun i hi => h i (by omega))) (h n (by omega))
theorem os_sm_z {f : Nat → Nat} {n : Nat} (h : ∀ i, i < n → f i = 0) : os_sm f n = 0 := by
  induction n with
  | zero => rfl
  | succ n ih => rw [os_sm_s, ih (fun i hi => h i (by omega)), h n (by omega)]
theorem os_sm_add (f g : Nat → Nat) (n : Nat) : os_sm (fun i => f i + g i) n = os_sm f n + os_sm g n := by
  induction n with
  | zero => rfl
  | succ n ih =>
    rw [os_sm_s, os_sm_s, os_sm_s, ih]
    omega
theorem os_sm_mul (x : Nat) (f : Nat → Nat) (n : Nat) : os_sm (fun i => x * f i) n = x * os_sm f n := by
  induction n with
  | zero => rfl
  | succ n ih => rw [os_sm_s, os_sm_s, ih, Nat.mul_add]
theorem os_sm_mulr (x : Nat) (f : Nat → Nat) (n : Nat) : os_sm (fun i => f i * x) n = os_sm f n * x := by
  induction n with
  | zero => exact (Nat.zero_mul x).symm
  | succ n ih => rw [os_sm_s, os_sm_s, ih, Nat.add_mul]
theorem os_sm_comm (f : Nat → Nat → Nat) (n m : Nat) : os_sm (fun i => os_sm (f i) m) n = os_sm (fun j => os_sm (fun i => f i j) n) m := by
  induction n with
  | zero => exact (os_sm_z (fun _ _ => rfl)).symm
  | succ n ih =>
    rw [os_sm_s, ih, ← os_sm_add]
    exact os_sm_congr (fun j _ => rfl)
theorem os_sm_B {f : Nat → Nat} {n B : Nat} (h : ∀ i, i < n → f i ≤ B) : os_sm f n ≤ n * B := by
  induction n with
  | zero => exact Nat.zero_le _
  | succ n ih =>
    rw [os_sm_s, Nat.succ_mul]
    exact Nat.add_le_add (ih (fun i hi => h i (by omega))) (h n (by omega))
theorem os_sm_mono (f : Nat → Nat) {m n : Nat} (h : m ≤ n) : os_sm f m ≤ os_sm f n := by
  induction n with
  | zero =>
    have : m = 0 := by omega
    subst this
    exact Nat.le_refl _
  | succ n ih =>
    by_cases e : m = n + 1
    · subst e
      exact Nat.le_refl _
    · exact Nat.le_trans (ih (by omega)) (Nat.le_add_right _ _)
theorem os_sm_mem (f : Nat → Nat) {i n : Nat} (h : i < n) : f i ≤ os_sm f n :=
  Nat.le_trans (Nat.le_add_left (f i) (os_sm f i)) (os_sm_mono f (m := i + 1) (by omega))
theorem os_sm_sh (f : Nat → Nat) (e n : Nat) : os_sm (fun c => if e ≤ c then f (c - e) else 0) n = os_sm f (n - e) := by
  induction n with
  | zero => rw [Nat.zero_sub]; rfl
  | succ n ih =>
    rw [os_sm_s, ih]
    by_cases h : e ≤ n
    · rw [if_pos h, show n + 1 - e = (n - e) + 1 by omega, os_sm_s]
    · rw [if_neg h, show n + 1 - e = 0 by omega, show n - e = 0 by omega, Nat.add_zero]
theorem os_sm_one (k x n : Nat) : os_sm (fun i => if i = k then x else 0) n ≤ x := by
  have : os_sm (fun i => if i = k then x else 0) n = if k < n then x else 0 := by
    induction n with
    | zero => rw [if_neg (by omega)]; rfl
    | succ n ih =>
      rw [os_sm_s, ih]
      by_cases h : n = k
      · rw [if_pos h, if_neg (by omega), if_pos (by omega), Nat.zero_add]
      · rw [if_neg h, Nat.add_zero]
        by_cases h2 : k < n
        · rw [if_pos h2, if_pos (by omega)]
        · rw [if_neg h2, if_neg (by omega)]
  rw [this]
  by_cases h : k < n
  · rw [if_pos h]
    exact Nat.le_refl _
  · rw [if_neg h]
    exact Nat.zero_le _
/-- a table moved up by a cost; a negative cost: barred -/
def os_sh (x : Int32) (f : Nat → Nat) (c : Nat) : Nat := if x < 0 then 0 else if x.toNatClampNeg ≤ c then f (c - x.toNatClampNeg) else 0
theorem os_sh_neg {x : Int32} (h : x < 0) (f : Nat → Nat) (c : Nat) : os_sh x f c = 0 := if_pos h
theorem os_sh_nI {j : Nat} (h : j < 2 ^ 31) (f : Nat → Nat) (c : Nat) : os_sh (nI j) f c = if j ≤ c then f (c - j) else 0 := by
  unfold os_sh
  rw [if_neg (nI_pos h), nI_clamp h]
theorem os_sh_B (x : Int32) (f : Nat → Nat) (n : Nat) : os_sm (os_sh x f) n ≤ os_sm f n := by
  by_cases h : x < 0
  · rw [os_sm_z (fun i _ => os_sh_neg h f i)]
    exact Nat.zero_le _
  · have e : os_sm (os_sh x f) n = os_sm (fun c => if x.toNatClampNeg ≤ c then f (c - x.toNatClampNeg) else 0) n := os_sm_congr (fun i _ => if_neg h)
    rw [e, os_sm_sh]
    exact os_sm_mono f (Nat.sub_le _ _)
/-- a side's line: the tables of its three types, each moved up by its conversion -/
def os_ln (a1 : Nat → Int32) (T : Nat → Nat → Nat) (y : Nat) (c : Nat) : Nat := os_sm (fun t => os_sh (a1 (3 * t + y)) (T t) c) 3
theorem os_ln_B (a1 : Nat → Int32) (T : Nat → Nat → Nat) (y n : Nat) : os_sm (os_ln a1 T y) n ≤ os_sm (fun t => os_sm (T t) n) 3 := by
  have e : os_sm (os_ln a1 T y) n = os_sm (fun t => os_sm (os_sh (a1 (3 * t + y)) (T t)) n) 3 := os_sm_comm (fun c t => os_sh (a1 (3 * t + y)) (T t) c) n 3
  rw [e]
  exact os_sm_le (fun t _ => os_sh_B _ _ _)
/-- the first a summands of a product of lines at d -/
def os_cv (L R : Nat → Nat) (a d : Nat) : Nat := os_sm (fun i => if i ≤ d then L i * R (d - i) else 0) a
theorem os_cv_B (L R : Nat → Nat) (a n : Nat) : os_sm (os_cv L R a) n ≤ os_sm L a * os_sm R n := by
  have e : os_sm (os_cv L R a) n = os_sm (fun i => os_sm (fun d => if i ≤ d then L i * R (d - i) else 0) n) a := os_sm_comm (fun d i => if i ≤ d then L i * R (d - i) else 0) n a
  rw [e, ← os_sm_mulr]
  refine os_sm_le (fun i _ => ?_)
  have e2 : os_sm (fun d => if i ≤ d then L i * R (d - i) else 0) n = os_sm (fun j => L i * R j) (n - i) := os_sm_sh (fun j => L i * R j) i n
  rw [e2, os_sm_mul]
  exact Nat.mul_le_mul_left _ (os_sm_mono R (Nat.sub_le _ _))
theorem os_cv_z (L R : Nat → Nat) (d : Nat) : os_cv L R 0 d = 0 := rfl
theorem os_cv_s (L R : Nat → Nat) (a d : Nat) : nI (os_cv L R (a + 1) d) = nI (os_cv L R a d) + (if a ≤ d then nI (L a) * nI (R (d - a)) else 0) := by
  show nI (os_cv L R a d + (if a ≤ d then L a * R (d - a) else 0)) = _
  rw [← nI_add]
  by_cases h : a ≤ d
  · rw [if_pos h, if_pos h, pk_mul]
  · rw [if_neg h, if_neg h, nI_0]
/-- what one signature adds to a node's table -/
def os_jn (L R : Nat → Nat) (ty sc t c : Nat) : Nat := if t = ty then (if sc ≤ c then os_cv L R (128 - sc) (c - sc) else 0) else 0
theorem os_jn_B (L R : Nat → Nat) (ty sc : Nat) : os_sm (fun t => os_sm (os_jn L R ty sc t) 128) 3 ≤ os_sm L 128 * os_sm R 128 := by
  have e : ∀ t, t < 3 → os_sm (os_jn L R ty sc t) 128 ≤ (if t = ty then os_sm L 128 * os_sm R 128 else 0) := by
    intro t _
    by_cases h : t = ty
    · rw [if_pos h]
      have e1 : os_sm (os_jn L R ty sc t) 128 = os_sm (fun c => if sc ≤ c then os_cv L R (128 - sc) (c - sc) else 0) 128 := os_sm_congr (fun c _ => if_pos h)
      rw [e1, os_sm_sh]
      exact Nat.le_trans (os_cv_B L R (128 - sc) (128 - sc)) (Nat.mul_le_mul (os_sm_mono L (Nat.sub_le _ _)) (os_sm_mono R (Nat.sub_le _ _)))
    · rw [if_neg h, os_sm_z (f := os_jn L R ty sc t) (fun c _ => if_neg h)]
      exact Nat.le_refl _
  exact Nat.le_trans (os_sm_le e) (os_sm_one ty _ 3)
/-- signature s at node k -/
def os_jk (a1 a2 a3 a9 a10 : Nat → Int32) (T : Nat → Nat → Nat → Nat) (k s t c : Nat) : Nat :=
  os_jn (os_ln a1 (T (a9 k).toNatClampNeg) ((a2 s).toNatClampNeg / 9)) (os_ln a1 (T (a10 k).toNatClampNeg) ((a2 s).toNatClampNeg / 3 % 3)) ((a2 s).toNatClampNeg % 3) (a3 s).toNatClampNeg t c
/-- the type of variable v at pair p -/
def os_vt (p v : Nat) : Nat := if v = 0 then p / 3 else p % 3
/-- the table of node k out of those of the nodes below it -/
def os_st (a1 a2 a3 a4 a6 a7 a8 a9 a10 : Nat → Int32) (p : Nat) (T : Nat → Nat → Nat → Nat) (k t c : Nat) : Nat :=
  if a7 k = 0 then (if ((a8 k >>> (nI t &&& 31)) &&& 1) = 1 ∧ c = (a6 t).toNatClampNeg then 1 else 0)
  else if a7 k = 1 then (if t = os_vt p (a8 k).toNatClampNeg ∧ c = 0 then 1 else 0)
  else if a7 k = 2 then (if t = (a8 k).toNatClampNeg ∧ c = 0 then 1 else 0)
  else os_sm (fun i => os_jk a1 a2 a3 a9 a10 T k (4 * (a8 k).toNatClampNeg + i) t c) (a4 (a8 k).toNatClampNeg).toNatClampNeg
/-- the tables of the nodes below m -/
def os_tab (a1 a2 a3 a4 a6 a7 a8 a9 a10 : Nat → Int32) (p : Nat) : Nat → Nat → Nat → Nat → Nat
  | 0 => fun _ _ _ => 0
  | m + 1 => fun k t c => if k = m then os_st a1 a2 a3 a4 a6 a7 a8 a9 a10 p (os_tab a1 a2 a3 a4 a6 a7 a8 a9 a10 p m) m t c else os_tab a1 a2 a3 a4 a6 a7 a8 a9 a10 p m k t c
theorem os_tab_eq (a1 a2 a3 a4 a6 a7 a8 a9 a10 : Nat → Int32) (p m t c : Nat) : os_tab a1 a2 a3 a4 a6 a7 a8 a9 a10 p (m + 1) m t c = os_st a1 a2 a3 a4 a6 a7 a8 a9 a10 p (os_tab a1 a2 a3 a4 a6 a7 a8 a9 a10 p m) m t c := if_pos rfl
theorem os_tab_ne (a1 a2 a3 a4 a6 a7 a8 a9 a10 : Nat → Int32) (p : Nat) {m k : Nat} (h : k ≠ m) (t c : Nat) : os_tab a1 a2 a3 a4 a6 a7 a8 a9 a10 p (m + 1) k t c = os_tab a1 a2 a3 a4 a6 a7 a8 a9 a10 p m k t c := if_neg h
/-- how many of the nodes below k are applications -/
def os_na (a7 : Nat → Int32) : Nat → Nat
  | 0 => 0
  | k + 1 => os_na a7 k + (if a7 k = 3 then 1 else 0)
theorem os_na_mono (a7 : Nat → Int32) {m n : Nat} (h : m ≤ n) : os_na a7 m ≤ os_na a7 n := by
  induction n with
  | zero =>
    have : m = 0 := by omega
    subst this
    exact Nat.le_refl _
  | succ n ih =>
    by_cases e : m = n + 1
    · subst e
      exact Nat.le_refl _
    · exact Nat.le_trans (ih (by omega)) (Nat.le_add_right _ _)
theorem os_na_congr {f g : Nat → Int32} {n : Nat} (h : ∀ k, k < n → f k = g k) : os_na f n = os_na g n := by
  induction n with
  | zero => rfl
  | succ n ih =>
    show os_na f n + (if f n = 3 then 1 else 0) = os_na g n + (if g n = 3 then 1 else 0)
    rw [ih (fun k hk => h k (by omega)), h n (by omega)]
/-- the bound of a node's table by the applications -/
def os_bd : Nat → Nat
  | 0 => 3
  | n + 1 => 4 * (os_bd n * os_bd n)
theorem os_bd_3 (n : Nat) : 3 ≤ os_bd n := by
  induction n with
  | zero => exact Nat.le_refl _
  | succ n ih =>
    show 3 ≤ 4 * (os_bd n * os_bd n)
    have : 3 * 3 ≤ os_bd n * os_bd n := Nat.mul_le_mul ih ih
    omega
theorem os_bd_s (n : Nat) : os_bd n ≤ os_bd (n + 1) := by
  show os_bd n ≤ 4 * (os_bd n * os_bd n)
  have h3 := os_bd_3 n
  have : os_bd n * 1 ≤ os_bd n * os_bd n := Nat.mul_le_mul_left _ (by omega)
  omega
theorem os_bd_mono {m n : Nat} (h : m ≤ n) : os_bd m ≤ os_bd n := by
  induction n with
  | zero =>
    have : m = 0 := by omega
    subst this
    exact Nat.le_refl _
  | succ n ih =>
    by_cases e : m = n + 1
    · subst e
      exact Nat.le_refl _
    · exact Nat.le_trans (ih (by omega)) (os_bd_s n)
/-- one node is well made -/
def os_nd (a7 a8 a9 a10 : Nat → Int32) (k : Nat) : Prop :=
  a7 k = 0 ∨ (a7 k = 1 ∧ ∃ v, v < 2 ∧ a8 k = nI v) ∨ (a7 k = 2 ∧ ∃ v, v < 3 ∧ a8 k = nI v) ∨
    (a7 k = 3 ∧ (∃ v, v < 3 ∧ a8 k = nI v) ∧ (∃ l, l < k ∧ a9 k = nI l) ∧ ∃ r, r < k ∧ a10 k = nI r)
/-- the set-up is well made, with n nodes -/
def os_wf (a1 a2 a3 a4 a6 a7 a8 a9 a10 : Nat → Int32) (n : Nat) : Prop :=
  (∀ i, i < 9 → a1 i < 0 ∨ ∃ j, j ≤ 9 ∧ a1 i = nI j) ∧ (∀ i, i < 12 → ∃ j, j ≤ 26 ∧ a2 i = nI j) ∧ (∀ i, i < 12 → ∃ j, j ≤ 9 ∧ a3 i = nI j) ∧
    (∀ i, i < 3 → ∃ j, j ≤ 4 ∧ a4 i = nI j) ∧ (∀ i, i < 3 → ∃ j, j ≤ 9 ∧ a6 i = nI j) ∧ n ≤ 12 ∧ (∀ k, k < n → os_nd a7 a8 a9 a10 k)
/-- the sum of a node's table -/
def os_S (T : Nat → Nat → Nat) : Nat := os_sm (fun t => os_sm (T t) 128) 3
theorem os_S_congr {T T' : Nat → Nat → Nat} (h : ∀ t c, T t c = T' t c) : os_S T = os_S T' :=
  os_sm_congr (fun t _ => os_sm_congr (fun c _ => h t c))
theorem os_jk_B (a1 a2 a3 a9 a10 : Nat → Int32) (T : Nat → Nat → Nat → Nat) (k s : Nat) : os_S (os_jk a1 a2 a3 a9 a10 T k s) ≤ os_S (T (a9 k).toNatClampNeg) * os_S (T (a10 k).toNatClampNeg) :=
  Nat.le_trans (os_jn_B _ _ _ _) (Nat.mul_le_mul (os_ln_B _ _ _ _) (os_ln_B _ _ _ _))
theorem os_S_sm (g : Nat → Nat → Nat → Nat) (n : Nat) : os_S (fun t c => os_sm (fun i => g i t c) n) = os_sm (fun i => os_S (g i)) n := by
  have e1 : ∀ t, t < 3 → os_sm (fun c => os_sm (fun i => g i t c) n) 128 = os_sm (fun i => os_sm (g i t) 128) n := fun t _ => os_sm_comm (fun c i => g i t c) 128 n
  exact (os_sm_congr e1).trans (os_sm_comm (fun t i => os_sm (g i t) 128) 3 n)
theorem os_S_pt {f : Nat → Nat → Nat} {ty : Nat} (h : ∀ t c, f t c ≤ if t = ty ∧ c = 0 then 1 else 0) : os_S f ≤ 1 := by
  have e : ∀ t, t < 3 → os_sm (f t) 128 ≤ (if t = ty then 1 else 0) := by
    intro t _
    by_cases ht : t = ty
    · rw [if_pos ht]
      refine Nat.le_trans (os_sm_le (g := fun c => if c = 0 then 1 else 0) (fun c _ => ?_)) (os_sm_one 0 1 128)
      refine Nat.le_trans (h t c) ?_
      by_cases hc : c = 0
      · rw [if_pos ⟨ht, hc⟩, if_pos hc]
        exact Nat.le_refl _
      · rw [if_neg (fun z => hc z.2), if_neg hc]
        exact Nat.le_refl _
    · rw [if_neg ht, os_sm_z (fun c _ => ?_)]
      · exact Nat.le_refl _
      · have := h t c
        rw [if_neg (fun z => ht z.1)] at this
        omega
  exact Nat.le_trans (os_sm_le e) (os_sm_one ty 1 3)
theorem os_S_lit {f : Nat → Nat → Nat} {g : Nat → Nat} (h : ∀ t c, f t c ≤ if c = g t then 1 else 0) : os_S f ≤ 3 := by
  refine Nat.le_trans (os_sm_B (B := 1) (fun t _ => ?_)) (by omega)
  exact Nat.le_trans (os_sm_le (fun c _ => h t c)) (os_sm_one (g t) 1 128)
/-- a node's table holds no more than the bound -/
theorem os_st_B {a1 a2 a3 a4 a6 a7 a8 a9 a10 : Nat → Int32} {n m : Nat} (w : os_wf a1 a2 a3 a4 a6 a7 a8 a9 a10 n) (hm : m < n) (p : Nat) {T : Nat → Nat → Nat → Nat} {B : Nat} (hB : 3 ≤ B) (h : ∀ k, k < m → os_S (T k) ≤ B) :
    os_S (os_st a1 a2 a3 a4 a6 a7 a8 a9 a10 p T m) ≤ if a7 m = 3 then 4 * (B * B) else B := by
  obtain ⟨_, _, _, w4, _, _, wn⟩ := w
  rcases wn m hm with k0 | ⟨k1, _⟩ | ⟨k2, _⟩ | ⟨k3, ⟨v, hv, ev⟩, ⟨l, hl, el⟩, ⟨r, hr, er⟩⟩
  · rw [if_neg (by rw [k0]; decide)]
    refine Nat.le_trans (os_S_lit (g := fun t => (a6 t).toNatClampNeg) (fun t c => ?_)) hB
    unfold os_st
    rw [if_pos k0]
    by_cases hc : c = (a6 t).toNatClampNeg
    · rw [if_pos hc]
      by_cases hb : ((a8 m >>> (nI t &&& 31)) &&& 1) = 1
      · rw [if_pos ⟨hb, hc⟩]
        exact Nat.le_refl _
      · rw [if_neg (fun z => hb z.1)]
        omega
    · rw [if_neg (fun z => hc z.2)]
      omega
  · rw [if_neg (by rw [k1]; decide)]
    refine Nat.le_trans (os_S_pt (ty := os_vt p (a8 m).toNatClampNeg) (fun t c => ?_)) (by omega)
    unfold os_st
    rw [if_neg (by rw [k1]; decide), if_pos k1]
    exact Nat.le_refl _
  · rw [if_neg (by rw [k2]; decide)]
    refine Nat.le_trans (os_S_pt (ty := (a8 m).toNatClampNeg) (fun t c => ?_)) (by omega)
    unfold os_st
    rw [if_neg (by rw [k2]; decide), if_neg (by rw [k2]; decide), if_pos k2]
    exact Nat.le_refl _
  · rw [if_pos k3]
    have e : os_S (os_st a1 a2 a3 a4 a6 a7 a8 a9 a10 p T m) = os_S (fun t c => os_sm (fun i => os_jk a1 a2 a3 a9 a10 T m (4 * (a8 m).toNatClampNeg + i) t c) (a4 (a8 m).toNatClampNeg).toNatClampNeg) := by
      refine os_S_congr (fun t c => ?_)
      unfold os_st
      rw [if_neg (by rw [k3]; decide), if_neg (by rw [k3]; decide), if_neg (by rw [k3]; decide)]
    rw [e, os_S_sm (fun i t c => os_jk a1 a2 a3 a9 a10 T m (4 * (a8 m).toNatClampNeg + i) t c)]
    refine Nat.le_trans (os_sm_B (B := B * B) (fun i _ => ?_)) ?_
    · refine Nat.le_trans (os_jk_B _ _ _ _ _ _ _ _) ?_
      rw [el, er, nI_clamp (show l < 2 ^ 31 by omega), nI_clamp (show r < 2 ^ 31 by omega)]
      exact Nat.mul_le_mul (h l hl) (h r hr)
    · refine Nat.mul_le_mul_right _ ?_
      rw [ev, nI_clamp (show v < 2 ^ 31 by omega)]
      obtain ⟨j, hj, ej⟩ := w4 v hv
      rw [ej, nI_clamp (by omega)]
      exact hj
theorem os_tab_B {a1 a2 a3 a4 a6 a7 a8 a9 a10 : Nat → Int32} {n : Nat} (w : os_wf a1 a2 a3 a4 a6 a7 a8 a9 a10 n) (p : Nat) : ∀ m, m ≤ n → ∀ k, k < m → os_S (os_tab a1 a2 a3 a4 a6 a7 a8 a9 a10 p m k) ≤ os_bd (os_na a7 m) := by
  intro m
  induction m with
  | zero => exact fun _ k hk => absurd hk (by omega)
  | succ m ih =>
    intro hm k hk
    have ih' := ih (by omega)
    by_cases e : k = m
    · subst e
      rw [os_S_congr (fun t c => os_tab_eq a1 a2 a3 a4 a6 a7 a8 a9 a10 p k t c)]
      refine Nat.le_trans (os_st_B w (by omega) p (os_bd_3 (os_na a7 k)) ih') ?_
      show _ ≤ os_bd (os_na a7 k + (if a7 k = 3 then 1 else 0))
      by_cases h3 : a7 k = 3
      · rw [if_pos h3, if_pos h3]
        exact Nat.le_refl _
      · rw [if_neg h3, if_neg h3]
        exact Nat.le_refl _
    · rw [os_S_congr (fun t c => os_tab_ne a1 a2 a3 a4 a6 a7 a8 a9 a10 p e t c)]
      exact Nat.le_trans (ih' k (by omega)) (os_bd_mono (os_na_mono a7 (by omega)))
/-- the cost of turning type t into the wanted one -/
def os_xc (a1 : Nat → Int32) (t w : Nat) : Int32 := if w = 3 then 0 else a1 (3 * t + w)
/-- may variable p0 have type p1 -/
def os_may (uv : Int32) (a5 : Nat → Int32) (p0 p1 : Int32) : Bool := if ((uv >>> (p0 &&& 31)) &&& 1) = 0 then decide (p1 = 0) else decide (((a5 p0.toNatClampNeg >>> (p1 &&& 31)) &&& 1) = 1)
def os_pr (uv : Int32) (a5 : Nat → Int32) (p : Nat) : Bool := os_may uv a5 0 (nI p / 3) && os_may uv a5 1 (nI p - nI p / 3 * 3)
/-- the totals after the pairs below p -/
def os_tot (a1 a2 a3 a4 a6 a7 a8 a9 a10 : Nat → Int32) (a5 : Nat → Int32) (uv : Int32) (nd w : Nat) : Nat → Nat → Nat
  | 0 => fun _ => 0
  | p + 1 => fun c => os_tot a1 a2 a3 a4 a6 a7 a8 a9 a10 a5 uv nd w p c + (if os_pr uv a5 p = true then os_sm (fun t => os_sh (os_xc a1 t w) (os_tab a1 a2 a3 a4 a6 a7 a8 a9 a10 p (nd + 1) nd t) c) 3 else 0)
theorem os_tot_B {a1 a2 a3 a4 a6 a7 a8 a9 a10 : Nat → Int32} {n : Nat} (wf : os_wf a1 a2 a3 a4 a6 a7 a8 a9 a10 n) (a5 : Nat → Int32) (uv : Int32) {nd : Nat} (w : Nat) (hn : nd < n) (p : Nat) : os_sm (os_tot a1 a2 a3 a4 a6 a7 a8 a9 a10 a5 uv nd w p) 128 ≤ p * os_bd (os_na a7 n) := by
  induction p with
  | zero =>
    rw [os_sm_z (f := os_tot a1 a2 a3 a4 a6 a7 a8 a9 a10 a5 uv nd w 0) (fun _ _ => rfl)]
    exact Nat.zero_le _
  | succ p ih =>
    have e : os_sm (os_tot a1 a2 a3 a4 a6 a7 a8 a9 a10 a5 uv nd w (p + 1)) 128 = os_sm (os_tot a1 a2 a3 a4 a6 a7 a8 a9 a10 a5 uv nd w p) 128 + os_sm (fun c => if os_pr uv a5 p = true then os_sm (fun t => os_sh (os_xc a1 t w) (os_tab a1 a2 a3 a4 a6 a7 a8 a9 a10 p (nd + 1) nd t) c) 3 else 0) 128 := os_sm_add _ _ _
    rw [e, Nat.succ_mul]
    refine Nat.add_le_add ih ?_
    by_cases h : os_pr uv a5 p = true
    · have e2 : os_sm (fun c => if os_pr uv a5 p = true then os_sm (fun t => os_sh (os_xc a1 t w) (os_tab a1 a2 a3 a4 a6 a7 a8 a9 a10 p (nd + 1) nd t) c) 3 else 0) 128 = os_sm (fun t => os_sm (os_sh (os_xc a1 t w) (os_tab a1 a2 a3 a4 a6 a7 a8 a9 a10 p (nd + 1) nd t)) 128) 3 :=
        (os_sm_congr (fun c _ => if_pos h)).trans (os_sm_comm (fun c t => os_sh (os_xc a1 t w) (os_tab a1 a2 a3 a4 a6 a7 a8 a9 a10 p (nd + 1) nd t) c) 128 3)
      rw [e2]
      refine Nat.le_trans (os_sm_le (fun t _ => os_sh_B _ _ _)) ?_
      exact Nat.le_trans (os_tab_B wf p (nd + 1) (by omega) nd (by omega)) (os_bd_mono (os_na_mono a7 (by omega)))
    · rw [os_sm_z (fun c _ => if_neg h)]
      exact Nat.zero_le _
end
section
/-- one turn of marking: the parts -/
def os_m1 (a7 a9 a10 : Nat → Int32) (k : Nat) (p : Nat → Int32) : Nat → Int32 :=
  if p k = 0 then p else if a7 k = 3 then upd (upd p (a9 k).toNatClampNeg 1) (a10 k).toNatClampNeg 1 else p
/-- one turn of marking: the variables -/
def os_m2 (a7 a8 : Nat → Int32) (k : Nat) (p : Nat → Int32) (u : Int32) : Int32 :=
  if p k = 0 then u else if a7 k = 1 then u ||| ((1 : Int32) <<< (a8 k &&& 31)) else u
/-- the turns from k - 1 down to 0 -/
def os_mp (a7 a8 a9 a10 : Nat → Int32) : Nat → (Nat → Int32) → Int32 → (Nat → Int32) × Int32
  | 0 => fun p u => (p, u)
  | k + 1 => fun p u => os_mp a7 a8 a9 a10 k (os_m1 a7 a9 a10 k p) (os_m2 a7 a8 k (os_m1 a7 a9 a10 k p) u)
def os_p0 (nd : Nat) : Nat → Int32 := fun j => if j = nd then 1 else 0
/-- the used variables below node nd -/
def os_uv (a7 a8 a9 a10 : Nat → Int32) (nd : Nat) : Int32 := (os_mp a7 a8 a9 a10 (nd + 1) (os_p0 nd) 0).2
theorem os_m1_ag {a7 a9 a10 : Nat → Int32} {k N : Nat} {p q : Nat → Int32} (hk : k < N) (h : ∀ j, j < N → p j = q j) : ∀ j, j < N → os_m1 a7 a9 a10 k p j = os_m1 a7 a9 a10 k q j := by
  intro j hj
  unfold os_m1
  rw [h k hk]
  by_cases e : q k = 0
  · rw [if_pos e, if_pos e]
    exact h j hj
  · rw [if_neg e, if_neg e]
    by_cases e3 : a7 k = 3
    · rw [if_pos e3, if_pos e3]
      by_cases e4 : j = (a10 k).toNatClampNeg
      · rw [e4, pk_us, pk_us]
      · rw [pk_un e4, pk_un e4]
        by_cases e5 : j = (a9 k).toNatClampNeg
        · rw [e5, pk_us, pk_us]
        · rw [pk_un e5, pk_un e5]
          exact h j hj
    · rw [if_neg e3, if_neg e3]
      exact h j hj
theorem os_mp_ag {a7 a8 a9 a10 : Nat → Int32} {N : Nat} : ∀ (k : Nat) (p q : Nat → Int32) (u : Int32), k ≤ N → (∀ j, j < N → p j = q j) → (os_mp a7 a8 a9 a10 k p u).2 = (os_mp a7 a8 a9 a10 k q u).2 := by
  intro k
  induction k with
  | zero => exact fun _ _ _ _ _ => rfl
  | succ k ih =>
    intro p q u hk h
    have h1 := os_m1_ag (a7 := a7) (a9 := a9) (a10 := a10) (k := k) (by omega) h
    have h2 : os_m2 a7 a8 k (os_m1 a7 a9 a10 k p) u = os_m2 a7 a8 k (os_m1 a7 a9 a10 k q) u := by
      unfold os_m2
      rw [h1 k (by omega)]
    show (os_mp a7 a8 a9 a10 k (os_m1 a7 a9 a10 k p) (os_m2 a7 a8 k (os_m1 a7 a9 a10 k p) u)).2 = (os_mp a7 a8 a9 a10 k (os_m1 a7 a9 a10 k q) (os_m2 a7 a8 k (os_m1 a7 a9 a10 k q) u)).2
    rw [h2]
    exact ih _ _ _ (by omega) h1
theorem os_nd3 {a7 a8 a9 a10 : Nat → Int32} {k : Nat} (h : os_nd a7 a8 a9 a10 k) (e : a7 k = 3) : (∃ v, v < 3 ∧ a8 k = nI v) ∧ (∃ l, l < k ∧ a9 k = nI l) ∧ ∃ r, r < k ∧ a10 k = nI r := by
  rcases h with k0 | ⟨k1, _⟩ | ⟨k2, _⟩ | ⟨_, h⟩
  · rw [e] at k0
    exact absurd k0 (by decide)
  · rw [e] at k1
    exact absurd k1 (by decide)
  · rw [e] at k2
    exact absurd k2 (by decide)
  · exact h
theorem os_m1_keep {a7 a8 a9 a10 : Nat → Int32} {k : Nat} (hn : k < 2 ^ 31) (h : os_nd a7 a8 a9 a10 k) (p : Nat → Int32) {j : Nat} (hj : k ≤ j) : os_m1 a7 a9 a10 k p j = p j := by
  unfold os_m1
  by_cases e : p k = 0
  · rw [if_pos e]
  · rw [if_neg e]
    by_cases e3 : a7 k = 3
    · obtain ⟨_, ⟨l, hl, el⟩, ⟨r, hr, er⟩⟩ := os_nd3 h e3
      rw [if_pos e3, el, er, nI_clamp (show l < 2 ^ 31 by omega), nI_clamp (show r < 2 ^ 31 by omega), pk_un (by omega), pk_un (by omega)]
    · rw [if_neg e3]
theorem os_m1_nz (a7 a9 a10 : Nat → Int32) (k : Nat) {p : Nat → Int32} {j : Nat} (hj : p j ≠ 0) : os_m1 a7 a9 a10 k p j ≠ 0 := by
  unfold os_m1
  by_cases e : p k = 0
  · rw [if_pos e]
    exact hj
  · rw [if_neg e]
    by_cases e3 : a7 k = 3
    · rw [if_pos e3]
      by_cases e4 : j = (a10 k).toNatClampNeg
      · rw [e4, pk_us]
        decide
      · rw [pk_un e4]
        by_cases e5 : j = (a9 k).toNatClampNeg
        · rw [e5, pk_us]
          decide
        · rw [pk_un e5]
          exact hj
    · rw [if_neg e3]
      exact hj
theorem os_mp_keep {a7 a8 a9 a10 : Nat → Int32} : ∀ (k : Nat) (p : Nat → Int32) (u : Int32), k < 2 ^ 31 → (∀ i, i < k → os_nd a7 a8 a9 a10 i) → ∀ j, k ≤ j + 1 → (os_mp a7 a8 a9 a10 k p u).1 j = p j := by
  intro k
  induction k with
  | zero => exact fun _ _ _ _ _ _ => rfl
  | succ k ih =>
    intro p u hk h j hj
    show (os_mp a7 a8 a9 a10 k (os_m1 a7 a9 a10 k p) (os_m2 a7 a8 k (os_m1 a7 a9 a10 k p) u)).1 j = p j
    rw [ih _ _ (by omega) (fun i hi => h i (by omega)) j (by omega)]
    exact os_m1_keep (by omega) (h k (by omega)) p (by omega)
theorem os_mp_nz {a7 a8 a9 a10 : Nat → Int32} : ∀ (k : Nat) (p : Nat → Int32) (u : Int32) (j : Nat), p j ≠ 0 → (os_mp a7 a8 a9 a10 k p u).1 j ≠ 0 := by
  intro k
  induction k with
  | zero => exact fun _ _ _ h => h
  | succ k ih => exact fun p u j h => ih _ _ j (os_m1_nz a7 a9 a10 k h)
/-- the parts of a part are parts -/
theorem os_mp_cl {a7 a8 a9 a10 : Nat → Int32} : ∀ (k : Nat) (p : Nat → Int32) (u : Int32), k < 2 ^ 31 → (∀ i, i < k → os_nd a7 a8 a9 a10 i) → ∀ j, j < k → (os_mp a7 a8 a9 a10 k p u).1 j ≠ 0 → a7 j = 3 →
    (os_mp a7 a8 a9 a10 k p u).1 (a9 j).toNatClampNeg ≠ 0 ∧ (os_mp a7 a8 a9 a10 k p u).1 (a10 j).toNatClampNeg ≠ 0 := by
  intro k
  induction k with
  | zero => exact fun _ _ _ _ j hj => absurd hj (by omega)
  | succ k ih =>
    intro p u hk h j hj
    show (os_mp a7 a8 a9 a10 k (os_m1 a7 a9 a10 k p) (os_m2 a7 a8 k (os_m1 a7 a9 a10 k p) u)).1 j ≠ 0 → a7 j = 3 →
      (os_mp a7 a8 a9 a10 k (os_m1 a7 a9 a10 k p) (os_m2 a7 a8 k (os_m1 a7 a9 a10 k p) u)).1 (a9 j).toNatClampNeg ≠ 0 ∧ (os_mp a7 a8 a9 a10 k (os_m1 a7 a9 a10 k p) (os_m2 a7 a8 k (os_m1 a7 a9 a10 k p) u)).1 (a10 j).toNatClampNeg ≠ 0
    by_cases e : j = k
    · subst e
      intro hp h3
      rw [os_mp_keep j _ _ (by omega) (fun i hi => h i (by omega)) j (by omega), os_m1_keep (by omega) (h j (by omega)) p (Nat.le_refl _)] at hp
      have e1 : os_m1 a7 a9 a10 j p = upd (upd p (a9 j).toNatClampNeg 1) (a10 j).toNatClampNeg 1 := by
        unfold os_m1
        rw [if_neg hp, if_pos h3]
      refine ⟨os_mp_nz j _ _ _ ?_, os_mp_nz j _ _ _ ?_⟩
      · rw [e1]
        by_cases e4 : (a9 j).toNatClampNeg = (a10 j).toNatClampNeg
        · rw [e4, pk_us]
          decide
        · rw [pk_un e4, pk_us]
          decide
      · rw [e1, pk_us]
        decide
    · exact ih _ _ (by omega) (fun i hi => h i (by omega)) j (by omega)
theorem os_84 {post : St1 → Prop} {J : Int32 → Int32 → (Nat → Int32) → (Nat → Int32) → (Nat → Int32) → (Nat → Int32) → (Nat → Int32) → (Nat → Int32) → (Nat → Int32) → (Nat → Int32) → (Nat → Int32) → (Nat → Int32) → (Nat → Int32) → (Nat → Int32) → (Nat → Int32) → (Nat → Int32) → (Nat → Int32) → (Nat → Int32) → (Nat → Int32) → (Nat → Int32) → (Nat → Int32) → (Nat → Int32) → Prop}
    {f0 f1 f2 : Int32} {a1 a2 a3 a4 a5 a6 a7 a8 a9 a10 a11 a12 a13 a14 a15 a16 a17 a18 a19 a20 : Nat → Int32} {k : Nat} (hk : k < 12) (H : J (nI k + (-1)) (os_m2 a7 a8 k a12 f2) a1 a2 a3 a4 a5 a6 a7 a8 a9 a10 a11 a12 a13 a14 a15 a16 a17 a18 a19 a20) : wX_markParts_84 post J (nI k) f0 f1 f2 a1 a2 a3 a4 a5 a6 a7 a8 a9 a10 a11 a12 a13 a14 a15 a16 a17 a18 a19 a20 := by
  unfold wX_markParts_84
  rw [nI_clamp (show k < 2 ^ 31 by omega)]
  unfold os_m2 at H
  refine ⟨pk_in k 12 hk, br_c (fun e => nm_e ?_) (fun e => ⟨pk_in k 12 hk, br_c (fun e1 => ⟨pk_in k 12 hk, nm_e (nm_e ?_)⟩) (fun e1 => nm_e ?_)⟩)⟩
  · rw [if_pos e] at H
    exact H
  · rw [if_neg e, if_pos e1] at H
    exact H
  · rw [if_neg e, if_neg e1] at H
    exact H
theorem os_37 {post : St1 → Prop} {f0 f1 : Int32} {a1 a2 a3 a4 a5 a6 a7 a8 a9 a10 a11 a13 a14 a15 a16 a17 a18 a19 a20 : Nat → Int32} : ∀ (k : Nat) (u : Int32) (p : Nat → Int32), k ≤ 12 → (∀ i, i < k → os_nd a7 a8 a9 a10 i) →
    post (f0, f1, (os_mp a7 a8 a9 a10 k p u).2, a1, a2, a3, a4, a5, a6, a7, a8, a9, a10, a11, (os_mp a7 a8 a9 a10 k p u).1, a13, a14, a15, a16, a17, a18, a19, a20) → wX_markParts_37 post f0 f1 (k + 1) (nI k + (-1)) u a1 a2 a3 a4 a5 a6 a7 a8 a9 a10 a11 p a13 a14 a15 a16 a17 a18 a19 a20 := by
  intro k
  induction k with
  | zero => exact fun u p _ _ H => br_t (by decide) H
  | succ k ih =>
    intro u p hk h H
    have T := ih (os_m2 a7 a8 k (os_m1 a7 a9 a10 k p) u) (os_m1 a7 a9 a10 k p) (by omega) (fun i hi => h i (by omega)) H
    rw [pk_m1]
    refine br_f (nI_pos (by omega)) ⟨pk_in k 12 (by omega), ?_⟩
    rw [nI_clamp (show k < 2 ^ 31 by omega)]
    refine br_c (fun e => ?_) (fun e => ⟨pk_in k 12 (by omega), br_c (fun e3 => ?_) (fun e3 => ?_)⟩)
    · have e1 : os_m1 a7 a9 a10 k p = p := if_pos e
      rw [e1] at T
      exact os_84 (by omega) T
    · obtain ⟨_, ⟨l, hl, el⟩, ⟨r, hr, er⟩⟩ := os_nd3 (h k (by omega)) e3
      have e1 : os_m1 a7 a9 a10 k p = upd (upd p (a9 k).toNatClampNeg 1) (a10 k).toNatClampNeg 1 := by
        unfold os_m1
        rw [if_neg e, if_pos e3]
      rw [e1] at T
      exact ⟨pk_in k 12 (by omega), pk_in l 12 (by omega) el, nm_e ⟨pk_in k 12 (by omega), pk_in r 12 (by omega) er, nm_e (os_84 (by omega) T)⟩⟩
    · have e1 : os_m1 a7 a9 a10 k p = p := by
        unfold os_m1
        rw [if_neg e, if_neg e3]
      rw [e1] at T
      exact os_84 (by omega) T
theorem os_ms {s f : Nat → Int32} {i k : Nat} {x : Int32} (hk : k = i) (h : ∀ j, j < i → s j = f j) (hx : x = f i) : ∀ j, j < i + 1 → upd s k x j = f j := by
  intro j hj
  rw [hk]
  by_cases e : j = i
  · rw [e, pk_us, hx]
  · rw [pk_un e]
    exact h j (by omega)
theorem os_mark {post : St1 → Prop} {f0 f1 f2 : Int32} {a1 a2 a3 a4 a5 a6 a7 a8 a9 a10 a11 a12 a13 a14 a15 a16 a17 a18 a19 a20 : Nat → Int32} {nd n : Nat} (hn : nd < n) (h12 : n ≤ 12) (hw : ∀ j, j < n → os_nd a7 a8 a9 a10 j)
    (H : ∀ p : Nat → Int32, (∀ j, j < nd + 1 → p j ≠ 0 → a7 j = 3 → p (a9 j).toNatClampNeg ≠ 0 ∧ p (a10 j).toNatClampNeg ≠ 0) → p nd ≠ 0 → post (f0, f1, os_uv a7 a8 a9 a10 nd, a1, a2, a3, a4, a5, a6, a7, a8, a9, a10, a11, p, a13, a14, a15, a16, a17, a18, a19, a20)) :
    wpX_markParts post (f0, f1, f2, a1, a2, a3, a4, a5, a6, a7, a8, a9, a10, a11, a12, a13, a14, a15, a16, a17, a18, a19, a20) (nI nd) :=
  pk_loop (fun n i s => wX_markParts_2 post (nI nd) f0 f1 f2 n (nI i) a1 a2 a3 a4 a5 a6 a7 a8 a9 a10 a11 s a13 a14 a15 a16 a17 a18 a19 a20) (fun i s => ∀ j, j < i → s j = os_p0 nd j) 12 0 a12 (by omega) (fun j hj => absurd hj (by omega))
    (fun m s h => pk_le 12 12 (fun _ => ⟨nd + 1 + 1, by
      have hw' : ∀ i, i < nd + 1 → os_nd a7 a8 a9 a10 i := fun i hi => hw i (by omega)
      have T := os_37 (post := post) (f0 := f0) (f1 := f1) (a1 := a1) (a2 := a2) (a3 := a3) (a4 := a4) (a5 := a5) (a6 := a6) (a7 := a7) (a8 := a8) (a9 := a9) (a10 := a10) (a11 := a11) (a13 := a13) (a14 := a14) (a15 := a15) (a16 := a16) (a17 := a17) (a18 := a18) (a19 := a19) (a20 := a20) (nd + 1) 0 s (by omega) hw' (by
        have e : (os_mp a7 a8 a9 a10 (nd + 1) s 0).2 = os_uv a7 a8 a9 a10 nd := os_mp_ag (nd + 1) s (os_p0 nd) 0 (N := 12) (by omega) h
        rw [e]
        refine H _ (fun j hj => os_mp_cl (nd + 1) s 0 (by omega) hw' j hj) ?_
        refine os_mp_nz (nd + 1) s 0 nd ?_
        rw [h nd (by omega)]
        unfold os_p0
        rw [if_pos rfl]
        decide)
      rw [pk_m1] at T
      exact T⟩) (fun z => absurd z (by omega)))
    (fun m i s hi h hw => pk_le 12 i (fun z => absurd z (by omega)) (fun _ => pk_eq i nd
      (fun e => ⟨pk_in i 12 hi, nm_e (nm_r (nI_1 i) (hw _ (os_ms (nI_clamp (by omega)) h (by unfold os_p0; rw [if_pos e]))))⟩)
      (fun e => ⟨pk_in i 12 hi, nm_e (nm_r (nI_1 i) (hw _ (os_ms (nI_clamp (by omega)) h (by unfold os_p0; rw [if_neg e]))))⟩)))
end
section
theorem os_gs {s f g : Nat → Int32} {e i k : Nat} {v : Int32} (hk : k = e + i) (hv : v = g i) (h : ∀ c, s c = if e ≤ c ∧ c < e + i then f c + g (c - e) else f c) :
    ∀ c, upd s k (s k + v) c = if e ≤ c ∧ c < e + (i + 1) then f c + g (c - e) else f c := by
  intro c
  subst hk hv
  by_cases hc : c = e + i
  · subst hc
    rw [pk_us, h (e + i), if_neg (by omega), if_pos (by omega), Nat.add_sub_cancel_left]
  · rw [pk_un hc, h c]
    by_cases h1 : e ≤ c ∧ c < e + i
    · rw [if_pos h1, if_pos (by omega)]
    · rw [if_neg h1, if_neg (by omega)]
theorem os_ix (t y : Nat) : (3 : Int32) * nI t + nI y = nI (3 * t + y) := by
  show nI 3 * nI t + nI y = _
  rw [pk_mul, nI_add]
theorem os_at (d t : Nat) : ((3 : Int32) * nI d + nI t) * 128 = nI (384 * d + 128 * t) := by
  rw [os_ix]
  show nI (3 * d + t) * nI 128 = _
  rw [pk_mul, show (3 * d + t) * 128 = 384 * d + 128 * t by omega]
theorem os_gp {s f g : Nat → Int32} {F : Nat → Nat} {j b : Nat} (hj : j ≤ 9) (hF : ∀ c, c < 128 → g (b + c) = nI (F c)) (hs : ∀ c, s c = if j ≤ c ∧ c < 128 then f c + g (b + (c - j)) else f c) :
    ∀ c, c < 128 → s c = f c + nI (os_sh (nI j) F c) := by
  intro c hc
  rw [hs c, os_sh_nI (by omega)]
  by_cases h : j ≤ c
  · rw [if_pos ⟨h, hc⟩, if_pos h, hF _ (by omega)]
  · rw [if_neg (fun z => h z.1), if_neg h, nI_0, Int32.add_zero]
theorem os_gn {f : Nat → Int32} {x : Int32} (F : Nat → Nat) (h : x < 0) : ∀ c, c < 128 → f c = f c + nI (os_sh x F c) := by
  intro c _
  rw [os_sh_neg h, nI_0, Int32.add_zero]
theorem os_gl31 {post : St1 → Prop} {f0 f1 f2 : Int32} {a1 a2 a3 a4 a5 a6 a7 a8 a9 a10 a11 a12 a13 a14 a15 a16 a17 a18 a19 a20 : Nat → Int32} {e b : Nat} (he : e ≤ 9) (hb : b + 128 ≤ 4608)
    (H : ∀ s : Nat → Int32, (∀ c, s c = if e ≤ c ∧ c < 128 then a16 c + a14 (b + (c - e)) else a16 c) → post (f0, f1, f2, a1, a2, a3, a4, a5, a6, a7, a8, a9, a10, a11, a12, a13, a14, a15, s, a17, a18, a19, a20)) :
    ∃ n, wX_gatherLeft_31 post (nI e) (nI b) f0 f1 f2 n 0 a1 a2 a3 a4 a5 a6 a7 a8 a9 a10 a11 a12 a13 a14 a15 a16 a17 a18 a19 a20 :=
  pk_loop (fun n i s => wX_gatherLeft_31 post (nI e) (nI b) f0 f1 f2 n (nI i) a1 a2 a3 a4 a5 a6 a7 a8 a9 a10 a11 a12 a13 a14 a15 s a17 a18 a19 a20) (fun i s => ∀ c, s c = if e ≤ c ∧ c < e + i then a16 c + a14 (b + (c - e)) else a16 c) (128 - e) 0 a16 (by omega)
    (fun c => by rw [if_neg (by omega)])
    (fun n s h => pk_le 128 (128 - e + e) (fun _ => H s (fun c => by rw [h c, show e + (128 - e) = 128 by omega])) (fun z => absurd z (by omega)) (by rfl) (nI_add _ _))
    (fun n i s hi h hw => pk_le 128 (i + e) (fun z => absurd z (by omega)) (fun _ => ⟨pk_in (i + e) 128 (by omega) (nI_add _ _), pk_in (b + i) 4608 (by omega) (nI_add _ _), pk_in (i + e) 128 (by omega) (nI_add _ _),
      nm_e (nm_r (nI_1 i) (hw _ (os_gs (g := fun m => a14 (b + m)) (pk_cl (e + i) (by rw [nI_add, Nat.add_comm]) (by omega)) (by rw [pk_cl (b + i) (nI_add _ _) (by omega)]) h)))⟩) (by rfl) (nI_add _ _))
theorem os_gr31 {post : St1 → Prop} {f0 f1 f2 : Int32} {a1 a2 a3 a4 a5 a6 a7 a8 a9 a10 a11 a12 a13 a14 a15 a16 a17 a18 a19 a20 : Nat → Int32} {e b : Nat} (he : e ≤ 9) (hb : b + 128 ≤ 4608)
    (H : ∀ s : Nat → Int32, (∀ c, s c = if e ≤ c ∧ c < 128 then a17 c + a14 (b + (c - e)) else a17 c) → post (f0, f1, f2, a1, a2, a3, a4, a5, a6, a7, a8, a9, a10, a11, a12, a13, a14, a15, a16, s, a18, a19, a20)) :
    ∃ n, wX_gatherRight_31 post (nI e) (nI b) f0 f1 f2 n 0 a1 a2 a3 a4 a5 a6 a7 a8 a9 a10 a11 a12 a13 a14 a15 a16 a17 a18 a19 a20 :=
  pk_loop (fun n i s => wX_gatherRight_31 post (nI e) (nI b) f0 f1 f2 n (nI i) a1 a2 a3 a4 a5 a6 a7 a8 a9 a10 a11 a12 a13 a14 a15 a16 s a18 a19 a20) (fun i s => ∀ c, s c = if e ≤ c ∧ c < e + i then a17 c + a14 (b + (c - e)) else a17 c) (128 - e) 0 a17 (by omega)
    (fun c => by rw [if_neg (by omega)])
    (fun n s h => pk_le 128 (128 - e + e) (fun _ => H s (fun c => by rw [h c, show e + (128 - e) = 128 by omega])) (fun z => absurd z (by omega)) (by rfl) (nI_add _ _))
    (fun n i s hi h hw => pk_le 128 (i + e) (fun z => absurd z (by omega)) (fun _ => ⟨pk_in (i + e) 128 (by omega) (nI_add _ _), pk_in (b + i) 4608 (by omega) (nI_add _ _), pk_in (i + e) 128 (by omega) (nI_add _ _),
      nm_e (nm_r (nI_1 i) (hw _ (os_gs (g := fun m => a14 (b + m)) (pk_cl (e + i) (by rw [nI_add, Nat.add_comm]) (by omega)) (by rw [pk_cl (b + i) (nI_add _ _) (by omega)]) h)))⟩) (by rfl) (nI_add _ _))
theorem os_ad28 {post : St1 → Prop} {f0 f1 f2 : Int32} {a1 a2 a3 a4 a5 a6 a7 a8 a9 a10 a11 a12 a13 a14 a15 a16 a17 a18 a19 a20 : Nat → Int32} {e b : Nat} (he : e ≤ 9) (hb : b + 128 ≤ 4608)
    (H : ∀ s : Nat → Int32, (∀ c, s c = if e ≤ c ∧ c < 128 then a15 c + a14 (b + (c - e)) else a15 c) → post (f0, f1, f2, a1, a2, a3, a4, a5, a6, a7, a8, a9, a10, a11, a12, a13, a14, s, a16, a17, a18, a19, a20)) :
    ∃ n, wX_addTable_28 post (nI e) (nI b) f0 f1 f2 n 0 a1 a2 a3 a4 a5 a6 a7 a8 a9 a10 a11 a12 a13 a14 a15 a16 a17 a18 a19 a20 :=
  pk_loop (fun n i s => wX_addTable_28 post (nI e) (nI b) f0 f1 f2 n (nI i) a1 a2 a3 a4 a5 a6 a7 a8 a9 a10 a11 a12 a13 a14 s a16 a17 a18 a19 a20) (fun i s => ∀ c, s c = if e ≤ c ∧ c < e + i then a15 c + a14 (b + (c - e)) else a15 c) (128 - e) 0 a15 (by omega)
    (fun c => by rw [if_neg (by omega)])
    (fun n s h => pk_le 128 (128 - e + e) (fun _ => H s (fun c => by rw [h c, show e + (128 - e) = 128 by omega])) (fun z => absurd z (by omega)) (by rfl) (nI_add _ _))
    (fun n i s hi h hw => pk_le 128 (i + e) (fun z => absurd z (by omega)) (fun _ => ⟨pk_in (i + e) 128 (by omega) (nI_add _ _), pk_in (b + i) 4608 (by omega) (nI_add _ _), pk_in (i + e) 128 (by omega) (nI_add _ _),
      nm_e (nm_r (nI_1 i) (hw _ (os_gs (g := fun m => a14 (b + m)) (pk_cl (e + i) (by rw [nI_add, Nat.add_comm]) (by omega)) (by rw [pk_cl (b + i) (nI_add _ _) (by omega)]) h)))⟩) (by rfl) (nI_add _ _))
theorem os_gl {post : St1 → Prop} {f0 f1 f2 : Int32} {a1 a2 a3 a4 a5 a6 a7 a8 a9 a10 a11 a12 a13 a14 a15 a16 a17 a18 a19 a20 : Nat → Int32} {p0 p1 p2 : Int32} {d t y : Nat} {F : Nat → Nat} (h0 : p0 = nI d) (h1 : p1 = nI t) (h2 : p2 = nI y) (hd : d < 12) (ht : t < 3) (hy : y < 3)
    (hc : a1 (3 * t + y) < 0 ∨ ∃ j, j ≤ 9 ∧ a1 (3 * t + y) = nI j) (hF : ∀ c, c < 128 → a14 (384 * d + 128 * t + c) = nI (F c))
    (H : ∀ s : Nat → Int32, (∀ c, c < 128 → s c = a16 c + nI (os_sh (a1 (3 * t + y)) F c)) → post (f0, f1, f2, a1, a2, a3, a4, a5, a6, a7, a8, a9, a10, a11, a12, a13, a14, a15, s, a17, a18, a19, a20)) :
    wpX_gatherLeft post (f0, f1, f2, a1, a2, a3, a4, a5, a6, a7, a8, a9, a10, a11, a12, a13, a14, a15, a16, a17, a18, a19, a20) p0 p1 p2 := by
  subst h0 h1 h2
  refine ⟨pk_in (3 * t + y) 9 (by omega) (os_ix t y), nm_r (by rw [pk_cl (3 * t + y) (os_ix t y) (by omega)]) (nm_r (os_at d t) ?_)⟩
  rcases hc with h | ⟨j, hj, e⟩
  · exact br_t h (H _ (os_gn F h))
  · rw [e] at H ⊢
    exact br_f (nI_pos (by omega)) (os_gl31 hj (by omega) (fun s hs => H s (os_gp hj hF hs)))
theorem os_gr {post : St1 → Prop} {f0 f1 f2 : Int32} {a1 a2 a3 a4 a5 a6 a7 a8 a9 a10 a11 a12 a13 a14 a15 a16 a17 a18 a19 a20 : Nat → Int32} {p0 p1 p2 : Int32} {d t y : Nat} {F : Nat → Nat} (h0 : p0 = nI d) (h1 : p1 = nI t) (h2 : p2 = nI y) (hd : d < 12) (ht : t < 3) (hy : y < 3)
    (hc : a1 (3 * t + y) < 0 ∨ ∃ j, j ≤ 9 ∧ a1 (3 * t + y) = nI j) (hF : ∀ c, c < 128 → a14 (384 * d + 128 * t + c) = nI (F c))
    (H : ∀ s : Nat → Int32, (∀ c, c < 128 → s c = a17 c + nI (os_sh (a1 (3 * t + y)) F c)) → post (f0, f1, f2, a1, a2, a3, a4, a5, a6, a7, a8, a9, a10, a11, a12, a13, a14, a15, a16, s, a18, a19, a20)) :
    wpX_gatherRight post (f0, f1, f2, a1, a2, a3, a4, a5, a6, a7, a8, a9, a10, a11, a12, a13, a14, a15, a16, a17, a18, a19, a20) p0 p1 p2 := by
  subst h0 h1 h2
  refine ⟨pk_in (3 * t + y) 9 (by omega) (os_ix t y), nm_r (by rw [pk_cl (3 * t + y) (os_ix t y) (by omega)]) (nm_r (os_at d t) ?_)⟩
  rcases hc with h | ⟨j, hj, e⟩
  · exact br_t h (H _ (os_gn F h))
  · rw [e] at H ⊢
    exact br_f (nI_pos (by omega)) (os_gr31 hj (by omega) (fun s hs => H s (os_gp hj hF hs)))
theorem os_js143 {post : St1 → Prop} {J : Int32 → (Nat → Int32) → (Nat → Int32) → (Nat → Int32) → (Nat → Int32) → (Nat → Int32) → (Nat → Int32) → (Nat → Int32) → (Nat → Int32) → (Nat → Int32) → (Nat → Int32) → (Nat → Int32) → (Nat → Int32) → (Nat → Int32) → (Nat → Int32) → (Nat → Int32) → (Nat → Int32) → (Nat → Int32) → (Nat → Int32) → (Nat → Int32) → (Nat → Int32) → Prop}
    {f0 f1 f2 : Int32} {a1 a2 a3 a4 a5 a6 a7 a8 a9 a10 a11 a12 a13 a14 a15 a16 a17 a18 a19 a20 : Nat → Int32} {at' rm a : Nat} (hr : rm ≤ 128) (ha : a < rm) (hb : at' + rm ≤ 4608)
    (H : ∀ s : Nat → Int32, (∀ j, s j = if at' + a ≤ j ∧ j < at' + rm then a14 j + a16 a * a17 (j - (at' + a)) else a14 j) → J (nI (a + 1)) a1 a2 a3 a4 a5 a6 a7 a8 a9 a10 a11 a12 a13 s a15 a16 a17 a18 a19 a20) :
    ∃ n, wX_joinSides_143 post J (nI at') (nI rm) (nI a) f0 f1 f2 n 0 a1 a2 a3 a4 a5 a6 a7 a8 a9 a10 a11 a12 a13 a14 a15 a16 a17 a18 a19 a20 :=
  pk_loop (fun n i s => wX_joinSides_143 post J (nI at') (nI rm) (nI a) f0 f1 f2 n (nI i) a1 a2 a3 a4 a5 a6 a7 a8 a9 a10 a11 a12 a13 s a15 a16 a17 a18 a19 a20) (fun i s => ∀ j, s j = if at' + a ≤ j ∧ j < at' + a + i then a14 j + a16 a * a17 (j - (at' + a)) else a14 j) (rm - a) 0 a14 (by omega)
    (fun c => by rw [if_neg (by omega)])
    (fun n s h => pk_le rm (a + (rm - a)) (fun _ => nm_r (nI_1 a) (H s (fun c => by rw [h c, show at' + a + (rm - a) = at' + rm by omega]))) (fun z => absurd z (by omega)) (by rfl) (nI_add _ _))
    (fun n i s hi h hw => pk_le rm (a + i) (fun z => absurd z (by omega)) (fun _ => ⟨pk_in (at' + a + i) 4608 (by omega) (by rw [nI_add, nI_add]), pk_in a 128 (by omega), pk_in i 128 (by omega), pk_in (at' + a + i) 4608 (by omega) (by rw [nI_add, nI_add]),
      nm_e (nm_r (nI_1 i) (hw _ (os_gs (g := fun m => a16 a * a17 m) (pk_cl (at' + a + i) (by rw [nI_add, nI_add]) (by omega)) (by rw [nI_clamp (show a < 2 ^ 31 by omega), nI_clamp (show i < 2 ^ 31 by omega)]) h)))⟩) (by rfl) (nI_add _ _))
theorem os_js123s {s s' f v w : Nat → Int32} {L R : Nat → Nat} {at' rm a : Nat} (hr : rm ≤ 128) (ha : a < rm) (hL : ∀ c, c < 128 → v c = nI (L c)) (hR : ∀ c, c < 128 → w c = nI (R c))
    (h : ∀ j, s j = if at' ≤ j ∧ j < at' + rm then f j + nI (os_cv L R a (j - at')) else f j)
    (h' : ∀ j, s' j = if at' + a ≤ j ∧ j < at' + rm then s j + v a * w (j - (at' + a)) else s j) :
    ∀ j, s' j = if at' ≤ j ∧ j < at' + rm then f j + nI (os_cv L R (a + 1) (j - at')) else f j := by
  intro j
  rw [h' j, h j]
  by_cases h1 : at' ≤ j ∧ j < at' + rm
  · rw [if_pos h1, if_pos h1, os_cv_s]
    by_cases h2 : at' + a ≤ j
    · rw [if_pos ⟨h2, h1.2⟩, if_pos (show a ≤ j - at' by omega), hL a (by omega), hR _ (by omega), show j - (at' + a) = j - at' - a by omega, Int32.add_assoc]
    · rw [if_neg (fun z => h2 z.1), if_neg (show ¬ a ≤ j - at' by omega), Int32.add_zero]
  · rw [if_neg h1, if_neg (fun z => h1 ⟨by omega, z.2⟩), if_neg h1]
theorem os_js123 {post : St1 → Prop} {f0 f1 f2 : Int32} {a1 a2 a3 a4 a5 a6 a7 a8 a9 a10 a11 a12 a13 a14 a15 a16 a17 a18 a19 a20 : Nat → Int32} {L R : Nat → Nat} {at' rm : Nat} (hr : rm ≤ 128) (hb : at' + rm ≤ 4608) (hL : ∀ c, c < 128 → a16 c = nI (L c)) (hR : ∀ c, c < 128 → a17 c = nI (R c))
    (H : ∀ s : Nat → Int32, (∀ j, s j = if at' ≤ j ∧ j < at' + rm then a14 j + nI (os_cv L R rm (j - at')) else a14 j) → post (f0, f1, f2, a1, a2, a3, a4, a5, a6, a7, a8, a9, a10, a11, a12, a13, s, a15, a16, a17, a18, a19, a20)) :
    ∃ n, wX_joinSides_123 post (nI at') (nI rm) f0 f1 f2 n 0 a1 a2 a3 a4 a5 a6 a7 a8 a9 a10 a11 a12 a13 a14 a15 a16 a17 a18 a19 a20 :=
  pk_loop (fun n i s => wX_joinSides_123 post (nI at') (nI rm) f0 f1 f2 n (nI i) a1 a2 a3 a4 a5 a6 a7 a8 a9 a10 a11 a12 a13 s a15 a16 a17 a18 a19 a20) (fun i s => ∀ j, s j = if at' ≤ j ∧ j < at' + rm then a14 j + nI (os_cv L R i (j - at')) else a14 j) rm 0 a14 (by omega)
    (fun j => by rw [os_cv_z, nI_0, Int32.add_zero, ite_self])
    (fun n s h => pk_le rm rm (fun _ => H s h) (fun z => absurd z (by omega)))
    (fun n i s hi h hw => pk_le rm i (fun z => absurd z (by omega)) (fun _ => ⟨pk_in i 128 (by omega), br_c
      (fun e => nm_r (nI_1 i) (hw s (os_js123s (v := a16) (w := a17) hr hi hL hR h (fun j => by
        rw [nI_clamp (show i < 2 ^ 31 by omega)] at e
        rw [e, Int32.zero_mul, Int32.add_zero, ite_self]))))
      (fun e => os_js143 hr hi hb (fun s' hs' => hw s' (os_js123s hr hi hL hR h hs')))⟩))
theorem os_lnS (a1 : Nat → Int32) (T : Nat → Nat → Nat) (y t c : Nat) : nI (os_sm (fun t => os_sh (a1 (3 * t + y)) (T t) c) (t + 1)) = nI (os_sm (fun t => os_sh (a1 (3 * t + y)) (T t) c) t) + nI (os_sh (a1 (3 * t + y)) (T t) c) := by
  rw [nI_add]
  rfl
/-- the lines are gathered, then multiplied into the table -/
theorem os_js43 {post : St1 → Prop} {f0 f1 f2 : Int32} {a1 a2 a3 a4 a5 a6 a7 a8 a9 a10 a11 a12 a13 a14 a15 a16 a17 a18 a19 a20 : Nat → Int32} {k s y sc l r : Nat} {Fl Fr : Nat → Nat → Nat} (hk : k < 12) (hs : s < 12) (hy : y ≤ 26) (hsc : sc ≤ 9) (hl : l < 12) (hr : r < 12)
    (hc : ∀ i, i < 9 → a1 i < 0 ∨ ∃ j, j ≤ 9 ∧ a1 i = nI j) (e3 : a3 s = nI sc) (e9 : a9 k = nI l) (e10 : a10 k = nI r)
    (hFl : ∀ t, t < 3 → ∀ c, c < 128 → a14 (384 * l + 128 * t + c) = nI (Fl t c)) (hFr : ∀ t, t < 3 → ∀ c, c < 128 → a14 (384 * r + 128 * t + c) = nI (Fr t c))
    (z16 : ∀ c, c < 128 → a16 c = 0) (z17 : ∀ c, c < 128 → a17 c = 0)
    (H : ∀ v14 v16 v17 : Nat → Int32, (∀ j, v14 j = if 384 * k + 128 * (y % 3) + sc ≤ j ∧ j < 384 * k + 128 * (y % 3) + sc + (128 - sc) then a14 j + nI (os_cv (os_ln a1 Fl (y / 9)) (os_ln a1 Fr (y / 3 % 3)) (128 - sc) (j - (384 * k + 128 * (y % 3) + sc))) else a14 j) → post (f0, f1, f2, a1, a2, a3, a4, a5, a6, a7, a8, a9, a10, a11, a12, a13, v14, a15, v16, v17, a18, a19, a20)) :
    ∃ n, wX_joinSides_43 post (nI k) (nI s) (nI y) n 0 f0 f1 f2 a1 a2 a3 a4 a5 a6 a7 a8 a9 a10 a11 a12 a13 a14 a15 a16 a17 a18 a19 a20 := by
  refine pk_loop (fun n i (u : (Nat → Int32) × (Nat → Int32)) => wX_joinSides_43 post (nI k) (nI s) (nI y) n (nI i) f0 f1 f2 a1 a2 a3 a4 a5 a6 a7 a8 a9 a10 a11 a12 a13 a14 a15 u.1 u.2 a18 a19 a20)
    (fun i u => (∀ c, c < 128 → u.1 c = nI (os_sm (fun t => os_sh (a1 (3 * t + y / 9)) (Fl t) c) i)) ∧ (∀ c, c < 128 → u.2 c = nI (os_sm (fun t => os_sh (a1 (3 * t + y / 3 % 3)) (Fr t) c) i))) 3 0 (a16, a17) (by omega)
    ⟨fun c hc => z16 c hc, fun c hc => z17 c hc⟩ ?_ ?_
  · intro n u h
    refine pk_le 3 3 (fun _ => ⟨by decide, pk_in s 12 hs, nm_r (e' := nI (384 * k + 128 * (y % 3) + sc)) ?_ ⟨pk_in s 12 hs, nm_r (e' := nI (128 - sc)) ?_ (os_js123 (by omega) (by omega) h.1 h.2 (fun v hv => H v _ _ hv))⟩⟩) (fun z => absurd z (by omega))
    · rw [show nI y - nI y / 3 * 3 = nI (y % 3) from pk_rem (d := 3) (by omega) (by omega) (by omega), os_at, nI_clamp (show s < 2 ^ 31 by omega), e3, nI_add]
    · rw [nI_clamp (show s < 2 ^ 31 by omega), e3]
      exact pk_sub (a := 128) (by omega)
  · intro n i u hi h hw
    refine pk_le 3 i (fun z => absurd z (by omega)) (fun _ => ⟨pk_in k 12 hk, by decide, os_gl (F := Fl i) (by rw [nI_clamp (show k < 2 ^ 31 by omega), e9]) rfl (show nI y / 9 = nI (y / 9) from pk_div (d := 9) (by omega) (by omega) (by omega)) hl hi (by omega) (hc _ (by omega)) (hFl i hi) (fun v hv => ?_)⟩)
    refine ⟨pk_in k 12 hk, by decide, by decide, os_gr (F := Fr i) (by rw [nI_clamp (show k < 2 ^ 31 by omega), e10]) rfl (?_ : _ = nI (y / 3 % 3)) hr hi (by omega) (hc _ (by omega)) (hFr i hi) (fun w hw2 => nm_r (nI_1 i) (hw (v, w) ⟨fun c hc => ?_, fun c hc => ?_⟩))⟩
    · rw [show nI y / 3 = nI (y / 3) from pk_div (d := 3) (by omega) (by omega) (by omega)]
      exact pk_rem (d := 3) (by omega) (by omega) (by omega)
    · rw [os_lnS, ← h.1 c hc]
      exact hv c hc
    · rw [os_lnS, ← h.2 c hc]
      exact hw2 c hc
theorem os_z {s : Nat → Int32} {i k : Nat} (hk : k = i) (h : ∀ j, j < i → s j = 0) : ∀ j, j < i + 1 → upd s k 0 j = 0 := by
  intro j hj
  rw [hk]
  by_cases e : j = i
  · rw [e, pk_us]
  · rw [pk_un e]
    exact h j (by omega)
theorem os_js {post : St1 → Prop} {f0 f1 f2 : Int32} {a1 a2 a3 a4 a5 a6 a7 a8 a9 a10 a11 a12 a13 a14 a15 a16 a17 a18 a19 a20 : Nat → Int32} {p0 p1 : Int32} {k s y sc l r : Nat} {Fl Fr : Nat → Nat → Nat} (h0 : p0 = nI k) (h1 : p1 = nI s) (hk : k < 12) (hs : s < 12) (hy : y ≤ 26) (hsc : sc ≤ 9) (hl : l < 12) (hr : r < 12)
    (hc : ∀ i, i < 9 → a1 i < 0 ∨ ∃ j, j ≤ 9 ∧ a1 i = nI j) (e2 : a2 s = nI y) (e3 : a3 s = nI sc) (e9 : a9 k = nI l) (e10 : a10 k = nI r)
    (hFl : ∀ t, t < 3 → ∀ c, c < 128 → a14 (384 * l + 128 * t + c) = nI (Fl t c)) (hFr : ∀ t, t < 3 → ∀ c, c < 128 → a14 (384 * r + 128 * t + c) = nI (Fr t c))
    (H : ∀ v14 v16 v17 : Nat → Int32, (∀ j, v14 j = if 384 * k + 128 * (y % 3) + sc ≤ j ∧ j < 384 * k + 128 * (y % 3) + sc + (128 - sc) then a14 j + nI (os_cv (os_ln a1 Fl (y / 9)) (os_ln a1 Fr (y / 3 % 3)) (128 - sc) (j - (384 * k + 128 * (y % 3) + sc))) else a14 j) → post (f0, f1, f2, a1, a2, a3, a4, a5, a6, a7, a8, a9, a10, a11, a12, a13, v14, a15, v16, v17, a18, a19, a20)) :
    wpX_joinSides post (f0, f1, f2, a1, a2, a3, a4, a5, a6, a7, a8, a9, a10, a11, a12, a13, a14, a15, a16, a17, a18, a19, a20) p0 p1 := by
  subst h0 h1
  refine ⟨pk_in s 12 hs, nm_r (e' := nI y) (by rw [nI_clamp (show s < 2 ^ 31 by omega), e2]) ?_⟩
  refine pk_loop (fun n i (u : (Nat → Int32) × (Nat → Int32)) => wX_joinSides_10 post (nI k) (nI s) (nI y) f0 f1 f2 n (nI i) a1 a2 a3 a4 a5 a6 a7 a8 a9 a10 a11 a12 a13 a14 a15 u.1 u.2 a18 a19 a20)
    (fun i u => (∀ c, c < i → u.1 c = 0) ∧ (∀ c, c < i → u.2 c = 0)) 128 0 (a16, a17) (by omega) ⟨fun c hc => absurd hc (by omega), fun c hc => absurd hc (by omega)⟩ ?_ ?_
  · exact fun n u h => pk_le 128 128 (fun _ => os_js43 hk hs hy hsc hl hr hc e3 e9 e10 hFl hFr h.1 h.2 H) (fun z => absurd z (by omega))
  · exact fun n i u hi h hw => pk_le 128 i (fun z => absurd z (by omega)) (fun _ => ⟨pk_in i 128 hi, nm_e ⟨pk_in i 128 hi, nm_e (nm_r (nI_1 i) (hw (_, _) ⟨os_z (nI_clamp (by omega)) h.1, os_z (nI_clamp (by omega)) h.2⟩))⟩⟩)
/-- the same by type and cost -/
theorem os_jsT {f v : Nat → Int32} {L R : Nat → Nat} {k y sc : Nat} (hy : y < 3) (hsc : sc ≤ 9)
    (h : ∀ j, v j = if 384 * k + 128 * y + sc ≤ j ∧ j < 384 * k + 128 * y + sc + (128 - sc) then f j + nI (os_cv L R (128 - sc) (j - (384 * k + 128 * y + sc))) else f j) :
    (∀ t, t < 3 → ∀ c, c < 128 → v (384 * k + 128 * t + c) = f (384 * k + 128 * t + c) + nI (os_jn L R y sc t c)) ∧ (∀ j, j < 384 * k ∨ 384 * k + 384 ≤ j → v j = f j) := by
  constructor
  · intro t ht c hc
    rw [h]
    unfold os_jn
    by_cases e : t = y
    · rw [if_pos e]
      subst e
      by_cases e2 : sc ≤ c
      · rw [if_pos (by omega), if_pos e2, show 384 * k + 128 * t + c - (384 * k + 128 * t + sc) = c - sc by omega]
      · rw [if_neg (by omega), if_neg e2, nI_0, Int32.add_zero]
    · rw [if_neg e, if_neg (by omega), nI_0, Int32.add_zero]
  · intro j hj
    rw [h, if_neg (by omega)]
end
section
theorem os_jk_e {a1 a2 a3 a9 a10 : Nat → Int32} (T : Nat → Nat → Nat → Nat) {k s y sc l r : Nat} (hy : y ≤ 26) (hsc : sc ≤ 9) (hl : l < 12) (hr : r < 12) (e2 : a2 s = nI y) (e3 : a3 s = nI sc) (e9 : a9 k = nI l) (e10 : a10 k = nI r) (t c : Nat) :
    os_jk a1 a2 a3 a9 a10 T k s t c = os_jn (os_ln a1 (T l) (y / 9)) (os_ln a1 (T r) (y / 3 % 3)) (y % 3) sc t c := by
  unfold os_jk
  rw [e2, e3, e9, e10, nI_clamp (show y < 2 ^ 31 by omega), nI_clamp (show sc < 2 ^ 31 by omega), nI_clamp (show l < 2 ^ 31 by omega), nI_clamp (show r < 2 ^ 31 by omega)]
theorem os_4 (v i : Nat) : (4 : Int32) * nI v + nI i = nI (4 * v + i) := by
  show nI 4 * nI v + nI i = _
  rw [pk_mul, nI_add]
theorem os_f160 {post : St1 → Prop} {f0 f1 f2 : Int32} {a1 a2 a3 a4 a5 a6 a7 a8 a9 a10 a11 a12 a13 a14 a15 a16 a17 a18 a19 a20 : Nat → Int32} {T : Nat → Nat → Nat → Nat} {k v q l r : Nat} (hk : k < 12) (hv : v < 3) (hq : q ≤ 4) (hl : l < k) (hr : r < k)
    (w1 : ∀ i, i < 9 → a1 i < 0 ∨ ∃ j, j ≤ 9 ∧ a1 i = nI j) (w2 : ∀ i, i < 12 → ∃ j, j ≤ 26 ∧ a2 i = nI j) (w3 : ∀ i, i < 12 → ∃ j, j ≤ 9 ∧ a3 i = nI j)
    (e4 : a4 v = nI q) (e8 : a8 k = nI v) (e9 : a9 k = nI l) (e10 : a10 k = nI r)
    (hz : ∀ t, t < 3 → ∀ c, c < 128 → a14 (384 * k + 128 * t + c) = 0)
    (hFl : ∀ t, t < 3 → ∀ c, c < 128 → a14 (384 * l + 128 * t + c) = nI (T l t c)) (hFr : ∀ t, t < 3 → ∀ c, c < 128 → a14 (384 * r + 128 * t + c) = nI (T r t c))
    (H : ∀ v14 v16 v17 : Nat → Int32, (∀ t, t < 3 → ∀ c, c < 128 → v14 (384 * k + 128 * t + c) = nI (os_sm (fun i => os_jk a1 a2 a3 a9 a10 T k (4 * v + i) t c) q)) → (∀ j, j < 384 * k ∨ 384 * k + 384 ≤ j → v14 j = a14 j) → post (f0, f1, f2, a1, a2, a3, a4, a5, a6, a7, a8, a9, a10, a11, a12, a13, v14, a15, v16, v17, a18, a19, a20)) :
    ∃ n, wX_fill_160 post (nI k) n 0 f0 f1 f2 a1 a2 a3 a4 a5 a6 a7 a8 a9 a10 a11 a12 a13 a14 a15 a16 a17 a18 a19 a20 := by
  have c8 : (a8 (nI k).toNatClampNeg) = nI v := by rw [nI_clamp (show k < 2 ^ 31 by omega), e8]
  have c4 : (a4 (a8 (nI k).toNatClampNeg).toNatClampNeg) = nI q := by rw [c8, nI_clamp (show v < 2 ^ 31 by omega), e4]
  refine pk_loop (fun n i (u : (Nat → Int32) × (Nat → Int32) × (Nat → Int32)) => wX_fill_160 post (nI k) n (nI i) f0 f1 f2 a1 a2 a3 a4 a5 a6 a7 a8 a9 a10 a11 a12 a13 u.1 a15 u.2.1 u.2.2 a18 a19 a20)
    (fun i u => (∀ t, t < 3 → ∀ c, c < 128 → u.1 (384 * k + 128 * t + c) = nI (os_sm (fun i => os_jk a1 a2 a3 a9 a10 T k (4 * v + i) t c) i)) ∧ (∀ j, j < 384 * k ∨ 384 * k + 384 ≤ j → u.1 j = a14 j)) q 0 (a14, a16, a17) (by omega)
    ⟨fun t ht c hc => hz t ht c hc, fun j _ => rfl⟩ ?_ ?_
  · exact fun n u h => ⟨pk_in k 12 hk, pk_in v 3 hv c8, pk_le q q (fun _ => H u.1 u.2.1 u.2.2 h.1 h.2) (fun z => absurd z (by omega)) c4⟩
  · intro n i u hi h hw
    obtain ⟨y, hy, e2⟩ := w2 (4 * v + i) (by omega)
    obtain ⟨sc, hsc, e3⟩ := w3 (4 * v + i) (by omega)
    refine ⟨pk_in k 12 hk, pk_in v 3 hv c8, pk_le q i (fun z => absurd z (by omega)) (fun _ => ⟨pk_in k 12 hk, os_js (Fl := T l) (Fr := T r) rfl (by rw [c8]; exact os_4 v i) hk (by omega) hy hsc (by omega) (by omega) w1 e2 e3 e9 e10
      (fun t ht c hc => by rw [h.2 _ (by omega)]; exact hFl t ht c hc) (fun t ht c hc => by rw [h.2 _ (by omega)]; exact hFr t ht c hc) (fun v14 v16 v17 hv14 => nm_r (nI_1 i) (hw (v14, v16, v17) ?_))⟩) c4⟩
    obtain ⟨g1, g2⟩ := os_jsT (by omega) hsc hv14
    refine ⟨fun t ht c hc => ?_, fun j hj => ?_⟩
    · show v14 _ = _
      rw [g1 t ht c hc, h.1 t ht c hc, os_sm_s, ← nI_add, os_jk_e T hy hsc (by omega) (by omega) e2 e3 e9 e10]
    · show v14 j = _
      rw [g2 j hj, h.2 j hj]
/-- a literal's table -/
def os_li (a6 a8 : Nat → Int32) (k t c : Nat) : Nat := if ((a8 k >>> (nI t &&& 31)) &&& 1) = 1 ∧ c = (a6 t).toNatClampNeg then 1 else 0
theorem os_f43 {post : St1 → Prop} {f0 f1 f2 : Int32} {a1 a2 a3 a4 a5 a6 a7 a8 a9 a10 a11 a12 a13 a14 a15 a16 a17 a18 a19 a20 : Nat → Int32} {k : Nat} (hk : k < 12) (w6 : ∀ i, i < 3 → ∃ j, j ≤ 9 ∧ a6 i = nI j)
    (hz : ∀ t, t < 3 → ∀ c, c < 128 → a14 (384 * k + 128 * t + c) = 0)
    (H : ∀ v14 : Nat → Int32, (∀ t, t < 3 → ∀ c, c < 128 → v14 (384 * k + 128 * t + c) = nI (os_li a6 a8 k t c)) → (∀ j, j < 384 * k ∨ 384 * k + 384 ≤ j → v14 j = a14 j) → post (f0, f1, f2, a1, a2, a3, a4, a5, a6, a7, a8, a9, a10, a11, a12, a13, v14, a15, a16, a17, a18, a19, a20)) :
    ∃ n, wX_fill_43 post (nI k) (nI (384 * k)) f0 f1 f2 n 0 a1 a2 a3 a4 a5 a6 a7 a8 a9 a10 a11 a12 a13 a14 a15 a16 a17 a18 a19 a20 := by
  refine pk_loop (fun n i s => wX_fill_43 post (nI k) (nI (384 * k)) f0 f1 f2 n (nI i) a1 a2 a3 a4 a5 a6 a7 a8 a9 a10 a11 a12 a13 s a15 a16 a17 a18 a19 a20)
    (fun i s => (∀ t, t < 3 → ∀ c, c < 128 → s (384 * k + 128 * t + c) = if t < i then nI (os_li a6 a8 k t c) else 0) ∧ (∀ j, j < 384 * k ∨ 384 * k + 384 ≤ j → s j = a14 j)) 3 0 a14 (by omega)
    ⟨fun t ht c hc => by rw [if_neg (by omega)]; exact hz t ht c hc, fun j _ => rfl⟩ ?_ ?_
  · exact fun n s h => pk_le 3 3 (fun _ => H s (fun t ht c hc => by rw [h.1 t ht c hc, if_pos ht]) h.2) (fun z => absurd z (by omega))
  · intro n i s hi h hw
    obtain ⟨j, hj, e6⟩ := w6 i hi
    have ce : nI (384 * k) + nI i * 128 + a6 (nI i).toNatClampNeg = nI (384 * k + 128 * i + j) := by
      rw [nI_clamp (show i < 2 ^ 31 by omega), e6]
      show nI (384 * k) + nI i * nI 128 + nI j = _
      rw [pk_mul, nI_add, nI_add, show i * 128 = 128 * i by omega]
    refine pk_le 3 i (fun z => absurd z (by omega)) (fun _ => ⟨pk_in k 12 hk, br_c (fun hb => ⟨pk_in i 3 hi, pk_in (384 * k + 128 * i + j) 4608 (by omega) ce, nm_e (nm_r (nI_1 i) (hw _ ?_))⟩) (fun hb => nm_r (nI_1 i) (hw _ ?_))⟩)
    · rw [nI_clamp (show k < 2 ^ 31 by omega)] at hb
      rw [pk_cl _ ce (by omega)]
      refine ⟨fun t ht c hc => ?_, fun x hx => ?_⟩
      · by_cases et : t = i
        · subst et
          rw [if_pos (by omega)]
          unfold os_li
          by_cases ec : c = j
          · rw [ec, pk_us, if_pos ⟨hb, by rw [e6, nI_clamp (by omega)]⟩]
            rfl
          · rw [pk_un (by omega), if_neg (fun z => ec (by rw [z.2, e6, nI_clamp (by omega)])), h.1 t ht c hc, if_neg (by omega), nI_0]
        · rw [pk_un (by omega), h.1 t ht c hc]
          by_cases et2 : t < i
          · rw [if_pos et2, if_pos (by omega)]
          · rw [if_neg et2, if_neg (by omega)]
      · rw [pk_un (by omega)]
        exact h.2 x hx
    · rw [nI_clamp (show k < 2 ^ 31 by omega)] at hb
      refine ⟨fun t ht c hc => ?_, h.2⟩
      rw [h.1 t ht c hc]
      by_cases et : t = i
      · subst et
        unfold os_li
        rw [if_neg (by omega), if_pos (by omega), if_neg (fun z => hb z.1), nI_0]
      · by_cases et2 : t < i
        · rw [if_pos et2, if_pos (by omega)]
        · rw [if_neg et2, if_neg (by omega)]
theorem os_pt {s f : Nat → Int32} {k ty i : Nat} (hty : ty < 3) (hi : i = 384 * k + 128 * ty) (hz : ∀ t, t < 3 → ∀ c, c < 128 → s (384 * k + 128 * t + c) = 0) (ho : ∀ j, j < 384 * k ∨ 384 * k + 384 ≤ j → s j = f j) :
    (∀ t, t < 3 → ∀ c, c < 128 → upd s i 1 (384 * k + 128 * t + c) = nI (if t = ty ∧ c = 0 then 1 else 0)) ∧ (∀ j, j < 384 * k ∨ 384 * k + 384 ≤ j → upd s i 1 j = f j) := by
  subst hi
  refine ⟨fun t ht c hc => ?_, fun j hj => ?_⟩
  · by_cases e : t = ty ∧ c = 0
    · rw [if_pos e, e.1, e.2, Nat.add_zero, pk_us]
      rfl
    · rw [if_neg e, pk_un (by omega), hz t ht c hc, nI_0]
  · rw [pk_un (by omega)]
    exact ho j hj
theorem os_zs {s f : Nat → Int32} {b i k : Nat} (hk : k = b + i) (h : ∀ j, s j = if b ≤ j ∧ j < b + i then 0 else f j) : ∀ j, upd s k 0 j = if b ≤ j ∧ j < b + (i + 1) then 0 else f j := by
  intro j
  subst hk
  by_cases e : j = b + i
  · rw [e, pk_us, if_pos (by omega)]
  · rw [pk_un e, h j]
    by_cases e2 : b ≤ j ∧ j < b + i
    · rw [if_pos e2, if_pos (by omega)]
    · rw [if_neg e2, if_neg (by omega)]
theorem os_vtl {p v : Nat} (hp : p < 9) : os_vt p v < 3 := by
  unfold os_vt
  by_cases e : v = 0
  · rw [if_pos e]
    omega
  · rw [if_neg e]
    omega
/-- one node's table is filled -/
theorem os_fl {post : St1 → Prop} {f0 f1 f2 : Int32} {a1 a2 a3 a4 a5 a6 a7 a8 a9 a10 a11 a12 a13 a14 a15 a16 a17 a18 a19 a20 : Nat → Int32} {p0 : Int32} {T : Nat → Nat → Nat → Nat} {k n p : Nat} (h0 : p0 = nI k) (hk : k < n) (w : os_wf a1 a2 a3 a4 a6 a7 a8 a9 a10 n) (hp : p < 9) (e0 : a13 0 = nI (p / 3)) (e1 : a13 1 = nI (p % 3))
    (hT : a7 k = 3 → (∀ t, t < 3 → ∀ c, c < 128 → a14 (384 * (a9 k).toNatClampNeg + 128 * t + c) = nI (T (a9 k).toNatClampNeg t c)) ∧ (∀ t, t < 3 → ∀ c, c < 128 → a14 (384 * (a10 k).toNatClampNeg + 128 * t + c) = nI (T (a10 k).toNatClampNeg t c)))
    (H : ∀ v14 v16 v17 : Nat → Int32, (∀ t, t < 3 → ∀ c, c < 128 → v14 (384 * k + 128 * t + c) = nI (os_st a1 a2 a3 a4 a6 a7 a8 a9 a10 p T k t c)) → (∀ j, j < 384 * k ∨ 384 * k + 384 ≤ j → v14 j = a14 j) → post (f0, f1, f2, a1, a2, a3, a4, a5, a6, a7, a8, a9, a10, a11, a12, a13, v14, a15, v16, v17, a18, a19, a20)) :
    wpX_fill post (f0, f1, f2, a1, a2, a3, a4, a5, a6, a7, a8, a9, a10, a11, a12, a13, a14, a15, a16, a17, a18, a19, a20) p0 := by
  subst h0
  obtain ⟨w1, w2, w3, w4, w6, w12, wn⟩ := w
  refine nm_r (e' := nI (384 * k)) (by show nI 3 * nI k * nI 128 = _; rw [pk_mul, pk_mul, show 3 * k * 128 = 384 * k by omega]) ?_
  refine pk_loop (fun m i s => wX_fill_10 post (nI k) (nI (384 * k)) f0 f1 f2 m (nI i) a1 a2 a3 a4 a5 a6 a7 a8 a9 a10 a11 a12 a13 s a15 a16 a17 a18 a19 a20) (fun i s => ∀ j, s j = if 384 * k ≤ j ∧ j < 384 * k + i then 0 else a14 j) 384 0 a14 (by omega)
    (fun j => by rw [if_neg (by omega)]) ?_ ?_
  · intro m s h
    have hz : ∀ t, t < 3 → ∀ c, c < 128 → s (384 * k + 128 * t + c) = 0 := fun t ht c hc => by rw [h, if_pos (by omega)]
    have ho : ∀ j, j < 384 * k ∨ 384 * k + 384 ≤ j → s j = a14 j := fun j hj => by rw [h, if_neg (by omega)]
    refine pk_le 384 384 (fun _ => ⟨pk_in k 12 (by omega), ?_⟩) (fun z => absurd z (by omega))
    rw [nI_clamp (show k < 2 ^ 31 by omega)]
    rcases wn k hk with k0 | ⟨k1, v, hv, ev⟩ | ⟨k2, v, hv, ev⟩ | ⟨k3, ⟨v, hv, ev⟩, ⟨l, hl, el⟩, ⟨r, hr, er⟩⟩
    · refine br_t k0 (os_f43 (by omega) w6 hz (fun v14 g1 g2 => H v14 a16 a17 (fun t ht c hc => ?_) (fun j hj => ?_)))
      · rw [g1 t ht c hc]
        unfold os_st os_li
        rw [if_pos k0]
      · rw [g2 j hj, ho j hj]
    · have e13 : a13 (a8 k).toNatClampNeg = nI (os_vt p v) := by
        rw [ev, nI_clamp (show v < 2 ^ 31 by omega)]
        unfold os_vt
        by_cases e : v = 0
        · rw [if_pos e, e, e0]
        · rw [if_neg e, show v = 1 by omega, e1]
      have ei : nI (384 * k) + a13 (a8 k).toNatClampNeg * 128 = nI (384 * k + 128 * os_vt p v) := by
        rw [e13]
        show nI (384 * k) + nI (os_vt p v) * nI 128 = _
        rw [pk_mul, nI_add, Nat.mul_comm (os_vt p v) 128]
      have hvt : os_vt p v < 3 := os_vtl hp
      obtain ⟨g1, g2⟩ := os_pt hvt (pk_cl _ ei (by omega)) hz ho
      refine br_f (by rw [k1]; decide) ⟨pk_in k 12 (by omega), br_t k1 ⟨pk_in k 12 (by omega), pk_in v 2 hv ev, pk_in _ 4608 (by omega) ei, nm_e (H _ _ _ (fun t ht c hc => ?_) g2)⟩⟩
      rw [g1 t ht c hc]
      unfold os_st
      rw [if_neg (show ¬ a7 k = 0 by rw [k1]; decide), if_pos k1, ev, nI_clamp (show v < 2 ^ 31 by omega)]
    · have ei : nI (384 * k) + a8 k * 128 = nI (384 * k + 128 * v) := by
        rw [ev]
        show nI (384 * k) + nI v * nI 128 = _
        rw [pk_mul, nI_add, Nat.mul_comm v 128]
      obtain ⟨g1, g2⟩ := os_pt hv (pk_cl _ ei (by omega)) hz ho
      refine br_f (by rw [k2]; decide) ⟨pk_in k 12 (by omega), br_f (by rw [k2]; decide) ⟨pk_in k 12 (by omega), br_t k2 ⟨pk_in k 12 (by omega), pk_in _ 4608 (by omega) ei, nm_e (H _ _ _ (fun t ht c hc => ?_) g2)⟩⟩⟩
      rw [g1 t ht c hc]
      unfold os_st
      rw [if_neg (show ¬ a7 k = 0 by rw [k2]; decide), if_neg (show ¬ a7 k = 1 by rw [k2]; decide), if_pos k2, ev, nI_clamp (show v < 2 ^ 31 by omega)]
    · obtain ⟨q, hq, e4⟩ := w4 v hv
      obtain ⟨hl2, hr2⟩ := hT k3
      rw [el, nI_clamp (show l < 2 ^ 31 by omega)] at hl2
      rw [er, nI_clamp (show r < 2 ^ 31 by omega)] at hr2
      refine br_f (by rw [k3]; decide) ⟨pk_in k 12 (by omega), br_f (by rw [k3]; decide) ⟨pk_in k 12 (by omega), br_f (by rw [k3]; decide) (os_f160 (T := T) (by omega) hv hq hl hr w1 w2 w3 e4 ev el er hz
        (fun t ht c hc => by rw [ho _ (by omega)]; exact hl2 t ht c hc) (fun t ht c hc => by rw [ho _ (by omega)]; exact hr2 t ht c hc) (fun v14 v16 v17 g1 g2 => H v14 v16 v17 (fun t ht c hc => ?_) (fun j hj => ?_)))⟩⟩
      · rw [g1 t ht c hc]
        unfold os_st
        rw [if_neg (by rw [k3]; decide), if_neg (by rw [k3]; decide), if_neg (by rw [k3]; decide), ev, nI_clamp (show v < 2 ^ 31 by omega), e4, nI_clamp (show q < 2 ^ 31 by omega)]
      · rw [g2 j hj, ho j hj]
  · exact fun m i s hi h hw => pk_le 384 i (fun z => absurd z (by omega)) (fun _ => ⟨pk_in (384 * k + i) 4608 (by omega) (nI_add _ _), nm_e (nm_r (nI_1 i) (hw _ (os_zs (pk_cl (384 * k + i) (nI_add _ _) (by omega)) h)))⟩)
/-- all parts are filled -/
theorem os_fa {post : St1 → Prop} {f0 f1 f2 : Int32} {a1 a2 a3 a4 a5 a6 a7 a8 a9 a10 a11 a12 a13 a14 a15 a16 a17 a18 a19 a20 : Nat → Int32} {p0 p1 : Int32} {nd n p : Nat} (h0 : p0 = nI nd) (h1 : p1 = nI p) (hn : nd < n) (w : os_wf a1 a2 a3 a4 a6 a7 a8 a9 a10 n) (hp : p < 9)
    (hcl : ∀ j, j < nd + 1 → a12 j ≠ 0 → a7 j = 3 → a12 (a9 j).toNatClampNeg ≠ 0 ∧ a12 (a10 j).toNatClampNeg ≠ 0)
    (H : ∀ v13 v14 v16 v17 : Nat → Int32, (∀ k, k < nd + 1 → a12 k ≠ 0 → ∀ t, t < 3 → ∀ c, c < 128 → v14 (384 * k + 128 * t + c) = nI (os_tab a1 a2 a3 a4 a6 a7 a8 a9 a10 p (nd + 1) k t c)) → post (f0, f1, f2, a1, a2, a3, a4, a5, a6, a7, a8, a9, a10, a11, a12, v13, v14, a15, v16, v17, a18, a19, a20)) :
    wpX_fillAll post (f0, f1, f2, a1, a2, a3, a4, a5, a6, a7, a8, a9, a10, a11, a12, a13, a14, a15, a16, a17, a18, a19, a20) p0 p1 := by
  subst h0 h1
  have w12 : n ≤ 12 := w.2.2.2.2.2.1
  have wn := w.2.2.2.2.2.2
  refine ⟨by decide, nm_r (e' := upd a13 0 (nI (p / 3))) (by rw [show nI p / 3 = nI (p / 3) from pk_div (d := 3) (by omega) (by omega) (by omega)]) ⟨by decide, nm_r (e' := upd (upd a13 0 (nI (p / 3))) 1 (nI (p % 3))) (by rw [show nI p - nI p / 3 * 3 = nI (p % 3) from pk_rem (d := 3) (by omega) (by omega) (by omega)]) ?_⟩⟩
  refine pk_loop (fun m i (u : (Nat → Int32) × (Nat → Int32) × (Nat → Int32)) => wX_fillAll_20 post (nI nd) m (nI i) f0 f1 f2 a1 a2 a3 a4 a5 a6 a7 a8 a9 a10 a11 a12 (upd (upd a13 0 (nI (p / 3))) 1 (nI (p % 3))) u.1 a15 u.2.1 u.2.2 a18 a19 a20)
    (fun i u => ∀ k, k < i → a12 k ≠ 0 → ∀ t, t < 3 → ∀ c, c < 128 → u.1 (384 * k + 128 * t + c) = nI (os_tab a1 a2 a3 a4 a6 a7 a8 a9 a10 p i k t c)) (nd + 1) 0 (a14, a16, a17) (by omega) (fun k hk => absurd hk (by omega)) ?_ ?_
  · exact fun m u h => pk_lt nd (nd + 1) (fun _ => H _ u.1 u.2.1 u.2.2 h) (fun z => absurd z (by omega))
  · intro m i u hi h hw
    refine pk_lt nd i (fun z => absurd z (by omega)) (fun _ => ⟨pk_in i 12 (by omega), ?_⟩)
    rw [nI_clamp (show i < 2 ^ 31 by omega)]
    refine br_c (fun e => nm_r (nI_1 i) (hw u (fun k hk hk0 t ht c hc => ?_))) (fun e => os_fl (T := os_tab a1 a2 a3 a4 a6 a7 a8 a9 a10 p i) rfl (show i < n by omega) w hp ?_ ?_ (fun e3 => ?_) (fun v14 v16 v17 g1 g2 => nm_r (nI_1 i) (hw (v14, v16, v17) (fun k hk hk0 t ht c hc => ?_))))
    · by_cases ek : k = i
      · rw [ek] at hk0
        exact absurd e hk0
      · rw [os_tab_ne a1 a2 a3 a4 a6 a7 a8 a9 a10 p ek]
        exact h k (by omega) hk0 t ht c hc
    · rw [pk_un (by omega), pk_us]
    · rw [pk_us]
    · obtain ⟨c1, c2⟩ := hcl i hi e e3
      obtain ⟨_, ⟨l, hl, el⟩, ⟨r, hr, er⟩⟩ := os_nd3 (wn i (by omega)) e3
      rw [el, nI_clamp (show l < 2 ^ 31 by omega)] at c1 ⊢
      rw [er, nI_clamp (show r < 2 ^ 31 by omega)] at c2 ⊢
      exact ⟨h l hl c1, h r hr c2⟩
    · show v14 _ = _
      by_cases ek : k = i
      · subst ek
        rw [g1 t ht c hc, os_tab_eq]
      · rw [g2 _ (by omega), os_tab_ne a1 a2 a3 a4 a6 a7 a8 a9 a10 p ek]
        exact h k (by omega) hk0 t ht c hc
end
section
theorem os_ad {post : St1 → Prop} {f0 f1 f2 : Int32} {a1 a2 a3 a4 a5 a6 a7 a8 a9 a10 a11 a12 a13 a14 a15 a16 a17 a18 a19 a20 : Nat → Int32} {p0 p1 p2 : Int32} {nd t w : Nat} {F : Nat → Nat} (h0 : p0 = nI nd) (h1 : p1 = nI t) (h2 : p2 = nI w) (hd : nd < 12) (ht : t < 3) (hw : w ≤ 3)
    (hc : ∀ i, i < 9 → a1 i < 0 ∨ ∃ j, j ≤ 9 ∧ a1 i = nI j) (hF : ∀ c, c < 128 → a14 (384 * nd + 128 * t + c) = nI (F c))
    (H : ∀ s : Nat → Int32, (∀ c, c < 128 → s c = a15 c + nI (os_sh (os_xc a1 t w) F c)) → post (f0, f1, f2, a1, a2, a3, a4, a5, a6, a7, a8, a9, a10, a11, a12, a13, a14, s, a16, a17, a18, a19, a20)) :
    wpX_addTable post (f0, f1, f2, a1, a2, a3, a4, a5, a6, a7, a8, a9, a10, a11, a12, a13, a14, a15, a16, a17, a18, a19, a20) p0 p1 p2 := by
  subst h0 h1 h2
  have main : ∀ x : Int32, (x < 0 ∨ ∃ j, j ≤ 9 ∧ x = nI j) → (∀ s : Nat → Int32, (∀ c, c < 128 → s c = a15 c + nI (os_sh x F c)) → post (f0, f1, f2, a1, a2, a3, a4, a5, a6, a7, a8, a9, a10, a11, a12, a13, a14, s, a16, a17, a18, a19, a20)) →
      ((0 ≤ x → ∀ x5 : Int32, x5 = ((3 * nI nd) + nI t) * 128 → ∃ fu : Nat, wX_addTable_28 post x x5 f0 f1 f2 fu 0 a1 a2 a3 a4 a5 a6 a7 a8 a9 a10 a11 a12 a13 a14 a15 a16 a17 a18 a19 a20) ∧ (¬ 0 ≤ x → post (f0, f1, f2, a1, a2, a3, a4, a5, a6, a7, a8, a9, a10, a11, a12, a13, a14, a15, a16, a17, a18, a19, a20))) := by
    intro x hx Hx
    rcases hx with h | ⟨j, hj, e⟩
    · exact br_f (Int32.not_le.mpr h) (Hx a15 (os_gn F h))
    · subst e
      exact br_t (nI_pos' (by omega)) (nm_r (os_at nd t) (os_ad28 hj (by omega) (fun s hs => Hx s (os_gp hj hF hs))))
  unfold os_xc at H
  refine pk_eq w 3 (fun e => ?_) (fun e => ⟨pk_in (3 * t + w) 9 (by omega) (os_ix t w), ?_⟩)
  · rw [if_pos e] at H
    exact main 0 (Or.inr ⟨0, by omega, rfl⟩) H
  · rw [if_neg e] at H
    rw [pk_cl (3 * t + w) (os_ix t w) (by omega)]
    exact main _ (hc _ (by omega)) H
theorem os_su66 {post : St1 → Prop} {J : Int32 → Int32 → Int32 → Int32 → (Nat → Int32) → (Nat → Int32) → (Nat → Int32) → (Nat → Int32) → (Nat → Int32) → (Nat → Int32) → (Nat → Int32) → (Nat → Int32) → (Nat → Int32) → (Nat → Int32) → (Nat → Int32) → (Nat → Int32) → (Nat → Int32) → (Nat → Int32) → (Nat → Int32) → (Nat → Int32) → (Nat → Int32) → (Nat → Int32) → (Nat → Int32) → (Nat → Int32) → Prop}
    {f0 f1 f2 : Int32} {a1 a2 a3 a4 a5 a6 a7 a8 a9 a10 a11 a12 a13 a14 a15 a16 a17 a18 a19 a20 : Nat → Int32} {nd w p : Nat} {F : Nat → Nat → Nat} (hd : nd < 12) (hw : w ≤ 3) (hc : ∀ i, i < 9 → a1 i < 0 ∨ ∃ j, j ≤ 9 ∧ a1 i = nI j)
    (hF : ∀ t, t < 3 → ∀ c, c < 128 → a14 (384 * nd + 128 * t + c) = nI (F t c))
    (H : ∀ s : Nat → Int32, (∀ c, c < 128 → s c = a15 c + nI (os_sm (fun t => os_sh (os_xc a1 t w) (F t) c) 3)) → J (nI (p + 1)) f0 f1 f2 a1 a2 a3 a4 a5 a6 a7 a8 a9 a10 a11 a12 a13 a14 s a16 a17 a18 a19 a20) :
    ∃ n, wX_sumUp_66 post J (nI nd) (nI w) (nI p) n 0 f0 f1 f2 a1 a2 a3 a4 a5 a6 a7 a8 a9 a10 a11 a12 a13 a14 a15 a16 a17 a18 a19 a20 := by
  refine pk_loop (fun n i s => wX_sumUp_66 post J (nI nd) (nI w) (nI p) n (nI i) f0 f1 f2 a1 a2 a3 a4 a5 a6 a7 a8 a9 a10 a11 a12 a13 a14 s a16 a17 a18 a19 a20) (fun i s => ∀ c, c < 128 → s c = a15 c + nI (os_sm (fun t => os_sh (os_xc a1 t w) (F t) c) i)) 3 0 a15 (by omega)
    (fun c _ => by show _ = _ + nI 0; rw [nI_0, Int32.add_zero]) ?_ ?_
  · exact fun n s h => pk_le 3 3 (fun _ => nm_r (nI_1 p) (H s h)) (fun z => absurd z (by omega))
  · intro n i s hi h hw2
    refine pk_le 3 i (fun z => absurd z (by omega)) (fun _ => os_ad (F := F i) rfl rfl rfl hd hi hw hc (hF i hi) (fun v hv => nm_r (nI_1 i) (hw2 v (fun c hc => ?_))))
    rw [hv c hc, h c hc, os_sm_s, ← nI_add, Int32.add_assoc]
theorem os_mh {post : Int32 → Prop} {f0 f1 f2 : Int32} {a1 a2 a3 a4 a5 a6 a7 a8 a9 a10 a11 a12 a13 a14 a15 a16 a17 a18 a19 a20 : Nat → Int32} {p0 p1 : Int32} (h : vp_in p0 2) (H1 : os_may f2 a5 p0 p1 = true → post 1) (H0 : os_may f2 a5 p0 p1 = false → post 0) : wpX_mayHave post (f0, f1, f2, a1, a2, a3, a4, a5, a6, a7, a8, a9, a10, a11, a12, a13, a14, a15, a16, a17, a18, a19, a20) p0 p1 := by
  unfold os_may at H1 H0
  refine br_c (fun e => ?_) (fun e => ⟨h, ?_⟩)
  · rw [if_pos e] at H1 H0
    exact br_c (fun e2 => H1 (decide_eq_true e2)) (fun e2 => H0 (decide_eq_false e2))
  · rw [if_neg e] at H1 H0
    exact br_c (fun e2 => H1 (decide_eq_true e2)) (fun e2 => H0 (decide_eq_false e2))
theorem os_totT {a1 a2 a3 a4 a5 a6 a7 a8 a9 a10 : Nat → Int32} {uv : Int32} {nd w p : Nat} (h : os_pr uv a5 p = true) (c : Nat) :
    nI (os_tot a1 a2 a3 a4 a6 a7 a8 a9 a10 a5 uv nd w (p + 1) c) = nI (os_tot a1 a2 a3 a4 a6 a7 a8 a9 a10 a5 uv nd w p c) + nI (os_sm (fun t => os_sh (os_xc a1 t w) (os_tab a1 a2 a3 a4 a6 a7 a8 a9 a10 p (nd + 1) nd t) c) 3) := by
  rw [nI_add]
  show nI (_ + (if os_pr uv a5 p = true then _ else 0)) = _
  rw [if_pos h]
theorem os_totF {a1 a2 a3 a4 a5 a6 a7 a8 a9 a10 : Nat → Int32} {uv : Int32} {nd w p : Nat} (h : os_pr uv a5 p = false) (c : Nat) :
    os_tot a1 a2 a3 a4 a6 a7 a8 a9 a10 a5 uv nd w (p + 1) c = os_tot a1 a2 a3 a4 a6 a7 a8 a9 a10 a5 uv nd w p c := by
  show _ + (if os_pr uv a5 p = true then _ else 0) = _
  rw [if_neg (by rw [h]; decide), Nat.add_zero]
theorem os_su29 {post : St1 → Prop} {f0 f1 f2 : Int32} {a1 a2 a3 a4 a5 a6 a7 a8 a9 a10 a11 a12 a13 a14 a15 a16 a17 a18 a19 a20 : Nat → Int32} {nd n w : Nat} (hn : nd < n) (hw : w ≤ 3) (wf : os_wf a1 a2 a3 a4 a6 a7 a8 a9 a10 n)
    (hcl : ∀ j, j < nd + 1 → a12 j ≠ 0 → a7 j = 3 → a12 (a9 j).toNatClampNeg ≠ 0 ∧ a12 (a10 j).toNatClampNeg ≠ 0) (hnd : a12 nd ≠ 0) (z15 : ∀ c, c < 128 → a15 c = 0)
    (H : ∀ v13 v14 v15 v16 v17 : Nat → Int32, (∀ c, c < 128 → v15 c = nI (os_tot a1 a2 a3 a4 a6 a7 a8 a9 a10 a5 f2 nd w 9 c)) → post (f0, f1, f2, a1, a2, a3, a4, a5, a6, a7, a8, a9, a10, a11, a12, v13, v14, v15, v16, v17, a18, a19, a20)) :
    ∃ n, wX_sumUp_29 post (nI nd) (nI w) n 0 f0 f1 f2 a1 a2 a3 a4 a5 a6 a7 a8 a9 a10 a11 a12 a13 a14 a15 a16 a17 a18 a19 a20 := by
  have w12 : n ≤ 12 := wf.2.2.2.2.2.1
  refine pk_loop (fun n i (u : (Nat → Int32) × (Nat → Int32) × (Nat → Int32) × (Nat → Int32) × (Nat → Int32)) => wX_sumUp_29 post (nI nd) (nI w) n (nI i) f0 f1 f2 a1 a2 a3 a4 a5 a6 a7 a8 a9 a10 a11 a12 u.1 u.2.1 u.2.2.1 u.2.2.2.1 u.2.2.2.2 a18 a19 a20)
    (fun i u => ∀ c, c < 128 → u.2.2.1 c = nI (os_tot a1 a2 a3 a4 a6 a7 a8 a9 a10 a5 f2 nd w i c)) 9 0 (a13, a14, a15, a16, a17) (by omega) (fun c hc => z15 c hc) ?_ ?_
  · exact fun m u h => pk_le 9 9 (fun _ => H _ _ _ _ _ h) (fun z => absurd z (by omega))
  · intro m i u hi h hw2
    have skip : os_pr f2 a5 i = false → wX_sumUp_29 post (nI nd) (nI w) m (nI (i + 1)) f0 f1 f2 a1 a2 a3 a4 a5 a6 a7 a8 a9 a10 a11 a12 u.1 u.2.1 u.2.2.1 u.2.2.2.1 u.2.2.2.2 a18 a19 a20 :=
      fun e => hw2 u (fun c hc => by rw [h c hc, os_totF e])
    refine pk_le 9 i (fun z => absurd z (by omega)) (fun _ => ⟨by decide, os_mh (pk_in 0 2 (by omega)) (fun m0 => br_f (by decide) ⟨by decide, os_mh (pk_in 1 2 (by omega)) (fun m1 => br_f (by decide) ?_) (fun m1 => br_t rfl (nm_r (nI_1 i) (skip ?_)))⟩) (fun m0 => br_t rfl (nm_r (nI_1 i) (skip ?_)))⟩)
    · have hpr : os_pr f2 a5 i = true := by
        unfold os_pr
        rw [m0, m1]
        rfl
      refine os_fa rfl rfl hn wf hi hcl (fun v13 v14 v16 v17 g => os_su66 (F := os_tab a1 a2 a3 a4 a6 a7 a8 a9 a10 i (nd + 1) nd) (by omega) hw wf.1 (g nd (by omega) hnd) (fun s hs => hw2 (v13, v14, s, v16, v17) (fun c hc => ?_)))
      show s c = _
      rw [hs c hc, h c hc, os_totT hpr]
    · unfold os_pr
      rw [m0, m1]
      rfl
    · unfold os_pr
      rw [m0]
      rfl
/-- the totals of a node and a wanted type -/
def os_T (a1 a2 a3 a4 a6 a7 a8 a9 a10 : Nat → Int32) (a5 : Nat → Int32) (nd w c : Nat) : Nat := os_tot a1 a2 a3 a4 a6 a7 a8 a9 a10 a5 (os_uv a7 a8 a9 a10 nd) nd w 9 c
theorem os_su {post : St1 → Prop} {f0 f1 f2 : Int32} {a1 a2 a3 a4 a5 a6 a7 a8 a9 a10 a11 a12 a13 a14 a15 a16 a17 a18 a19 a20 : Nat → Int32} {p0 p1 : Int32} {nd n w : Nat} (h0 : p0 = nI nd) (h1 : p1 = nI w) (hn : nd < n) (hw : w ≤ 3) (wf : os_wf a1 a2 a3 a4 a6 a7 a8 a9 a10 n)
    (H : ∀ (u : Int32) (v12 v13 v14 v15 v16 v17 : Nat → Int32), (∀ c, c < 128 → v15 c = nI (os_T a1 a2 a3 a4 a6 a7 a8 a9 a10 a5 nd w c)) → post (f0, f1, u, a1, a2, a3, a4, a5, a6, a7, a8, a9, a10, a11, v12, v13, v14, v15, v16, v17, a18, a19, a20)) :
    wpX_sumUp post (f0, f1, f2, a1, a2, a3, a4, a5, a6, a7, a8, a9, a10, a11, a12, a13, a14, a15, a16, a17, a18, a19, a20) p0 p1 := by
  subst h0 h1
  refine os_mark hn wf.2.2.2.2.2.1 wf.2.2.2.2.2.2 (fun p hcl hnd => ?_)
  refine pk_loop (fun n i s => wX_sumUp_7 post (nI nd) (nI w) f0 f1 (os_uv a7 a8 a9 a10 nd) n (nI i) a1 a2 a3 a4 a5 a6 a7 a8 a9 a10 a11 p a13 a14 s a16 a17 a18 a19 a20) (fun i s => ∀ c, c < i → s c = 0) 128 0 a15 (by omega) (fun c hc => absurd hc (by omega)) ?_ ?_
  · exact fun m s h => pk_le 128 128 (fun _ => os_su29 hn hw wf hcl hnd h (fun v13 v14 v15 v16 v17 g => H _ _ _ _ _ _ _ g)) (fun z => absurd z (by omega))
  · exact fun m i s hi h hw2 => pk_le 128 i (fun z => absurd z (by omega)) (fun _ => ⟨pk_in i 128 hi, nm_e (nm_r (nI_1 i) (hw2 _ (os_z (nI_clamp (by omega)) h)))⟩)
end
section
theorem os_rf {post : Int32 → Prop} {f0 f1 f2 : Int32} {a1 a2 a3 a4 a5 a6 a7 a8 a9 a10 a11 a12 a13 a14 a15 a16 a17 a18 a19 a20 : Nat → Int32} {p0 p1 : Int32} {nd n w : Nat} (e0 : f0 = nI n) (h0 : p0 = nI nd) (h1 : p1 = nI w) (hn : nd < n) (h12 : n ≤ 12) (hw : w ≤ 3) (H : post 0) : wpX_refused post (f0, f1, f2, a1, a2, a3, a4, a5, a6, a7, a8, a9, a10, a11, a12, a13, a14, a15, a16, a17, a18, a19, a20) p0 p1 := by
  subst e0 h0 h1
  exact br_f (nI_pos (by omega)) (pk_le n nd (fun z => absurd z (by omega)) (fun _ => br_f (by decide) (br_f (nI_pos (by omega)) (pk_le w 3 (fun _ => H) (fun z => absurd z (by omega))))))
theorem os_rfn {post : Int32 → Prop} {f0 f1 f2 : Int32} {a1 a2 a3 a4 a5 a6 a7 a8 a9 a10 a11 a12 a13 a14 a15 a16 a17 a18 a19 a20 : Nat → Int32} {p0 p1 : Int32} (h0 : ¬ p0 < 0) (h1 : f0 ≤ p0) (H : post (-1)) : wpX_refused post (f0, f1, f2, a1, a2, a3, a4, a5, a6, a7, a8, a9, a10, a11, a12, a13, a14, a15, a16, a17, a18, a19, a20) p0 p1 :=
  br_f h0 (br_t h1 (br_t rfl H))
theorem os_so {post : Int32 → St1 → Prop} {f0 f1 f2 : Int32} {a1 a2 a3 a4 a5 a6 a7 a8 a9 a10 a11 a12 a13 a14 a15 a16 a17 a18 a19 a20 : Nat → Int32} {p0 p1 : Int32} {nd n w : Nat} (e0 : f0 = nI n) (h0 : p0 = nI nd) (h1 : p1 = nI w) (hn : nd < n) (hw : w ≤ 3) (wf : os_wf a1 a2 a3 a4 a6 a7 a8 a9 a10 n)
    (H : ∀ (u : Int32) (v12 v13 v14 v15 v16 v17 : Nat → Int32), post (nI (os_sm (os_T a1 a2 a3 a4 a6 a7 a8 a9 a10 a5 nd w) 128)) (f0, f1, u, a1, a2, a3, a4, a5, a6, a7, a8, a9, a10, a11, v12, v13, v14, v15, v16, v17, a18, a19, a20)) :
    wpX_solutions post (f0, f1, f2, a1, a2, a3, a4, a5, a6, a7, a8, a9, a10, a11, a12, a13, a14, a15, a16, a17, a18, a19, a20) p0 p1 := by
  unfold wpX_solutions
  refine os_rf e0 h0 h1 hn wf.2.2.2.2.2.1 hw (br_t (by decide) (os_su h0 h1 hn hw wf (fun u v12 v13 v14 v15 v16 v17 g => ?_)))
  exact pk_loop (σ := Unit) (fun m i _ => wX_solutions_25 post f0 f1 u a1 a2 a3 a4 a5 a6 a7 a8 a9 a10 a11 v12 v13 v14 v15 v16 v17 a18 a19 a20 m (nI (os_sm (os_T a1 a2 a3 a4 a6 a7 a8 a9 a10 a5 nd w) i)) (nI i)) (fun _ _ => True) 128 0 () (by omega) trivial
    (fun m _ _ => pk_le 128 128 (fun _ => H u v12 v13 v14 v15 v16 v17) (fun z => absurd z (by omega)))
    (fun m i _ hi _ hw2 => pk_le 128 i (fun z => absurd z (by omega)) (fun _ => ⟨pk_in i 128 hi, nm_r (e' := nI (os_sm (os_T a1 a2 a3 a4 a6 a7 a8 a9 a10 a5 nd w) (i + 1))) (by rw [nI_clamp (show i < 2 ^ 31 by omega), g i hi, nI_add, os_sm_s]) (nm_r (nI_1 i) (hw2 () trivial))⟩))
theorem os_first (T : Nat → Nat) (N : Nat) : ∃ r, r ≤ N ∧ (∀ c, c < r → T c = 0) ∧ (r < N → 0 < T r) := by
  induction N with
  | zero => exact ⟨0, Nat.le_refl _, fun c h => absurd h (by omega), fun h => absurd h (by omega)⟩
  | succ N ih =>
    obtain ⟨r, h1, h2, h3⟩ := ih
    by_cases hr : r < N
    · exact ⟨r, by omega, h2, fun _ => h3 hr⟩
    · have er : r = N := by omega
      subst er
      by_cases hT : 0 < T r
      · exact ⟨r, by omega, h2, fun _ => hT⟩
      · refine ⟨r + 1, by omega, fun c hc => ?_, fun h => absurd h (by omega)⟩
        by_cases ec : c = r
        · rw [ec]
          omega
        · exact h2 c (by omega)
theorem os_lo {post : Int32 → Prop} {f0 f1 f2 : Int32} {a1 a2 a3 a4 a5 a6 a7 a8 a9 a10 a11 a12 a13 a14 a15 a16 a17 a18 a19 a20 : Nat → Int32} {T : Nat → Nat} {r : Nat} (hT : ∀ c, c < 128 → a15 c = nI (T c)) (hB : ∀ c, c < 128 → T c < 2 ^ 31) (hr : r ≤ 128) (h1 : ∀ c, c < r → T c = 0) (h2 : r < 128 → 0 < T r) (H : post (nI r)) : wpX_leastOf post (f0, f1, f2, a1, a2, a3, a4, a5, a6, a7, a8, a9, a10, a11, a12, a13, a14, a15, a16, a17, a18, a19, a20) :=
  pk_loop (σ := Unit) (fun m i _ => wX_leastOf_2 post f0 f1 f2 a1 a2 a3 a4 a5 a6 a7 a8 a9 a10 a11 a12 a13 a14 a15 a16 a17 a18 a19 a20 m (nI i)) (fun _ _ => True) r 0 () (by omega) trivial
    (fun m _ _ => pk_le 128 r (fun z => by
      have er : r = 128 := by omega
      subst er
      exact H) (fun z => ⟨pk_in r 128 z, br_f (by
        rw [nI_clamp (show r < 2 ^ 31 by omega), hT r z]
        exact nI_nle (h2 z) (hB r z)) H⟩))
    (fun m i _ hi _ hw2 => pk_le 128 i (fun z => absurd z (by omega)) (fun z => ⟨pk_in i 128 z, br_t (by
      rw [nI_clamp (show i < 2 ^ 31 by omega), hT i z, h1 i hi]
      decide) (nm_r (nI_1 i) (hw2 () trivial))⟩))
def os_ls (r : Nat) : Int32 := if r < 128 then nI r else (-3)
theorem os_lc {post : Int32 → St1 → Prop} {f0 f1 f2 : Int32} {a1 a2 a3 a4 a5 a6 a7 a8 a9 a10 a11 a12 a13 a14 a15 a16 a17 a18 a19 a20 : Nat → Int32} {p0 p1 : Int32} {nd n w r : Nat} (e0 : f0 = nI n) (h0 : p0 = nI nd) (h1 : p1 = nI w) (hn : nd < n) (hw : w ≤ 3) (wf : os_wf a1 a2 a3 a4 a6 a7 a8 a9 a10 n)
    (hB : ∀ c, c < 128 → os_T a1 a2 a3 a4 a6 a7 a8 a9 a10 a5 nd w c < 2 ^ 31) (hr : r ≤ 128) (r1 : ∀ c, c < r → os_T a1 a2 a3 a4 a6 a7 a8 a9 a10 a5 nd w c = 0) (r2 : r < 128 → 0 < os_T a1 a2 a3 a4 a6 a7 a8 a9 a10 a5 nd w r)
    (H : ∀ (u : Int32) (v12 v13 v14 v15 v16 v17 : Nat → Int32), post (os_ls r) (f0, f1, u, a1, a2, a3, a4, a5, a6, a7, a8, a9, a10, a11, v12, v13, v14, v15, v16, v17, a18, a19, a20)) :
    wpX_leastCost post (f0, f1, f2, a1, a2, a3, a4, a5, a6, a7, a8, a9, a10, a11, a12, a13, a14, a15, a16, a17, a18, a19, a20) p0 p1 := by
  unfold os_ls at H
  unfold wpX_leastCost
  refine os_rf e0 h0 h1 hn wf.2.2.2.2.2.1 hw (br_t (by decide) (os_su h0 h1 hn hw wf (fun u v12 v13 v14 v15 v16 v17 g => os_lo g hB hr r1 r2 (pk_le 128 r (fun z => ?_) (fun z => ?_)))))
  · have H' := H u v12 v13 v14 v15 v16 v17
    rw [if_neg (by omega)] at H'
    exact H'
  · have H' := H u v12 v13 v14 v15 v16 v17
    rw [if_pos z] at H'
    exact H'
theorem os_bc {post : Int32 → St1 → Prop} {f0 f1 f2 : Int32} {a1 a2 a3 a4 a5 a6 a7 a8 a9 a10 a11 a12 a13 a14 a15 a16 a17 a18 a19 a20 : Nat → Int32} {p0 p1 : Int32} {nd n w r : Nat} (e0 : f0 = nI n) (h0 : p0 = nI nd) (h1 : p1 = nI w) (hn : nd < n) (hw : w ≤ 3) (wf : os_wf a1 a2 a3 a4 a6 a7 a8 a9 a10 n)
    (hB : ∀ c, c < 128 → os_T a1 a2 a3 a4 a6 a7 a8 a9 a10 a5 nd w c < 2 ^ 31) (hr : r < 128) (r1 : ∀ c, c < r → os_T a1 a2 a3 a4 a6 a7 a8 a9 a10 a5 nd w c = 0) (r2 : r < 128 → 0 < os_T a1 a2 a3 a4 a6 a7 a8 a9 a10 a5 nd w r)
    (H : ∀ (u : Int32) (v12 v13 v14 v15 v16 v17 : Nat → Int32), post (nI (os_T a1 a2 a3 a4 a6 a7 a8 a9 a10 a5 nd w r)) (f0, f1, u, a1, a2, a3, a4, a5, a6, a7, a8, a9, a10, a11, v12, v13, v14, v15, v16, v17, a18, a19, a20)) :
    wpX_bestCount post (f0, f1, f2, a1, a2, a3, a4, a5, a6, a7, a8, a9, a10, a11, a12, a13, a14, a15, a16, a17, a18, a19, a20) p0 p1 := by
  unfold wpX_bestCount
  refine os_rf e0 h0 h1 hn wf.2.2.2.2.2.1 hw (br_t (by decide) (os_su h0 h1 hn hw wf (fun u v12 v13 v14 v15 v16 v17 g => os_lo g hB (by omega) r1 r2 (pk_le 128 r (fun z => absurd z (by omega)) (fun z => ⟨pk_in r 128 z, ?_⟩)))))
  rw [nI_clamp (show r < 2 ^ 31 by omega), g r z]
  exact H u v12 v13 v14 v15 v16 v17
/-- the totals, nothing above 128 -/
def os_T' (a1 a2 a3 a4 a6 a7 a8 a9 a10 : Nat → Int32) (a5 : Nat → Int32) (nd w c : Nat) : Nat := if c < 128 then os_T a1 a2 a3 a4 a6 a7 a8 a9 a10 a5 nd w c else 0
theorem os_wc {post : Int32 → St1 → Prop} {f0 f1 f2 : Int32} {a1 a2 a3 a4 a5 a6 a7 a8 a9 a10 a11 a12 a13 a14 a15 a16 a17 a18 a19 a20 : Nat → Int32} {p0 p1 p2 : Int32} {nd n w c : Nat} (e0 : f0 = nI n) (h0 : p0 = nI nd) (h1 : p1 = nI w) (h2 : p2 = nI c) (hn : nd < n) (hw : w ≤ 3) (hc : c ≤ 200) (wf : os_wf a1 a2 a3 a4 a6 a7 a8 a9 a10 n)
    (H : ∀ (u : Int32) (v12 v13 v14 v15 v16 v17 : Nat → Int32), post (nI (os_T' a1 a2 a3 a4 a6 a7 a8 a9 a10 a5 nd w c)) (f0, f1, u, a1, a2, a3, a4, a5, a6, a7, a8, a9, a10, a11, v12, v13, v14, v15, v16, v17, a18, a19, a20)) :
    wpX_withCost post (f0, f1, f2, a1, a2, a3, a4, a5, a6, a7, a8, a9, a10, a11, a12, a13, a14, a15, a16, a17, a18, a19, a20) p0 p1 p2 := by
  subst h2
  unfold os_T' at H
  unfold wpX_withCost
  refine os_rf e0 h0 h1 hn wf.2.2.2.2.2.1 hw (br_t (by decide) (br_f (nI_pos (by omega)) (pk_lt c 128 (fun z => os_su h0 h1 hn hw wf (fun u v12 v13 v14 v15 v16 v17 g => ⟨pk_in c 128 z, ?_⟩)) (fun z => ?_))))
  · have H' := H u v12 v13 v14 v15 v16 v17
    rw [if_pos z, ← g c z] at H'
    rw [nI_clamp (show c < 2 ^ 31 by omega)]
    exact H'
  · have H' := H f2 a12 a13 a14 a15 a16 a17
    rw [if_neg (by omega)] at H'
    exact H'
theorem os_cut (T : Nat → Nat) (m : Nat) : os_sm (fun c => if c < 128 then T c else 0) (128 + m) = os_sm T 128 := by
  induction m with
  | zero => exact os_sm_congr (fun c hc => if_pos hc)
  | succ m ih =>
    rw [← Nat.add_assoc, os_sm_s, ih, if_neg (by omega), Nat.add_zero]
theorem os_bd3 : os_bd 3 = 107495424 := by
  simp [os_bd]
/-- the law's look at a node -/
theorem os_ho {post : Int32 → St1 → Prop} {f0 f1 f2 : Int32} {a1 a2 a3 a4 a5 a6 a7 a8 a9 a10 a11 a12 a13 a14 a15 a16 a17 a18 a19 a20 : Nat → Int32} {p1 p2 : Int32} {n w : Nat} (e0 : f0 = nI n) (wf : os_wf a1 a2 a3 a4 a6 a7 a8 a9 a10 n) (ha : os_na a7 n ≤ 3) (hp : ¬ p1 < 0) (e2 : p2 = nI w) (hw : w ≤ 3)
    (H : ∀ (u : Int32) (v12 v13 v14 v15 v16 v17 : Nat → Int32), post 1 (f0, f1, u, a1, a2, a3, a4, a5, a6, a7, a8, a9, a10, a11, v12, v13, v14, v15, v16, v17, a18, a19, a20)) :
    wpL_holds post (f0, f1, f2, a1, a2, a3, a4, a5, a6, a7, a8, a9, a10, a11, a12, a13, a14, a15, a16, a17, a18, a19, a20) p1 p2 := by
  have w12 : n ≤ 12 := wf.2.2.2.2.2.1
  by_cases hlt : p1 < f0
  · obtain ⟨nd, _, e1⟩ := nI_of hp
    have hn : nd < n := by
      rw [e0, e1] at hlt
      exact (nI_ltI (by omega) (by omega)).mp hlt
    have hA : os_sm (os_T a1 a2 a3 a4 a6 a7 a8 a9 a10 a5 nd w) 128 < 2 ^ 31 := by
      have h1 : os_sm (os_T a1 a2 a3 a4 a6 a7 a8 a9 a10 a5 nd w) 128 ≤ 9 * os_bd (os_na a7 n) := os_tot_B wf a5 (os_uv a7 a8 a9 a10 nd) w hn 9
      have h2 := os_bd_mono ha
      rw [os_bd3] at h2
      omega
    have hB : ∀ c, c < 128 → os_T a1 a2 a3 a4 a6 a7 a8 a9 a10 a5 nd w c < 2 ^ 31 := fun c hc => Nat.lt_of_le_of_lt (os_sm_mem _ hc) hA
    have hB' : ∀ c, os_T' a1 a2 a3 a4 a6 a7 a8 a9 a10 a5 nd w c < 2 ^ 31 := by
      intro c
      unfold os_T'
      by_cases hc : c < 128
      · rw [if_pos hc]
        exact hB c hc
      · rw [if_neg hc]
        omega
    obtain ⟨r, hr, r1, r2⟩ := os_first (os_T a1 a2 a3 a4 a6 a7 a8 a9 a10 a5 nd w) 128
    have hls : ∀ i, i ≤ 200 → os_ls r ≤ nI i ∨ os_T' a1 a2 a3 a4 a6 a7 a8 a9 a10 a5 nd w i = 0 := by
      intro i hi
      unfold os_ls
      by_cases h : r < 128
      · rw [if_pos h]
        by_cases hri : r ≤ i
        · exact Or.inl (nI_le hri (by omega))
        · right
          unfold os_T'
          rw [if_pos (by omega)]
          exact r1 i (by omega)
      · rw [if_neg h]
        left
        rw [Int32.le_iff_toInt_le, nI_toInt (by omega)]
        have : (-3 : Int32).toInt = -3 := by decide
        omega
    refine os_so e0 e1 e2 hn hw wf (fun u v12 v13 v14 v15 v16 v17 => br_t hlt (br_t (nI_pos' hA) (os_lc e0 e1 e2 hn hw wf hB hr r1 r2 (fun u v12 v13 v14 v15 v16 v17 => ?_))))
    refine pk_loop (fun m i (s : Int32 × (Nat → Int32) × (Nat → Int32) × (Nat → Int32) × (Nat → Int32) × (Nat → Int32) × (Nat → Int32)) => wL_holds_46 post p1 p2 (nI (os_sm (os_T a1 a2 a3 a4 a6 a7 a8 a9 a10 a5 nd w) 128)) (os_ls r) m (nI (os_sm (os_T' a1 a2 a3 a4 a6 a7 a8 a9 a10 a5 nd w) i)) (nI i) f0 f1 s.1 a1 a2 a3 a4 a5 a6 a7 a8 a9 a10 a11 s.2.1 s.2.2.1 s.2.2.2.1 s.2.2.2.2.1 s.2.2.2.2.2.1 s.2.2.2.2.2.2 a18 a19 a20)
      (fun _ _ => True) 201 0 (u, v12, v13, v14, v15, v16, v17) (by omega) trivial ?_ ?_
    · intro m s _
      refine pk_lt 200 201 (fun _ => br_t (by rw [show os_sm (os_T' a1 a2 a3 a4 a6 a7 a8 a9 a10 a5 nd w) 201 = os_sm (os_T a1 a2 a3 a4 a6 a7 a8 a9 a10 a5 nd w) 128 from os_cut _ 73]) ?_) (fun z => absurd z (by omega))
      by_cases h : r < 128
      · have el : os_ls r = nI r := if_pos h
        rw [el]
        refine br_t (nI_pos' (by omega)) (os_bc e0 e1 e2 hn hw wf hB h r1 r2 (fun u v12 v13 v14 v15 v16 v17 => br_f (nI_nlt (r2 h) (hB r h)) (os_wc e0 e1 e2 rfl hn hw (by omega) wf (fun u v12 v13 v14 v15 v16 v17 => br_t ?_ (H u v12 v13 v14 v15 v16 v17)))))
        unfold os_T'
        rw [if_pos h]
      · have el : os_ls r = (-3) := if_neg h
        rw [el]
        refine br_f (by decide) (br_t rfl (br_t ?_ (H _ _ _ _ _ _ _)))
        rw [os_sm_z (fun c hc => r1 c (by omega)), nI_0]
    · intro m i s hi _ hw2
      refine pk_lt 200 i (fun z => absurd z (by omega)) (fun _ => os_wc e0 e1 e2 rfl hn hw (by omega) wf (fun u v12 v13 v14 v15 v16 v17 => br_f (nI_pos (hB' i)) ?_))
      have cont := hw2 (u, v12, v13, v14, v15, v16, v17) trivial
      refine br_c (fun _ => nm_r (nI_add _ _) (nm_r (nI_1 i) cont)) (fun z => br_t ?_ (nm_r (nI_add _ _) (nm_r (nI_1 i) cont)))
      rcases hls i (by omega) with g | g
      · exact absurd g z
      · rw [g, nI_0]
  · unfold wpL_holds wpX_solutions
    exact os_rfn hp (Int32.not_lt.mp hlt) (br_f (by decide) (br_f hlt (br_t rfl (H _ _ _ _ _ _ _))))
end
section
/-- what holds of the object between the law's calls -/
def os_inv (f0 f1 : Int32) (a1 a2 a3 a4 a6 a7 a8 a9 a10 : Nat → Int32) : Prop := ∃ n : Nat, f0 = nI n ∧ f1 = nI (os_na a7 n) ∧ os_na a7 n ≤ 3 ∧ os_wf a1 a2 a3 a4 a6 a7 a8 a9 a10 n
theorem os_u {P : Int32 → Prop} {f : Nat → Int32} {N k : Nat} {x : Int32} (h : ∀ i, i < N → P (f i)) (hx : P x) : ∀ i, i < N → P (upd f k x i) := by
  intro i hi
  by_cases e : i = k
  · rw [e, pk_us]
    exact hx
  · rw [pk_un e]
    exact h i hi
theorem os_it {post : Int32 → Prop} {p0 : Int32} (H0 : post 0) (H1 : ∀ j, j < 3 → p0 = nI j → post 1) : wpX_isType post () p0 :=
  br_c (fun _ => H0) (fun h => br_c (fun _ => H0) (fun h2 => by
    obtain ⟨j, hj, e⟩ := nI_of2 (M := 2) (n := 2) (by decide) h (Int32.not_lt.mp h2)
    exact H1 j (by omega) e))
theorem os_in {post : Int32 → Prop} {f0 f1 f2 : Int32} {a1 a2 a3 a4 a5 a6 a7 a8 a9 a10 a11 a12 a13 a14 a15 a16 a17 a18 a19 a20 : Nat → Int32} {p0 : Int32} {n : Nat} (e0 : f0 = nI n) (hn : n ≤ 12) (H0 : post 0) (H1 : ∀ j, j < n → p0 = nI j → post 1) : wpX_isNode post (f0, f1, f2, a1, a2, a3, a4, a5, a6, a7, a8, a9, a10, a11, a12, a13, a14, a15, a16, a17, a18, a19, a20) p0 :=
  br_c (fun _ => H0) (fun h => br_c (fun _ => H0) (fun h2 => by
    obtain ⟨j, hj, e⟩ := nI_of h
    refine H1 j ?_ e
    rw [e0, e, nI_leI (by omega) hj] at h2
    omega))
theorem os_oF {post : Int32 → St1 → Prop} {f0 f1 f2 : Int32} {a1 a2 a3 a4 a5 a6 a7 a8 a9 a10 a11 a12 a13 a14 a15 a16 a17 a18 a19 a20 : Nat → Int32} {p0 : Int32} (h : os_inv f0 f1 a1 a2 a3 a4 a6 a7 a8 a9 a10) (H : ∀ (r : Int32) (f0 f1 : Int32) (a1 a2 a3 a4 a5 a6 a7 a8 a9 a10 a11 : Nat → Int32), os_inv f0 f1 a1 a2 a3 a4 a6 a7 a8 a9 a10 → post r (f0, f1, f2, a1, a2, a3, a4, a5, a6, a7, a8, a9, a10, a11, a12, a13, a14, a15, a16, a17, a18, a19, a20)) : wpX_forget post (f0, f1, f2, a1, a2, a3, a4, a5, a6, a7, a8, a9, a10, a11, a12, a13, a14, a15, a16, a17, a18, a19, a20) p0 := by
  unfold wpX_forget
  exact os_it (br_t rfl (H _ _ _ _ _ _ _ _ _ _ _ _ _ _ h)) (fun j hj e => br_f (by decide) ⟨pk_in j 3 hj e, nm_e ⟨pk_in j 3 hj e, nm_e (H _ _ _ _ _ _ _ _ _ _ _ _ _ _ (by
    obtain ⟨n, h0, h1, h2, w1, w2, w3, w4, w6, w12, wn⟩ := h
    exact ⟨n, h0, h1, h2, w1, w2, w3, os_u (P := fun z => ∃ j, j ≤ 4 ∧ z = nI j) w4 ⟨0, by omega, rfl⟩, w6, w12, wn⟩))⟩⟩)
theorem os_oC {post : Int32 → St1 → Prop} {f0 f1 f2 : Int32} {a1 a2 a3 a4 a5 a6 a7 a8 a9 a10 a11 a12 a13 a14 a15 a16 a17 a18 a19 a20 : Nat → Int32} (h : os_inv f0 f1 a1 a2 a3 a4 a6 a7 a8 a9 a10) (H : ∀ (r : Int32) (f0 f1 : Int32) (a1 a2 a3 a4 a5 a6 a7 a8 a9 a10 a11 : Nat → Int32), os_inv f0 f1 a1 a2 a3 a4 a6 a7 a8 a9 a10 → post r (f0, f1, f2, a1, a2, a3, a4, a5, a6, a7, a8, a9, a10, a11, a12, a13, a14, a15, a16, a17, a18, a19, a20)) : wpX_clear post (f0, f1, f2, a1, a2, a3, a4, a5, a6, a7, a8, a9, a10, a11, a12, a13, a14, a15, a16, a17, a18, a19, a20) :=
  pk_loop (fun m i s => wX_clear_7 post f0 f0 f1 f2 m (nI i) a1 a2 a3 a4 a5 a6 a7 a8 a9 a10 s a12 a13 a14 a15 a16 a17 a18 a19 a20) (fun _ _ => True) 12 0 a11 (by omega) trivial
    (fun m s _ => pk_le 12 12 (fun _ => H _ _ _ _ _ _ _ _ _ _ _ _ _ _ (by
      obtain ⟨n, h0, h1, h2, w1, w2, w3, w4, w6, w12, wn⟩ := h
      exact ⟨0, rfl, rfl, by show 0 ≤ 3; omega, w1, w2, w3, w4, w6, by omega, fun k hk => absurd hk (by omega)⟩)) (fun z => absurd z (by omega)))
    (fun m i s hi _ hw => pk_le 12 i (fun z => absurd z (by omega)) (fun _ => ⟨pk_in i 12 hi, nm_e (nm_r (nI_1 i) (hw _ trivial))⟩))
theorem os_nd_ag {a7 a8 a9 a10 b7 b8 b9 b10 : Nat → Int32} {k : Nat} (h : os_nd a7 a8 a9 a10 k) (e7 : b7 k = a7 k) (e8 : b8 k = a8 k) (e9 : b9 k = a9 k) (e10 : b10 k = a10 k) : os_nd b7 b8 b9 b10 k := by
  unfold os_nd
  rw [e7, e8, e9, e10]
  exact h
theorem os_nn {post : Int32 → St1 → Prop} {f0 f1 f2 : Int32} {a1 a2 a3 a4 a5 a6 a7 a8 a9 a10 a11 a12 a13 a14 a15 a16 a17 a18 a19 a20 : Nat → Int32} {p0 p1 : Int32} {n : Nat} (e0 : f0 = nI n) (hn : n < 12) (wf : os_wf a1 a2 a3 a4 a6 a7 a8 a9 a10 n) (e1 : f1 = nI (os_na a7 n + (if p0 = 3 then 1 else 0))) (h3 : os_na a7 n + (if p0 = 3 then 1 else 0) ≤ 3)
    (hnd : os_nd (upd a7 n p0) (upd a8 n p1) a9 a10 n) (H : ∀ (r : Int32) (f0 f1 : Int32) (a1 a2 a3 a4 a5 a6 a7 a8 a9 a10 a11 : Nat → Int32), os_inv f0 f1 a1 a2 a3 a4 a6 a7 a8 a9 a10 → post r (f0, f1, f2, a1, a2, a3, a4, a5, a6, a7, a8, a9, a10, a11, a12, a13, a14, a15, a16, a17, a18, a19, a20)) : wpX_newNode post (f0, f1, f2, a1, a2, a3, a4, a5, a6, a7, a8, a9, a10, a11, a12, a13, a14, a15, a16, a17, a18, a19, a20) p0 p1 := by
  subst e0
  refine ⟨pk_in n 12 hn, nm_r (e' := upd a7 n p0) (by rw [nI_clamp (show n < 2 ^ 31 by omega)]) ⟨pk_in n 12 hn, nm_r (e' := upd a8 n p1) (by rw [nI_clamp (show n < 2 ^ 31 by omega)]) (nm_r (nI_1 n) (H _ _ _ _ _ _ _ _ _ _ _ _ _ _ ?_))⟩⟩
  obtain ⟨w1, w2, w3, w4, w6, w12, wn⟩ := wf
  have e : os_na (upd a7 n p0) (n + 1) = os_na a7 n + (if p0 = 3 then 1 else 0) := by
    show os_na (upd a7 n p0) n + (if upd a7 n p0 n = 3 then 1 else 0) = _
    rw [pk_us, os_na_congr (g := a7) (fun k hk => pk_un (by omega))]
  refine ⟨n + 1, rfl, by rw [e, e1], by rw [e]; exact h3, w1, w2, w3, w4, w6, by omega, fun k hk => ?_⟩
  by_cases ek : k = n
  · rw [ek]
    exact hnd
  · exact os_nd_ag (wn k (by omega)) (pk_un ek) (pk_un ek) rfl rfl
theorem os_oN {post : Int32 → St1 → Prop} {f0 f1 f2 : Int32} {a1 a2 a3 a4 a5 a6 a7 a8 a9 a10 a11 a12 a13 a14 a15 a16 a17 a18 a19 a20 : Nat → Int32} {p0 p1 : Int32} (h : os_inv f0 f1 a1 a2 a3 a4 a6 a7 a8 a9 a10) (h12 : ¬ f0 = 12) (hp : p0 ≠ 3) (hnd : ∀ b7 b8 b9 b10 : Nat → Int32, ∀ k, b7 k = p0 → b8 k = p1 → os_nd b7 b8 b9 b10 k)
    (H : ∀ (r : Int32) (f0 f1 : Int32) (a1 a2 a3 a4 a5 a6 a7 a8 a9 a10 a11 : Nat → Int32), os_inv f0 f1 a1 a2 a3 a4 a6 a7 a8 a9 a10 → post r (f0, f1, f2, a1, a2, a3, a4, a5, a6, a7, a8, a9, a10, a11, a12, a13, a14, a15, a16, a17, a18, a19, a20)) : wpX_newNode post (f0, f1, f2, a1, a2, a3, a4, a5, a6, a7, a8, a9, a10, a11, a12, a13, a14, a15, a16, a17, a18, a19, a20) p0 p1 := by
  obtain ⟨n, h0, h1, h2, wf⟩ := h
  have hn : n < 12 := by
    have : n ≤ 12 := wf.2.2.2.2.2.1
    by_cases e : n = 12
    · rw [h0, e] at h12
      exact absurd rfl h12
    · omega
  exact os_nn h0 hn wf (by rw [if_neg hp, Nat.add_zero]; exact h1) (by rw [if_neg hp]; exact h2) (hnd _ _ _ _ n pk_us pk_us) H
theorem os_oK {post : Int32 → St1 → Prop} {f0 f1 f2 : Int32} {a1 a2 a3 a4 a5 a6 a7 a8 a9 a10 a11 a12 a13 a14 a15 a16 a17 a18 a19 a20 : Nat → Int32} {p0 : Int32} (h : os_inv f0 f1 a1 a2 a3 a4 a6 a7 a8 a9 a10) (H : ∀ (r : Int32) (f0 f1 : Int32) (a1 a2 a3 a4 a5 a6 a7 a8 a9 a10 a11 : Nat → Int32), os_inv f0 f1 a1 a2 a3 a4 a6 a7 a8 a9 a10 → post r (f0, f1, f2, a1, a2, a3, a4, a5, a6, a7, a8, a9, a10, a11, a12, a13, a14, a15, a16, a17, a18, a19, a20)) : wpX_constant post (f0, f1, f2, a1, a2, a3, a4, a5, a6, a7, a8, a9, a10, a11, a12, a13, a14, a15, a16, a17, a18, a19, a20) p0 := by
  unfold wpX_constant
  exact os_it (br_t rfl (H _ _ _ _ _ _ _ _ _ _ _ _ _ _ h)) (fun j hj e => br_f (by decide) (br_c (fun _ => H _ _ _ _ _ _ _ _ _ _ _ _ _ _ h) (fun z => os_oN h z (by decide) (fun b7 b8 b9 b10 k e7 e8 => Or.inr (Or.inr (Or.inl ⟨e7, j, hj, e8.trans e⟩))) H)))
theorem os_oU1 {post : Int32 → St1 → Prop} {f0 f1 f2 : Int32} {a1 a2 a3 a4 a5 a6 a7 a8 a9 a10 a11 a12 a13 a14 a15 a16 a17 a18 a19 a20 : Nat → Int32} {p0 : Int32} {v : Nat} (hv : v < 2) (e : p0 = nI v) (h : os_inv f0 f1 a1 a2 a3 a4 a6 a7 a8 a9 a10) (H : ∀ (r : Int32) (f0 f1 : Int32) (a1 a2 a3 a4 a5 a6 a7 a8 a9 a10 a11 : Nat → Int32), os_inv f0 f1 a1 a2 a3 a4 a6 a7 a8 a9 a10 → post r (f0, f1, f2, a1, a2, a3, a4, a5, a6, a7, a8, a9, a10, a11, a12, a13, a14, a15, a16, a17, a18, a19, a20)) : wX_use_11 post p0 f0 f1 f2 a1 a2 a3 a4 a5 a6 a7 a8 a9 a10 a11 a12 a13 a14 a15 a16 a17 a18 a19 a20 :=
  br_c (fun _ => H _ _ _ _ _ _ _ _ _ _ _ _ _ _ h) (fun z => os_oN h z (by decide) (fun b7 b8 b9 b10 k e7 e8 => Or.inr (Or.inl ⟨e7, v, hv, e8.trans e⟩)) H)
theorem os_oU {post : Int32 → St1 → Prop} {f0 f1 f2 : Int32} {a1 a2 a3 a4 a5 a6 a7 a8 a9 a10 a11 a12 a13 a14 a15 a16 a17 a18 a19 a20 : Nat → Int32} {p0 : Int32} (h : os_inv f0 f1 a1 a2 a3 a4 a6 a7 a8 a9 a10) (H : ∀ (r : Int32) (f0 f1 : Int32) (a1 a2 a3 a4 a5 a6 a7 a8 a9 a10 a11 : Nat → Int32), os_inv f0 f1 a1 a2 a3 a4 a6 a7 a8 a9 a10 → post r (f0, f1, f2, a1, a2, a3, a4, a5, a6, a7, a8, a9, a10, a11, a12, a13, a14, a15, a16, a17, a18, a19, a20)) : wpX_use post (f0, f1, f2, a1, a2, a3, a4, a5, a6, a7, a8, a9, a10, a11, a12, a13, a14, a15, a16, a17, a18, a19, a20) p0 :=
  br_c (fun e => os_oU1 (v := 0) (by omega) e h H) (fun _ => br_c (fun e => os_oU1 (v := 1) (by omega) e h H) (fun _ => H _ _ _ _ _ _ _ _ _ _ _ _ _ _ h))
theorem os_oL {post : Int32 → St1 → Prop} {f0 f1 f2 : Int32} {a1 a2 a3 a4 a5 a6 a7 a8 a9 a10 a11 a12 a13 a14 a15 a16 a17 a18 a19 a20 : Nat → Int32} {p0 : Int32} (h : os_inv f0 f1 a1 a2 a3 a4 a6 a7 a8 a9 a10) (H : ∀ (r : Int32) (f0 f1 : Int32) (a1 a2 a3 a4 a5 a6 a7 a8 a9 a10 a11 : Nat → Int32), os_inv f0 f1 a1 a2 a3 a4 a6 a7 a8 a9 a10 → post r (f0, f1, f2, a1, a2, a3, a4, a5, a6, a7, a8, a9, a10, a11, a12, a13, a14, a15, a16, a17, a18, a19, a20)) : wpX_literal post (f0, f1, f2, a1, a2, a3, a4, a5, a6, a7, a8, a9, a10, a11, a12, a13, a14, a15, a16, a17, a18, a19, a20) p0 :=
  br_c (fun _ => H _ _ _ _ _ _ _ _ _ _ _ _ _ _ h) (fun _ => br_c (fun _ => br_c (fun _ => H _ _ _ _ _ _ _ _ _ _ _ _ _ _ h) (fun z => os_oN h z (by decide) (fun b7 b8 b9 b10 k e7 e8 => Or.inl e7) H)) (fun _ => H _ _ _ _ _ _ _ _ _ _ _ _ _ _ h))
theorem os_oT {post : Int32 → St1 → Prop} {f0 f1 f2 : Int32} {a1 a2 a3 a4 a5 a6 a7 a8 a9 a10 a11 a12 a13 a14 a15 a16 a17 a18 a19 a20 : Nat → Int32} {p0 p1 : Int32} (h : os_inv f0 f1 a1 a2 a3 a4 a6 a7 a8 a9 a10) (H : ∀ (r : Int32) (f0 f1 : Int32) (a1 a2 a3 a4 a5 a6 a7 a8 a9 a10 a11 : Nat → Int32), os_inv f0 f1 a1 a2 a3 a4 a6 a7 a8 a9 a10 → post r (f0, f1, f2, a1, a2, a3, a4, a5, a6, a7, a8, a9, a10, a11, a12, a13, a14, a15, a16, a17, a18, a19, a20)) : wpX_literalCost post (f0, f1, f2, a1, a2, a3, a4, a5, a6, a7, a8, a9, a10, a11, a12, a13, a14, a15, a16, a17, a18, a19, a20) p0 p1 := by
  unfold wpX_literalCost
  exact os_it (br_t rfl (H _ _ _ _ _ _ _ _ _ _ _ _ _ _ h)) (fun j hj e => br_f (by decide) (br_c (fun _ => H _ _ _ _ _ _ _ _ _ _ _ _ _ _ h) (fun g0 => br_c (fun g9 => ⟨pk_in j 3 hj e, nm_e (H _ _ _ _ _ _ _ _ _ _ _ _ _ _ (by
    obtain ⟨n, h0, h1, h2, w1, w2, w3, w4, w6, w12, wn⟩ := h
    exact ⟨n, h0, h1, h2, w1, w2, w3, w4, os_u (P := fun z => ∃ j, j ≤ 9 ∧ z = nI j) w6 (nI_of2 (M := 9) (n := 9) (by decide) g0 g9), w12, wn⟩))⟩) (fun _ => H _ _ _ _ _ _ _ _ _ _ _ _ _ _ h))))
theorem os_oD1 {post : Int32 → St1 → Prop} {f0 f1 f2 : Int32} {a1 a2 a3 a4 a5 a6 a7 a8 a9 a10 a11 a12 a13 a14 a15 a16 a17 a18 a19 a20 : Nat → Int32} {p0 p1 : Int32} {v : Nat} (hv : v < 2) (e : p0 = nI v) (h : os_inv f0 f1 a1 a2 a3 a4 a6 a7 a8 a9 a10) (H : ∀ (r : Int32) (f0 f1 : Int32) (a1 a2 a3 a4 a5 a6 a7 a8 a9 a10 a11 : Nat → Int32), os_inv f0 f1 a1 a2 a3 a4 a6 a7 a8 a9 a10 → post r (f0, f1, f2, a1, a2, a3, a4, a5, a6, a7, a8, a9, a10, a11, a12, a13, a14, a15, a16, a17, a18, a19, a20)) : wX_declare_11 post p0 p1 f0 f1 f2 a1 a2 a3 a4 a5 a6 a7 a8 a9 a10 a11 a12 a13 a14 a15 a16 a17 a18 a19 a20 :=
  br_c (fun _ => H _ _ _ _ _ _ _ _ _ _ _ _ _ _ h) (fun _ => br_c (fun _ => ⟨pk_in v 2 hv e, nm_e ⟨pk_in v 2 hv e, nm_e (H _ _ _ _ _ _ _ _ _ _ _ _ _ _ h)⟩⟩) (fun _ => H _ _ _ _ _ _ _ _ _ _ _ _ _ _ h))
theorem os_oD {post : Int32 → St1 → Prop} {f0 f1 f2 : Int32} {a1 a2 a3 a4 a5 a6 a7 a8 a9 a10 a11 a12 a13 a14 a15 a16 a17 a18 a19 a20 : Nat → Int32} {p0 p1 : Int32} (h : os_inv f0 f1 a1 a2 a3 a4 a6 a7 a8 a9 a10) (H : ∀ (r : Int32) (f0 f1 : Int32) (a1 a2 a3 a4 a5 a6 a7 a8 a9 a10 a11 : Nat → Int32), os_inv f0 f1 a1 a2 a3 a4 a6 a7 a8 a9 a10 → post r (f0, f1, f2, a1, a2, a3, a4, a5, a6, a7, a8, a9, a10, a11, a12, a13, a14, a15, a16, a17, a18, a19, a20)) : wpX_declare post (f0, f1, f2, a1, a2, a3, a4, a5, a6, a7, a8, a9, a10, a11, a12, a13, a14, a15, a16, a17, a18, a19, a20) p0 p1 :=
  br_c (fun e => os_oD1 (v := 0) (by omega) e h H) (fun _ => br_c (fun e => os_oD1 (v := 1) (by omega) e h H) (fun _ => H _ _ _ _ _ _ _ _ _ _ _ _ _ _ h))
theorem os_oO {post : Int32 → St1 → Prop} {f0 f1 f2 : Int32} {a1 a2 a3 a4 a5 a6 a7 a8 a9 a10 a11 a12 a13 a14 a15 a16 a17 a18 a19 a20 : Nat → Int32} {p0 p1 p2 : Int32} (h : os_inv f0 f1 a1 a2 a3 a4 a6 a7 a8 a9 a10) (H : ∀ (r : Int32) (f0 f1 : Int32) (a1 a2 a3 a4 a5 a6 a7 a8 a9 a10 a11 : Nat → Int32), os_inv f0 f1 a1 a2 a3 a4 a6 a7 a8 a9 a10 → post r (f0, f1, f2, a1, a2, a3, a4, a5, a6, a7, a8, a9, a10, a11, a12, a13, a14, a15, a16, a17, a18, a19, a20)) : wpX_overload post (f0, f1, f2, a1, a2, a3, a4, a5, a6, a7, a8, a9, a10, a11, a12, a13, a14, a15, a16, a17, a18, a19, a20) p0 p1 p2 := by
  unfold wpX_overload
  refine os_it (br_t rfl (H _ _ _ _ _ _ _ _ _ _ _ _ _ _ h)) (fun j hj e => br_f (by decide) (br_c (fun _ => H _ _ _ _ _ _ _ _ _ _ _ _ _ _ h) (fun g0 => br_c (fun g26 => br_c (fun _ => H _ _ _ _ _ _ _ _ _ _ _ _ _ _ h) (fun k0 => br_c (fun k9 => ⟨pk_in j 3 hj e, ?_⟩) (fun _ => H _ _ _ _ _ _ _ _ _ _ _ _ _ _ h))) (fun _ => H _ _ _ _ _ _ _ _ _ _ _ _ _ _ h))))
  have hi := h
  obtain ⟨n, h0, h1, h2, w1, w2, w3, w4, w6, w12, wn⟩ := h
  obtain ⟨q, hq, eq⟩ := w4 j hj
  subst e
  have c4 : a4 (nI j).toNatClampNeg = nI q := by rw [nI_clamp (show j < 2 ^ 31 by omega), eq]
  have ci : 4 * nI j + a4 (nI j).toNatClampNeg = nI (4 * j + q) := by rw [c4]; exact os_4 j q
  refine pk_eq q 4 (fun _ => H _ _ _ _ _ _ _ _ _ _ _ _ _ _ hi) (fun z => ⟨pk_in j 3 hj, pk_in (4 * j + q) 12 (by omega) ci, nm_e ⟨pk_in j 3 hj, pk_in (4 * j + q) 12 (by omega) ci, nm_e ⟨pk_in j 3 hj, pk_in j 3 hj, nm_e ⟨pk_in j 3 hj, H _ _ _ _ _ _ _ _ _ _ _ _ _ _ ?_⟩⟩⟩⟩) c4
  refine ⟨n, h0, h1, h2, w1, os_u (P := fun z => ∃ j, j ≤ 26 ∧ z = nI j) w2 (nI_of2 (M := 26) (n := 26) (by decide) g0 g26), os_u (P := fun z => ∃ j, j ≤ 9 ∧ z = nI j) w3 (nI_of2 (M := 9) (n := 9) (by decide) k0 k9), os_u (P := fun z => ∃ j, j ≤ 4 ∧ z = nI j) w4 ⟨q + 1, by omega, ?_⟩, w6, w12, wn⟩
  rw [c4, nI_1]
theorem os_oV {post : Int32 → St1 → Prop} {f0 f1 f2 : Int32} {a1 a2 a3 a4 a5 a6 a7 a8 a9 a10 a11 a12 a13 a14 a15 a16 a17 a18 a19 a20 : Nat → Int32} {p0 p1 p2 : Int32} (h : os_inv f0 f1 a1 a2 a3 a4 a6 a7 a8 a9 a10) (H : ∀ (r : Int32) (f0 f1 : Int32) (a1 a2 a3 a4 a5 a6 a7 a8 a9 a10 a11 : Nat → Int32), os_inv f0 f1 a1 a2 a3 a4 a6 a7 a8 a9 a10 → post r (f0, f1, f2, a1, a2, a3, a4, a5, a6, a7, a8, a9, a10, a11, a12, a13, a14, a15, a16, a17, a18, a19, a20)) : wpX_convert post (f0, f1, f2, a1, a2, a3, a4, a5, a6, a7, a8, a9, a10, a11, a12, a13, a14, a15, a16, a17, a18, a19, a20) p0 p1 p2 := by
  unfold wpX_convert
  refine os_it (br_t rfl (H _ _ _ _ _ _ _ _ _ _ _ _ _ _ h)) (fun j hj e => br_f (by decide) (os_it (br_t rfl (H _ _ _ _ _ _ _ _ _ _ _ _ _ _ h)) (fun i hi e' => br_f (by decide) (br_c (fun _ => H _ _ _ _ _ _ _ _ _ _ _ _ _ _ h) (fun _ => br_c (fun _ => H _ _ _ _ _ _ _ _ _ _ _ _ _ _ h) (fun _ => br_c (fun g9 => ⟨pk_in (3 * j + i) 9 (by omega) (by rw [e, e']; exact os_ix j i), nm_e (H _ _ _ _ _ _ _ _ _ _ _ _ _ _ ?_)⟩) (fun _ => H _ _ _ _ _ _ _ _ _ _ _ _ _ _ h)))))))
  obtain ⟨n, h0, h1, h2, w1, w2, w3, w4, w6, w12, wn⟩ := h
  refine ⟨n, h0, h1, h2, os_u (P := fun z => z < 0 ∨ ∃ j, j ≤ 9 ∧ z = nI j) w1 ?_, w2, w3, w4, w6, w12, wn⟩
  by_cases g0 : p2 < 0
  · exact Or.inl g0
  · exact Or.inr (nI_of2 (M := 9) (n := 9) (by decide) g0 g9)
theorem os_oA {post : Int32 → St1 → Prop} {f0 f1 f2 : Int32} {a1 a2 a3 a4 a5 a6 a7 a8 a9 a10 a11 a12 a13 a14 a15 a16 a17 a18 a19 a20 : Nat → Int32} {p0 p1 p2 : Int32} (h : os_inv f0 f1 a1 a2 a3 a4 a6 a7 a8 a9 a10) (H : ∀ (r : Int32) (f0 f1 : Int32) (a1 a2 a3 a4 a5 a6 a7 a8 a9 a10 a11 : Nat → Int32), os_inv f0 f1 a1 a2 a3 a4 a6 a7 a8 a9 a10 → post r (f0, f1, f2, a1, a2, a3, a4, a5, a6, a7, a8, a9, a10, a11, a12, a13, a14, a15, a16, a17, a18, a19, a20)) : wpX_apply post (f0, f1, f2, a1, a2, a3, a4, a5, a6, a7, a8, a9, a10, a11, a12, a13, a14, a15, a16, a17, a18, a19, a20) p0 p1 p2 := by
  have hi := h
  obtain ⟨n, h0, h1, h2, w1, w2, w3, w4, w6, w12, wn⟩ := h
  subst h0
  unfold wpX_apply
  refine os_it (br_t rfl (H _ _ _ _ _ _ _ _ _ _ _ _ _ _ hi)) (fun j hj e => br_f (by decide) (os_in rfl w12 (br_t rfl (H _ _ _ _ _ _ _ _ _ _ _ _ _ _ hi)) (fun l hl el => br_f (by decide) (os_in rfl w12 (br_t rfl (H _ _ _ _ _ _ _ _ _ _ _ _ _ _ hi)) (fun r hr er => br_f (by decide) ?_)))))
  refine br_c (fun _ => H _ _ _ _ _ _ _ _ _ _ _ _ _ _ hi) (fun _ => ⟨pk_in l 12 (by omega) el, br_c (fun _ => ⟨pk_in r 12 (by omega) er, br_c (fun _ => pk_eq n 12 (fun _ => H _ _ _ _ _ _ _ _ _ _ _ _ _ _ hi) (fun h12 => pk_eq (os_na a7 n) 3 (fun _ => H _ _ _ _ _ _ _ _ _ _ _ _ _ _ hi) (fun h3 => ?_) h1)) (fun _ => H _ _ _ _ _ _ _ _ _ _ _ _ _ _ hi)⟩) (fun _ => H _ _ _ _ _ _ _ _ _ _ _ _ _ _ hi)⟩)
  refine ⟨pk_in l 12 (by omega) el, nm_e ⟨pk_in r 12 (by omega) er, nm_e ⟨pk_in n 12 (by omega), nm_r (e' := upd a9 n p1) (by rw [nI_clamp (show n < 2 ^ 31 by omega)]) ⟨pk_in n 12 (by omega), nm_r (e' := upd a10 n p2) (by rw [nI_clamp (show n < 2 ^ 31 by omega)]) (nm_e ?_)⟩⟩⟩⟩
  refine os_nn rfl (by omega) ⟨w1, w2, w3, w4, w6, w12, fun k hk => os_nd_ag (wn k hk) rfl rfl (pk_un (by omega)) (pk_un (by omega))⟩ (by rw [h1, nI_1]; rfl) (by show os_na a7 n + 1 ≤ 3; omega) ?_ (fun r => H r)
  exact Or.inr (Or.inr (Or.inr ⟨pk_us, ⟨j, hj, by rw [pk_us, e]⟩, ⟨l, hl, by rw [pk_us, el]⟩, ⟨r, hr, by rw [pk_us, er]⟩⟩))
theorem os_211 {post : St1 → Prop} {f0 f1 f2 : Int32} {a1 a2 a3 a4 a5 a6 a7 a8 a9 a10 a11 a12 a13 a14 a15 a16 a17 a18 a19 a20 : Nat → Int32} {p1 p2 p3 : Int32} (h : os_inv f0 f1 a1 a2 a3 a4 a6 a7 a8 a9 a10) (H : ∀ (f0 f1 : Int32) (a1 a2 a3 a4 a5 a6 a7 a8 a9 a10 a11 : Nat → Int32), os_inv f0 f1 a1 a2 a3 a4 a6 a7 a8 a9 a10 → post (f0, f1, f2, a1, a2, a3, a4, a5, a6, a7, a8, a9, a10, a11, a12, a13, a14, a15, a16, a17, a18, a19, a20)) : wL_turn_211 post p1 p2 p3 f0 f1 f2 a1 a2 a3 a4 a5 a6 a7 a8 a9 a10 a11 a12 a13 a14 a15 a16 a17 a18 a19 a20 :=
  br_c (fun _ => br_c (fun _ => ⟨by decide, os_oF h (fun _ => H)⟩) (fun _ => H _ _ _ _ _ _ _ _ _ _ _ _ _ h)) (fun _ => H _ _ _ _ _ _ _ _ _ _ _ _ _ h)
theorem os_190 {post : St1 → Prop} {f0 f1 f2 : Int32} {a1 a2 a3 a4 a5 a6 a7 a8 a9 a10 a11 a12 a13 a14 a15 a16 a17 a18 a19 a20 : Nat → Int32} {p1 p2 p3 : Int32} (h : os_inv f0 f1 a1 a2 a3 a4 a6 a7 a8 a9 a10) (H : ∀ (f0 f1 : Int32) (a1 a2 a3 a4 a5 a6 a7 a8 a9 a10 a11 : Nat → Int32), os_inv f0 f1 a1 a2 a3 a4 a6 a7 a8 a9 a10 → post (f0, f1, f2, a1, a2, a3, a4, a5, a6, a7, a8, a9, a10, a11, a12, a13, a14, a15, a16, a17, a18, a19, a20)) : wL_turn_190 post p1 p2 p3 f0 f1 f2 a1 a2 a3 a4 a5 a6 a7 a8 a9 a10 a11 a12 a13 a14 a15 a16 a17 a18 a19 a20 :=
  br_c (fun _ => br_c (fun _ => os_oC h (fun _ => H)) (fun _ => os_211 h H)) (fun _ => os_211 h H)
/-- one turn of the law keeps the object well made -/
theorem os_tu {post : St1 → Prop} {f0 f1 f2 : Int32} {a1 a2 a3 a4 a5 a6 a7 a8 a9 a10 a11 a12 a13 a14 a15 a16 a17 a18 a19 a20 : Nat → Int32} {p1 p2 p3 : Int32} (h : os_inv f0 f1 a1 a2 a3 a4 a6 a7 a8 a9 a10) (H : ∀ (f0 f1 : Int32) (a1 a2 a3 a4 a5 a6 a7 a8 a9 a10 a11 : Nat → Int32), os_inv f0 f1 a1 a2 a3 a4 a6 a7 a8 a9 a10 → post (f0, f1, f2, a1, a2, a3, a4, a5, a6, a7, a8, a9, a10, a11, a12, a13, a14, a15, a16, a17, a18, a19, a20)) : wpL_turn post (f0, f1, f2, a1, a2, a3, a4, a5, a6, a7, a8, a9, a10, a11, a12, a13, a14, a15, a16, a17, a18, a19, a20) p1 p2 p3 :=
  br_c (fun _ => br_c (fun _ => br_c (fun _ => ⟨by decide, os_oD h (fun _ => H)⟩) (fun _ => br_c (fun _ => ⟨by decide, by decide, os_oT h (fun _ => H)⟩) (fun _ => br_c
      (fun _ => br_c (fun _ => os_oU h (fun _ => H)) (fun _ => br_c (fun _ => ⟨by decide, os_oK h (fun _ => H)⟩) (fun _ => br_c (fun _ => os_190 h H) (fun _ => br_c (fun _ => os_190 h H) (fun z => by
        have z0 : ¬ f0 = 0 := fun e => z (by rw [e]; decide)
        exact ⟨by decide, z0, z0, os_oA h (fun _ => H)⟩)))))
      (fun _ => ⟨by decide, os_oL h (fun _ => H)⟩)))) (fun _ => ⟨by decide, by decide, by decide, os_oO h (fun _ => H)⟩)) (fun _ => ⟨by decide, by decide, by decide, os_oV h (fun _ => H)⟩)
end
section
theorem os_ce {post : Int32 → Prop} {L : Nat} {xs : Nat → Int32} {p : Int32} {k : Nat} (hL : L ≤ 260) (e : p = nI k) (hk : k < 1000) (H : ∀ r, post r) : wpL_cell post L xs () p :=
  pk_le L k (fun _ => H _) (fun z => ⟨pk_in k L z e, H _⟩) (by rfl) e
theorem os_l80 {post : Int32 → Prop} {L : Nat} {xs : Nat → Int32} {J : Int32 → Int32 → Int32 → Int32 → (Nat → Int32) → (Nat → Int32) → (Nat → Int32) → (Nat → Int32) → (Nat → Int32) → (Nat → Int32) → (Nat → Int32) → (Nat → Int32) → (Nat → Int32) → (Nat → Int32) → (Nat → Int32) → (Nat → Int32) → (Nat → Int32) → (Nat → Int32) → (Nat → Int32) → (Nat → Int32) → (Nat → Int32) → (Nat → Int32) → (Nat → Int32) → (Nat → Int32) → Prop}
    {f0 f1 f2 : Int32} {a1 a2 a3 a4 a5 a6 a7 a8 a9 a10 a11 a12 a13 a14 a15 a16 a17 a18 a19 a20 : Nat → Int32} {x2 x2' x3 x5 : Int32} {kc ks : Nat} (h : os_inv f0 f1 a1 a2 a3 a4 a6 a7 a8 a9 a10) (e : x2 + 2 = x2') (H : ∀ (u : Int32) (v12 v13 v14 v15 v16 v17 : Nat → Int32), J x2' f0 f1 u a1 a2 a3 a4 a5 a6 a7 a8 a9 a10 a11 v12 v13 v14 v15 v16 v17 a18 a19 a20) :
    wL_law_80 post L xs J x2 x3 x5 kc ks f0 f1 f2 a1 a2 a3 a4 a5 a6 a7 a8 a9 a10 a11 a12 a13 a14 a15 a16 a17 a18 a19 a20 := by
  obtain ⟨n, h0, h1, h2, wf⟩ := h
  obtain ⟨w, hw, ew⟩ := pk_andE (x3 >>> ((15 : Int32) &&& 31)) (m := 3) 2 (by decide)
  exact br_c (fun _ => nm_r e (H _ _ _ _ _ _ _)) (fun hp => br_c (fun _ => os_ho h0 wf h2 hp ew (by omega) (fun u v12 v13 v14 v15 v16 v17 => br_f (by decide) (nm_r e (H _ _ _ _ _ _ _)))) (fun _ => nm_r e (H _ _ _ _ _ _ _)))
theorem os_l10 {L : Nat} {xs : Nat → Int32} (hL : L ≤ 260) {kc ks : Nat} {f0 f1 f2 : Int32} {a1 a2 a3 a4 a5 a6 a7 a8 a9 a10 a11 a12 a13 a14 a15 a16 a17 a18 a19 a20 : Nat → Int32} (h : os_inv f0 f1 a1 a2 a3 a4 a6 a7 a8 a9 a10) : ∃ n, wL_law_10 (fun r => r = 1) L xs kc ks n 0 f0 f1 f2 a1 a2 a3 a4 a5 a6 a7 a8 a9 a10 a11 a12 a13 a14 a15 a16 a17 a18 a19 a20 := by
  refine pk_loop (fun m i (s : St1) => wL_law_10 (fun r => r = 1) L xs kc ks m (nI (2 * i)) s.1 s.2.1 s.2.2.1 s.2.2.2.1 s.2.2.2.2.1 s.2.2.2.2.2.1 s.2.2.2.2.2.2.1 s.2.2.2.2.2.2.2.1 s.2.2.2.2.2.2.2.2.1 s.2.2.2.2.2.2.2.2.2.1 s.2.2.2.2.2.2.2.2.2.2.1 s.2.2.2.2.2.2.2.2.2.2.2.1 s.2.2.2.2.2.2.2.2.2.2.2.2.1 s.2.2.2.2.2.2.2.2.2.2.2.2.2.1 s.2.2.2.2.2.2.2.2.2.2.2.2.2.2.1 s.2.2.2.2.2.2.2.2.2.2.2.2.2.2.2.1 s.2.2.2.2.2.2.2.2.2.2.2.2.2.2.2.2.1 s.2.2.2.2.2.2.2.2.2.2.2.2.2.2.2.2.2.1 s.2.2.2.2.2.2.2.2.2.2.2.2.2.2.2.2.2.2.1 s.2.2.2.2.2.2.2.2.2.2.2.2.2.2.2.2.2.2.2.1 s.2.2.2.2.2.2.2.2.2.2.2.2.2.2.2.2.2.2.2.2.1 s.2.2.2.2.2.2.2.2.2.2.2.2.2.2.2.2.2.2.2.2.2.1 s.2.2.2.2.2.2.2.2.2.2.2.2.2.2.2.2.2.2.2.2.2.2)
    (fun _ s => os_inv s.1 s.2.1 s.2.2.2.1 s.2.2.2.2.1 s.2.2.2.2.2.1 s.2.2.2.2.2.2.1 s.2.2.2.2.2.2.2.2.1 s.2.2.2.2.2.2.2.2.2.1 s.2.2.2.2.2.2.2.2.2.2.1 s.2.2.2.2.2.2.2.2.2.2.2.1 s.2.2.2.2.2.2.2.2.2.2.2.2.1) ((L + 1) / 2) 0 (f0, f1, f2, a1, a2, a3, a4, a5, a6, a7, a8, a9, a10, a11, a12, a13, a14, a15, a16, a17, a18, a19, a20) (by omega) h ?_ ?_
  · exact fun m s _ => pk_le L (2 * ((L + 1) / 2)) (fun _ => rfl) (fun z => absurd z (by omega))
  · intro m i s hi hs hw
    obtain ⟨f0, f1, f2, a1, a2, a3, a4, a5, a6, a7, a8, a9, a10, a11, a12, a13, a14, a15, a16, a17, a18, a19, a20⟩ := s
    have hs' : os_inv f0 f1 a1 a2 a3 a4 a6 a7 a8 a9 a10 := hs
    have e2 : nI (2 * i) + 2 = nI (2 * (i + 1)) := nI_add (2 * i) 2
    have T : ∀ (f0 f1 : Int32) (a1 a2 a3 a4 a5 a6 a7 a8 a9 a10 a11 : Nat → Int32) (x3 x5 : Int32), os_inv f0 f1 a1 a2 a3 a4 a6 a7 a8 a9 a10 → wL_law_80 (fun r => r = 1) L xs (wL_law_10 (fun r => r = 1) L xs kc ks m) (nI (2 * i)) x3 x5 kc ks f0 f1 f2 a1 a2 a3 a4 a5 a6 a7 a8 a9 a10 a11 a12 a13 a14 a15 a16 a17 a18 a19 a20 :=
      fun f0 f1 a1 a2 a3 a4 a5 a6 a7 a8 a9 a10 a11 x3 x5 h => os_l80 h e2 (fun u v12 v13 v14 v15 v16 v17 => hw (f0, f1, u, a1, a2, a3, a4, a5, a6, a7, a8, a9, a10, a11, v12, v13, v14, v15, v16, v17, a18, a19, a20) h)
    exact pk_le L (2 * i) (fun z => absurd z (by omega)) (fun _ => os_ce hL rfl (by omega) (fun r => os_ce hL (nI_1 (2 * i)) (by omega) (fun q => nm_e (os_tu hs' (fun f0 f1 a1 a2 a3 a4 a5 a6 a7 a8 a9 a10 a11 h => nm_e (br_c (fun _ => ⟨by decide, nm_e (T f0 f1 a1 a2 a3 a4 a5 a6 a7 a8 a9 a10 a11 _ _ h)⟩) (fun _ => T f0 f1 a1 a2 a3 a4 a5 a6 a7 a8 a9 a10 a11 _ _ h)))))))
theorem os_ini {post : St1 → Prop} {mc ms kc ks : Nat} {f0 f1 f2 : Int32} {a1 a2 a3 a4 a5 a6 a7 a8 a9 a10 a11 a12 a13 a14 a15 a16 a17 a18 a19 a20 : Nat → Int32} (h1 : ∀ i, i < 9 → a1 i < 0 ∨ ∃ j, j ≤ 9 ∧ a1 i = nI j)
    (H : ∀ v1 : Nat → Int32, (∀ i, i < 9 → v1 i < 0 ∨ ∃ j, j ≤ 9 ∧ v1 i = nI j) → post (f0, f1, f2, v1, a2, a3, a4, upd (upd a5 0 7) 1 7, a6, a7, a8, a9, a10, a11, a12, a13, a14, a15, a16, a17, a18, a19, a20)) : ∃ n, wX_init_166 post mc ms kc ks f0 f1 f2 n 0 a1 a2 a3 a4 a5 a6 a7 a8 a9 a10 a11 a12 a13 a14 a15 a16 a17 a18 a19 a20 :=
  pk_loop (fun m i s => wX_init_166 post mc ms kc ks f0 f1 f2 m (nI i) s a2 a3 a4 a5 a6 a7 a8 a9 a10 a11 a12 a13 a14 a15 a16 a17 a18 a19 a20) (fun _ s => ∀ i, i < 9 → s i < 0 ∨ ∃ j, j ≤ 9 ∧ s i = nI j) 9 0 a1 (by omega) h1
    (fun m s h => pk_le 9 9 (fun _ => nm_e (nm_e (H s h))) (fun z => absurd z (by omega)))
    (fun m i s hi h hw => pk_le 9 i (fun z => absurd z (by omega)) (fun _ => ⟨by decide, br_c
      (fun _ => ⟨pk_in i 9 hi, nm_e (nm_r (nI_1 i) (hw _ (os_u (P := fun z => z < 0 ∨ ∃ j, j ≤ 9 ∧ z = nI j) h (Or.inr ⟨0, by omega, rfl⟩))))⟩)
      (fun _ => ⟨pk_in i 9 hi, nm_e (nm_r (nI_1 i) (hw _ (os_u (P := fun z => z < 0 ∨ ∃ j, j ≤ 9 ∧ z = nI j) h (Or.inl (by decide)))))⟩)⟩))
theorem i_vc (xs : Nat → Int32) (L : Nat) (hL : L ≤ 260) : wpL_law (fun r => r = 1) L xs := by
  refine ⟨20, 5143, by omega, by omega, ?_⟩
  refine ⟨by omega, by omega, by omega, by omega, by omega, by omega, by omega, by omega, by omega, by omega, by omega, by omega, by omega, by omega, by omega, by omega, by omega, by omega, by omega, by omega,
    by omega, by omega, by omega, by omega, by omega, by omega, by omega, by omega, by omega, by omega, by omega, by omega, by omega, by omega, by omega, by omega, by omega, by omega, by omega, by omega, ?_⟩
  refine os_ini (fun i _ => Or.inr ⟨0, by omega, rfl⟩) (fun v1 h1 => ?_)
  refine os_l10 hL ⟨0, rfl, rfl, by show 0 ≤ 3; omega, h1, fun i _ => ⟨0, by omega, rfl⟩, fun i _ => ⟨0, by omega, rfl⟩, fun i _ => ⟨0, by omega, rfl⟩, fun i _ => ⟨0, by omega, rfl⟩, by omega, fun k hk => absurd hk (by omega)⟩
end
