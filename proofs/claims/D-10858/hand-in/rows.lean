section
/-! the tables, as they stand when filled -/
def ro_fL : List Nat := [1, 1, 2, 6, 24, 120, 720, 5040]
def ro_bL : List Nat := [1, 0, 0, 0, 0, 0, 0, 0, 1, 1, 0, 0, 0, 0, 0, 0, 1, 2, 1, 0, 0, 0, 0, 0, 1, 3, 3, 1, 0, 0, 0, 0, 1, 4, 6, 4, 1, 0, 0, 0, 1, 5, 10, 10, 5, 1, 0, 0, 1, 6, 15, 20, 15, 6, 1, 0, 1, 7, 21, 35, 35, 21, 7, 1]
def ro_gL : List Nat := [1, 1, 1, 1, 1, 1, 1, 1, 1, 1, 1, 1, 1, 1, 1, 1, 1, 2, 3, 4, 5, 6, 7, 8, 9, 10, 11, 12, 13, 14, 15, 0, 2, 5, 10, 17, 26, 37, 50, 65, 82, 101, 122, 145, 170, 197, 0, 0, 5, 15, 37, 77, 141, 235, 365, 537, 757, 1031, 1365, 1765, 2237, 0, 0, 0, 15, 52, 151, 372, 799, 1540, 2727, 4516, 7087, 10644, 15415, 21652, 0, 0, 0, 0, 52, 203, 674, 1915, 4736, 10427, 20878, 38699, 67340, 111211, 175802, 0, 0, 0, 0, 0, 203, 877, 3263, 10481, 29371, 73013, 163967, 338233, 649931, 1176701, 0, 0, 0, 0, 0, 0, 877, 4140, 17007, 60814, 190497, 529032, 1322035, 3017562, 6376149, 0, 0, 0, 0, 0, 0, 0]
def ro_nL : List Nat := [1, 0, 0, 0, 0, 0, 0, 0, 1, 1, 0, 0, 0, 0, 0, 0, 1, 2, 2, 0, 0, 0, 0, 0, 1, 3, 5, 5, 0, 0, 0, 0, 1, 4, 9, 14, 14, 0, 0, 0, 1, 5, 14, 28, 42, 42, 0, 0, 1, 6, 20, 48, 90, 132, 132, 0, 1, 7, 27, 75, 165, 297, 429, 429]
def ro_fT (j : Nat) : Nat := ro_fL.getD j 0
def ro_bT (j : Nat) : Nat := ro_bL.getD j 0
def ro_gT (j : Nat) : Nat := ro_gL.getD j 0
def ro_nT (j : Nat) : Nat := ro_nL.getD j 0
/-- a table filled below p -/
def ro_tab (f : Nat → Nat) (p : Nat) : Nat → Int32 := fun j => if j < p then nI (f j) else 0
theorem ro_tab_0 (f : Nat → Nat) : (fun _ => 0 : Nat → Int32) = ro_tab f 0 := by
  funext j
  show (0 : Int32) = if j < 0 then nI (f j) else 0
  rw [if_neg (by omega)]
theorem ro_tab_s {f : Nat → Nat} {p q : Nat} {x : Int32} (hq : q = p) (hx : x = nI (f p)) : upd (ro_tab f p) q x = ro_tab f (p + 1) := by
  rw [hq, hx]
  funext j
  show (if j = p then nI (f p) else (if j < p then nI (f j) else 0)) = (if j < p + 1 then nI (f j) else 0)
  by_cases h : j = p
  · rw [if_pos h, if_pos (by omega), h]
  · rw [if_neg h]
    by_cases h2 : j < p
    · rw [if_pos h2, if_pos (by omega)]
    · rw [if_neg h2, if_neg (by omega)]
theorem ro_tab_r {f : Nat → Nat} {p j : Nat} (h : j < p) : ro_tab f p j = nI (f j) := if_pos h
theorem ro_tab_k {f : Nat → Nat} {p q : Nat} (h : p ≤ q) (h0 : ∀ j, p ≤ j → j < q → f j = 0) : ro_tab f p = ro_tab f q := by
  funext j
  show (if j < p then nI (f j) else 0) = (if j < q then nI (f j) else 0)
  by_cases h1 : j < p
  · rw [if_pos h1, if_pos (by omega)]
  · rw [if_neg h1]
    by_cases h2 : j < q
    · rw [if_pos h2, h0 j (by omega) h2, nI_0]
    · rw [if_neg h2]
def ro_TB : Nat → Int32 := ro_tab ro_bT 64
def ro_TG : Nat → Int32 := ro_tab ro_gT 128
def ro_TN : Nat → Int32 := ro_tab ro_nT 64
def ro_TF : Nat → Int32 := ro_tab ro_fT 8
theorem ro_TBr {j : Nat} (h : j < 64) : ro_TB j = nI (ro_bT j) := if_pos h
theorem ro_TGr {j : Nat} (h : j < 128) : ro_TG j = nI (ro_gT j) := if_pos h
theorem ro_TNr {j : Nat} (h : j < 64) : ro_TN j = nI (ro_nT j) := if_pos h
theorem ro_TFr {j : Nat} (h : j < 8) : ro_TF j = nI (ro_fT j) := if_pos h
/-! the tables' own laws -/
theorem ro_frec : ∀ a, a < 8 → 1 ≤ a → ro_fT a = a * ro_fT (a - 1) := by decide +kernel
theorem ro_brec : ∀ a, a < 8 → ∀ i, i < a + 1 → 1 ≤ i → ro_bT (8 * a + i) = ro_bT (8 * a - 8 + i - 1) + (if i < a then ro_bT (8 * a - 8 + i) else 0) := by decide +kernel
theorem ro_b1 : ∀ a, a < 8 → ro_bT (8 * a) = 1 := by decide +kernel
theorem ro_bz : ∀ a, a < 8 → ∀ j, j < 64 → 8 * a + (a + 1) ≤ j → j < 8 * (a + 1) → ro_bT j = 0 := by decide +kernel
theorem ro_g1 : ∀ i, i < 16 → ro_gT i = 1 := by decide +kernel
theorem ro_grec : ∀ b, b < 8 → 1 ≤ b → ∀ i, i < 16 - b → ro_gT (16 * b + i) = i * ro_gT (16 * b - 16 + i) + ro_gT (16 * b - 15 + i) := by decide +kernel
theorem ro_gz : ∀ b, b < 8 → ∀ j, j < 128 → 16 * b + (16 - b) ≤ j → j < 16 * (b + 1) → ro_gT j = 0 := by decide +kernel
theorem ro_nrec : ∀ a, a < 8 → ∀ i, i < a + 1 → (if a = 0 then 1 else 0) + (if 0 < i then ro_nT (8 * a + i - 1) else 0) + (if i < a then ro_nT (8 * a - 8 + i) else 0) = ro_nT (8 * a + i) := by decide +kernel
theorem ro_nz : ∀ a, a < 8 → ∀ j, j < 64 → 8 * a + (a + 1) ≤ j → j < 8 * (a + 1) → ro_nT j = 0 := by decide +kernel
theorem ro_bk {a : Nat} (ha : a < 8) : ro_tab ro_bT (8 * a + (a + 1)) = ro_tab ro_bT (8 * (a + 1)) := ro_tab_k (by omega) (fun j h1 h2 => ro_bz a ha j (by omega) h1 h2)
theorem ro_gk {b : Nat} (hb : b < 8) : ro_tab ro_gT (16 * b + (16 - b)) = ro_tab ro_gT (16 * (b + 1)) := ro_tab_k (by omega) (fun j h1 h2 => ro_gz b hb j (by omega) h1 h2)
theorem ro_nk {a : Nat} (ha : a < 8) : ro_tab ro_nT (8 * a + (a + 1)) = ro_tab ro_nT (8 * (a + 1)) := ro_tab_k (by omega) (fun j h1 h2 => ro_nz a ha j (by omega) h1 h2)
/-! the picture: what a prefix is remembered by, how many objects go on, what may come -/
def ro_ws (m : Nat) : Nat → Nat
  | 0 => 1
  | k + 1 => if k = 0 then 1 else ro_ws m k * (m + k) / k
def ro_st (s a x : Nat) : Nat := match s with
  | 0 => x + 1
  | 1 => a ||| 2 ^ x
  | 2 => max a (x + 1)
  | _ => a + x
def ro_acc (s : Nat) (t : Nat → Nat) : Nat → Nat
  | 0 => 0
  | i + 1 => ro_st s (ro_acc s t i) (t i)
def ro_gn (s n l i a : Nat) : Nat := match s with
  | 0 => if l ≤ n - a then ro_bT (8 * (n - a) + l) else 0
  | 1 => ro_fT l
  | 2 => ro_gT (16 * l + a)
  | 3 => ro_nT (8 * (n + a - i) + (n - a))
  | _ => if n < a then 0 else if l = 0 then (if n ≤ a then 1 else 0) else ro_ws (n - a) l
def ro_may (s n i a x : Nat) : Bool := match s with
  | 0 => decide (x < n ∧ a ≤ x)
  | 1 => decide (x < n ∧ a / 2 ^ x % 2 = 0)
  | 2 => decide (x ≤ a)
  | 3 => decide (x ≤ 1 ∧ (x = 1 → a < n) ∧ (x = 0 → i < 2 * a))
  | _ => decide (x ≤ n)
def ro_W (s n l i a x : Nat) : Nat := if ro_may s n i a x = true then ro_gn s n (l - (i + 1)) (i + 1) (ro_st s a x) else 0
def ro_sf (w : Nat → Nat) : Nat → Nat
  | 0 => 0
  | f + 1 => w (7 - f) + ro_sf w f
def ro_pc (a : Nat) : Nat := a % 2 + a / 2 % 2 + a / 4 % 2 + a / 8 % 2 + a / 16 % 2 + a / 32 % 2 + a / 64 % 2
def ro_ok (s n i a : Nat) : Bool := match s with
  | 0 => decide (a ≤ n)
  | 1 => decide (a < 2 ^ n ∧ ro_pc a = i)
  | 2 => decide (a ≤ i)
  | 3 => decide (a ≤ n ∧ a ≤ i ∧ i ≤ 2 * a)
  | _ => decide (a ≤ n)
/-- the sorts, sizes and lengths -/
def ro_sh (s n l : Nat) : Prop := s ≤ 4 ∧ 1 ≤ n ∧ n ≤ 7 ∧ ((s = 0 ∨ s = 4) ∧ l ≤ n ∨ (s = 1 ∨ s = 2) ∧ l = n ∨ s = 3 ∧ l = 2 * n)
abbrev ro_good (s n l i a : Nat) : Prop := ro_sf (ro_W s n l i a) 8 = ro_gn s n (l - i) i a ∧ ro_gn s n (l - i) i a < 1000000 ∧ ∀ x, x < 8 → ro_W s n l i a x < 1000000 ∧ (0 < ro_W s n l i a x → ro_ok s n (i + 1) (ro_st s a x) = true)
def ro_goodB (s n l i a : Nat) : Bool := decide (ro_good s n l i a)
theorem ro_id0 : ∀ n, n < 8 → ∀ l, l < n + 1 → ∀ i, i < l → ∀ a, a < n + 1 → ro_goodB 0 n l i a = true := by decide +kernel
theorem ro_id1 : ∀ n, n < 8 → ∀ i, i < n → ∀ a, a < 2 ^ n → ro_pc a = i → ro_goodB 1 n n i a = true := by decide +kernel
theorem ro_id2 : ∀ n, n < 8 → ∀ i, i < n → ∀ a, a < i + 1 → ro_goodB 2 n n i a = true := by decide +kernel
theorem ro_id3 : ∀ n, n < 8 → ∀ i, i < 2 * n → ∀ a, a < n + 1 → a ≤ i → i ≤ 2 * a → ro_goodB 3 n (2 * n) i a = true := by decide +kernel
theorem ro_id4 : ∀ n, n < 8 → ∀ l, l < n + 1 → ∀ i, i < l → ∀ a, a < n + 1 → ro_goodB 4 n l i a = true := by decide +kernel
theorem ro_id {s n l i a : Nat} (h : ro_sh s n l) (hi : i < l) (ha : ro_ok s n i a = true) : ro_good s n l i a := by
  obtain ⟨hs, hn1, hn7, hl⟩ := h
  have hc : s = 0 ∨ s = 1 ∨ s = 2 ∨ s = 3 ∨ s = 4 := by omega
  rcases hc with e | e | e | e | e
  · subst e
    have h1 : a ≤ n := of_decide_eq_true ha
    exact of_decide_eq_true (ro_id0 n (by omega) l (by omega) i hi a (by omega))
  · subst e
    have h1 : a < 2 ^ n ∧ ro_pc a = i := of_decide_eq_true ha
    have e2 : l = n := by omega
    subst e2
    exact of_decide_eq_true (ro_id1 l (by omega) i hi a h1.1 h1.2)
  · subst e
    have h1 : a ≤ i := of_decide_eq_true ha
    have e2 : l = n := by omega
    subst e2
    exact of_decide_eq_true (ro_id2 l (by omega) i hi a (by omega))
  · subst e
    have h1 : a ≤ n ∧ a ≤ i ∧ i ≤ 2 * a := of_decide_eq_true ha
    have e2 : l = 2 * n := by omega
    subst e2
    exact of_decide_eq_true (ro_id3 n (by omega) i hi a (by omega) h1.2.1 h1.2.2)
  · subst e
    have h1 : a ≤ n := of_decide_eq_true ha
    exact of_decide_eq_true (ro_id4 n (by omega) l (by omega) i hi a (by omega))
/-- the first object -/
def ro_first (s n l j : Nat) : Nat := match s with
  | 0 => j
  | 1 => j
  | 2 => 0
  | 3 => 1 - j % 2
  | _ => if j + 1 = l then n else 0
abbrev ro_fst (s n l : Nat) : Prop := ∀ j, j < l → (∀ y, y < ro_first s n l j → ro_W s n l j (ro_acc s (ro_first s n l) j) y = 0) ∧ 0 < ro_W s n l j (ro_acc s (ro_first s n l) j) (ro_first s n l j)
theorem ro_f0 : ∀ n, n < 8 → ∀ l, l < n + 1 → ro_fst 0 n l := by decide +kernel
theorem ro_f1 : ∀ n, n < 8 → ro_fst 1 n n := by decide +kernel
theorem ro_f2 : ∀ n, n < 8 → ro_fst 2 n n := by decide +kernel
theorem ro_f3 : ∀ n, n < 8 → ro_fst 3 n (2 * n) := by decide +kernel
theorem ro_f4 : ∀ n, n < 8 → ∀ l, l < n + 1 → ro_fst 4 n l := by decide +kernel
theorem ro_ff {s n l : Nat} (h : ro_sh s n l) : ro_fst s n l := by
  obtain ⟨hs, hn1, hn7, hl⟩ := h
  have hc : s = 0 ∨ s = 1 ∨ s = 2 ∨ s = 3 ∨ s = 4 := by omega
  rcases hc with e | e | e | e | e
  · subst e
    exact ro_f0 n (by omega) l (by omega)
  · subst e
    have e2 : l = n := by omega
    subst e2
    exact ro_f1 l (by omega)
  · subst e
    have e2 : l = n := by omega
    subst e2
    exact ro_f2 l (by omega)
  · subst e
    have e2 : l = 2 * n := by omega
    subst e2
    exact ro_f3 n (by omega)
  · subst e
    exact ro_f4 n (by omega) l (by omega)
/-- how many objects there are: some, but for no parts at all -/
theorem ro_pos0 : ∀ n, n < 8 → ∀ l, l < n + 1 → 0 < ro_gn 0 n l 0 0 ∧ ro_gn 0 n l 0 0 < 1000000 := by decide +kernel
theorem ro_pos1 : ∀ n, n < 8 → (0 < ro_gn 1 n n 0 0 ∧ ro_gn 1 n n 0 0 < 1000000) ∧ (0 < ro_gn 2 n n 0 0 ∧ ro_gn 2 n n 0 0 < 1000000) ∧ (0 < ro_gn 3 n (2 * n) 0 0 ∧ ro_gn 3 n (2 * n) 0 0 < 1000000) := by decide +kernel
theorem ro_pos4 : ∀ n, n < 8 → ∀ l, l < n + 1 → 1 ≤ l → 0 < ro_gn 4 n l 0 0 ∧ ro_gn 4 n l 0 0 < 1000000 := by decide +kernel
theorem ro_pos {s n l : Nat} (h : ro_sh s n l) (h4 : s = 4 → 1 ≤ l) : 0 < ro_gn s n l 0 0 ∧ ro_gn s n l 0 0 < 1000000 := by
  obtain ⟨hs, hn1, hn7, hl⟩ := h
  have hc : s = 0 ∨ s = 1 ∨ s = 2 ∨ s = 3 ∨ s = 4 := by omega
  rcases hc with e | e | e | e | e
  · subst e
    exact ro_pos0 n (by omega) l (by omega)
  · subst e
    have e2 : l = n := by omega
    subst e2
    exact (ro_pos1 l (by omega)).1
  · subst e
    have e2 : l = n := by omega
    subst e2
    exact (ro_pos1 l (by omega)).2.1
  · subst e
    have e2 : l = 2 * n := by omega
    subst e2
    exact (ro_pos1 n (by omega)).2.2
  · subst e
    exact ro_pos4 n (by omega) l (by omega) (h4 rfl)
theorem ro_ok0 {s n l : Nat} (h : ro_sh s n l) : ro_ok s n 0 0 = true := by
  obtain ⟨hs, hn1, hn7, hl⟩ := h
  have hc : s = 0 ∨ s = 1 ∨ s = 2 ∨ s = 3 ∨ s = 4 := by omega
  rcases hc with e | e | e | e | e
  · subst e
    exact decide_eq_true (Nat.zero_le n)
  · subst e
    exact decide_eq_true ⟨Nat.two_pow_pos n, rfl⟩
  · subst e
    rfl
  · subst e
    exact decide_eq_true (p := 0 ≤ n ∧ 0 ≤ 0 ∧ 0 ≤ 2 * 0) ⟨Nat.zero_le n, Nat.le_refl 0, Nat.le_refl 0⟩
  · subst e
    exact decide_eq_true (Nat.zero_le n)
/-! prefixes -/
def ro_up (t : Nat → Nat) (k x : Nat) : Nat → Nat := fun j => if j = k then x else t j
theorem ro_up_s {t : Nat → Nat} {k x : Nat} : ro_up t k x k = x := if_pos rfl
theorem ro_up_n {t : Nat → Nat} {k x j : Nat} (h : j ≠ k) : ro_up t k x j = t j := if_neg h
theorem ro_up_8 {t : Nat → Nat} {k x : Nat} (ht : ∀ j, t j < 8) (hx : x < 8) : ∀ j, ro_up t k x j < 8 := by
  intro j
  by_cases h : j = k
  · rw [h, ro_up_s]
    exact hx
  · rw [ro_up_n h]
    exact ht j
theorem ro_acc_e {s : Nat} {t t' : Nat → Nat} : ∀ {i : Nat}, (∀ j, j < i → t j = t' j) → ro_acc s t i = ro_acc s t' i := by
  intro i
  induction i with
  | zero => intro _; rfl
  | succ i ih =>
    intro h
    show ro_st s (ro_acc s t i) (t i) = ro_st s (ro_acc s t' i) (t' i)
    rw [ih (fun j hj => h j (by omega)), h i (by omega)]
theorem ro_acc_u {s : Nat} {t : Nat → Nat} {i x j : Nat} (h : j ≤ i) : ro_acc s (ro_up t i x) j = ro_acc s t j := ro_acc_e (fun k hk => ro_up_n (by omega))
theorem ro_acc_s {s : Nat} {t : Nat → Nat} {i x : Nat} : ro_acc s (ro_up t i x) (i + 1) = ro_st s (ro_acc s t i) x := by
  show ro_st s (ro_acc s (ro_up t i x) i) (ro_up t i x i) = _
  rw [ro_acc_u (Nat.le_refl i), ro_up_s]
theorem ro_W_pos {s n l i a x : Nat} (h : 0 < ro_W s n l i a x) : ro_W s n l i a x = ro_gn s n (l - (i + 1)) (i + 1) (ro_st s a x) := by
  unfold ro_W at h ⊢
  by_cases g : ro_may s n i a x = true
  · rw [if_pos g]
  · rw [if_neg g] at h
    exact absurd h (by omega)
/-- a good object below place i: places below 8, prefixes reachable, each place the least one allowed up to counts of m -/
def ro_gd (s n l m : Nat) (t : Nat → Nat) (i : Nat) : Prop := (∀ j, t j < 8) ∧ (∀ j, j ≤ i → ro_ok s n j (ro_acc s t j) = true) ∧ ∀ j, j < i → 0 < ro_W s n l j (ro_acc s t j) (t j) ∧ ∀ y, y < t j → ro_W s n l j (ro_acc s t j) y ≤ m
theorem ro_gd_s {s n l m i x : Nat} {t : Nat → Nat} (sh : ro_sh s n l) (hi : i < l) (h : ro_gd s n l m t i) (hx : x < 8) (hw : 0 < ro_W s n l i (ro_acc s t i) x) (hy : ∀ y, y < x → ro_W s n l i (ro_acc s t i) y ≤ m) : ro_gd s n l m (ro_up t i x) (i + 1) := by
  obtain ⟨h1, h2, h3⟩ := h
  refine ⟨ro_up_8 h1 hx, fun j hj => ?_, fun j hj => ?_⟩
  · by_cases e : j = i + 1
    · rw [e, ro_acc_s]
      exact ((ro_id sh hi (h2 i (Nat.le_refl i))).2.2 x hx).2 hw
    · rw [ro_acc_u (by omega)]
      exact h2 j (by omega)
  · rw [ro_acc_u (by omega)]
    by_cases e : j = i
    · rw [e, ro_up_s]
      exact ⟨hw, hy⟩
    · rw [ro_up_n e]
      exact h3 j (by omega)
/-- number 0 is the first object -/
theorem ro_gd_0 {s n l : Nat} {t : Nat → Nat} (sh : ro_sh s n l) (h : ro_gd s n l 0 t l) : ∀ i, i ≤ l → ∀ j, j < i → t j = ro_first s n l j := by
  intro i
  induction i with
  | zero => intro _ j hj; exact absurd hj (by omega)
  | succ i ih =>
    intro hi j hj
    by_cases e : j = i
    · subst e
      have ea : ro_acc s t j = ro_acc s (ro_first s n l) j := ro_acc_e (ih (by omega))
      obtain ⟨g1, g2⟩ := h.2.2 j (by omega)
      obtain ⟨k1, k2⟩ := ro_ff sh j (by omega)
      rw [← ea] at k1 k2
      have n1 : ¬ t j < ro_first s n l j := fun z => by
        have := k1 _ z
        omega
      have n2 : ¬ ro_first s n l j < t j := fun z => by
        have := g2 _ z
        omega
      omega
    · exact ih (by omega) j (by omega)
end
section
/-! fillTables, the loops from the last one back -/
abbrev ro_J : Type := Int32 → (Nat → Int32) → (Nat → Int32) → (Nat → Int32) → (Nat → Int32) → (Nat → Int32) → (Nat → Int32) → Prop
theorem ro_i8 (a i : Nat) : (8 : Int32) * nI a + nI i = nI (8 * a + i) := by
  rw [show (8 : Int32) = nI 8 from rfl, pk_mul, nI_add]
theorem ro_i8m {a : Nat} (i : Nat) (h : 1 ≤ a) : (8 : Int32) * nI a - 8 + nI i = nI (8 * a - 8 + i) := by
  rw [show (8 : Int32) = nI 8 from rfl, pk_mul, pk_sub (by omega), nI_add]
theorem ro_i8e (a : Nat) : (8 : Int32) * nI a = nI (8 * a) := by
  rw [show (8 : Int32) = nI 8 from rfl, pk_mul]
theorem ro_i16 (a i : Nat) : (16 : Int32) * nI a + nI i = nI (16 * a + i) := by
  rw [show (16 : Int32) = nI 16 from rfl, pk_mul, nI_add]
theorem ro_i16m {a : Nat} (i : Nat) (h : 1 ≤ a) : (16 : Int32) * nI a - 16 + nI i = nI (16 * a - 16 + i) := by
  rw [show (16 : Int32) = nI 16 from rfl, pk_mul, pk_sub (by omega), nI_add]
theorem ro_i15m {a : Nat} (i : Nat) (h : 1 ≤ a) : (16 : Int32) * nI a - 15 + nI i = nI (16 * a - 15 + i) := by
  rw [show (16 : Int32) = nI 16 from rfl, show (15 : Int32) = nI 15 from rfl, pk_mul, pk_sub (by omega), nI_add]
theorem ro_p1 {a : Nat} (h : 1 ≤ a) : nI a - 1 = nI (a - 1) := by
  rw [show (1 : Int32) = nI 1 from rfl, pk_sub h]
theorem ro_285 {post : St2 → Prop} {J W : ro_J} {a i v : Nat} {s z c l u : Int32} {a1 a2 a3 a4 a6 : Nat → Int32} (ha : a < 8) (hi : i ≤ a) (hv : v = ro_nT (8 * a + i)) (H : W (nI (i + 1)) a1 a2 a3 a4 (ro_tab ro_nT (8 * a + (i + 1))) a6) : wX_fillTables_285 post J W (nI a) (nI i) (nI v) s z c l u a1 a2 a3 a4 (ro_tab ro_nT (8 * a + i)) a6 := by
  unfold wX_fillTables_285
  rw [ro_i8, nI_clamp (by omega)]
  exact ⟨vp_in_nI (by omega) (by omega), nm_r (ro_tab_s rfl (by rw [hv])) (nm_r (nI_1 i) H)⟩
theorem ro_263 {post : St2 → Prop} {J W : ro_J} {a i v : Nat} {s z c l u : Int32} {a1 a2 a3 a4 a6 : Nat → Int32} (ha : a < 8) (hi : i ≤ a) (hv : v + (if i < a then ro_nT (8 * a - 8 + i) else 0) = ro_nT (8 * a + i)) (H : W (nI (i + 1)) a1 a2 a3 a4 (ro_tab ro_nT (8 * a + (i + 1))) a6) : wX_fillTables_263 post J W (nI a) (nI i) (nI v) s z c l u a1 a2 a3 a4 (ro_tab ro_nT (8 * a + i)) a6 := by
  unfold wX_fillTables_263
  refine pk_le a i (fun g => ro_285 ha hi (by rw [if_neg (by omega)] at hv; omega) H) (fun g => ?_)
  rw [ro_i8m i (by omega), nI_clamp (by omega), ro_tab_r (by omega), nI_add]
  exact ⟨vp_in_nI (by omega) (by omega), nm_e (ro_285 ha hi (by rw [if_pos g] at hv; exact hv) H)⟩
theorem ro_242 {post : St2 → Prop} {J W : ro_J} {a i v : Nat} {s z c l u : Int32} {a1 a2 a3 a4 a6 : Nat → Int32} (ha : a < 8) (hi : i ≤ a) (hv : v + (if 0 < i then ro_nT (8 * a + i - 1) else 0) + (if i < a then ro_nT (8 * a - 8 + i) else 0) = ro_nT (8 * a + i)) (H : W (nI (i + 1)) a1 a2 a3 a4 (ro_tab ro_nT (8 * a + (i + 1))) a6) : wX_fillTables_242 post J W (nI a) (nI i) (nI v) s z c l u a1 a2 a3 a4 (ro_tab ro_nT (8 * a + i)) a6 := by
  unfold wX_fillTables_242
  refine pk_le i 0 (fun g => ro_263 ha hi (by rw [if_neg (by omega)] at hv; exact hv) H) (fun g => ?_)
  rw [ro_i8, ro_p1 (by omega), nI_clamp (by omega), ro_tab_r (by omega), nI_add]
  exact ⟨vp_in_nI (by omega) (by omega), nm_e (ro_263 ha hi (by rw [if_pos g] at hv; exact hv) H)⟩
theorem ro_228 {post : St2 → Prop} {J : ro_J} {a : Nat} {s z c l u : Int32} {a1 a2 a3 a4 a6 : Nat → Int32} (ha : a < 8) (H : J (nI (a + 1)) a1 a2 a3 a4 (ro_tab ro_nT (8 * (a + 1))) a6) : ∃ n, wX_fillTables_228 post J (nI a) s z c l u n 0 a1 a2 a3 a4 (ro_tab ro_nT (8 * a)) a6 :=
  pk_loop (σ := Unit) (fun n i _ => wX_fillTables_228 post J (nI a) s z c l u n (nI i) a1 a2 a3 a4 (ro_tab ro_nT (8 * a + i)) a6) (fun _ _ => True) (a + 1) 0 () (by omega) trivial
    (fun n _ _ => pk_lt a (a + 1) (fun _ => nm_r (nI_1 a) (by rw [ro_nk ha]; exact H)) (fun g => absurd g (by omega)))
    (fun n i _ hi _ hw => pk_lt a i (fun g => absurd g (by omega)) (fun g => pk_eq a 0
      (fun g0 => ro_242 (v := 1) ha g (by have e := ro_nrec a ha i hi; rw [if_pos g0] at e; exact e) (hw () trivial))
      (fun g0 => ro_242 (v := 0) ha g (by have e := ro_nrec a ha i hi; rw [if_neg g0] at e; exact e) (hw () trivial))))
theorem ro_220 {post : St2 → Prop} {s z c l u : Int32} {a1 a2 a3 a4 a5 a6 : Nat → Int32} (h5 : a5 = ro_tab ro_nT 0) (H : post (s, z, c, l, u, a1, a2, a3, a4, ro_TN, a6)) : ∃ n, wX_fillTables_220 post s z c l u n 0 a1 a2 a3 a4 a5 a6 := by
  subst h5
  exact pk_loop (σ := Unit) (fun n i _ => wX_fillTables_220 post s z c l u n (nI i) a1 a2 a3 a4 (ro_tab ro_nT (8 * i)) a6) (fun _ _ => True) 8 0 () (by omega) trivial
    (fun n _ _ => pk_le 8 8 (fun _ => H) (fun g => absurd g (by omega)))
    (fun n i _ hi _ hw => pk_le 8 i (fun g => absurd g (by omega)) (fun _ => ro_228 hi (hw () trivial)))
theorem ro_156 {post : St2 → Prop} {J : ro_J} {b : Nat} {s z c l u : Int32} {a1 a2 a3 a5 a6 : Nat → Int32} (hb : b < 8) (h1 : 1 ≤ b) (H : J (nI (b + 1)) a1 a2 a3 (ro_tab ro_gT (16 * (b + 1))) a5 a6) : ∃ n, wX_fillTables_156 post J (nI b) s z c l u n 0 a1 a2 a3 (ro_tab ro_gT (16 * b)) a5 a6 := by
  refine pk_loop (σ := Unit) (fun n i _ => wX_fillTables_156 post J (nI b) s z c l u n (nI i) a1 a2 a3 (ro_tab ro_gT (16 * b + i)) a5 a6) (fun _ _ => True) (16 - b) 0 () (by omega) trivial ?_ ?_
  · intro n _ _
    exact pk_le 16 (16 - b + b) (fun _ => nm_r (nI_1 b) (by rw [ro_gk hb]; exact H)) (fun g => absurd g (by omega)) rfl (nI_add _ _)
  · intro n i _ hi _ hw
    refine pk_le 16 (i + b) (fun g => absurd g (by omega)) (fun g => ?_) rfl (nI_add _ _)
    rw [ro_i16, ro_i16m i h1, ro_i15m i h1, nI_clamp (by omega), nI_clamp (by omega), nI_clamp (by omega), ro_tab_r (by omega), ro_tab_r (by omega), pk_mul, nI_add]
    exact ⟨vp_in_nI (by omega) (by omega), vp_in_nI (by omega) (by omega), vp_in_nI (by omega) (by omega), nm_r (ro_tab_s rfl (by rw [ro_grec b hb h1 i hi])) (nm_r (nI_1 i) (hw () trivial))⟩
theorem ro_148 {post : St2 → Prop} {s z c l u : Int32} {a1 a2 a3 a5 a6 : Nat → Int32} (H : ∃ n, wX_fillTables_220 post s z c l u n 0 a1 a2 a3 ro_TG a5 a6) : ∃ n, wX_fillTables_148 post s z c l u n 1 a1 a2 a3 (ro_tab ro_gT 16) a5 a6 :=
  pk_loop (σ := Unit) (fun n i _ => wX_fillTables_148 post s z c l u n (nI i) a1 a2 a3 (ro_tab ro_gT (16 * i)) a5 a6) (fun i _ => 1 ≤ i) 8 1 () (by omega) (by omega)
    (fun n _ _ => pk_le 8 8 (fun _ => H) (fun g => absurd g (by omega)))
    (fun n i _ hi h1 hw => pk_le 8 i (fun g => absurd g (by omega)) (fun _ => ro_156 hi h1 (hw () (by omega))))
theorem ro_127 {post : St2 → Prop} {s z c l u : Int32} {a1 a2 a3 a4 a5 a6 : Nat → Int32} (h4 : a4 = ro_tab ro_gT 0) (H : ∃ n, wX_fillTables_148 post s z c l u n 1 a1 a2 a3 (ro_tab ro_gT 16) a5 a6) : ∃ n, wX_fillTables_127 post s z c l u n 0 a1 a2 a3 a4 a5 a6 := by
  subst h4
  exact pk_loop (σ := Unit) (fun n i _ => wX_fillTables_127 post s z c l u n (nI i) a1 a2 a3 (ro_tab ro_gT i) a5 a6) (fun _ _ => True) 16 0 () (by omega) trivial
    (fun n _ _ => pk_le 16 16 (fun _ => H) (fun g => absurd g (by omega)))
    (fun n i _ hi _ hw => pk_le 16 i (fun g => absurd g (by omega)) (fun _ => ⟨pk_in i 128 (by omega), nm_r (ro_tab_s (nI_clamp (by omega)) (by rw [ro_g1 i hi]; rfl)) (nm_r (nI_1 i) (hw () trivial))⟩))
theorem ro_57 {post : St2 → Prop} {J : ro_J} {a : Nat} {s z c l u : Int32} {a1 a2 a4 a5 a6 : Nat → Int32} (ha : a < 8) (H : J (nI (a + 1)) a1 a2 (ro_tab ro_bT (8 * (a + 1))) a4 a5 a6) : ∃ n, wX_fillTables_57 post J (nI a) s z c l u n 1 a1 a2 (ro_tab ro_bT (8 * a + 1)) a4 a5 a6 := by
  refine pk_loop (σ := Unit) (fun n i _ => wX_fillTables_57 post J (nI a) s z c l u n (nI i) a1 a2 (ro_tab ro_bT (8 * a + i)) a4 a5 a6) (fun i _ => 1 ≤ i) (a + 1) 1 () (by omega) (by omega) ?_ ?_
  · intro n _ _
    exact pk_lt a (a + 1) (fun _ => nm_r (nI_1 a) (by rw [ro_bk ha]; exact H)) (fun g => absurd g (by omega))
  · intro n i _ hi h1 hw
    refine pk_lt a i (fun g => absurd g (by omega)) (fun g => ?_)
    have hr := ro_brec a ha i hi h1
    rw [ro_i8, ro_i8m i (by omega), ro_p1 (by omega), nI_clamp (by omega), nI_clamp (by omega), nI_clamp (by omega), ro_tab_r (by omega), ro_tab_r (by omega), nI_add]
    refine ⟨vp_in_nI (by omega) (by omega), pk_le a i (fun q => ⟨vp_in_nI (by omega) (by omega), nm_r (ro_tab_s rfl ?_) (nm_r (nI_1 i) (hw () (by omega)))⟩) (fun q => ⟨vp_in_nI (by omega) (by omega), vp_in_nI (by omega) (by omega), nm_r (ro_tab_s rfl ?_) (nm_r (nI_1 i) (hw () (by omega)))⟩)⟩
    · rw [hr, if_neg (by omega), ← nI_add]
      rfl
    · rw [hr, if_pos q]
theorem ro_39 {post : St2 → Prop} {s z c l u : Int32} {a1 a2 a3 a4 a5 a6 : Nat → Int32} (h3 : a3 = ro_tab ro_bT 0) (H : ∃ n, wX_fillTables_127 post s z c l u n 0 a1 a2 ro_TB a4 a5 a6) : ∃ n, wX_fillTables_39 post s z c l u n 0 a1 a2 a3 a4 a5 a6 := by
  subst h3
  refine pk_loop (σ := Unit) (fun n i _ => wX_fillTables_39 post s z c l u n (nI i) a1 a2 (ro_tab ro_bT (8 * i)) a4 a5 a6) (fun _ _ => True) 8 0 () (by omega) trivial ?_ ?_
  · intro n _ _
    exact pk_le 8 8 (fun _ => H) (fun g => absurd g (by omega))
  · intro n i _ hi _ hw
    refine pk_le 8 i (fun g => absurd g (by omega)) (fun g => ?_)
    rw [ro_i8e, nI_clamp (by omega)]
    exact ⟨vp_in_nI (by omega) (by omega), nm_r (ro_tab_s rfl (by rw [ro_b1 i hi]; rfl)) (ro_57 hi (hw () trivial))⟩
theorem ro_9 {post : St2 → Prop} {s z c l u : Int32} {a1 a2 a3 a4 a5 : Nat → Int32} (H : ∃ n, wX_fillTables_39 post s z c l u n 0 a1 a2 a3 a4 a5 ro_TF) : ∃ n, wX_fillTables_9 post s z c l u n 1 a1 a2 a3 a4 a5 (ro_tab ro_fT 1) := by
  refine pk_loop (σ := Unit) (fun n i _ => wX_fillTables_9 post s z c l u n (nI i) a1 a2 a3 a4 a5 (ro_tab ro_fT i)) (fun i _ => 1 ≤ i) 8 1 () (by omega) (by omega) ?_ ?_
  · intro n _ _
    exact pk_le 8 8 (fun _ => H) (fun g => absurd g (by omega))
  · intro n i _ hi h1 hw
    refine pk_le 8 i (fun g => absurd g (by omega)) (fun g => ?_)
    rw [ro_p1 h1, nI_clamp (by omega), nI_clamp (by omega), ro_tab_r (by omega), pk_mul]
    exact ⟨vp_in_nI (by omega) (by omega), vp_in_nI (by omega) (by omega), nm_r (ro_tab_s rfl (by rw [ro_frec i hi h1])) (nm_r (nI_1 i) (hw () (by omega)))⟩
theorem ro_fill {post : St2 → Prop} {s z c l u : Int32} {a1 a2 : Nat → Int32} (H : post (s, z, c, l, u, a1, a2, ro_TB, ro_TG, ro_TN, ro_TF)) : wpX_fillTables post (s, z, c, l, u, a1, a2, (fun _ => 0), (fun _ => 0), (fun _ => 0), (fun _ => 0)) := by
  have e : upd (fun _ => 0) 0 1 = ro_tab ro_fT 1 := by
    rw [ro_tab_0 ro_fT]
    exact ro_tab_s rfl rfl
  exact nm_r e (ro_9 (ro_39 (ro_tab_0 _) (ro_127 (ro_tab_0 _) (ro_148 (ro_220 (ro_tab_0 _) H)))))
end
section
/-! the methods that count; they leave the state as it is -/
def ro_it (t : Nat → Nat) : Nat → Int32 := fun j => nI (t j)
theorem ro_it_u {t : Nat → Nat} {k q x : Nat} {y : Int32} (hq : q = k) (hy : y = nI x) : upd (ro_it t) q y = ro_it (ro_up t k x) := by
  rw [hq, hy]
  funext j
  show (if j = k then nI x else nI (t j)) = nI (if j = k then x else t j)
  by_cases h : j = k
  · rw [if_pos h, if_pos h]
  · rw [if_neg h, if_neg h]
theorem ro_up_k {t : Nat → Nat} {k x : Nat} (h : x = t k) : ro_up t k x = t := by
  funext j
  by_cases e : j = k
  · rw [e, ro_up_s, h]
  · rw [ro_up_n e]
theorem ro_up_b {t : Nat → Nat} {k x : Nat} : ro_up (ro_up t k x) k (t k) = t := by
  funext j
  by_cases e : j = k
  · rw [e, ro_up_s]
  · rw [ro_up_n e, ro_up_n e]
theorem ro_b8 : ∀ x, x < 8 → (nI x).toInt8.toInt32 = nI x := by decide +kernel
theorem ro_nb {x : Nat} (h : x < 8) : vp_nar .byte (nI x) = nI x := by
  rw [vp_nar_byte, ro_b8 x h]
theorem ro_gc : ∀ x, x < 8 → ∀ g, g < 9 → (nI x ≤ nI g - 1 ↔ x + 1 ≤ g) := by decide +kernel
theorem ro_or : ∀ x, x < 8 → ∀ a, a < 256 → nI a ||| ((1 : Int32) <<< (nI x &&& 31)) = nI (a ||| 2 ^ x) ∧ a ||| 2 ^ x < 256 := by decide +kernel
theorem ro_bit : ∀ x, x < 8 → ∀ a, a < 256 → ((nI a >>> (nI x &&& 31)) &&& 1 = 0 ↔ a / 2 ^ x % 2 = 0) := by decide +kernel
theorem ro_acc2 {t : Nat → Nat} (ht : ∀ j, t j < 8) : ∀ i, ro_acc 2 t i < 9 := by
  intro i
  induction i with
  | zero => exact (by decide : 0 < 9)
  | succ i ih =>
    have h := ht i
    show max (ro_acc 2 t i) (t i + 1) < 9
    omega
theorem ro_acc1 {t : Nat → Nat} (ht : ∀ j, t j < 8) : ∀ i, ro_acc 1 t i < 256 := by
  intro i
  induction i with
  | zero => exact (by decide : 0 < 256)
  | succ i ih => exact (ro_or (t i) (ht i) _ ih).2
theorem ro_sum {post : Int32 → Prop} {f0 f1 f2 f3 f4 : Int32} {t : Nat → Nat} {a2 a3 a4 a5 a6 : Nat → Int32} {i : Nat} (s : Nat) (hs : ∀ a x, ro_st s a x = a + x) (hi : i ≤ 14) (hp : post (nI (ro_acc s t i))) : wpX_sumBefore post (f0, f1, f2, f3, f4, ro_it t, a2, a3, a4, a5, a6) (nI i) :=
  pk_loop (σ := Unit) (fun n j _ => wX_sumBefore_4 post (nI i) f0 f1 f2 f3 f4 (ro_it t) a2 a3 a4 a5 a6 n (nI (ro_acc s t j)) (nI j)) (fun _ _ => True) i 0 () (by omega) trivial
    (fun n _ _ => pk_le i i (fun _ => hp) (fun g => absurd g (by omega)))
    (fun n j _ hj _ hw => pk_le i j (fun g => absurd g (by omega)) (fun _ => ⟨pk_in j 14 (by omega), nm_r (by
      rw [nI_clamp (by omega)]
      show nI (ro_acc s t j) + nI (t j) = nI (ro_st s (ro_acc s t j) (t j))
      rw [hs, nI_add]) (nm_r (nI_1 j) (hw () trivial))⟩))
theorem ro_used {post : Int32 → Prop} {f0 f1 f2 f3 f4 : Int32} {t : Nat → Nat} {a2 a3 a4 a5 a6 : Nat → Int32} {i : Nat} (ht : ∀ j, t j < 8) (hi : i ≤ 14) (hp : post (nI (ro_acc 1 t i))) : wpX_usedBefore post (f0, f1, f2, f3, f4, ro_it t, a2, a3, a4, a5, a6) (nI i) :=
  pk_loop (σ := Unit) (fun n j _ => wX_usedBefore_4 post (nI i) f0 f1 f2 f3 f4 (ro_it t) a2 a3 a4 a5 a6 n (nI (ro_acc 1 t j)) (nI j)) (fun _ _ => True) i 0 () (by omega) trivial
    (fun n _ _ => pk_le i i (fun _ => hp) (fun g => absurd g (by omega)))
    (fun n j _ hj _ hw => pk_le i j (fun g => absurd g (by omega)) (fun _ => ⟨pk_in j 14 (by omega), nm_r (by
      rw [nI_clamp (by omega)]
      exact (ro_or (t j) (ht j) (ro_acc 1 t j) (ro_acc1 ht j)).1) (nm_r (nI_1 j) (hw () trivial))⟩))
theorem ro_great {post : Int32 → Prop} {f0 f1 f2 f3 f4 : Int32} {t : Nat → Nat} {a2 a3 a4 a5 a6 : Nat → Int32} {i : Nat} (ht : ∀ j, t j < 8) (hi : i ≤ 14) (hp : post (nI (ro_acc 2 t i) - 1)) : wpX_greatestBefore post (f0, f1, f2, f3, f4, ro_it t, a2, a3, a4, a5, a6) (nI i) := by
  have H : ∃ n, wX_greatestBefore_4 post (nI i) f0 f1 f2 f3 f4 (ro_it t) a2 a3 a4 a5 a6 n (nI 0 - 1) (nI 0) := by
    refine pk_loop (σ := Unit) (fun n j _ => wX_greatestBefore_4 post (nI i) f0 f1 f2 f3 f4 (ro_it t) a2 a3 a4 a5 a6 n (nI (ro_acc 2 t j) - 1) (nI j)) (fun _ _ => True) i 0 () (by omega) trivial
      (fun n _ _ => pk_le i i (fun _ => hp) (fun g => absurd g (by omega))) ?_
    intro n j _ hj _ hw
    have hw' := hw () trivial
    refine pk_le i j (fun g => absurd g (by omega)) (fun _ => ⟨pk_in j 14 (by omega), ?_⟩)
    rw [nI_clamp (by omega)]
    refine ek_if (ro_gc (t j) (ht j) (ro_acc 2 t j) (ro_acc2 ht j)) (fun d => nm_r (nI_1 j) ?_) (fun d => ⟨pk_in j 14 (by omega), nm_r ?_ (nm_r (nI_1 j) hw')⟩)
    · have e : ro_acc 2 t (j + 1) = ro_acc 2 t j := by
        show max (ro_acc 2 t j) (t j + 1) = ro_acc 2 t j
        omega
      rw [e] at hw'
      exact hw'
    · have e : ro_acc 2 t (j + 1) = t j + 1 := by
        show max (ro_acc 2 t j) (t j + 1) = t j + 1
        omega
      rw [e, nI_pred]
      rfl
  obtain ⟨n, hn⟩ := H
  rw [show nI 0 - 1 = (-1 : Int32) by decide] at hn
  exact ⟨n, hn⟩
theorem ro_wsb : ∀ m, m < 8 → ∀ j, j < 8 → ro_ws m j * (m + j) < 2 ^ 31 := by decide +kernel
theorem ro_ways {post : Int32 → Prop} {f0 f1 f2 f3 f4 : Int32} {a1 a2 a3 a4 a5 a6 : Nat → Int32} {m k : Nat} (hm : m < 8) (hk : k < 8) (h1 : 1 ≤ k) (hp : post (nI (ro_ws m k))) : wpX_waysToSplit post (f0, f1, f2, f3, f4, a1, a2, a3, a4, a5, a6) (nI m) (nI k) :=
  pk_loop (σ := Unit) (fun n j _ => wX_waysToSplit_5 post (nI m) (nI k) f0 f1 f2 f3 f4 a1 a2 a3 a4 a5 a6 n (nI (ro_ws m j)) (nI j)) (fun j _ => 1 ≤ j) k 1 () h1 (by omega)
    (fun n _ _ => pk_le k k (fun _ => hp) (fun g => absurd g (by omega)))
    (fun n j _ hj h0 hw => pk_le k j (fun g => absurd g (by omega)) (fun _ => ⟨nI_ne0 (by omega) (by omega), nm_r (by
      rw [nI_add, pk_mul, pk_div (ro_wsb m hm j (by omega)) (by omega) (by omega)]
      show nI (ro_ws m j * (m + j) / j) = nI (if j = 0 then 1 else ro_ws m j * (m + j) / j)
      rw [if_neg (by omega)]) (nm_r (nI_1 j) (hw () (by omega)))⟩))
/-! mayCome -/
theorem ro_mc {post : Int32 → Prop} {s n i x : Nat} {f2 f3 f4 : Int32} {t : Nat → Nat} {a2 a3 a4 a5 a6 : Nat → Int32} (hs : s ≤ 4) (hn : n ≤ 7) (hi : i < 14) (hx : x < 8) (ht : ∀ j, t j < 8) (h3 : s = 3 → ro_acc s t i ≤ i) (hp : post (if ro_may s n i (ro_acc s t i) x = true then 1 else 0)) : wpX_mayCome post (nI s, nI n, f2, f3, f4, ro_it t, a2, a3, a4, a5, a6) (nI i) (nI x) := by
  have p1 : ro_may s n i (ro_acc s t i) x = true → post 1 := fun h => by rw [if_pos h] at hp; exact hp
  have p0 : ¬ ro_may s n i (ro_acc s t i) x = true → post 0 := fun h => by rw [if_neg h] at hp; exact hp
  clear hp
  have hc : s = 0 ∨ s = 1 ∨ s = 2 ∨ s = 3 ∨ s = 4 := by omega
  unfold wpX_mayCome
  rcases hc with e | e | e | e | e
  · subst e
    have q : ro_may 0 n i (ro_acc 0 t i) x = true ↔ (x < n ∧ ro_acc 0 t i ≤ x) := decide_eq_true_iff
    rw [q] at p1 p0
    refine br_t rfl (pk_le n x (fun g => p0 (by omega)) (fun g => pk_eq i 0 (fun g0 => ?_) (fun g0 => ?_)))
    · subst g0
      exact p1 ⟨g, Nat.zero_le x⟩
    · obtain ⟨j, rfl⟩ : ∃ j, i = j + 1 := ⟨i - 1, by omega⟩
      rw [nI_pred, nI_clamp (by omega)]
      have e : ro_acc 0 t (j + 1) = t j + 1 := rfl
      rw [e] at p1 p0
      have hj := ht j
      exact ⟨vp_in_nI (by omega) (by omega), pk_le x (t j) (fun g1 => p0 (by omega)) (fun g1 => p1 (by omega))⟩
  · subst e
    have q : ro_may 1 n i (ro_acc 1 t i) x = true ↔ (x < n ∧ ro_acc 1 t i / 2 ^ x % 2 = 0) := decide_eq_true_iff
    rw [q] at p1 p0
    exact br_f (by decide) (br_t rfl (pk_le n x (fun g => p0 (fun z => absurd z.1 (by omega))) (fun g => ro_used ht (by omega) (ek_if (ro_bit x hx _ (ro_acc1 ht i)) (fun d => p1 ⟨g, d⟩) (fun d => p0 (fun z => d z.2))))))
  · subst e
    have q : ro_may 2 n i (ro_acc 2 t i) x = true ↔ (x ≤ ro_acc 2 t i) := decide_eq_true_iff
    rw [q] at p1 p0
    have h9 := ro_acc2 ht i
    exact br_f (by decide) (br_f (by decide) (br_t rfl (ro_great ht (by omega) (pk_lt (ro_acc 2 t i) x (fun g => p0 (by omega)) (fun g => p1 g) (Int32.sub_add_cancel _ _)))))
  · subst e
    have q : ro_may 3 n i (ro_acc 3 t i) x = true ↔ (x ≤ 1 ∧ (x = 1 → ro_acc 3 t i < n) ∧ (x = 0 → i < 2 * ro_acc 3 t i)) := decide_eq_true_iff
    rw [q] at p1 p0
    have h4 := h3 rfl
    refine br_f (by decide) (br_f (by decide) (br_f (by decide) (br_f (by decide) (pk_le x 1 (fun g => ro_sum 3 (fun _ _ => rfl) (by omega) (pk_eq x 1 (fun g1 => pk_le n (ro_acc 3 t i) (fun g2 => p0 (by omega)) (fun g2 => p1 (by omega))) (fun g1 => ?_))) (fun g => p0 (by omega))))))
    exact pk_le (ro_acc 3 t i) (i - ro_acc 3 t i) (fun g2 => p0 (by omega)) (fun g2 => p1 (by omega)) rfl (pk_sub h4)
  · subst e
    have q : ro_may 4 n i (ro_acc 4 t i) x = true ↔ (x ≤ n) := decide_eq_true_iff
    rw [q] at p1 p0
    exact br_f (by decide) (br_f (by decide) (br_f (by decide) (br_t rfl (pk_lt n x (fun g => p0 (by omega)) (fun g => p1 g)))))
/-! goingOn -/
theorem ro_83 {post : Int32 → Prop} {l z : Nat} {f0 f1 f2 f3 f4 : Int32} {a1 a2 a4 a5 a6 : Nat → Int32} (hl : l < 8) (hz : z < 8) (hp : post (nI (if l ≤ z then ro_bT (8 * z + l) else 0))) : wX_goingOn_83 post (nI l) (nI z) f0 f1 f2 f3 f4 a1 a2 ro_TB a4 a5 a6 := by
  unfold wX_goingOn_83
  refine pk_le l z (fun g => ?_) (fun g => ?_)
  · rw [ro_i8, nI_clamp (by omega), ro_TBr (by omega)]
    rw [if_pos g] at hp
    exact ⟨vp_in_nI (by omega) (by omega), hp⟩
  · rw [if_neg (by omega)] at hp
    exact hp
theorem ro_167 {post : Int32 → Prop} {l m : Nat} {f0 f1 f2 f3 f4 : Int32} {a1 a2 a3 a4 a5 a6 : Nat → Int32} (hl : l < 8) (hm : m < 8) (hp : post (nI (if l = 0 then 1 else ro_ws m l))) : wX_goingOn_167 post (nI l) (nI m) f0 f1 f2 f3 f4 a1 a2 a3 a4 a5 a6 := by
  unfold wX_goingOn_167
  refine pk_eq l 0 (fun g => ?_) (fun g => ?_)
  · rw [if_pos g] at hp
    exact hp
  · rw [if_neg g] at hp
    exact ro_ways hm hl (by omega) hp
/-- where goingOn may be asked -/
def ro_gp (s n l i a : Nat) : Prop := i ≤ l ∧ s ≤ 4 ∧ n ≤ 7 ∧ l ≤ 14 ∧ (s ≠ 3 → l ≤ 7) ∧ (s = 0 → a ≤ n) ∧ (s = 3 → a ≤ n ∧ a ≤ i ∧ i ≤ 2 * a) ∧ (s = 4 → a ≤ 100)
theorem ro_gg {post : Int32 → Prop} {s n l i : Nat} {f2 f4 : Int32} {t : Nat → Nat} {a2 : Nat → Int32} (ht : ∀ j, t j < 8) (hg : ro_gp s n l i (ro_acc s t i)) (hp : post (nI (ro_gn s n (l - i) i (ro_acc s t i)))) : wpX_goingOn post (nI s, nI n, f2, nI l, f4, ro_it t, a2, ro_TB, ro_TG, ro_TN, ro_TF) (nI i) := by
  obtain ⟨hi, hs, hn, hl, hl7, h0, h3, h4⟩ := hg
  have hc : s = 0 ∨ s = 1 ∨ s = 2 ∨ s = 3 ∨ s = 4 := by omega
  unfold wpX_goingOn
  refine nm_r (pk_sub hi) ?_
  rcases hc with e | e | e | e | e
  · subst e
    have h7 := hl7 (by omega)
    have hn0 := h0 rfl
    refine br_f (by decide) (br_f (by decide) (br_t rfl (pk_eq i 0 (fun g0 => ?_) (fun g0 => ?_))))
    · subst g0
      exact ro_83 (by omega) (by omega) hp
    · obtain ⟨j, rfl⟩ : ∃ j, i = j + 1 := ⟨i - 1, by omega⟩
      have e : ro_acc 0 t (j + 1) = t j + 1 := rfl
      rw [e] at hp hn0
      rw [nI_pred, nI_clamp (by omega), ro_p1 (by omega)]
      have e2 : nI (n - 1) - ro_it t j = nI (n - (t j + 1)) := by
        show nI (n - 1) - nI (t j) = nI (n - (t j + 1))
        rw [pk_sub (by omega), show n - 1 - t j = n - (t j + 1) by omega]
      rw [e2]
      exact ⟨vp_in_nI (by omega) (by omega), ro_83 (by omega) (by omega) hp⟩
  · subst e
    have h7 := hl7 (by omega)
    refine br_t rfl ?_
    rw [nI_clamp (by omega), ro_TFr (by omega)]
    exact ⟨vp_in_nI (by omega) (by omega), hp⟩
  · subst e
    have h7 := hl7 (by omega)
    have h9 := ro_acc2 ht i
    refine br_f (by decide) (br_t rfl (ro_great ht (by omega) (nm_r (Int32.sub_add_cancel _ _) ?_)))
    rw [ro_i16, nI_clamp (by omega), ro_TGr (by omega)]
    exact ⟨vp_in_nI (by omega) (by omega), hp⟩
  · subst e
    obtain ⟨k1, k2, k3⟩ := h3 rfl
    refine br_f (by decide) (br_f (by decide) (br_f (by decide) (ro_sum 3 (fun _ _ => rfl) (by omega) (br_t rfl ?_))))
    have e2 : (8 : Int32) * (nI n - nI i + nI (ro_acc 3 t i)) + nI n - nI (ro_acc 3 t i) = nI (8 * (n + ro_acc 3 t i - i) + (n - ro_acc 3 t i)) := by
      have e3 : nI n - nI i + nI (ro_acc 3 t i) = nI (n + ro_acc 3 t i - i) := by
        rw [Int32.sub_eq_add_neg, Int32.add_assoc, Int32.add_comm (-nI i), ← Int32.add_assoc, ← Int32.sub_eq_add_neg, nI_add, pk_sub (by omega)]
      rw [e3, ro_i8, pk_sub (by omega), Nat.add_sub_assoc k1]
    rw [e2, nI_clamp (by omega), ro_TNr (by omega)]
    exact ⟨vp_in_nI (by omega) (by omega), hp⟩
  · subst e
    have h7 := hl7 (by omega)
    have ha := h4 rfl
    refine br_f (by decide) (br_f (by decide) (br_f (by decide) (ro_sum 4 (fun _ _ => rfl) (by omega) (br_f (by decide) ?_))))
    have hp' : post (nI (if n < ro_acc 4 t i then 0 else if l - i = 0 then (if n ≤ ro_acc 4 t i then 1 else 0) else ro_ws (n - ro_acc 4 t i) (l - i))) := hp
    by_cases c : n < ro_acc 4 t i
    · rw [if_pos c] at hp'
      exact nm_e (br_t (pk_sneg (by omega) c) hp')
    · rw [if_neg c] at hp'
      refine nm_r (pk_sub (by omega)) (br_f (nI_pos (by omega)) (pk_eq (l - i) 0 (fun g => pk_le (n - ro_acc 4 t i) 0 (fun g2 => ro_167 (by omega) (by omega) ?_) (fun g2 => ?_)) (fun g => ro_167 (by omega) (by omega) ?_)))
      · rw [if_pos g, if_pos (by omega)] at hp'
        rw [if_pos g]
        exact hp'
      · rw [if_pos g, if_neg (by omega)] at hp'
        exact hp'
      · rw [if_neg g] at hp'
        rw [if_neg g]
        exact hp'
theorem ro_ge {post : Int32 → Prop} {s n l i : Nat} {f2 f4 p : Int32} {t : Nat → Nat} {a2 : Nat → Int32} (e : p = nI i) (ht : ∀ j, t j < 8) (hg : ro_gp s n l i (ro_acc s t i)) (hp : post (nI (ro_gn s n (l - i) i (ro_acc s t i)))) : wpX_goingOn post (nI s, nI n, f2, nI l, f4, ro_it t, a2, ro_TB, ro_TG, ro_TN, ro_TF) p := by
  rw [e]
  exact ro_gg ht hg hp
/-! withItem -/
theorem ro_gp_s {s n l i a x : Nat} (sh : ro_sh s n l) (hi : i < l) (hk : ro_ok s n i a = true) (hx : x < 8) (hm : ro_may s n i a x = true) : ro_gp s n l (i + 1) (ro_st s a x) := by
  obtain ⟨hs, hn1, hn7, hl⟩ := sh
  refine ⟨by omega, hs, hn7, by omega, by omega, ?_, ?_, ?_⟩
  · intro e
    subst e
    have m : x < n ∧ a ≤ x := of_decide_eq_true hm
    show x + 1 ≤ n
    omega
  · intro e
    subst e
    have m : x ≤ 1 ∧ (x = 1 → a < n) ∧ (x = 0 → i < 2 * a) := of_decide_eq_true hm
    have k : a ≤ n ∧ a ≤ i ∧ i ≤ 2 * a := of_decide_eq_true hk
    show a + x ≤ n ∧ a + x ≤ i + 1 ∧ i + 1 ≤ 2 * (a + x)
    omega
  · intro e
    subst e
    have k : a ≤ n := of_decide_eq_true hk
    show a + x ≤ 100
    omega
theorem ro_wi {post : Int32 → St2 → Prop} {s n l i x : Nat} {f2 f4 : Int32} {t : Nat → Nat} {a2 : Nat → Int32} (sh : ro_sh s n l) (hi : i < l) (hx : x < 8) (ht : ∀ j, t j < 8) (hk : ro_ok s n i (ro_acc s t i) = true) (hp : post (nI (ro_W s n l i (ro_acc s t i) x)) (nI s, nI n, f2, nI l, f4, ro_it t, a2, ro_TB, ro_TG, ro_TN, ro_TF)) : wpX_withItem post (nI s, nI n, f2, nI l, f4, ro_it t, a2, ro_TB, ro_TG, ro_TN, ro_TF) (nI i) (nI x) := by
  have sh' := sh
  obtain ⟨hs, hn1, hn7, hl⟩ := sh'
  unfold wpX_withItem
  refine ro_mc hs hn7 (by omega) hx ht ?_ ?_
  · intro e
    subst e
    have k : ro_acc 3 t i ≤ n ∧ ro_acc 3 t i ≤ i ∧ i ≤ 2 * ro_acc 3 t i := of_decide_eq_true hk
    exact k.2.1
  · unfold ro_W at hp
    by_cases c : ro_may s n i (ro_acc s t i) x = true
    · rw [if_pos c] at hp
      rw [if_pos c]
      have hg := ro_gp_s sh hi hk hx c
      rw [← ro_acc_s (t := t)] at hp hg
      refine br_f (by decide) ⟨pk_in i 14 (by omega), nm_e ⟨pk_in i 14 (by omega), nm_r (ro_it_u (nI_clamp (by omega)) (ro_b8 x hx)) (ro_ge (nI_1 i) (ro_up_8 ht hx) hg ⟨pk_in i 14 (by omega), nm_r (e' := ro_it t) ?_ hp⟩)⟩⟩
      rw [nI_clamp (by omega)]
      have e : vp_nar .byte (ro_it t i) = nI (t i) := ro_nb (ht i)
      rw [ro_it_u (k := i) (x := t i) rfl e, ro_up_b]
    · rw [if_neg c] at hp
      rw [if_neg c]
      exact br_t rfl hp
end
section
/-! go: place after place -/
abbrev ro_J2 : Type := Int32 → Int32 → Int32 → Int32 → Int32 → Int32 → Int32 → (Nat → Int32) → (Nat → Int32) → (Nat → Int32) → (Nat → Int32) → (Nat → Int32) → (Nat → Int32) → Prop
theorem ro_sf_s (w : Nat → Nat) {x : Nat} (hx : x < 8) : ro_sf w (8 - x) = w x + ro_sf w (7 - x) := by
  rw [show 8 - x = (7 - x) + 1 by omega]
  show w (7 - (7 - x)) + ro_sf w (7 - x) = _
  rw [show 7 - (7 - x) = x by omega]
theorem ro_l14 {s n l : Nat} (sh : ro_sh s n l) : l ≤ 14 := by
  obtain ⟨_, _, _, _⟩ := sh
  omega
theorem ro_44 {post : Int32 → St2 → Prop} {J : ro_J2} {s n l i r : Nat} {x1 f2 f4 : Int32} {t : Nat → Nat} {a2 : Nat → Int32} (sh : ro_sh s n l) (hi : i < l) (ht : ∀ j, t j < 8) (hk : ro_ok s n i (ro_acc s t i) = true) (hr : r < ro_gn s n (l - i) i (ro_acc s t i))
    (H : ∀ x r', x < 8 → r' ≤ r → r' < ro_W s n l i (ro_acc s t i) x → (∀ y, y < x → ro_W s n l i (ro_acc s t i) y ≤ r) → J (nI r') (nI (i + 1)) (nI s) (nI n) f2 (nI l) f4 (ro_it (ro_up t i x)) a2 ro_TB ro_TG ro_TN ro_TF) :
    ∃ f, wX_go_44 post J x1 (nI i) f (nI r) 0 (nI (ro_W s n l i (ro_acc s t i) 0)) (nI s) (nI n) f2 (nI l) f4 (ro_it t) a2 ro_TB ro_TG ro_TN ro_TF := by
  obtain ⟨g1, g2, g3⟩ := ro_id sh hi hk
  have hl := ro_l14 sh
  have X : ∀ x r', x < 8 → r' ≤ r → r' < ro_W s n l i (ro_acc s t i) x → (∀ y, y < x → ro_W s n l i (ro_acc s t i) y ≤ r) → (vp_in (nI i) 14 ∧ ∀ b : Nat → Int32, b = upd (ro_it t) (nI i).toNatClampNeg (nI x).toInt8.toInt32 → ∀ k : Int32, k = nI i + 1 → J (nI r') k (nI s) (nI n) f2 (nI l) f4 b a2 ro_TB ro_TG ro_TN ro_TF) := by
    intro x r' h1 h2 h3 h4
    exact ⟨pk_in i 14 (by omega), nm_r (ro_it_u (nI_clamp (by omega)) (ro_b8 x h1)) (nm_r (nI_1 i) (H x r' h1 h2 h3 h4))⟩
  refine pk_loop (fun f x r' => wX_go_44 post J x1 (nI i) f (nI r') (nI x) (nI (ro_W s n l i (ro_acc s t i) x)) (nI s) (nI n) f2 (nI l) f4 (ro_it t) a2 ro_TB ro_TG ro_TN ro_TF)
    (fun x r' => r' ≤ r ∧ r' < ro_sf (ro_W s n l i (ro_acc s t i)) (8 - x) ∧ ∀ y, y < x → ro_W s n l i (ro_acc s t i) y ≤ r) 7 0 r (by omega) ⟨Nat.le_refl r, by rw [← g1] at hr; exact hr, fun y hy => absurd hy (by omega)⟩ ?_ ?_
  · intro f r' ⟨h1, h2, h3⟩
    have h4 : r' < ro_W s n l i (ro_acc s t i) 7 := by
      have e := ro_sf_s (ro_W s n l i (ro_acc s t i)) (x := 7) (by omega)
      have e0 : ro_sf (ro_W s n l i (ro_acc s t i)) (7 - 7) = 0 := rfl
      omega
    have h5 := (g3 7 (by omega)).1
    exact pk_lt r' (ro_W s n l i (ro_acc s t i) 7) (fun _ => X 7 r' (by omega) h1 h4 h3) (fun g => absurd g (by omega)) rfl rfl (by omega) (by omega)
  · intro f x r' hx ⟨h1, h2, h3⟩ hw
    have e := ro_sf_s (ro_W s n l i (ro_acc s t i)) (x := x) (by omega)
    have h5 := (g3 x (by omega)).1
    refine pk_lt r' (ro_W s n l i (ro_acc s t i) x) (fun g => X x r' (by omega) h1 g h3) (fun g => ?_) rfl rfl (by omega) (by omega)
    refine nm_r (pk_sub g) (nm_r (nI_1 x) (ro_wi sh hi (by omega) ht hk (hw (r' - ro_W s n l i (ro_acc s t i) x) ⟨by omega, ?_, fun y hy => ?_⟩)))
    · rw [show 8 - (x + 1) = 7 - x by omega]
      omega
    · by_cases c : y = x
      · rw [c]
        omega
      · exact h3 y (by omega)
theorem ro_22 {post : Int32 → St2 → Prop} {s n l m : Nat} {f2 f4 : Int32} {t : Nat → Nat} {a2 : Nat → Int32} (sh : ro_sh s n l) (ht : ∀ j, t j < 8) (hm : m < ro_gn s n l 0 0)
    (H : ∀ t', ro_gd s n l m t' l → post (nI m) (nI s, nI n, f2, nI l, nI m, ro_it t', a2, ro_TB, ro_TG, ro_TN, ro_TF)) :
    ∃ f, wX_go_22 post (nI m) f (nI m) 0 (nI s) (nI n) f2 (nI l) f4 (ro_it t) a2 ro_TB ro_TG ro_TN ro_TF := by
  have hl := ro_l14 sh
  refine pk_loop (σ := (Nat → Nat) × Nat) (fun f i st => wX_go_22 post (nI m) f (nI st.2) (nI i) (nI s) (nI n) f2 (nI l) f4 (ro_it st.1) a2 ro_TB ro_TG ro_TN ro_TF)
    (fun i st => ro_gd s n l m st.1 i ∧ st.2 ≤ m ∧ st.2 < ro_gn s n (l - i) i (ro_acc s st.1 i)) l 0 (t, m) (by omega) ⟨⟨ht, fun j hj => ?_, fun j hj => absurd hj (by omega)⟩, Nat.le_refl m, hm⟩ ?_ ?_
  · have e : j = 0 := by omega
    rw [e]
    exact ro_ok0 sh
  · intro f st h
    exact pk_le l l (fun _ => H st.1 h.1) (fun g => absurd g (by omega))
  · intro f i st hi h hw
    obtain ⟨hg, h1, h2⟩ := h
    refine pk_le l i (fun g => absurd g (by omega)) (fun _ => ro_wi (x := 0) sh hi (by omega) hg.1 (hg.2.1 i (Nat.le_refl i)) (ro_44 sh hi hg.1 (hg.2.1 i (Nat.le_refl i)) h2 (fun x r' hx hr hW hy => ?_)))
    have hW0 : 0 < ro_W s n l i (ro_acc s st.1 i) x := by omega
    refine hw (ro_up st.1 i x, r') ⟨ro_gd_s sh hi hg hx hW0 (fun y hy' => Nat.le_trans (hy y hy') h1), Nat.le_trans hr h1, ?_⟩
    rw [ro_W_pos hW0] at hW
    show r' < ro_gn s n (l - (i + 1)) (i + 1) (ro_acc s (ro_up st.1 i x) (i + 1))
    rw [ro_acc_s]
    exact hW
theorem ro_gp0 {s n l : Nat} (sh : ro_sh s n l) (t : Nat → Nat) : ro_gp s n l 0 (ro_acc s t 0) := by
  obtain ⟨hs, hn1, hn7, hl⟩ := sh
  show ro_gp s n l 0 0
  exact ⟨by omega, hs, hn7, by omega, by omega, by omega, by omega, by omega⟩
theorem ro_b40 : ∀ n, n < 8 → 1 ≤ n → ro_gn 4 n 0 0 0 = 0 := by decide +kernel
theorem ro_bnd {s n l : Nat} (sh : ro_sh s n l) : ro_gn s n l 0 0 < 1000000 := by
  by_cases c : s = 4 → 1 ≤ l
  · exact (ro_pos sh c).2
  · obtain ⟨hs, hn1, hn7, hl⟩ := sh
    have e1 : s = 4 := by omega
    have e2 : l = 0 := by omega
    rw [e1, e2, ro_b40 n (by omega) hn1]
    decide
/-- goingOn(0): how many objects there are -/
theorem ro_cnt {post : Int32 → Prop} {s n l : Nat} {f2 f4 : Int32} {t : Nat → Nat} {a2 : Nat → Int32} (sh : ro_sh s n l) (ht : ∀ j, t j < 8) (hp : post (nI (ro_gn s n l 0 0))) : wpX_goingOn post (nI s, nI n, f2, nI l, f4, ro_it t, a2, ro_TB, ro_TG, ro_TN, ro_TF) 0 :=
  ro_ge (i := 0) rfl ht (ro_gp0 sh t) hp
theorem ro_go {post : Int32 → St2 → Prop} {s n l : Nat} {f2 f4 p : Int32} {t : Nat → Nat} {a2 : Nat → Int32} (sh : ro_sh s n l) (ht : ∀ j, t j < 8)
    (H0 : (p < 0 ∨ ∃ m, p = nI m ∧ ro_gn s n l 0 0 ≤ m ∧ m < 2 ^ 31) → post (-1) (nI s, nI n, f2, nI l, f4, ro_it t, a2, ro_TB, ro_TG, ro_TN, ro_TF))
    (H : ∀ m t', p = nI m → m < ro_gn s n l 0 0 → ro_gd s n l m t' l → post p (nI s, nI n, f2, nI l, p, ro_it t', a2, ro_TB, ro_TG, ro_TN, ro_TF)) :
    wpX_go post (nI s, nI n, f2, nI l, f4, ro_it t, a2, ro_TB, ro_TG, ro_TN, ro_TF) p := by
  have hb := ro_bnd sh
  unfold wpX_go
  refine ro_cnt sh ht (br_c (fun g => H0 (Or.inl g)) (fun g => ?_))
  obtain ⟨m, hm, e⟩ := nI_of g
  subst e
  exact pk_lt m (ro_gn s n l 0 0) (fun g2 => ro_22 sh ht g2 (fun t' h => H m t' rfl g2 h)) (fun g2 => H0 (Or.inr ⟨m, rfl, g2, hm⟩)) rfl rfl hm (by omega)
/-! rankUpTo over number 0: all counts are 0 -/
theorem ro_r20 {post : Int32 → St2 → Prop} {J : ro_J2} {s n l j : Nat} {x1 f2 f4 : Int32} {t : Nat → Nat} {a2 : Nat → Int32} (sh : ro_sh s n l) (hj : j < l) (hg : ro_gd s n l 0 t l)
    (H : J 0 (nI (j + 1)) (nI s) (nI n) f2 (nI l) f4 (ro_it t) a2 ro_TB ro_TG ro_TN ro_TF) :
    ∃ f, wX_rankUpTo_20 post J x1 (nI j) (nI (t j)) f 0 0 (nI s) (nI n) f2 (nI l) f4 (ro_it t) a2 ro_TB ro_TG ro_TN ro_TF := by
  obtain ⟨ht, hk, hW⟩ := hg
  have hl := ro_l14 sh
  have h8 := ht j
  refine pk_loop (σ := Unit) (fun f x _ => wX_rankUpTo_20 post J x1 (nI j) (nI (t j)) f 0 (nI x) (nI s) (nI n) f2 (nI l) f4 (ro_it t) a2 ro_TB ro_TG ro_TN ro_TF) (fun _ _ => True) (t j) 0 () (by omega) trivial ?_ ?_
  · intro f _ _
    exact pk_le (t j) (t j) (fun _ => ⟨pk_in j 14 (by omega), nm_r (e' := ro_it t) (by rw [ro_it_u (k := j) (x := t j) (nI_clamp (by omega)) (ro_b8 _ h8), ro_up_k rfl]) (nm_r (nI_1 j) H)⟩) (fun g => absurd g (by omega))
  · intro f x _ hx _ hw
    refine pk_le (t j) x (fun g => absurd g (by omega)) (fun _ => ro_wi sh hj (by omega) ht (hk j (by omega)) (nm_r ?_ (nm_r (nI_1 x) (hw () trivial))))
    have e : ro_W s n l j (ro_acc s t j) x = 0 := by
      have h := (hW j hj).2 x hx
      omega
    rw [e]
    decide
theorem ro_rank {post : Int32 → St2 → Prop} {s n l i : Nat} {f2 f4 : Int32} {t : Nat → Nat} {a2 : Nat → Int32} (sh : ro_sh s n l) (hi : i < l) (hg : ro_gd s n l 0 t l)
    (H : post 0 (nI s, nI n, f2, nI l, f4, ro_it t, a2, ro_TB, ro_TG, ro_TN, ro_TF)) : wpX_rankUpTo post (nI s, nI n, f2, nI l, f4, ro_it t, a2, ro_TB, ro_TG, ro_TN, ro_TF) (nI i) := by
  have hl := ro_l14 sh
  refine pk_loop (σ := Unit) (fun f j _ => wX_rankUpTo_4 post (nI i) f 0 (nI j) (nI s) (nI n) f2 (nI l) f4 (ro_it t) a2 ro_TB ro_TG ro_TN ro_TF) (fun _ _ => True) (i + 1) 0 () (by omega) trivial ?_ ?_
  · intro f _ _
    exact pk_lt i (i + 1) (fun _ => H) (fun g => absurd g (by omega))
  · intro f j _ hj _ hw
    exact pk_lt i j (fun g => absurd g (by omega)) (fun _ => ⟨pk_in j 14 (by omega), nm_r (e' := nI (t j)) (by rw [nI_clamp (by omega)]; rfl) (ro_r20 sh (by omega) hg (hw () trivial))⟩)
/-! difference: it ends, and answers no negative number where the number is there -/
theorem ro_66 {post : Int32 → St2 → Prop} {s n l : Nat} {x3 f2 f4 : Int32} {t : Nat → Nat} {a2 : Nat → Int32} (sh : ro_sh s n l) (ht : ∀ j, t j < 8) (H : ∀ c u, c ≤ 14 → post (nI c) u) :
    ∃ f, wX_difference_66 post x3 (nI s) (nI n) f2 (nI l) f4 (ro_it t) a2 ro_TB ro_TG ro_TN ro_TF f 0 0 := by
  have hl := ro_l14 sh
  refine pk_loop (fun f i c => wX_difference_66 post x3 (nI s) (nI n) f2 (nI l) f4 (ro_it t) a2 ro_TB ro_TG ro_TN ro_TF f (nI c) (nI i)) (fun i c => c ≤ i) l 0 0 (by omega) (by omega) ?_ ?_
  · intro f c hc
    exact pk_le l l (fun _ => ro_go sh ht (fun _ => H c _ (by omega)) (fun _ _ _ _ _ => H c _ (by omega))) (fun g => absurd g (by omega))
  · intro f i c hi hc hw
    refine pk_le l i (fun g => absurd g (by omega)) (fun _ => ⟨pk_in i 14 (by omega), pk_in i 14 (by omega), br_c (fun _ => nm_r (nI_1 i) (hw c (by omega))) (fun _ => nm_r (nI_1 c) (nm_r (nI_1 i) (hw (c + 1) (by omega))))⟩)
theorem ro_25 {post : Int32 → St2 → Prop} {s n l : Nat} {x1 x3 f2 f4 : Int32} {t : Nat → Nat} {a2 : Nat → Int32} (sh : ro_sh s n l) (ht : ∀ j, t j < 8) (H : ∀ c u, c ≤ 14 → post (nI c) u) :
    ∃ f, wX_difference_25 post x1 x3 (nI s) (nI n) f2 (nI l) f4 f 0 (ro_it t) a2 ro_TB ro_TG ro_TN ro_TF := by
  have hl := ro_l14 sh
  refine pk_loop (fun f i b => wX_difference_25 post x1 x3 (nI s) (nI n) f2 (nI l) f4 f (nI i) (ro_it t) b ro_TB ro_TG ro_TN ro_TF) (fun _ _ => True) l 0 a2 (by omega) trivial ?_ ?_
  · intro f b _
    exact pk_le l l (fun _ => ro_go sh ht (fun _ => ro_66 sh ht H) (fun _ t' _ _ hg => ro_66 sh hg.1 H)) (fun g => absurd g (by omega))
  · intro f i b hi _ hw
    exact pk_le l i (fun g => absurd g (by omega)) (fun _ => ⟨pk_in i 14 (by omega), pk_in i 14 (by omega), nm_e (nm_r (nI_1 i) (hw _ trivial))⟩)
theorem ro_diff {post : Int32 → St2 → Prop} {s n l : Nat} {f2 f4 p : Int32} {t : Nat → Nat} {a2 : Nat → Int32} (sh : ro_sh s n l) (ht : ∀ j, t j < 8) (H : ∀ c u, c ≤ 14 → post (nI c) u)
    (H0 : (p < 0 ∨ ∃ m, p = nI m ∧ ro_gn s n l 0 0 ≤ m ∧ m < 2 ^ 31) → post (-1) (nI s, nI n, f2, nI l, f4, ro_it t, a2, ro_TB, ro_TG, ro_TN, ro_TF)) :
    wpX_difference post (nI s, nI n, f2, nI l, f4, ro_it t, a2, ro_TB, ro_TG, ro_TN, ro_TF) p := by
  have hb := ro_bnd sh
  unfold wpX_difference
  refine ro_cnt sh ht (br_c (fun g => H0 (Or.inl g)) (fun g => ?_))
  obtain ⟨m, hm, e⟩ := nI_of g
  subst e
  exact pk_lt m (ro_gn s n l 0 0) (fun g2 => ro_25 sh ht H) (fun g2 => H0 (Or.inr ⟨m, rfl, g2, hm⟩)) rfl rfl hm (by omega)
/-! choose and the constructor -/
theorem ro_c100 {post : Int32 → St2 → Prop} {s n l : Nat} {z f0 f1 f2 f3 f4 : Int32} {t : Nat → Nat} {a2 : Nat → Int32} (sh : ro_sh s n l) (hz : z = nI l) (h0 : f0 = nI s) (h1 : f1 = nI n) (ht : ∀ j, t j < 8)
    (H1 : 0 < ro_gn s n l 0 0 → ∀ t', ro_gd s n l 0 t' l → post 1 (nI s, nI n, f2, nI l, 0, ro_it t', a2, ro_TB, ro_TG, ro_TN, ro_TF))
    (H0 : ro_gn s n l 0 0 = 0 → post 1 (nI s, nI n, f2, nI l, -2, ro_it t, a2, ro_TB, ro_TG, ro_TN, ro_TF)) :
    wX_choose_100 post z f0 f1 f2 f3 f4 (ro_it t) a2 ro_TB ro_TG ro_TN ro_TF := by
  subst hz h0 h1
  have hb := ro_bnd sh
  unfold wX_choose_100 wpX_count
  refine ro_cnt sh ht (pk_le (ro_gn s n l 0 0) 0 (fun g => H0 (by omega)) (fun g => ro_go sh ht (fun h => ?_) (fun m t' e _ hg => ?_)) rfl rfl (by omega) (by omega))
  · exfalso
    rcases h with h | ⟨m, e, h, hm⟩
    · exact absurd h (by decide)
    · have e0 : (0 : Nat) = m := (nI_eq (by omega) hm).mp e
      omega
  · have hm : m = 0 ∨ 0 < m := by omega
    rcases hm with hm | hm
    · subst hm
      exact H1 g t' hg
    · exact absurd e.symm (nI_ne0 hm (by omega))
/-- choose refuses -/
theorem ro_cbad {post : Int32 → St2 → Prop} {p0 p1 p2 f0 f1 f2 f3 f4 : Int32} {a1 a2 a3 a4 a5 a6 : Nat → Int32} (h : p0 < 0 ∨ 4 < p0 ∨ p1 < 1 ∨ ¬ p1 ≤ 7 ∨ ((p0 = 0 ∨ p0 = 4) ∧ (p2 < 0 ∨ ¬ p2 ≤ p1))) (H : post 0 (f0, f1, f2, f3, f4, a1, a2, a3, a4, a5, a6)) : wpX_choose post (f0, f1, f2, f3, f4, a1, a2, a3, a4, a5, a6) p0 p1 p2 := by
  unfold wpX_choose
  refine br_c (fun _ => H) (fun c1 => br_c (fun _ => H) (fun c2 => br_c (fun _ => H) (fun c3 => br_c (fun c4 => ?_) (fun _ => H))))
  have h' : (p0 = 0 ∨ p0 = 4) ∧ (p2 < 0 ∨ ¬ p2 ≤ p1) := by
    rcases h with h | h | h | h | h
    · exact absurd h c1
    · exact absurd h c2
    · exact absurd h c3
    · exact absurd c4 h
    · exact h
  have h31 : wX_choose_31 post p0 p1 p2 f0 f1 f2 f3 f4 a1 a2 a3 a4 a5 a6 := by
    unfold wX_choose_31 wX_choose_36
    refine br_f (by decide) (br_c (fun _ => H) (fun c5 => br_c (fun c6 => ?_) (fun _ => H)))
    rcases h'.2 with q | q
    · exact absurd q c5
    · exact absurd c6 q
  refine br_c (fun _ => h31) (fun c5 => br_c (fun _ => h31) (fun c6 => ?_))
  rcases h'.1 with q | q
  · exact absurd q c5
  · exact absurd q c6
/-- choose takes a sort without a second number -/
theorem ro_cok1 {post : Int32 → St2 → Prop} {s n l : Nat} {p2 f0 f1 f2 f3 f4 : Int32} {t : Nat → Nat} {a2 : Nat → Int32} (sh : ro_sh s n l) (h0 : s ≠ 0) (h4 : s ≠ 4) (ht : ∀ j, t j < 8)
    (H : ∀ t', ro_gd s n l 0 t' l → post 1 (nI s, nI n, 0, nI l, 0, ro_it t', a2, ro_TB, ro_TG, ro_TN, ro_TF)) :
    wpX_choose post (f0, f1, f2, f3, f4, ro_it t, a2, ro_TB, ro_TG, ro_TN, ro_TF) (nI s) (nI n) p2 := by
  have sh' := sh
  obtain ⟨hs, hn1, hn7, hl⟩ := sh'
  have hp := (ro_pos sh (fun e => absurd e h4)).1
  unfold wpX_choose
  refine br_f (nI_pos (by omega)) (br_f (nI_nlt (b := s) (a := 4) hs (by omega)) (br_f (nI_nlt (b := 1) hn1 (by omega)) (br_t (nI_le (b := 7) hn7 (by omega)) (pk_eq s 0 (fun g => absurd g h0) (fun _ => pk_eq s 4 (fun g => absurd g h4) (fun _ => ?_))))))
  unfold wX_choose_36
  refine br_t rfl ?_
  unfold wX_choose_54
  refine br_t rfl ?_
  unfold wX_choose_75
  refine br_t rfl (pk_eq s 3 (fun g => ?_) (fun g => ?_))
  · exact ro_c100 (s := s) (n := n) (l := l) sh (by rw [show (2 : Int32) = nI 2 from rfl, pk_mul, show l = 2 * n by omega]) rfl rfl ht (fun _ => H) (fun e => absurd hp (by omega))
  · exact ro_c100 (s := s) (n := n) (l := l) sh (by rw [show l = n by omega]) rfl rfl ht (fun _ => H) (fun e => absurd hp (by omega))
/-- choose takes a sort with a second number -/
theorem ro_cok2 {post : Int32 → St2 → Prop} {s n l : Nat} {f0 f1 f2 f3 f4 : Int32} {t : Nat → Nat} {a2 : Nat → Int32} (sh : ro_sh s n l) (h04 : s = 0 ∨ s = 4) (ht : ∀ j, t j < 8)
    (H1 : 0 < ro_gn s n l 0 0 → ∀ t', ro_gd s n l 0 t' l → post 1 (nI s, nI n, nI l, nI l, 0, ro_it t', a2, ro_TB, ro_TG, ro_TN, ro_TF))
    (H0 : ro_gn s n l 0 0 = 0 → post 1 (nI s, nI n, nI l, nI l, -2, ro_it t, a2, ro_TB, ro_TG, ro_TN, ro_TF)) :
    wpX_choose post (f0, f1, f2, f3, f4, ro_it t, a2, ro_TB, ro_TG, ro_TN, ro_TF) (nI s) (nI n) (nI l) := by
  have sh' := sh
  obtain ⟨hs, hn1, hn7, hl⟩ := sh'
  have hln : l ≤ n := by omega
  have h31 : wX_choose_31 post (nI s) (nI n) (nI l) f0 f1 f2 f3 f4 (ro_it t) a2 ro_TB ro_TG ro_TN ro_TF := by
    unfold wX_choose_31 wX_choose_36
    refine br_f (by decide) (br_f (nI_pos (by omega)) (br_t (nI_le hln (by omega)) ?_))
    unfold wX_choose_54
    refine br_f (by decide) ?_
    unfold wX_choose_75
    exact br_f (by decide) (ro_c100 (s := s) (n := n) (l := l) sh rfl rfl rfl ht H1 H0)
  unfold wpX_choose
  exact br_f (nI_pos (by omega)) (br_f (nI_nlt (b := s) (a := 4) hs (by omega)) (br_f (nI_nlt (b := 1) hn1 (by omega)) (br_t (nI_le (b := 7) hn7 (by omega)) (pk_eq s 0 (fun _ => h31) (fun _ => pk_eq s 4 (fun _ => h31) (fun g => absurd g (by omega)))))))
theorem ro_sh3 : ro_sh 1 3 3 := ⟨by omega, by omega, by omega, by omega⟩
theorem ro_init {post : St2 → Prop} {f0 f1 f2 f3 f4 : Int32} (H : ∀ t, ro_gd 1 3 3 0 t 3 → post (nI 1, nI 3, 0, nI 3, 0, ro_it t, (fun _ => 0), ro_TB, ro_TG, ro_TN, ro_TF)) : wpX_init post 6 292 (f0, f1, f2, f3, f4) := by
  unfold wpX_init
  refine ⟨by omega, by omega, by omega, by omega, by omega, by omega, by omega, by omega, by omega, by omega, by omega, by omega, ro_fill ?_⟩
  exact ro_cok1 (s := 1) (n := 3) (l := 3) (t := fun _ => 0) ro_sh3 (by omega) (by omega) (fun _ => by omega) (fun t' h => H t' h)
end
section
/-! the law behind choose -/
theorem ro_l293 {post : Int32 → St0 → Prop} {mc ms kc ks s n l : Nat} {x3 x7 z f2 f4 : Int32} {t : Nat → Nat} {a2 : Nat → Int32} (sh : ro_sh s n l) (ht : ∀ j, t j < 8) (H : post 1 ()) (hc : x7 = 0 → 0 < ro_gn s n l 0 0) : wL_lawOf_293 post mc ms x3 x7 z z kc ks (nI s) (nI n) f2 (nI l) f4 (ro_it t) a2 ro_TB ro_TG ro_TN ro_TF := by
  unfold wL_lawOf_293
  refine br_t rfl (ro_diff sh ht (fun c u hc => ?_) (fun h => ?_))
  · obtain ⟨u0, u1, u2, u3, u4, u5, u6, u7, u8, u9, u10⟩ := u
    exact br_t (nI_pos' (by omega)) H
  · refine br_f (by decide) (br_c (fun e3 => br_c (fun e7 => ?_) (fun _ => H)) (fun _ => H))
    exfalso
    have hg := hc e7
    subst e3
    rcases h with h | ⟨m, e, h, hm⟩
    · exact absurd h (by decide)
    · have e0 : (0 : Nat) = m := (nI_eq (by omega) hm).mp e
      omega
/-- the place that is looked at: there, with the first object's item, or away -/
def ro_th (s n l : Nat) (x4 x9 x10 : Int32) : Prop := (x9 = 1 ∧ ∃ j, j < l ∧ x4 = nI j ∧ x10 = nI (ro_first s n l j)) ∨ (x9 = 0 ∧ (x4 < 0 ∨ nI l ≤ x4))
theorem ro_l236 {post : Int32 → St0 → Prop} {mc ms kc ks s n l : Nat} {x3 x4 x9 x10 f2 : Int32} {t : Nat → Nat} {a2 : Nat → Int32} (sh : ro_sh s n l) (hg : ro_gd s n l 0 t l) (H : post 1 ()) (hc : 0 < ro_gn s n l 0 0) (th : ro_th s n l x4 x9 x10) : wL_lawOf_236 post mc ms x3 x4 0 x9 x10 0 0 kc ks (nI s) (nI n) f2 (nI l) 0 (ro_it t) a2 ro_TB ro_TG ro_TN ro_TF := by
  have hl := ro_l14 sh
  have h00 : ¬ (0 : Int32) < 0 := by decide
  unfold wL_lawOf_236
  refine br_t rfl ?_
  unfold wpX_item
  refine br_f h00 ?_
  rcases th with ⟨e9, j, hj, e4, e10⟩ | ⟨e9, h4⟩
  · subst e9 e4
    have et : t j = ro_first s n l j := ro_gd_0 sh hg l (Nat.le_refl l) j hj
    rw [← et] at e10
    subst e10
    refine br_f (nI_pos (by omega)) (br_t (nI_lt hj (by omega)) ⟨pk_in j 14 (by omega), br_f (by decide) ?_⟩)
    rw [nI_clamp (by omega)]
    unfold wL_lawOf_259
    refine br_t rfl ?_
    unfold wpX_previous
    refine br_f h00 (br_t rfl ?_)
    unfold wpX_firstLike
    exact br_f h00 (br_f (nI_pos (by omega)) (br_t (nI_lt hj (by omega)) (ro_rank sh hj hg (br_f (by decide) (ro_l293 sh hg.1 H (fun _ => hc))))))
  · subst e9
    have K : wL_lawOf_259 post mc ms x3 x4 0 0 (-1) (-1) kc ks (nI s) (nI n) f2 (nI l) 0 (ro_it t) a2 ro_TB ro_TG ro_TN ro_TF := by
      unfold wL_lawOf_259
      refine br_t rfl ?_
      unfold wpX_previous
      refine br_f h00 (br_t rfl ?_)
      unfold wpX_firstLike
      refine br_f h00 (br_c (fun _ => br_t rfl (ro_l293 sh hg.1 H (fun _ => hc))) (fun c1 => br_c (fun c2 => ?_) (fun _ => br_t rfl (ro_l293 sh hg.1 H (fun _ => hc)))))
      rcases h4 with h4 | h4
      · exact absurd h4 c1
      · exact absurd h4 (Int32.not_le.mpr c2)
    refine br_c (fun _ => br_t rfl K) (fun c1 => br_c (fun c2 => ?_) (fun _ => br_t rfl K))
    rcases h4 with h4 | h4
    · exact absurd h4 c1
    · exact absurd h4 (Int32.not_le.mpr c2)
theorem ro_l236n {post : Int32 → St0 → Prop} {mc ms kc ks n : Nat} {x3 x4 x10 f2 : Int32} {t : Nat → Nat} {a2 : Nat → Int32} (sh : ro_sh 4 n 0) (ht : ∀ j, t j < 8) (H : post 1 ()) : wL_lawOf_236 post mc ms x3 x4 1 0 x10 (-2) (-2) kc ks (nI 4) (nI n) f2 (nI 0) (-2) (ro_it t) a2 ro_TB ro_TG ro_TN ro_TF := by
  unfold wL_lawOf_236
  refine br_t rfl ?_
  unfold wpX_item
  refine br_t (by decide) (br_t rfl ?_)
  unfold wL_lawOf_259
  refine br_t rfl ?_
  unfold wpX_previous
  refine br_f (by decide) (br_t rfl ?_)
  unfold wpX_firstLike
  exact br_t (by decide) (br_t rfl (ro_l293 sh ht H (fun e => absurd e (by decide))))
/-! the law from its object on -/
theorem ro_196b {post : Int32 → St0 → Prop} {x0 x1 x2 x3 x4 x9 x10 : Int32} (h : x0 < 0 ∨ 4 < x0 ∨ x1 < 1 ∨ ¬ x1 ≤ 7 ∨ ((x0 = 0 ∨ x0 = 4) ∧ (x2 < 0 ∨ ¬ x2 ≤ x1))) (H : post 1 ()) (th : ro_th 1 3 3 x4 x9 x10) : wL_lawOf_196 post 156 2480 x0 x1 x2 x3 x4 0 0 x9 x10 0 0 := by
  unfold wL_lawOf_196
  refine ⟨by omega, by omega, 6, 292, by omega, by omega, ro_init (fun t hg => ro_cbad h (br_t rfl ?_))⟩
  exact br_t rfl (ro_l236 ro_sh3 hg H (by decide) th)
theorem ro_1961 {post : Int32 → St0 → Prop} {s n l : Nat} {x2 x3 x4 x9 x10 : Int32} (sh : ro_sh s n l) (h0 : s ≠ 0) (h4 : s ≠ 4) (H : post 1 ()) (th : ro_th s n l x4 x9 x10) : wL_lawOf_196 post 156 2480 (nI s) (nI n) x2 x3 x4 1 0 x9 x10 0 0 := by
  unfold wL_lawOf_196
  refine ⟨by omega, by omega, 6, 292, by omega, by omega, ro_init (fun t hg => ro_cok1 sh h0 h4 hg.1 (fun t' hg' => br_t rfl ?_))⟩
  exact br_t rfl (ro_l236 sh hg' H (ro_pos sh (fun e => absurd e h4)).1 th)
theorem ro_1962 {post : Int32 → St0 → Prop} {s n l : Nat} {x3 x4 x9 x10 : Int32} (sh : ro_sh s n l) (h04 : s = 0 ∨ s = 4) (h1 : s = 4 → 1 ≤ l) (H : post 1 ()) (th : ro_th s n l x4 x9 x10) : wL_lawOf_196 post 156 2480 (nI s) (nI n) (nI l) x3 x4 1 0 x9 x10 0 0 := by
  have hp := (ro_pos sh h1).1
  unfold wL_lawOf_196
  refine ⟨by omega, by omega, 6, 292, by omega, by omega, ro_init (fun t hg => ro_cok2 sh h04 hg.1 (fun _ t' hg' => br_t rfl ?_) (fun e => absurd hp (by omega)))⟩
  exact br_t rfl (ro_l236 sh hg' H hp th)
theorem ro_196n {post : Int32 → St0 → Prop} {n : Nat} {x3 x4 x10 : Int32} (sh : ro_sh 4 n 0) (H : post 1 ()) : wL_lawOf_196 post 156 2480 (nI 4) (nI n) (nI 0) x3 x4 1 1 0 x10 0 0 := by
  have e0 : ro_gn 4 n 0 0 0 = 0 := ro_b40 n (by obtain ⟨_, _, _, _⟩ := sh; omega) (by obtain ⟨_, _, _, _⟩ := sh; omega)
  unfold wL_lawOf_196
  refine ⟨by omega, by omega, 6, 292, by omega, by omega, ro_init (fun t hg => ro_cok2 sh (Or.inr rfl) hg.1 (fun hp => absurd hp (by omega)) (fun _ => br_t rfl ?_))⟩
  exact br_f (by decide) (ro_l236n sh hg.1 H)
end
section
/-! the law's own reckoning of what must come -/
theorem ro_par : ∀ j, j < 14 → (1 : Int32) - (nI j &&& 1) = nI (1 - j % 2) := by decide +kernel
/-- refused: the three orders stay -/
theorem ro_55b {post : Int32 → St0 → Prop} {x0 x1 x2 x3 x4 x5 : Int32} (h : x0 < 0 ∨ 4 < x0 ∨ x1 < 1 ∨ ¬ x1 ≤ 7 ∨ ((x0 = 0 ∨ x0 = 4) ∧ (x2 < 0 ∨ ¬ x2 ≤ x1))) (H : post 1 ()) : wL_lawOf_54 post 156 2480 x0 x1 x2 x3 x4 x5 0 0 := by
  have K : ∀ x9, ro_th 1 3 3 x4 x9 x4 → wL_lawOf_132 post 156 2480 x0 x1 x2 x3 x4 0 0 3 x9 0 0 := by
    intro x9 th
    unfold wL_lawOf_132 wL_lawOf_148 wL_lawOf_176
    exact br_t rfl (br_t rfl (ro_196b h H th))
  unfold wL_lawOf_54 wL_lawOf_55
  refine br_t rfl ?_
  unfold wL_lawOf_75 wL_lawOf_76
  refine br_t rfl ?_
  unfold wL_lawOf_108 wL_lawOf_131
  refine br_c (fun c1 => K 0 (Or.inr ⟨rfl, Or.inl c1⟩)) (fun c1 => br_c (fun c2 => K 0 (Or.inr ⟨rfl, Or.inr c2⟩)) (fun c2 => br_t rfl (K 1 (Or.inl ⟨rfl, ?_⟩))))
  obtain ⟨j, hj, e⟩ := nI_of c1
  subst e
  have h3 : ¬ 3 ≤ j := fun z => c2 (nI_le (a := 3) z hj)
  exact ⟨j, by omega, rfl, rfl⟩
theorem ro_176 {post : Int32 → St0 → Prop} {mc ms kc ks s n l : Nat} {x2 x3 x4 x9 z : Int32} (hs : s ≤ 4) (hA : ∀ x10, ro_th s n l x4 x9 x10 → wL_lawOf_196 post mc ms (nI s) (nI n) x2 x3 x4 1 0 x9 x10 kc ks) (h3 : s = 3 → ro_th s n l x4 x9 (1 - (x4 &&& 1))) (hz : s ≠ 3 → ro_th s n l x4 x9 z) : wL_lawOf_176 post mc ms (nI s) (nI n) x2 x3 x4 1 0 x9 z kc ks := by
  unfold wL_lawOf_176
  exact br_f (by decide) (pk_eq s 3 (fun g => nm_e (hA _ (h3 g))) (fun g => hA _ (hz g)))
theorem ro_132 {post : Int32 → St0 → Prop} {mc ms kc ks s n l : Nat} {x2 x3 x4 x9 : Int32} (sh : ro_sh s n l) (hA : ∀ x10, ro_th s n l x4 x9 x10 → wL_lawOf_196 post mc ms (nI s) (nI n) x2 x3 x4 1 0 x9 x10 kc ks) (h9 : (x9 = 1 ∧ ∃ j, j < l ∧ x4 = nI j) ∨ (x9 = 0 ∧ (x4 < 0 ∨ nI l ≤ x4))) : wL_lawOf_132 post mc ms (nI s) (nI n) x2 x3 x4 1 0 (nI l) x9 kc ks := by
  have hl := ro_l14 sh
  have hs := sh.1
  have q3 : s = 3 → ro_th s n l x4 x9 (1 - (x4 &&& 1)) := by
    intro e
    rcases h9 with ⟨e9, j, hj, e4⟩ | ⟨e9, h4⟩
    · refine Or.inl ⟨e9, j, hj, e4, ?_⟩
      rw [e4, e, ro_par j (by omega)]
      rfl
    · exact Or.inr ⟨e9, h4⟩
  unfold wL_lawOf_132 wL_lawOf_148
  refine br_f (by decide) (pk_eq s 0 (fun g => ro_176 hs hA q3 (fun _ => ?_)) (fun g0 => pk_eq s 1 (fun g => ro_176 hs hA q3 (fun _ => ?_)) (fun g1 => pk_eq s 2 (fun g => ro_176 hs hA q3 (fun _ => ?_)) (fun g2 => br_c (fun c => ro_176 hs hA q3 (fun g3 => ?_)) (fun c => ro_176 hs hA q3 (fun g3 => ?_))))))
  · subst g
    rcases h9 with ⟨e9, j, hj, e4⟩ | ⟨e9, h4⟩
    · exact Or.inl ⟨e9, j, hj, e4, e4⟩
    · exact Or.inr ⟨e9, h4⟩
  · subst g
    rcases h9 with ⟨e9, j, hj, e4⟩ | ⟨e9, h4⟩
    · exact Or.inl ⟨e9, j, hj, e4, e4⟩
    · exact Or.inr ⟨e9, h4⟩
  · subst g
    rcases h9 with ⟨e9, j, hj, e4⟩ | ⟨e9, h4⟩
    · exact Or.inl ⟨e9, j, hj, e4, rfl⟩
    · exact Or.inr ⟨e9, h4⟩
  · have e : s = 4 := by omega
    subst e
    rcases h9 with ⟨e9, j, hj, e4⟩ | ⟨e9, h4⟩
    · refine Or.inl ⟨e9, j, hj, e4, ?_⟩
      rw [e4, ro_p1 (by omega), nI_eq (by omega) (by omega)] at c
      show nI n = nI (if j + 1 = l then n else 0)
      rw [if_pos (by omega)]
    · exact Or.inr ⟨e9, h4⟩
  · have e : s = 4 := by omega
    subst e
    rcases h9 with ⟨e9, j, hj, e4⟩ | ⟨e9, h4⟩
    · refine Or.inl ⟨e9, j, hj, e4, ?_⟩
      rw [e4, ro_p1 (by omega), nI_eq (by omega) (by omega)] at c
      show 0 = nI (if j + 1 = l then n else 0)
      rw [if_neg (by omega), nI_0]
    · exact Or.inr ⟨e9, h4⟩
theorem ro_108 {post : Int32 → St0 → Prop} {mc ms kc ks s n l : Nat} {x2 x3 x4 z : Int32} (sh : ro_sh s n l) (hz : z = nI l) (hA : ∀ x9 x10, ro_th s n l x4 x9 x10 → wL_lawOf_196 post mc ms (nI s) (nI n) x2 x3 x4 1 0 x9 x10 kc ks) : wL_lawOf_108 post mc ms (nI s) (nI n) x2 x3 x4 1 0 z kc ks := by
  subst hz
  have hl := ro_l14 sh
  unfold wL_lawOf_108 wL_lawOf_131
  refine br_c (fun c1 => ro_132 sh (hA 0) (Or.inr ⟨rfl, Or.inl c1⟩)) (fun c1 => br_c (fun c2 => ro_132 sh (hA 0) (Or.inr ⟨rfl, Or.inr c2⟩)) (fun c2 => br_t rfl (ro_132 sh (hA 1) (Or.inl ⟨rfl, ?_⟩))))
  obtain ⟨j, hj, e⟩ := nI_of c1
  subst e
  have h3 : ¬ l ≤ j := fun z => c2 (nI_le z hj)
  exact ⟨j, by omega, rfl⟩
/-- taken, a sort without a second number -/
theorem ro_551 {post : Int32 → St0 → Prop} {s n l : Nat} {x2 x3 x4 : Int32} (sh : ro_sh s n l) (h0 : s ≠ 0) (h4 : s ≠ 4) (H : post 1 ()) : wL_lawOf_50 post 156 2480 (nI s) (nI n) x2 x3 x4 0 0 0 := by
  have sh' := sh
  obtain ⟨hs, hn1, hn7, hl⟩ := sh'
  unfold wL_lawOf_50 wL_lawOf_55
  refine br_f (by decide) (pk_eq s 4 (fun g => absurd g h4) (fun _ => ?_))
  unfold wL_lawOf_75 wL_lawOf_76
  refine br_f (by decide) (br_t rfl (pk_eq s 3 (fun g => ?_) (fun g => ?_)))
  · exact ro_108 sh (by rw [show (2 : Int32) = nI 2 from rfl, pk_mul, show l = 2 * n by omega]) (fun x9 x10 th => ro_1961 sh h0 h4 H th)
  · exact ro_108 sh (by rw [show l = n by omega]) (fun x9 x10 th => ro_1961 sh h0 h4 H th)
/-- taken, a sort with a second number -/
theorem ro_552 {post : Int32 → St0 → Prop} {s n l : Nat} {x3 x4 : Int32} (sh : ro_sh s n l) (h04 : s = 0 ∨ s = 4) (H : post 1 ()) : wL_lawOf_50 post 156 2480 (nI s) (nI n) (nI l) x3 x4 1 0 0 := by
  have sh' := sh
  obtain ⟨hs, hn1, hn7, hl⟩ := sh'
  have N : (s = 4 → 1 ≤ l) → wL_lawOf_75 post 156 2480 (nI s) (nI n) (nI l) x3 x4 1 1 0 0 := by
    intro h1
    unfold wL_lawOf_75 wL_lawOf_76
    exact br_f (by decide) (br_f (by decide) (ro_108 sh rfl (fun x9 x10 th => ro_1962 sh h04 h1 H th)))
  unfold wL_lawOf_50 wL_lawOf_55
  refine br_f (by decide) (pk_eq s 4 (fun g => pk_eq l 0 (fun gl => ?_) (fun gl => N (fun _ => by omega))) (fun g => N (fun e => absurd e g)))
  subst g gl
  have K : wL_lawOf_132 post 156 2480 (nI 4) (nI n) (nI 0) x3 x4 1 1 (nI 0) 0 0 0 := by
    have M : ∀ z, wL_lawOf_176 post 156 2480 (nI 4) (nI n) (nI 0) x3 x4 1 1 0 z 0 0 := by
      intro z
      unfold wL_lawOf_176
      exact br_f (by decide) (br_f (by decide) (ro_196n sh H))
    unfold wL_lawOf_132
    exact br_f (by decide) (br_f (by decide) (br_f (by decide) (br_f (by decide) (br_c (fun _ => M _) (fun _ => M _)))))
  unfold wL_lawOf_76
  refine br_f (by decide) (br_f (by decide) ?_)
  unfold wL_lawOf_108 wL_lawOf_131
  exact br_c (fun _ => K) (fun _ => br_c (fun _ => K) (fun _ => br_f (by decide) K))
theorem ro_size {x : Int32} (h1 : ¬ x < 1) (h7 : ¬ 7 < x) : ∃ n : Nat, 1 ≤ n ∧ n ≤ 7 ∧ x = nI n := by
  have h0 : ¬ x < 0 := fun z => h1 (Int32.lt_trans z (by decide))
  obtain ⟨n, hn, e⟩ := nI_of2 (M := 7) (n := 7) (by decide) h0 (Int32.not_lt.mp h7)
  subst e
  refine ⟨n, ?_, hn, rfl⟩
  rcases Nat.eq_zero_or_pos n with z | z
  · subst z
    exact absurd (by decide) h1
  · exact z
theorem ro_law {post : Int32 → St0 → Prop} (x0 x1 x2 x3 x4 : Int32) (H : post 1 ()) : wpL_lawOf post 156 2480 () x0 x1 x2 x3 x4 := by
  have S : (x0 = 0 ∨ x0 = 4) → wL_lawOf_14 post 156 2480 x0 x1 x2 x3 x4 1 0 0 := by
    intro h04
    unfold wL_lawOf_14
    refine br_c (fun c => ro_55b (Or.inl c) H) (fun c1 => br_c (fun c => ro_55b (Or.inr (Or.inl c)) H) (fun c2 => br_c (fun c => ro_55b (Or.inr (Or.inr (Or.inl c))) H) (fun c3 => br_c (fun c => ro_55b (Or.inr (Or.inr (Or.inr (Or.inl (Int32.not_le.mpr c))))) H) (fun c4 => br_f (by decide) (br_c (fun c => ro_55b (Or.inr (Or.inr (Or.inr (Or.inr ⟨h04, Or.inl c⟩)))) H) (fun c5 => br_c (fun c => ro_55b (Or.inr (Or.inr (Or.inr (Or.inr ⟨h04, Or.inr (Int32.not_le.mpr c)⟩)))) H) (fun c6 => ?_)))))))
    obtain ⟨n, hn1, hn7, e1⟩ := ro_size c3 c4
    obtain ⟨k, hk, e2⟩ := nI_of c5
    subst e1 e2
    have hkn : k ≤ n := by
      rcases Nat.lt_or_ge n k with z | z
      · exact absurd (nI_lt z hk) c6
      · exact z
    rcases h04 with e | e
    · subst e
      exact ro_552 (s := 0) ⟨by omega, hn1, hn7, by omega⟩ (Or.inl rfl) H
    · subst e
      exact ro_552 (s := 4) ⟨by omega, hn1, hn7, by omega⟩ (Or.inr rfl) H
  unfold wpL_lawOf wL_lawOf_9
  refine br_c (fun c => S (Or.inl c)) (fun n0 => br_c (fun c => S (Or.inr c)) (fun n4 => ?_))
  unfold wL_lawOf_14
  refine br_c (fun c => ro_55b (Or.inl c) H) (fun c1 => br_c (fun c => ro_55b (Or.inr (Or.inl c)) H) (fun c2 => br_c (fun c => ro_55b (Or.inr (Or.inr (Or.inl c))) H) (fun c3 => br_c (fun c => ro_55b (Or.inr (Or.inr (Or.inr (Or.inl (Int32.not_le.mpr c))))) H) (fun c4 => br_t rfl ?_))))
  obtain ⟨n, hn1, hn7, e1⟩ := ro_size c3 c4
  obtain ⟨s, hs, e0⟩ := nI_of2 (M := 4) (n := 4) (by decide) c1 (Int32.not_lt.mp c2)
  subst e1 e0
  have s0 : s ≠ 0 := fun e => n0 (by rw [e]; rfl)
  have s4 : s ≠ 4 := fun e => n4 (by rw [e]; rfl)
  by_cases c : s = 3
  · exact ro_551 (l := 2 * n) ⟨hs, hn1, hn7, by omega⟩ s0 s4 H
  · exact ro_551 (l := n) ⟨hs, hn1, hn7, by omega⟩ s0 s4 H
theorem ro_cell {post : Int32 → Prop} {L : Nat} {xs : Nat → Int32} {p : Int32} (k : Nat) (hk : k < 100) (hL : L ≤ 5) (h : ∀ r, post r) (hp : p = nI k) : wpL_cellAt post L xs () p := by
  subst hp
  exact pk_le L k (fun _ => h 0) (fun g => ⟨pk_in k L g, h _⟩)
theorem i_vc (xs : Nat → Int32) (L : Nat) (hL : L ≤ 5) : wpL_law (fun r => r = 1) L xs := by
  unfold wpL_law
  exact ro_cell 0 (by omega) hL (fun r1 => ro_cell 1 (by omega) hL (fun r2 => ro_cell 2 (by omega) hL (fun r3 => ro_cell 3 (by omega) hL (fun r4 => ro_cell 4 (by omega) hL (fun r5 => ⟨156, 2480, by omega, by omega, ro_law r1 r2 r3 r4 r5 rfl⟩) rfl) rfl) rfl) rfl) rfl
end
