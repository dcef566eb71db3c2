section
/-! starting text: rows of kit/rows -/
theorem pk_us {f : Nat → Int32} {k : Nat} {x : Int32} : upd f k x k = x := if_pos rfl
theorem pk_un {f : Nat → Int32} {k j : Nat} {x : Int32} (h : j ≠ k) : upd f k x j = f j := if_neg h
theorem pk_sub {a b : Nat} (h : b ≤ a) : nI a - nI b = nI (a - b) := by
  obtain ⟨c, rfl⟩ : ∃ c, a = c + b := ⟨a - b, by omega⟩
  rw [← nI_add, Int32.add_sub_cancel, Nat.add_sub_cancel]
theorem pk_m1 (n : Nat) : nI (n + 1) + (-1) = nI n := by
  rw [← nI_1, Int32.add_assoc, show (1 : Int32) + (-1) = 0 from rfl, Int32.add_zero]
theorem pk_mul (a b : Nat) : nI a * nI b = nI (a * b) := (Int32.ofNat_mul a b).symm
theorem pk_le {x y : Int32} {A B : Prop} (a b : Nat) (f : a ≤ b → A) (g : b < a → B) (hx : x = nI a := by rfl) (hy : y = nI b := by rfl) (ha : a < 2 ^ 31 := by omega) (hb : b < 2 ^ 31 := by omega) : (x ≤ y → A) ∧ (¬ x ≤ y → B) := by
  subst hx hy
  rw [nI_leI ha hb]
  exact ⟨f, fun z => g (by omega)⟩
theorem pk_lt {x y : Int32} {A B : Prop} (a b : Nat) (f : a < b → A) (g : b ≤ a → B) (hx : x = nI a := by rfl) (hy : y = nI b := by rfl) (ha : a < 2 ^ 31 := by omega) (hb : b < 2 ^ 31 := by omega) : (x < y → A) ∧ (¬ x < y → B) := by
  subst hx hy
  rw [nI_ltI ha hb]
  exact ⟨f, fun z => g (by omega)⟩
theorem pk_eq {x y : Int32} {A B : Prop} (a b : Nat) (f : a = b → A) (g : a ≠ b → B) (hx : x = nI a := by rfl) (hy : y = nI b := by rfl) (ha : a < 2 ^ 31 := by omega) (hb : b < 2 ^ 31 := by omega) : (x = y → A) ∧ (¬ x = y → B) := by
  subst hx hy
  rw [nI_eq ha hb]
  exact ⟨f, g⟩
theorem pk_vs (z : Int32) : vp_nar .short z.toInt16.toInt32 = z.toInt16.toInt32 := by rw [vp_nar_short]; simp

/-! the tree: node n in 1..15 covers the cells lo n .. hi n - 1 -/
def cq_lo (n : Nat) : Nat := if n < 2 then 0 else if n < 4 then (n - 2) * 4 else if n < 8 then (n - 4) * 2 else n - 8
def cq_hi (n : Nat) : Nat := if n < 2 then 8 else if n < 4 then (n - 1) * 4 else if n < 8 then (n - 3) * 2 else n - 7
/-- j is n or below it -/
def cq_sub (n j : Nat) : Prop := j < 16 ∧ (j = n ∨ j / 2 = n ∨ j / 4 = n ∨ j / 8 = n)
theorem cq_rng : ∀ n, n < 16 → 1 ≤ n → cq_lo n < cq_hi n ∧ cq_hi n ≤ 8 := by decide +kernel
theorem cq_kid : ∀ n, n < 8 → 1 ≤ n → cq_lo (2 * n) = cq_lo n ∧ cq_hi (2 * n) = cq_lo (2 * n + 1) ∧ cq_hi (2 * n + 1) = cq_hi n := by decide +kernel
theorem cq_leaf : ∀ n, n < 16 → 8 ≤ n → cq_hi n = cq_lo n + 1 := by decide +kernel
theorem cq_nestA : ∀ n, n < 16 → ∀ j, j < 16 → 1 ≤ n ∧ (j = n ∨ j / 2 = n ∨ j / 4 = n ∨ j / 8 = n) → cq_lo n ≤ cq_lo j ∧ cq_hi j ≤ cq_hi n := by decide +kernel
theorem cq_nest0 (n : Nat) (h : n < 16) (j : Nat) (hj : j < 16) (h1 : 1 ≤ n) (hs : j = n ∨ j / 2 = n ∨ j / 4 = n ∨ j / 8 = n) : cq_lo n ≤ cq_lo j ∧ cq_hi j ≤ cq_hi n ∧ cq_lo j < cq_hi j :=
  have a := cq_nestA n h j hj ⟨h1, hs⟩
  ⟨a.1, a.2, (cq_rng j hj (by omega)).1⟩
theorem cq_nest {n j : Nat} (h1 : 1 ≤ n) (h : cq_sub n j) : cq_lo n ≤ cq_lo j ∧ cq_hi j ≤ cq_hi n ∧ cq_lo j < cq_hi j :=
  cq_nest0 n (by have := h.1; have := h.2; omega) j h.1 h1 h.2
theorem cq_sub_rf {n : Nat} (h : n < 16) : cq_sub n n := ⟨h, Or.inl rfl⟩
theorem cq_sub_l {n : Nat} (h : n < 8) : cq_sub n (2 * n) := ⟨by omega, Or.inr (Or.inl (by omega))⟩
theorem cq_sub_r {n : Nat} (h : n < 8) : cq_sub n (2 * n + 1) := ⟨by omega, Or.inr (Or.inl (by omega))⟩
theorem cq_sub_par {n j : Nat} (h1 : 1 ≤ n) (h : cq_sub n j) (hj : j ≠ n) : cq_sub n (j / 2) ∧ j ≠ 1 := by
  obtain ⟨a, b⟩ := h
  refine ⟨⟨by omega, ?_⟩, by omega⟩
  rcases b with b | b | b | b
  · exact absurd b hj
  · exact Or.inl b
  · exact Or.inr (Or.inl (by omega))
  · exact Or.inr (Or.inr (Or.inl (by omega)))
theorem cq_sub_kids {n j : Nat} (h1 : 1 ≤ n) (h8 : n < 8) : cq_sub n j ↔ (j = n ∨ cq_sub (2 * n) j ∨ cq_sub (2 * n + 1) j) := by
  unfold cq_sub
  constructor
  · intro ⟨a, b⟩
    rcases b with b | b | b | b <;> omega
  · intro h
    rcases h with b | ⟨a, b⟩ | ⟨a, b⟩
    · omega
    · rcases b with b | b | b | b <;> omega
    · rcases b with b | b | b | b <;> omega
theorem cq_sub_dis {n j : Nat} (h1 : 1 ≤ n) (hl : cq_sub (2 * n) j) : ¬ cq_sub (2 * n + 1) j ∧ j ≠ n := by
  unfold cq_sub at hl ⊢
  obtain ⟨a, b⟩ := hl
  refine ⟨?_, ?_⟩
  · intro ⟨_, c⟩
    rcases b with b | b | b | b <;> rcases c with c | c | c | c <;> omega
  · rcases b with b | b | b | b <;> omega
theorem cq_sub_dis' {n j : Nat} (h1 : 1 ≤ n) (hl : cq_sub (2 * n + 1) j) : j ≠ n := by
  obtain ⟨a, b⟩ := hl
  rcases b with b | b | b | b <;> omega
theorem cq_sub_leaf {n j : Nat} (h8 : 8 ≤ n) (h : cq_sub n j) : j = n := by
  obtain ⟨a, b⟩ := h
  rcases b with b | b | b | b <;> omega
theorem cq_sub_tr {n j i : Nat} (h1 : 1 ≤ n) (h : cq_sub n j) (g : cq_sub j i) : cq_sub n i := by
  obtain ⟨a, b⟩ := h
  obtain ⟨c, d⟩ := g
  refine ⟨c, ?_⟩
  rcases b with b | b | b | b <;> rcases d with d | d | d | d <;> omega
theorem cq_sub_1 {j : Nat} : cq_sub 1 j ↔ (1 ≤ j ∧ j < 16) := by
  unfold cq_sub
  omega

/-! sums over the open counts -/
def cq_set (o : Nat → Nat) (k v : Nat) : Nat → Nat := fun j => if j = k then v else o j
theorem cq_set_s (o : Nat → Nat) (k v : Nat) : cq_set o k v k = v := if_pos rfl
theorem cq_set_n {o : Nat → Nat} {k v j : Nat} (h : j ≠ k) : cq_set o k v j = o j := if_neg h
def cq_S (o : Nat → Nat) (q : Nat → Bool) : Nat → Nat
  | 0 => 0
  | K + 1 => cq_S o q K + (if q K then o K else 0)
theorem cq_S_far (o : Nat → Nat) (q : Nat → Bool) (k v : Nat) : ∀ K, K ≤ k → cq_S (cq_set o k v) q K = cq_S o q K := by
  intro K
  induction K with
  | zero => intro _; rfl
  | succ K ih =>
    intro h
    show cq_S (cq_set o k v) q K + (if q K then cq_set o k v K else 0) = cq_S o q K + (if q K then o K else 0)
    rw [ih (by omega), cq_set_n (by omega)]
theorem cq_S_up (o : Nat → Nat) (q : Nat → Bool) (k v : Nat) : ∀ K, k < K → cq_S (cq_set o k v) q K + (if q k then o k else 0) = cq_S o q K + (if q k then v else 0) := by
  intro K
  induction K with
  | zero => intro h; omega
  | succ K ih =>
    intro h
    show cq_S (cq_set o k v) q K + (if q K then cq_set o k v K else 0) + (if q k then o k else 0) = cq_S o q K + (if q K then o K else 0) + (if q k then v else 0)
    by_cases e : k = K
    · subst e
      rw [cq_S_far o q k v k (Nat.le_refl k), cq_set_s]
      generalize (if q k = true then v else 0) = a
      generalize (if q k = true then o k else 0) = b
      omega
    · have i := ih (by omega)
      rw [cq_set_n (fun z => e z.symm)]
      generalize (if q k = true then v else 0) = a at i ⊢
      generalize (if q k = true then o k else 0) = b at i ⊢
      generalize (if q K = true then o K else 0) = c
      omega
theorem cq_S_le {o : Nat → Nat} (ho : ∀ j, o j ≤ 2) (q : Nat → Bool) : ∀ K, cq_S o q K ≤ 2 * K := by
  intro K
  induction K with
  | zero => exact Nat.le_refl 0
  | succ K ih =>
    show cq_S o q K + (if q K then o K else 0) ≤ 2 * (K + 1)
    have := ho K
    split <;> omega
theorem cq_S_0 (q : Nat → Bool) : ∀ K, cq_S (fun _ => 0) q K = 0 := by
  intro K
  induction K with
  | zero => rfl
  | succ K ih =>
    show cq_S (fun _ => 0) q K + (if q K then 0 else 0) = 0
    rw [ih]
    split <;> rfl
/-- node n is one of the canonical nodes of the cells l .. r - 1 -/
def cq_q (n l r : Nat) : Bool := decide (1 ≤ n ∧ n < 16 ∧ l < r ∧ l ≤ cq_lo n ∧ cq_hi n ≤ r ∧ (n = 1 ∨ ¬ (l ≤ cq_lo (n / 2) ∧ cq_hi (n / 2) ≤ r)))
def cq_b (n l r : Nat) : Nat := if cq_q n l r then 1 else 0
def cq_C (o : Nat → Nat) (n : Nat) : Nat := cq_S o (fun k => cq_q n (k / 8) (k % 8 + 1)) 64
theorem cq_C_le {o : Nat → Nat} (ho : ∀ j, o j ≤ 2) (n : Nat) : cq_C o n ≤ 128 := cq_S_le ho _ 64
theorem cq_C_0 : cq_C (fun _ => 0) = fun _ => 0 := funext fun n => cq_S_0 _ 64
theorem cq_C_set {o : Nat → Nat} {l r : Nat} (v : Nat) (hl : l < r) (hr : r ≤ 8) (n : Nat) : cq_C (cq_set o (l * 8 + r - 1) v) n + (if cq_q n l r then o (l * 8 + r - 1) else 0) = cq_C o n + (if cq_q n l r then v else 0) := by
  have h := cq_S_up o (fun k => cq_q n (k / 8) (k % 8 + 1)) (l * 8 + r - 1) v 64 (by omega)
  have e1 : (l * 8 + r - 1) / 8 = l := by omega
  have e2 : (l * 8 + r - 1) % 8 + 1 = r := by omega
  simp only [e1, e2] at h
  exact h
theorem cq_C_inc {o : Nat → Nat} {l r : Nat} (hl : l < r) (hr : r ≤ 8) (n : Nat) : cq_C (cq_set o (l * 8 + r - 1) (o (l * 8 + r - 1) + 1)) n = cq_C o n + cq_b n l r := by
  have h := cq_C_set (o := o) (o (l * 8 + r - 1) + 1) hl hr n
  unfold cq_b
  by_cases hq : cq_q n l r = true
  · simp only [if_pos hq] at h ⊢; omega
  · simp only [if_neg hq] at h ⊢; omega
theorem cq_C_dec {o : Nat → Nat} {l r : Nat} (hl : l < r) (hr : r ≤ 8) (h0 : 0 < o (l * 8 + r - 1)) (n : Nat) : cq_C o n = cq_C (cq_set o (l * 8 + r - 1) (o (l * 8 + r - 1) - 1)) n + cq_b n l r := by
  have h := cq_C_set (o := o) (o (l * 8 + r - 1) - 1) hl hr n
  unfold cq_b
  by_cases hq : cq_q n l r = true
  · simp only [if_pos hq] at h ⊢; omega
  · simp only [if_neg hq] at h ⊢; omega
end
section
/-! the lengths and the cells out of the nodes' counts c -/
def cq_lv (c : Nat → Nat) (n : Nat) : Nat :=
  if h : n = 0 ∨ 16 ≤ n then 0 else if c n = 0 then cq_lv c (2 * n) + cq_lv c (2 * n + 1) else cq_hi n - cq_lo n
termination_by 16 - n
decreasing_by all_goals omega
theorem cq_lv_o {c : Nat → Nat} {n : Nat} (h : n = 0 ∨ 16 ≤ n) : cq_lv c n = 0 := by
  rw [cq_lv, dif_pos h]
theorem cq_lv_z {c : Nat → Nat} {n : Nat} (h1 : 1 ≤ n) (h2 : n < 16) (h : c n = 0) : cq_lv c n = cq_lv c (2 * n) + cq_lv c (2 * n + 1) := by
  rw [cq_lv, dif_neg (by omega), if_pos h]
theorem cq_lv_p {c : Nat → Nat} {n : Nat} (h1 : 1 ≤ n) (h2 : n < 16) (h : ¬ c n = 0) : cq_lv c n = cq_hi n - cq_lo n := by
  rw [cq_lv, dif_neg (by omega), if_neg h]
theorem cq_lv_z8 {c : Nat → Nat} {n : Nat} (h1 : 8 ≤ n) (h : c n = 0) : cq_lv c n = 0 := by
  by_cases h2 : n < 16
  · rw [cq_lv_z (by omega) h2 h, cq_lv_o (n := 2 * n) (Or.inr (by omega)), cq_lv_o (n := 2 * n + 1) (Or.inr (by omega))]
  · exact cq_lv_o (Or.inr (by omega))
theorem cq_lv_c {c c' : Nat → Nat} : ∀ f n : Nat, 16 ≤ n + f → 1 ≤ n → (∀ j, cq_sub n j → c j = c' j) → cq_lv c n = cq_lv c' n := by
  intro f
  induction f with
  | zero => intro n h _ _; rw [cq_lv_o (Or.inr (by omega)), cq_lv_o (Or.inr (by omega))]
  | succ f ih =>
    intro n h h1 hc
    by_cases h2 : n < 16
    · have e := hc n (cq_sub_rf h2)
      by_cases hz : c n = 0
      · have hz' : c' n = 0 := by rw [← e]; exact hz
        by_cases h8 : n < 8
        · rw [cq_lv_z h1 h2 hz, cq_lv_z h1 h2 hz',
            ih (2 * n) (by omega) (by omega) (fun j hj => hc j ((cq_sub_kids h1 h8).mpr (Or.inr (Or.inl hj)))),
            ih (2 * n + 1) (by omega) (by omega) (fun j hj => hc j ((cq_sub_kids h1 h8).mpr (Or.inr (Or.inr hj))))]
        · rw [cq_lv_z8 (by omega) hz, cq_lv_z8 (by omega) hz']
      · have hz' : ¬ c' n = 0 := by rw [← e]; exact hz
        rw [cq_lv_p h1 h2 hz, cq_lv_p h1 h2 hz']
    · rw [cq_lv_o (Or.inr (by omega)), cq_lv_o (Or.inr (by omega))]
theorem cq_lv_0 : cq_lv (fun _ => 0) = fun _ => 0 := by
  funext n
  suffices H : ∀ f n : Nat, 16 ≤ n + f → cq_lv (fun _ => 0) n = 0 from H 16 n (by omega)
  intro f
  induction f with
  | zero => intro n h; exact cq_lv_o (Or.inr (by omega))
  | succ f ih =>
    intro n h
    by_cases h2 : n = 0 ∨ 16 ≤ n
    · exact cq_lv_o h2
    · rw [cq_lv_z (by omega) (by omega) rfl, ih (2 * n) (by omega), ih (2 * n + 1) (by omega)]
/-- 1 for a covered cell -/
def cq_e (a : Nat) : Nat := if a = 0 then 0 else 1
theorem cq_e0 {a : Nat} (h : a = 0) : cq_e a = 0 := if_pos h
theorem cq_e1 {a : Nat} (h : ¬ a = 0) : cq_e a = 1 := if_neg h
def cq_tt (f : Nat → Nat) : Nat → Nat
  | 0 => 0
  | K + 1 => cq_tt f K + cq_e (f K)
theorem cq_tt_far (f : Nat → Nat) (c v : Nat) : ∀ K, K ≤ c → cq_tt (cq_set f c v) K = cq_tt f K := by
  intro K
  induction K with
  | zero => intro _; rfl
  | succ K ih =>
    intro h
    show cq_tt (cq_set f c v) K + cq_e (cq_set f c v K) = cq_tt f K + cq_e (f K)
    rw [ih (by omega), cq_set_n (by omega)]
theorem cq_tt_up (f : Nat → Nat) (c v : Nat) : ∀ K, c < K → cq_tt (cq_set f c v) K + cq_e (f c) = cq_tt f K + cq_e v := by
  intro K
  induction K with
  | zero => intro h; omega
  | succ K ih =>
    intro h
    show cq_tt (cq_set f c v) K + cq_e (cq_set f c v K) + cq_e (f c) = cq_tt f K + cq_e (f K) + cq_e v
    by_cases e : c = K
    · subst e
      rw [cq_tt_far f c v c (Nat.le_refl c), cq_set_s]
      omega
    · have i := ih (by omega)
      rw [cq_set_n (fun z => e z.symm)]
      omega
theorem cq_tt_le (f : Nat → Nat) : ∀ K, cq_tt f K ≤ K := by
  intro K
  induction K with
  | zero => exact Nat.le_refl 0
  | succ K ih =>
    show cq_tt f K + cq_e (f K) ≤ K + 1
    have : cq_e (f K) ≤ 1 := by unfold cq_e; split <;> omega
    omega
/-- the count over a cell: the sum of its leaf's ancestors' counts -/
def cq_cell (c : Nat → Nat) (j : Nat) : Nat := if j < 8 then 0 + c ((8 + j) / 8) + c ((8 + j) / 4) + c ((8 + j) / 2) + c (8 + j) else 0
theorem cq_cell_0 : cq_cell (fun _ => 0) = fun _ => 0 := by
  funext j
  show (if j < 8 then 0 + 0 + 0 + 0 + 0 else 0) = 0
  split <;> rfl
theorem cq_cell_le {c : Nat → Nat} (h : ∀ n, c n ≤ 128) (j : Nat) : cq_cell c j ≤ 512 := by
  unfold cq_cell
  have a := h ((8 + j) / 8)
  have b := h ((8 + j) / 4)
  have d := h ((8 + j) / 2)
  have e := h (8 + j)
  split <;> omega
/-- what node n gives when w intervals above it cover all of it -/
def cq_V (c : Nat → Nat) (w n : Nat) : Nat := if w = 0 then cq_lv c n else cq_hi n - cq_lo n
theorem cq_V_s (c : Nat → Nat) (w n : Nat) (h1 : 1 ≤ n) (h8 : n < 8) : cq_V c w n = cq_V c (w + c n) (2 * n) + cq_V c (w + c n) (2 * n + 1) := by
  obtain ⟨k1, k2, k3⟩ := cq_kid n h8 h1
  have r1 := cq_rng (2 * n) (by omega) (by omega)
  have r2 := cq_rng (2 * n + 1) (by omega) (by omega)
  unfold cq_V
  by_cases hw : w = 0
  · by_cases hc : c n = 0
    · rw [if_pos hw, if_pos (by omega), if_pos (by omega), cq_lv_z h1 (by omega) hc]
    · rw [if_pos hw, if_neg (by omega), if_neg (by omega), cq_lv_p h1 (by omega) hc]
      omega
  · rw [if_neg hw, if_neg (by omega), if_neg (by omega)]
    omega
theorem cq_V_l (c : Nat → Nat) (w n : Nat) (h8 : 8 ≤ n) (h : n < 16) : cq_V c w n = cq_e (w + c n) := by
  have k := cq_leaf n h h8
  unfold cq_V
  by_cases hw : w = 0
  · by_cases hc : c n = 0
    · rw [if_pos hw, cq_lv_z8 h8 hc, cq_e0 (by omega)]
    · rw [if_pos hw, cq_lv_p (by omega) h hc, cq_e1 (by omega)]
      omega
  · rw [if_neg hw, cq_e1 (by omega)]
    omega
theorem cq_len (c : Nat → Nat) : cq_lv c 1 = cq_tt (cq_cell c) 8 := by
  have h1 : cq_lv c 1 = cq_V c (0 + c 1) 2 + cq_V c (0 + c 1) 3 := cq_V_s c 0 1 (by omega) (by omega)
  have h2 : cq_V c (0 + c 1) 2 = cq_V c (0 + c 1 + c 2) 4 + cq_V c (0 + c 1 + c 2) 5 := cq_V_s c _ 2 (by omega) (by omega)
  have h3 : cq_V c (0 + c 1) 3 = cq_V c (0 + c 1 + c 3) 6 + cq_V c (0 + c 1 + c 3) 7 := cq_V_s c _ 3 (by omega) (by omega)
  have h4 : cq_V c (0 + c 1 + c 2) 4 = cq_V c (0 + c 1 + c 2 + c 4) 8 + cq_V c (0 + c 1 + c 2 + c 4) 9 := cq_V_s c _ 4 (by omega) (by omega)
  have h5 : cq_V c (0 + c 1 + c 2) 5 = cq_V c (0 + c 1 + c 2 + c 5) 10 + cq_V c (0 + c 1 + c 2 + c 5) 11 := cq_V_s c _ 5 (by omega) (by omega)
  have h6 : cq_V c (0 + c 1 + c 3) 6 = cq_V c (0 + c 1 + c 3 + c 6) 12 + cq_V c (0 + c 1 + c 3 + c 6) 13 := cq_V_s c _ 6 (by omega) (by omega)
  have h7 : cq_V c (0 + c 1 + c 3) 7 = cq_V c (0 + c 1 + c 3 + c 7) 14 + cq_V c (0 + c 1 + c 3 + c 7) 15 := cq_V_s c _ 7 (by omega) (by omega)
  have e : cq_tt (cq_cell c) 8 = 0 + cq_e (0 + c 1 + c 2 + c 4 + c 8) + cq_e (0 + c 1 + c 2 + c 4 + c 9) + cq_e (0 + c 1 + c 2 + c 5 + c 10) + cq_e (0 + c 1 + c 2 + c 5 + c 11) + cq_e (0 + c 1 + c 3 + c 6 + c 12) + cq_e (0 + c 1 + c 3 + c 6 + c 13) + cq_e (0 + c 1 + c 3 + c 7 + c 14) + cq_e (0 + c 1 + c 3 + c 7 + c 15) := rfl
  rw [e, h1, h2, h3, h4, h5, h6, h7, cq_V_l c _ 8 (by omega) (by omega), cq_V_l c _ 9 (by omega) (by omega), cq_V_l c _ 10 (by omega) (by omega), cq_V_l c _ 11 (by omega) (by omega), cq_V_l c _ 12 (by omega) (by omega), cq_V_l c _ 13 (by omega) (by omega), cq_V_l c _ 14 (by omega) (by omega), cq_V_l c _ 15 (by omega) (by omega)]
  omega
/-- an interval is canonical at exactly one ancestor of each of its cells, and at none of another cell's -/
theorem cq_one0 : ∀ l, l < 8 → ∀ r, r < 9 → l < r → ∀ j, j < 8 → 0 + cq_b ((8 + j) / 8) l r + cq_b ((8 + j) / 4) l r + cq_b ((8 + j) / 2) l r + cq_b (8 + j) l r = if l ≤ j ∧ j < r then 1 else 0 := by decide +kernel
theorem cq_one {l r : Nat} (hl : l < r) (hr : r ≤ 8) {c c' : Nat → Nat} (h : ∀ n, c' n = c n + cq_b n l r) (j : Nat) : cq_cell c' j = cq_cell c j + if l ≤ j ∧ j < r then 1 else 0 := by
  by_cases hj : j < 8
  · have k := cq_one0 l (by omega) r (by omega) hl j hj
    rw [← k]
    unfold cq_cell
    rw [if_pos hj, if_pos hj, h, h, h, h]
    omega
  · unfold cq_cell
    rw [if_neg hj, if_neg hj, if_neg (by omega)]
/-! what X's update must know of the counts and lengths before (A) and behind (B) it -/
def cq_par (l r n : Nat) : Prop := n = 1 ∨ ¬ (l ≤ cq_lo (n / 2) ∧ cq_hi (n / 2) ≤ r)
def cq_F0 (cA cB lA lB : Nat → Int32) : Prop := ∀ j, ¬ cq_sub 1 j → cB j = cA j ∧ lB j = lA j
def cq_F1 (l r : Nat) (cA cB lA lB : Nat → Int32) : Prop := ∀ n, 1 ≤ n → n < 16 → (r ≤ cq_lo n ∨ cq_hi n ≤ l) → ∀ j, cq_sub n j → cB j = cA j ∧ lB j = lA j
def cq_F2 (l r : Nat) (d : Int32) (cA cB lA lB : Nat → Int32) : Prop := ∀ n, 1 ≤ n → n < 16 → l ≤ cq_lo n → cq_hi n ≤ r → cq_par l r n → (cA n + d).toInt16.toInt32 = cB n ∧ ∀ j, cq_sub n j → j ≠ n → cB j = cA j ∧ lB j = lA j
def cq_F3 (l r : Nat) (cA cB : Nat → Int32) : Prop := ∀ n, 1 ≤ n → n < 16 → (cq_lo n < l ∨ r < cq_hi n) → cB n = cA n
def cq_F4 (cB lB : Nat → Int32) : Prop := ∀ n, 1 ≤ n → n < 16 → (cB n ≤ 0 → n < 8 → lB (2 * n) + lB (2 * n + 1) = lB n) ∧ (cB n ≤ 0 → 8 ≤ n → 0 = lB n) ∧ (¬ cB n ≤ 0 → nI (cq_hi n) - nI (cq_lo n) = lB n)
def cq_F (l r : Nat) (d : Int32) (cA cB lA lB : Nat → Int32) : Prop := cq_F0 cA cB lA lB ∧ cq_F1 l r cA cB lA lB ∧ cq_F2 l r d cA cB lA lB ∧ cq_F3 l r cA cB ∧ cq_F4 cB lB
def cq_A (f : Nat → Nat) : Nat → Int32 := fun j => nI (f j)
theorem cq_bz {n l r : Nat} (h : ¬ (1 ≤ n ∧ n < 16 ∧ l < r ∧ l ≤ cq_lo n ∧ cq_hi n ≤ r ∧ (n = 1 ∨ ¬ (l ≤ cq_lo (n / 2) ∧ cq_hi (n / 2) ≤ r)))) : cq_b n l r = 0 := by
  unfold cq_b cq_q
  rw [decide_eq_false h]
  rfl
theorem cq_bo {n l r : Nat} (h : 1 ≤ n ∧ n < 16 ∧ l < r ∧ l ≤ cq_lo n ∧ cq_hi n ≤ r ∧ (n = 1 ∨ ¬ (l ≤ cq_lo (n / 2) ∧ cq_hi (n / 2) ≤ r))) : cq_b n l r = 1 := by
  unfold cq_b cq_q
  rw [decide_eq_true h]
  rfl
theorem cq_mkF {l r : Nat} {d : Int32} {c c' : Nat → Nat} (hl : l < r) (hc : ∀ n, c' n ≤ 128)
    (h0 : ∀ n, cq_b n l r = 0 → c' n = c n) (h1 : ∀ n, cq_b n l r = 1 → (nI (c n) + d).toInt16.toInt32 = nI (c' n)) :
    cq_F l r d (cq_A c) (cq_A c') (cq_A (cq_lv c)) (cq_A (cq_lv c')) := by
  refine ⟨?_, ?_, ?_, ?_, ?_⟩
  · intro j hj
    rw [cq_sub_1] at hj
    have e : c' j = c j := h0 j (cq_bz (by omega))
    refine ⟨congrArg nI e, congrArg nI ?_⟩
    rw [cq_lv_o (by omega), cq_lv_o (by omega)]
  · intro n hn hn' hd j hj
    have key : ∀ i, cq_sub n i → c' i = c i := by
      intro i hi
      have a := cq_nest hn hi
      exact h0 i (cq_bz (by omega))
    have hj1 : 1 ≤ j := by
      obtain ⟨_, b⟩ := hj
      omega
    exact ⟨congrArg nI (key j hj), congrArg nI (cq_lv_c 16 j (by omega) hj1 (fun i hi => key i (cq_sub_tr hn hj hi)))⟩
  · intro n hn hn' hlo hhi hp
    refine ⟨h1 n (cq_bo ⟨hn, hn', hl, hlo, hhi, hp⟩), ?_⟩
    have key : ∀ i, cq_sub n i → i ≠ n → c' i = c i := by
      intro i hi hne
      obtain ⟨a, b⟩ := cq_sub_par hn hi hne
      have a := cq_nest hn a
      exact h0 i (cq_bz (by omega))
    intro j hj hne
    have hj1 : n < j := by
      obtain ⟨_, b⟩ := hj
      omega
    refine ⟨congrArg nI (key j hj hne), congrArg nI (cq_lv_c 16 j (by omega) (by omega) (fun i hi => key i (cq_sub_tr hn hj hi) ?_))⟩
    obtain ⟨_, b⟩ := hi
    omega
  · intro n hn hn' hd
    exact congrArg nI (h0 n (cq_bz (by omega)))
  · intro n hn hn'
    have hb := hc n
    have hr := cq_rng n hn' hn
    have z : cq_A c' n ≤ 0 → c' n = 0 := by
      intro h
      by_cases e : c' n = 0
      · exact e
      · exact absurd h (nI_nle (by omega) (by omega))
    refine ⟨?_, ?_, ?_⟩
    · intro h h8
      show nI (cq_lv c' (2 * n)) + nI (cq_lv c' (2 * n + 1)) = nI (cq_lv c' n)
      rw [nI_add, cq_lv_z hn hn' (z h)]
    · intro h h8
      show 0 = nI (cq_lv c' n)
      rw [cq_lv_z8 h8 (z h), nI_0]
    · intro h
      have e : ¬ c' n = 0 := by
        intro e
        apply h
        show nI (c' n) ≤ 0
        rw [e, nI_0]
        decide
      show _ = nI (cq_lv c' n)
      rw [cq_lv_p hn hn' e, pk_sub (by omega)]
end
section
/-! X's update: entries on the stack -/
def cq_enc (n : Nat) : Int32 := nI (n * 512 + cq_lo n * 32 + cq_hi n * 2)
theorem cq_d0 : ∀ n, n < 16 → 1 ≤ n → (cq_enc n &&& 1 = 0) ∧ ((cq_enc n >>> ((1 : Int32) &&& 31)) &&& 15 = nI (cq_hi n)) ∧ ((cq_enc n >>> ((5 : Int32) &&& 31)) &&& 15 = nI (cq_lo n)) ∧ ((cq_enc n >>> ((9 : Int32) &&& 31)) &&& 15 = nI n) := by decide +kernel
theorem cq_d1 : ∀ n, n < 16 → 1 ≤ n → ((cq_enc n ||| 1) &&& 1 = 1) ∧ (((cq_enc n ||| 1) >>> ((1 : Int32) &&& 31)) &&& 15 = nI (cq_hi n)) ∧ (((cq_enc n ||| 1) >>> ((5 : Int32) &&& 31)) &&& 15 = nI (cq_lo n)) ∧ (((cq_enc n ||| 1) >>> ((9 : Int32) &&& 31)) &&& 15 = nI n) := by decide +kernel
theorem cq_d2 : ∀ n, n < 8 → 1 ≤ n → ((nI (cq_lo n) + nI (cq_hi n)) >>> ((1 : Int32) &&& 31) = nI (cq_hi (2 * n)))
    ∧ (((((2 * nI n) + 1) <<< ((9 : Int32) &&& 31)) ||| (nI (cq_hi (2 * n)) <<< ((5 : Int32) &&& 31))) ||| (nI (cq_hi n) <<< ((1 : Int32) &&& 31)) = cq_enc (2 * n + 1))
    ∧ ((((2 * nI n) <<< ((9 : Int32) &&& 31)) ||| (nI (cq_lo n) <<< ((5 : Int32) &&& 31))) ||| (nI (cq_hi (2 * n)) <<< ((1 : Int32) &&& 31)) = cq_enc (2 * n)) := by decide +kernel
theorem cq_2n (n : Nat) : (2 : Int32) * nI n = nI (2 * n) := pk_mul 2 n
section
variable {post : SX → Prop} {l r : Nat} {d : Int32} {cA cB lA lB aop : Nat → Int32}
/-- the head of a turn that finds a new entry -/
theorem cq_pop {n s m : Nat} {cnt len stk : Nat → Int32} (h1 : 1 ≤ n) (h16 : n < 16) (hs : s < 32) (hl : l < r) (hr : r ≤ 8) (he : stk s = cq_enc n)
    (Kd : (r ≤ cq_lo n ∨ cq_hi n ≤ l) → wX_update_19 post (nI l) (nI r) d m (nI s) cnt len aop stk)
    (Kc : l ≤ cq_lo n → cq_hi n ≤ r → wX_update_228 post (wX_update_19 post (nI l) (nI r) d m) (nI l) (nI r) d (nI s) (nI (cq_hi n)) (nI (cq_lo n)) (nI n) 1 (upd cnt n (cnt n + d).toInt16.toInt32) len aop stk)
    (Ks : l < cq_hi n → cq_lo n < r → (cq_lo n < l ∨ r < cq_hi n) → wX_update_140 post (wX_update_19 post (nI l) (nI r) d m) (nI l) (nI r) d (nI s) (cq_enc n) (nI (cq_hi n)) (nI (cq_lo n)) (nI n) 0 cnt len aop stk) :
    wX_update_19 post (nI l) (nI r) d (m + 1) (nI (s + 1)) cnt len aop stk := by
  obtain ⟨d1, d2, d3, d4⟩ := cq_d0 n h16 h1
  have hg := cq_rng n h16 h1
  have h0 : ¬ nI (s + 1) ≤ 0 := nI_nle (by omega) (by omega)
  have hin : vp_in (nI n) 16 := vp_in_nI h16 (by omega)
  have hc : (nI n).toNatClampNeg = n := nI_clamp (by omega)
  refine br_f h0 (nm_r (nI_pred s) ⟨vp_in_nI hs (by omega), nm_r (e' := cq_enc n) (by rw [nI_clamp (by omega)]; exact he) (nm_r d1 (nm_r d2 (nm_r d3 (nm_r d4 (br_t rfl ?_)))))⟩)
  refine pk_le r (cq_lo n) (fun h => ?_) (fun h => pk_lt l (cq_hi n) (fun h2 => pk_lt (cq_lo n) l (fun h3 => Ks h2 h (Or.inl h3)) (fun h3 => pk_lt r (cq_hi n) (fun h4 => Ks h2 h (Or.inr h4)) (fun h4 => ⟨hin, hin, nm_r (e' := upd cnt n (cnt n + d).toInt16.toInt32) ?_ (Kc h3 h4)⟩))) (fun h2 => ?_))
  · exact br_t rfl (Kd (Or.inl h))
  · rw [hc, pk_vs]
  · exact br_t rfl (Kd (Or.inr h2))
/-- the head of a turn that finds a visited entry -/
theorem cq_vis {n s m : Nat} {cnt len stk : Nat → Int32} (h1 : 1 ≤ n) (h16 : n < 16) (hs : s < 32) (he : stk s = cq_enc n ||| 1)
    (K : wX_update_228 post (wX_update_19 post (nI l) (nI r) d m) (nI l) (nI r) d (nI s) (nI (cq_hi n)) (nI (cq_lo n)) (nI n) 1 cnt len aop stk) :
    wX_update_19 post (nI l) (nI r) d (m + 1) (nI (s + 1)) cnt len aop stk := by
  obtain ⟨d1, d2, d3, d4⟩ := cq_d1 n h16 h1
  have h0 : ¬ nI (s + 1) ≤ 0 := nI_nle (by omega) (by omega)
  have hz : ¬ (1 : Int32) = 0 := by decide
  exact br_f h0 (nm_r (nI_pred s) ⟨vp_in_nI hs (by omega), nm_r (e' := cq_enc n ||| 1) (by rw [nI_clamp (by omega)]; exact he) (nm_r d1 (nm_r d2 (nm_r d3 (nm_r d4 (br_f hz K)))))⟩)
/-- the pull of node n stores v -/
theorem cq_pull {n : Nat} {J : Int32 → (Nat → Int32) → (Nat → Int32) → (Nat → Int32) → (Nat → Int32) → Prop} {x1 x2 x4 : Int32} {cnt len stk : Nat → Int32} (v : Int32) (h1 : 1 ≤ n) (h16 : n < 16)
    (v1 : cnt n ≤ 0 → n < 8 → len (2 * n) + len (2 * n + 1) = v) (v2 : cnt n ≤ 0 → 8 ≤ n → 0 = v) (v3 : ¬ cnt n ≤ 0 → nI (cq_hi n) - nI (cq_lo n) = v)
    (K : J x4 cnt (upd len n v) aop stk) : wX_update_228 post J x1 x2 d x4 (nI (cq_hi n)) (nI (cq_lo n)) (nI n) 1 cnt len aop stk := by
  have hz : ¬ (1 : Int32) = 0 := by decide
  have hin : vp_in (nI n) 16 := vp_in_nI h16 (by omega)
  have hc : (nI n).toNatClampNeg = n := nI_clamp (by omega)
  have e2 := cq_2n n
  have e3 : (2 : Int32) * nI n + 1 = nI (2 * n + 1) := by rw [e2, nI_1]
  unfold wX_update_228
  rw [hc, e3, e2]
  refine br_f hz ⟨hin, br_c (fun z => pk_lt n 8 (fun h8 => ?_) (fun h8 => ?_)) (fun z => ?_)⟩
  · refine ⟨vp_in_nI (by omega) (by omega), vp_in_nI (by omega) (by omega), hin, nm_r (e' := upd len n v) ?_ K⟩
    rw [nI_clamp (by omega), nI_clamp (by omega), v1 z h8]
  · exact ⟨hin, nm_r (e' := upd len n v) (by rw [← v2 z h8]) K⟩
  · exact ⟨hin, nm_r (e' := upd len n v) (by rw [← v3 z]) K⟩
/-- three pushes -/
theorem cq_split {n s : Nat} {J : Int32 → (Nat → Int32) → (Nat → Int32) → (Nat → Int32) → (Nat → Int32) → Prop} {x1 x2 : Int32} {cnt len stk : Nat → Int32} (h1 : 1 ≤ n) (h8 : n < 8) (hs : s + 2 < 32)
    (K : J (nI (s + 2 + 1)) cnt len aop (upd (upd (upd stk s (cq_enc n ||| 1)) (s + 1) (cq_enc (2 * n + 1))) (s + 2) (cq_enc (2 * n)))) :
    wX_update_140 post J x1 x2 d (nI s) (cq_enc n) (nI (cq_hi n)) (nI (cq_lo n)) (nI n) 0 cnt len aop stk := by
  obtain ⟨d1, d2, d3⟩ := cq_d2 n h8 h1
  refine nm_r d1 ⟨vp_in_nI (by omega) (by omega), nm_r (e' := upd stk s (cq_enc n ||| 1)) (by rw [nI_clamp (by omega)]) (nm_r (nI_1 s) ⟨vp_in_nI (by omega) (by omega), nm_r (e' := upd (upd stk s (cq_enc n ||| 1)) (s + 1) (cq_enc (2 * n + 1))) (by rw [nI_clamp (by omega), d2]) (nm_r (nI_1 (s + 1)) ⟨vp_in_nI (by omega) (by omega), nm_r (e' := upd (upd (upd stk s (cq_enc n ||| 1)) (s + 1) (cq_enc (2 * n + 1))) (s + 2) (cq_enc (2 * n))) (by rw [nI_clamp (by omega), d3]) (nm_r (nI_1 (s + 1 + 1)) (br_t rfl K))⟩)⟩)⟩
end
/-- what follows once node n's entry is done: on and below n the arrays hold B, elsewhere what they held, and the stack below s stands -/
def cq_K (post : SX → Prop) (l r : Nat) (d : Int32) (cB lB aop : Nat → Int32) (n M s : Nat) (cnt len stk : Nat → Int32) : Prop :=
  ∀ (m : Nat) (cnt' len' stk' : Nat → Int32), M ≤ m → (∀ j, cq_sub n j → cnt' j = cB j ∧ len' j = lB j) → (∀ j, ¬ cq_sub n j → cnt' j = cnt j ∧ len' j = len j) → (∀ j, j < s → stk' j = stk j) →
    wX_update_19 post (nI l) (nI r) d m (nI s) cnt' len' aop stk'
def cq_P (post : SX → Prop) (l r : Nat) (d : Int32) (cA cB lA lB aop : Nat → Int32) (n : Nat) : Prop :=
  ∃ F : Nat, ∀ (M s : Nat) (cnt len stk : Nat → Int32), s + 2 ≤ 2 * n → cq_par l r n → stk s = cq_enc n → (∀ j, cq_sub n j → cnt j = cA j ∧ len j = lA j) →
    cq_K post l r d cB lB aop n M s cnt len stk → ∀ m, M + F ≤ m → wX_update_19 post (nI l) (nI r) d m (nI (s + 1)) cnt len aop stk
section
variable {post : SX → Prop} {l r : Nat} {d : Int32} {cA cB lA lB aop : Nat → Int32}
/-- the two cases in which no child is asked -/
theorem cq_two (H : cq_F l r d cA cB lA lB) (hl : l < r) (hr : r ≤ 8) {n s m M : Nat} {cnt len stk : Nat → Int32} (h1 : 1 ≤ n) (h16 : n < 16) (hs : s < 32) (hp : cq_par l r n) (he : stk s = cq_enc n)
    (hA : ∀ j, cq_sub n j → cnt j = cA j ∧ len j = lA j) (K : cq_K post l r d cB lB aop n M s cnt len stk) (hm : M ≤ m)
    (Ks : l < cq_hi n → cq_lo n < r → (cq_lo n < l ∨ r < cq_hi n) → wX_update_140 post (wX_update_19 post (nI l) (nI r) d m) (nI l) (nI r) d (nI s) (cq_enc n) (nI (cq_hi n)) (nI (cq_lo n)) (nI n) 0 cnt len aop stk) :
    wX_update_19 post (nI l) (nI r) d (m + 1) (nI (s + 1)) cnt len aop stk := by
  obtain ⟨H0, H1, H2, H3, H4⟩ := H
  refine cq_pop h1 h16 hs hl hr he ?_ ?_ Ks
  · intro hd
    refine K m cnt len stk hm (fun j hj => ?_) (fun j _ => ⟨rfl, rfl⟩) (fun j _ => rfl)
    have a := hA j hj
    have b := H1 n h1 h16 hd j hj
    exact ⟨a.1.trans b.1.symm, a.2.trans b.2.symm⟩
  · intro ha hb
    obtain ⟨e, g⟩ := H2 n h1 h16 ha hb hp
    obtain ⟨p1, p2, p3⟩ := H4 n h1 h16
    have ec : (cnt n + d).toInt16.toInt32 = cB n := by rw [(hA n (cq_sub_rf h16)).1]; exact e
    rw [ec]
    refine cq_pull (lB n) h1 h16 ?_ ?_ ?_ ?_
    · intro z h8
      rw [pk_us] at z
      rw [← p1 z h8]
      have a := hA _ (cq_sub_l h8)
      have b := hA _ (cq_sub_r h8)
      have a' := g _ (cq_sub_l h8) (by omega)
      have b' := g _ (cq_sub_r h8) (by omega)
      rw [a.2, b.2, a'.2, b'.2]
    · intro z h8
      rw [pk_us] at z
      exact p2 z h8
    · intro z
      rw [pk_us] at z
      exact p3 z
    · refine K m _ _ stk hm (fun j hj => ?_) (fun j hj => ?_) (fun j _ => rfl)
      · by_cases ej : j = n
        · subst ej
          exact ⟨pk_us, pk_us⟩
        · have a := hA j hj
          have b := g j hj ej
          exact ⟨(pk_un ej).trans (a.1.trans b.1.symm), (pk_un ej).trans (a.2.trans b.2.symm)⟩
      · have ej : j ≠ n := fun z => hj (by rw [z]; exact cq_sub_rf h16)
        exact ⟨pk_un ej, pk_un ej⟩
theorem cq_leafP (H : cq_F l r d cA cB lA lB) (hl : l < r) (hr : r ≤ 8) {n : Nat} (h8 : 8 ≤ n) (h16 : n < 16) : cq_P post l r d cA cB lA lB aop n := by
  refine ⟨1, ?_⟩
  intro M s cnt len stk hs hp he hA K m hm
  obtain ⟨m, rfl⟩ : ∃ m', m = m' + 1 := ⟨m - 1, by omega⟩
  refine cq_two H hl hr (by omega) h16 (by omega) hp he hA K (by omega) ?_
  intro a b c
  have := cq_leaf n h16 h8
  omega
theorem cq_nodeP (H : cq_F l r d cA cB lA lB) (hl : l < r) (hr : r ≤ 8) {n : Nat} (h1 : 1 ≤ n) (h8 : n < 8) (PL : cq_P post l r d cA cB lA lB aop (2 * n)) (PR : cq_P post l r d cA cB lA lB aop (2 * n + 1)) : cq_P post l r d cA cB lA lB aop n := by
  obtain ⟨FL, PL⟩ := PL
  obtain ⟨FR, PR⟩ := PR
  refine ⟨FL + FR + 2, ?_⟩
  intro M s cnt len stk hs hp he hA K m hm
  obtain ⟨m, rfl⟩ : ∃ m', m = m' + 1 := ⟨m - 1, by omega⟩
  refine cq_two H hl hr h1 (by omega) (by omega) hp he hA K (by omega) ?_
  intro a b c
  obtain ⟨H0, H1, H2, H3, H4⟩ := H
  have e0 := H3 n h1 (by omega) c
  obtain ⟨p1, p2, p3⟩ := H4 n h1 (by omega)
  have par : ¬ (l ≤ cq_lo n ∧ cq_hi n ≤ r) := by omega
  have parL : cq_par l r (2 * n) := Or.inr (by rw [show 2 * n / 2 = n by omega]; exact par)
  have parR : cq_par l r (2 * n + 1) := Or.inr (by rw [show (2 * n + 1) / 2 = n by omega]; exact par)
  have sk := fun j => cq_sub_kids (n := n) (j := j) h1 h8
  have sd := fun j => cq_sub_dis (n := n) (j := j) h1
  refine cq_split h1 h8 (by omega) ?_
  refine PL (M + 1 + FR) (s + 2) cnt len _ (by omega) parL pk_us (fun j hj => hA j ((sk j).mpr (Or.inr (Or.inl hj)))) ?_ m (by omega)
  intro m1 cnt1 len1 stk1 hm1 B1 O1 S1
  refine PR (M + 1) (s + 1) cnt1 len1 stk1 (by omega) parR ?_ ?_ ?_ m1 hm1
  · rw [S1 (s + 1) (by omega), pk_un (by omega), pk_us]
  · intro j hj
    have o := O1 j (fun z => (sd j z).1 hj)
    have a := hA j ((sk j).mpr (Or.inr (Or.inr hj)))
    exact ⟨o.1.trans a.1, o.2.trans a.2⟩
  intro m2 cnt2 len2 stk2 hm2 B2 O2 S2
  obtain ⟨m3, rfl⟩ : ∃ m', m2 = m' + 1 := ⟨m2 - 1, by omega⟩
  have nL : ¬ cq_sub (2 * n) n := fun z => (sd n z).2 rfl
  have nR : ¬ cq_sub (2 * n + 1) n := fun z => cq_sub_dis' h1 z rfl
  have en : cnt2 n = cB n := by rw [(O2 n nR).1, (O1 n nL).1, (hA n (cq_sub_rf (by omega))).1, e0]
  have L2 : ∀ j, cq_sub (2 * n) j → cnt2 j = cB j ∧ len2 j = lB j := by
    intro j hj
    have o := O2 j (sd j hj).1
    have b := B1 j hj
    exact ⟨o.1.trans b.1, o.2.trans b.2⟩
  have st : stk2 s = cq_enc n ||| 1 := by
    rw [S2 s (by omega), S1 s (by omega), pk_un (by omega), pk_un (by omega), pk_us]
  refine cq_vis h1 (by omega) (by omega) st (cq_pull (lB n) h1 (by omega) ?_ ?_ ?_ ?_)
  · intro z _
    rw [en] at z
    rw [← p1 z h8, (L2 _ (cq_sub_rf (by omega))).2, (B2 _ (cq_sub_rf (by omega))).2]
  · intro z h
    omega
  · intro z
    rw [en] at z
    exact p3 z
  · refine K m3 _ _ stk2 (by omega) (fun j hj => ?_) (fun j hj => ?_) (fun j hj => ?_)
    · rcases (sk j).mp hj with ej | h | h
      · subst ej
        exact ⟨en, pk_us⟩
      · have b := L2 j h
        exact ⟨b.1, (pk_un (sd j h).2).trans b.2⟩
      · have b := B2 j h
        exact ⟨b.1, (pk_un (cq_sub_dis' h1 h)).trans b.2⟩
    · have ej : j ≠ n := fun z => hj ((sk j).mpr (Or.inl z))
      have o2 := O2 j (fun z => hj ((sk j).mpr (Or.inr (Or.inr z))))
      have o1 := O1 j (fun z => hj ((sk j).mpr (Or.inr (Or.inl z))))
      exact ⟨o2.1.trans o1.1, (pk_un ej).trans (o2.2.trans o1.2)⟩
    · rw [S2 j (by omega), S1 j (by omega), pk_un (by omega), pk_un (by omega), pk_un (by omega)]
theorem cq_allP (H : cq_F l r d cA cB lA lB) (hl : l < r) (hr : r ≤ 8) : ∀ f n : Nat, 16 ≤ n + f → 1 ≤ n → n < 16 → cq_P post l r d cA cB lA lB aop n := by
  intro f
  induction f with
  | zero => intro n h _ h16; omega
  | succ f ih =>
    intro n h h1 h16
    by_cases h8 : n < 8
    · exact cq_nodeP H hl hr h1 h8 (ih (2 * n) (by omega) (by omega) (by omega)) (ih (2 * n + 1) (by omega) (by omega) (by omega))
    · exact cq_leafP H hl hr (by omega) h16
/-- X's update, whole -/
theorem cq_update (H : cq_F l r d cA cB lA lB) (hl : l < r) (hr : r ≤ 8) {stk : Nat → Int32} (K : ∀ stk', post (cB, lB, aop, stk')) : wpX_update post (cA, lA, aop, stk) (nI l) (nI r) d := by
  obtain ⟨F, P⟩ := cq_allP (post := post) (aop := aop) H hl hr 16 1 (by omega) (by omega) (by omega)
  have e1 : (0 : Int32) + 1 = nI (0 + 1) := by decide +kernel
  have e2 : upd stk 0 528 0 = cq_enc 1 := by rw [pk_us]; decide +kernel
  unfold wpX_update
  refine nm_e (nm_r e1 ⟨1 + F, P 1 0 cA lA (upd stk 0 528) (by omega) (Or.inl rfl) e2 (fun j _ => ⟨rfl, rfl⟩) ?_ (1 + F) (Nat.le_refl _)⟩)
  intro m cnt' len' stk' hm B O _
  obtain ⟨m, rfl⟩ : ∃ m', m = m' + 1 := ⟨m - 1, by omega⟩
  have hc : cnt' = cB := by
    funext j
    by_cases hj : cq_sub 1 j
    · exact (B j hj).1
    · exact (O j hj).1.trans (H.1 j hj).1.symm
  have hn : len' = lB := by
    funext j
    by_cases hj : cq_sub 1 j
    · exact (B j hj).2
    · exact (O j hj).2.trans (H.1 j hj).2.symm
  subst hc hn
  have hz : nI 0 ≤ 0 := by decide +kernel
  exact br_t hz (K stk')
end
end
section
/-! Y's change: the cells l .. r - 1 turn from f to g -/
theorem cq_A_upd (h : Nat → Nat) (c v : Nat) : upd (cq_A h) c (nI v) = cq_A (cq_set h c v) := by
  funext j
  show (if j = c then nI v else nI (h j)) = nI (if j = c then v else h j)
  split <;> rfl
theorem cq_chloop {post : SY → Prop} {r : Nat} {d : Int32} {f g : Nat → Nat} {aop : Nat → Int32} (hr : r ≤ 8)
    (hf : ∀ j, f j < 1000) (hg : ∀ j, g j < 1000)
    (K : post (nI (cq_tt g 8), aop, cq_A g)) : ∀ k c : Nat, c + k = r → ∀ h : Nat → Nat,
    (∀ j, c ≤ j → j < r → (nI (f j) + d).toInt16.toInt32 = nI (g j) ∧ (f j = 0 → ¬ g j = 0)) →
    (∀ j, c ≤ j → j < r → h j = f j) → (∀ j, ¬ (c ≤ j ∧ j < r) → h j = g j) →
    wY_change_3 post (nI r) d (k + 1) (nI c) (nI (cq_tt h 8)) aop (cq_A h) := by
  intro k
  induction k with
  | zero =>
    intro c e h _ _ ho
    have eh : h = g := funext fun j => ho j (by omega)
    subst eh
    have hle : nI r ≤ nI c := nI_le (by omega) (by omega)
    exact br_t hle K
  | succ k ih =>
    intro c e h hs hi ho
    have hnle : ¬ nI r ≤ nI c := nI_ge (by omega) (by omega)
    have hin : vp_in (nI c) 8 := vp_in_nI (by omega) (by omega)
    have hc : (nI c).toNatClampNeg = c := nI_clamp (by omega)
    obtain ⟨s1, s2⟩ := hs c (by omega) (by omega)
    have ec : cq_A h c = nI (f c) := congrArg nI (hi c (by omega) (by omega))
    have ef := hi c (by omega) (by omega)
    have f1 := hf c
    have g1 := hg c
    have tu := cq_tt_up h c (g c) 8 (by omega)
    rw [ef] at tu
    have next := ih (c + 1) (by omega) (cq_set h c (g c)) (fun j a b => hs j (by omega) b) (fun j a b => by rw [cq_set_n (by omega)]; exact hi j (by omega) b) (fun j a => by
      by_cases z : j = c
      · subst z; exact cq_set_s _ _ _
      · rw [cq_set_n z]; exact ho j (by omega))
    refine br_f hnle ⟨hin, nm_r (e' := nI (f c)) (by rw [hc, ec]) ⟨hin, hin, nm_r (e' := cq_A (cq_set h c (g c))) (by rw [hc, ec, pk_vs, s1, cq_A_upd]) ?_⟩⟩
    rw [hc, ec, s1]
    refine pk_eq (g c) 0 (fun z => ?_) (fun z => pk_eq (f c) 0 (fun y => ?_) (fun y => ?_))
    · rw [cq_e0 z] at tu
      have fz : ¬ f c = 0 := fun w => s2 w z
      rw [cq_e1 fz] at tu
      refine nm_r (e' := nI (cq_tt (cq_set h c (g c)) 8)) ?_ (nm_r (nI_1 c) next)
      rw [show cq_tt h 8 = cq_tt (cq_set h c (g c)) 8 + 1 by omega, nI_pred]
    · rw [cq_e1 z, cq_e0 y] at tu
      refine nm_r (e' := nI (cq_tt (cq_set h c (g c)) 8)) ?_ (nm_r (nI_1 c) next)
      rw [show cq_tt (cq_set h c (g c)) 8 = cq_tt h 8 + 1 by omega, nI_1]
    · rw [cq_e1 z, cq_e1 y] at tu
      have e8 : cq_tt h 8 = cq_tt (cq_set h c (g c)) 8 := by omega
      rw [e8]
      exact nm_r (nI_1 c) next
theorem cq_change {post : SY → Prop} {l r : Nat} {d : Int32} {f g : Nat → Nat} {aop : Nat → Int32} (hl : l < r) (hr : r ≤ 8)
    (hf : ∀ j, f j < 1000) (hg : ∀ j, g j < 1000)
    (hs : ∀ j, l ≤ j → j < r → (nI (f j) + d).toInt16.toInt32 = nI (g j) ∧ (f j = 0 → ¬ g j = 0))
    (ho : ∀ j, ¬ (l ≤ j ∧ j < r) → f j = g j)
    (K : post (nI (cq_tt g 8), aop, cq_A g)) : wpY_change post (nI (cq_tt f 8), aop, cq_A f) (nI l) (nI r) d :=
  ⟨r - l + 1, cq_chloop hr hf hg K (r - l) l (by omega) f hs (fun _ _ _ => rfl) ho⟩
/-! small numbers as shorts -/
theorem cq_i2s {a : Nat} (h : a < 32768) : (nI a).toInt16.toInt32 = nI a :=
  lg_i2s_small (by rw [nI_toInt (by omega)]; omega) (by rw [nI_toInt (by omega)]; omega)
theorem cq_up {a b : Nat} (h : b < 32768) (e : b = a + 1) : (nI a + 1).toInt16.toInt32 = nI b := by
  subst e
  rw [nI_1, cq_i2s h]
theorem cq_dn {a b : Nat} (h : b < 32768) (e : a = b + 1) : (nI a + (-1)).toInt16.toInt32 = nI b := by
  subst e
  rw [pk_m1, cq_i2s h]
theorem cq_dn' {a b : Nat} (h : b < 32768) (e : a = b + 1) : (nI a - 1).toInt16.toInt32 = nI b := by
  subst e
  rw [nI_pred, cq_i2s h]
theorem cq_idx {l r : Nat} (h : l < r) : nI l * 8 + nI r - 1 = nI (l * 8 + r - 1) := by
  rw [show nI l * 8 = nI (l * 8) from pk_mul l 8, nI_add]
  obtain ⟨k, e⟩ : ∃ k, l * 8 + r = k + 1 := ⟨l * 8 + r - 1, by omega⟩
  rw [e, nI_pred, Nat.add_sub_cancel]
/-- the arguments in range -/
theorem cq_args {v1 v2 : Int32} (h0 : ¬ v1 < 0) (h8 : ¬ 8 < v2) (h : v1 < v2) : ∃ l r : Nat, l < r ∧ r ≤ 8 ∧ v1 = nI l ∧ v2 = nI r := by
  have z : (0 : Int32).toInt = 0 := by decide
  have y : (8 : Int32).toInt = 8 := by decide
  have h2 : ¬ v2 < 0 := by
    rw [Int32.lt_iff_toInt_lt] at h0 h ⊢
    omega
  obtain ⟨l, hl, rfl⟩ := nI_of h0
  obtain ⟨r, hr, rfl⟩ := nI_of h2
  rw [nI_ltI hl hr] at h
  rw [Int32.lt_iff_toInt_lt, nI_toInt hr, y] at h8
  exact ⟨l, r, h, by omega, rfl, rfl⟩
end
section
/-- both states but X's stack are functions of the open counts o, each at most 2 -/
def cq_SX (o : Nat → Nat) (stk : Nat → Int32) : SX := (cq_A (cq_C o), cq_A (cq_lv (cq_C o)), cq_A o, stk)
def cq_SY (o : Nat → Nat) : SY := (nI (cq_tt (cq_cell (cq_C o)) 8), cq_A o, cq_A (cq_cell (cq_C o)))
/-- the relation at the head of a turn whose first cell is k: (u : SX) is (a_cnt, a_len, a_open, a_stack), (v : SY) is (f_total, a_open, a_cell) -/
def i_Rel (k : Nat) (u : SX) (v : SY) : Prop := ∃ (o : Nat → Nat) (stk : Nat → Int32), (∀ j, o j ≤ 2) ∧ u = cq_SX o stk ∧ v = cq_SY o
theorem i_up {k : Nat} {u : SX} {v : SY} (h : i_Rel k u v) : i_Rel (k + 3) u v := h
theorem i_vc0 : wpX_init (fun u => wpY_init (fun v => i_Rel 0 u v)) := by
  refine ⟨fun _ => 0, fun _ => 0, fun _ => Nat.zero_le 2, ?_, ?_⟩
  · unfold cq_SX
    rw [cq_C_0, cq_lv_0]
    have e : cq_A (fun _ => 0) = fun _ => 0 := funext fun _ => nI_0
    rw [e]
  · unfold cq_SY
    rw [cq_C_0, cq_cell_0]
    have e : cq_A (fun _ => 0) = fun _ => 0 := funext fun _ => nI_0
    have e2 : nI (cq_tt (fun _ => 0) 8) = 0 := by decide +kernel
    rw [e, e2]
theorem i_vc_length {k : Nat} {u : SX} {v : SY} (I : i_Rel k u v) (hk : k + 3 ≤ 1536) : wpX_length (fun r => wpY_length (fun r' => r' = r ∧ i_Rel (k + 3) u v) v) u := by
  obtain ⟨o, stk, ho, rfl, rfl⟩ := I
  exact ⟨congrArg nI (cq_len (cq_C o)).symm, o, stk, ho, rfl, rfl⟩
theorem cq_set_le {o : Nat → Nat} {k v : Nat} (ho : ∀ j, o j ≤ 2) (hv : v ≤ 2) : ∀ j, cq_set o k v j ≤ 2 := by
  intro j
  show (if j = k then v else o j) ≤ 2
  split
  · exact hv
  · exact ho j
/-- one more interval: both sides -/
theorem cq_incX {o : Nat → Nat} {l r : Nat} (ho : ∀ j, o j ≤ 2) (hl : l < r) (hr : r ≤ 8) (h2 : o (l * 8 + r - 1) < 2) {post : SX → Prop} {stk : Nat → Int32}
    (K : ∀ stk', post (cq_SX (cq_set o (l * 8 + r - 1) (o (l * 8 + r - 1) + 1)) stk')) :
    wpX_update post (cq_A (cq_C o), cq_A (cq_lv (cq_C o)), cq_A (cq_set o (l * 8 + r - 1) (o (l * 8 + r - 1) + 1)), stk) (nI l) (nI r) 1 := by
  have hn := cq_C_inc (o := o) hl hr
  have hb := cq_C_le (cq_set_le (k := l * 8 + r - 1) ho (by omega : o (l * 8 + r - 1) + 1 ≤ 2))
  refine cq_update (cq_mkF hl hb (fun n z => ?_) (fun n z => cq_up (by have := hb n; omega) ?_)) hl hr K
  · rw [hn n, z]; rfl
  · rw [hn n, z]
theorem cq_incY {o : Nat → Nat} {l r : Nat} (ho : ∀ j, o j ≤ 2) (hl : l < r) (hr : r ≤ 8) (h2 : o (l * 8 + r - 1) < 2) {post : SY → Prop}
    (K : post (cq_SY (cq_set o (l * 8 + r - 1) (o (l * 8 + r - 1) + 1)))) :
    wpY_change post (nI (cq_tt (cq_cell (cq_C o)) 8), cq_A (cq_set o (l * 8 + r - 1) (o (l * 8 + r - 1) + 1)), cq_A (cq_cell (cq_C o))) (nI l) (nI r) 1 := by
  have hn := cq_one hl hr (cq_C_inc (o := o) hl hr)
  have hf := cq_cell_le (cq_C_le ho)
  have hg := cq_cell_le (cq_C_le (cq_set_le (k := l * 8 + r - 1) ho (by omega : o (l * 8 + r - 1) + 1 ≤ 2)))
  refine cq_change hl hr (fun j => by have := hf j; omega) (fun j => by have := hg j; omega) (fun j a b => ?_) (fun j a => ?_) K
  · have e := hn j
    have g1 := hg j
    rw [if_pos ⟨a, b⟩] at e
    exact ⟨cq_up (by omega) e, fun _ => by omega⟩
  · have e := hn j
    rw [if_neg a] at e
    omega
/-- one interval less: both sides -/
theorem cq_decX {o : Nat → Nat} {l r : Nat} (ho : ∀ j, o j ≤ 2) (hl : l < r) (hr : r ≤ 8) (h2 : 0 < o (l * 8 + r - 1)) {post : SX → Prop} {stk : Nat → Int32}
    (K : ∀ stk', post (cq_SX (cq_set o (l * 8 + r - 1) (o (l * 8 + r - 1) - 1)) stk')) :
    wpX_update post (cq_A (cq_C o), cq_A (cq_lv (cq_C o)), cq_A (cq_set o (l * 8 + r - 1) (o (l * 8 + r - 1) - 1)), stk) (nI l) (nI r) (-1) := by
  have hn := cq_C_dec (o := o) hl hr h2
  have h3 := ho (l * 8 + r - 1)
  have hb := cq_C_le (cq_set_le (k := l * 8 + r - 1) ho (by omega : o (l * 8 + r - 1) - 1 ≤ 2))
  refine cq_update (cq_mkF hl hb (fun n z => ?_) (fun n z => cq_dn (by have := hb n; omega) ?_)) hl hr K
  · rw [hn n, z]; rfl
  · rw [hn n, z]
theorem cq_decY {o : Nat → Nat} {l r : Nat} (ho : ∀ j, o j ≤ 2) (hl : l < r) (hr : r ≤ 8) (h2 : 0 < o (l * 8 + r - 1)) {post : SY → Prop}
    (K : post (cq_SY (cq_set o (l * 8 + r - 1) (o (l * 8 + r - 1) - 1)))) :
    wpY_change post (nI (cq_tt (cq_cell (cq_C o)) 8), cq_A (cq_set o (l * 8 + r - 1) (o (l * 8 + r - 1) - 1)), cq_A (cq_cell (cq_C o))) (nI l) (nI r) (-1) := by
  have hn := cq_one hl hr (cq_C_dec (o := o) hl hr h2)
  have h3 := ho (l * 8 + r - 1)
  have hf := cq_cell_le (cq_C_le ho)
  have hg := cq_cell_le (cq_C_le (cq_set_le (k := l * 8 + r - 1) ho (by omega : o (l * 8 + r - 1) - 1 ≤ 2)))
  refine cq_change hl hr (fun j => by have := hf j; omega) (fun j => by have := hg j; omega) (fun j a b => ?_) (fun j a => ?_) K
  · have e := hn j
    have g1 := hg j
    rw [if_pos ⟨a, b⟩] at e
    exact ⟨cq_dn (by omega) e, fun _ => by omega⟩
  · have e := hn j
    rw [if_neg a] at e
    omega
theorem i_vc_cover {k : Nat} {u : SX} {v : SY} (I : i_Rel k u v) (hk : k + 3 ≤ 1536) (v1 : Int32) (v2 : Int32) : wpX_cover (fun r u' => wpY_cover (fun r' v' => r' = r ∧ i_Rel (k + 3) u' v') v v1 v2) u v1 v2 := by
  obtain ⟨o, stk, ho, rfl, rfl⟩ := I
  by_cases h0 : v1 < 0
  · exact br_t h0 (br_t h0 ⟨rfl, o, stk, ho, rfl, rfl⟩)
  by_cases h8 : 8 < v2
  · exact br_f h0 (br_t h8 (br_f h0 (br_t h8 ⟨rfl, o, stk, ho, rfl, rfl⟩)))
  by_cases hlt : v1 < v2
  · obtain ⟨l, r, hl, hr, rfl, rfl⟩ := cq_args h0 h8 hlt
    have hin : vp_in (nI (l * 8 + r - 1)) 64 := vp_in_nI (by omega) (by omega)
    have hc : (nI (l * 8 + r - 1)).toNatClampNeg = l * 8 + r - 1 := nI_clamp (by omega)
    have ho2 := ho (l * 8 + r - 1)
    have ea : cq_A o (nI (l * 8 + r - 1)).toNatClampNeg = nI (o (l * 8 + r - 1)) := by rw [hc]; rfl
    by_cases h2 : o (l * 8 + r - 1) < 2
    · have ht : cq_A o (nI (l * 8 + r - 1)).toNatClampNeg < 2 := by rw [ea]; exact nI_lt (b := 2) h2 (by decide)
      have eu : upd (cq_A o) (nI (l * 8 + r - 1)).toNatClampNeg (vp_nar .short ((cq_A o (nI (l * 8 + r - 1)).toNatClampNeg + 1).toInt16.toInt32)) = cq_A (cq_set o (l * 8 + r - 1) (o (l * 8 + r - 1) + 1)) := by
        rw [ea, pk_vs, cq_up (by omega) rfl, hc, cq_A_upd]
      refine br_f h0 (br_f h8 (br_t hlt (nm_r (cq_idx hl) ⟨hin, br_t ht ⟨hin, hin, nm_r eu (cq_incX ho hl hr h2 fun stk' => ?_)⟩⟩)))
      refine br_f h0 (br_f h8 (br_t hlt (nm_r (cq_idx hl) ⟨hin, br_t ht ⟨hin, hin, nm_r eu (cq_incY ho hl hr h2 ?_)⟩⟩)))
      exact ⟨rfl, _, stk', cq_set_le ho (by omega), rfl, rfl⟩
    · have ht : ¬ cq_A o (nI (l * 8 + r - 1)).toNatClampNeg < 2 := by rw [ea]; exact nI_nlt (b := 2) (by omega) (by omega)
      exact br_f h0 (br_f h8 (br_t hlt (nm_r (cq_idx hl) ⟨hin, br_f ht (br_f h0 (br_f h8 (br_t hlt (nm_r (cq_idx hl) ⟨hin, br_f ht ⟨rfl, o, stk, ho, rfl, rfl⟩⟩))))⟩)))
  · exact br_f h0 (br_f h8 (br_f hlt (br_f h0 (br_f h8 (br_f hlt ⟨rfl, o, stk, ho, rfl, rfl⟩)))))
theorem i_vc_uncover {k : Nat} {u : SX} {v : SY} (I : i_Rel k u v) (hk : k + 3 ≤ 1536) (v1 : Int32) (v2 : Int32) : wpX_uncover (fun r u' => wpY_uncover (fun r' v' => r' = r ∧ i_Rel (k + 3) u' v') v v1 v2) u v1 v2 := by
  obtain ⟨o, stk, ho, rfl, rfl⟩ := I
  by_cases h0 : v1 < 0
  · exact br_t h0 (br_t h0 ⟨rfl, o, stk, ho, rfl, rfl⟩)
  by_cases h8 : 8 < v2
  · exact br_f h0 (br_t h8 (br_f h0 (br_t h8 ⟨rfl, o, stk, ho, rfl, rfl⟩)))
  by_cases hlt : v1 < v2
  · obtain ⟨l, r, hl, hr, rfl, rfl⟩ := cq_args h0 h8 hlt
    have hin : vp_in (nI (l * 8 + r - 1)) 64 := vp_in_nI (by omega) (by omega)
    have hc : (nI (l * 8 + r - 1)).toNatClampNeg = l * 8 + r - 1 := nI_clamp (by omega)
    have ho2 := ho (l * 8 + r - 1)
    have ea : cq_A o (nI (l * 8 + r - 1)).toNatClampNeg = nI (o (l * 8 + r - 1)) := by rw [hc]; rfl
    by_cases h2 : 0 < o (l * 8 + r - 1)
    · have ht : 0 < cq_A o (nI (l * 8 + r - 1)).toNatClampNeg := by rw [ea, ← nI_0]; exact nI_lt h2 (by omega)
      have hz : ¬ cq_A o (nI (l * 8 + r - 1)).toNatClampNeg = 0 := by rw [ea]; exact nI_ne0 h2 (by omega)
      have eu : upd (cq_A o) (nI (l * 8 + r - 1)).toNatClampNeg (vp_nar .short ((cq_A o (nI (l * 8 + r - 1)).toNatClampNeg - 1).toInt16.toInt32)) = cq_A (cq_set o (l * 8 + r - 1) (o (l * 8 + r - 1) - 1)) := by
        rw [ea, pk_vs, cq_dn' (b := o (l * 8 + r - 1) - 1) (by omega) (by omega), hc, cq_A_upd]
      refine br_f h0 (br_f h8 (br_t hlt (nm_r (cq_idx hl) ⟨hin, br_t ht ⟨hin, hin, nm_r eu (cq_decX ho hl hr h2 fun stk' => ?_)⟩⟩)))
      refine br_f h0 (br_f h8 (br_t hlt (nm_r (cq_idx hl) ⟨hin, br_f hz ⟨hin, hin, nm_r eu (cq_decY ho hl hr h2 ?_)⟩⟩)))
      exact ⟨rfl, _, stk', cq_set_le ho (by omega), rfl, rfl⟩
    · have e0 : o (l * 8 + r - 1) = 0 := by omega
      have hz : cq_A o (nI (l * 8 + r - 1)).toNatClampNeg = 0 := by rw [ea, e0, nI_0]
      have ht : ¬ 0 < cq_A o (nI (l * 8 + r - 1)).toNatClampNeg := by rw [hz]; decide
      exact br_f h0 (br_f h8 (br_t hlt (nm_r (cq_idx hl) ⟨hin, br_f ht (br_f h0 (br_f h8 (br_t hlt (nm_r (cq_idx hl) ⟨hin, br_t hz ⟨rfl, o, stk, ho, rfl, rfl⟩⟩))))⟩)))
  · exact br_f h0 (br_f h8 (br_f hlt (br_f h0 (br_f h8 (br_f hlt ⟨rfl, o, stk, ho, rfl, rfl⟩)))))
end
