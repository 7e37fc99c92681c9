section
/-! the node table: the law's fixed grammar, 28 nodes (19: rules 0, 1, 2; 23: the first rule 3; 28: the second) -/
def pg_op (n : Nat) : Nat := [0, 3, 4, 0, 4, 2, 5, 3, 0, 4, 0, 5, 0, 9, 1, 4, 6, 3, 4, 3, 8, 3, 4, 0, 0, 4, 3, 4].getD n 0
/-- the first part of a node: a call's root, or the left part -/
def pg_fs (n : Nat) : Nat := [0, 6, 0, 0, 2, 0, 4, 11, 0, 7, 0, 9, 0, 12, 0, 13, 15, 6, 16, 18, 19, 11, 20, 0, 0, 23, 11, 25].getD n 0
/-- the second part: the right part, or a star itself -/
def pg_sn (n : Nat) : Nat := [0, 0, 1, 0, 3, 0, 5, 0, 0, 8, 0, 10, 0, 0, 0, 14, 16, 0, 17, 0, 0, 0, 21, 0, 0, 24, 0, 26].getD n 0
/-- a letter's kind (0: z, 1: x, 2: y), a call's rule -/
def pg_ar (n : Nat) : Nat := [1, 0, 0, 2, 0, 0, 0, 1, 1, 0, 1, 0, 1, 0, 0, 0, 0, 0, 0, 2, 0, 1, 0, 0, 0, 0, 1, 0].getD n 0
def pg_nr (n : Nat) : Nat := [0, 4, 1, 0, 2, 0, 3, 0, 0, 0, 0, 0, 0, 1, 0, 2, 3, 4, 5, 6, 7, 0, 8, 0, 0, 1, 0, 2].getD n 0
def pg_rt (r : Nat) : Nat := [6, 11, 18].getD r 0
/-- the kind of the letter at place p of the text -/
def pg_cl (i j p : Nat) : Nat := if p < i then 0 else if p < i + j then 1 else 2
/-- what rule 0 takes at p -/
def pg_vS (i j k p : Nat) : Nat := if i ≤ p ∧ p < i + j ∧ i + j - p ≤ k then 2 * (i + j - p) else 0
/-- what the star takes at p -/
def pg_st (i j k p : Nat) : Nat := if i ≤ p ∧ p < i + j then 0 else if p < i ∧ 0 < j then i - p else i + j + k - p
/-- the code of a leaf's outcome -/
def pg_sg (i j k n p : Nat) : Nat := if pg_op n = 2 then 2 else if p < i + j + k ∧ (pg_op n = 1 ∨ pg_cl i j p = pg_ar n) then 3 else 1
/-- the code of the outcome of node n at place p: 0 stuck, 1 fails, v + 2 takes v -/
def pg_c (i j k n p : Nat) : Nat :=
  if pg_op n ≤ 2 then pg_sg i j k n p
  else if n = 1 ∨ n = 6 ∨ n = 17 then pg_vS i j k p + 2
  else if n = 2 then (if p < i + j + k ∧ pg_cl i j p = 1 then pg_vS i j k (p + 1) + 3 else 1)
  else if n = 4 then (if (p < i + j + k ∧ pg_cl i j p = 1) ∧ (p + 1 + pg_vS i j k (p + 1) < i + j + k ∧ pg_cl i j (p + 1 + pg_vS i j k (p + 1)) = 2) then pg_vS i j k (p + 1) + 4 else 1)
  else if n = 13 then (if p < i + j + k ∧ pg_cl i j p = 1 then 1 else 2)
  else if n = 15 then (if p < i + j + k ∧ pg_cl i j p ≠ 1 then 3 else 1)
  else if n = 16 then pg_st i j k p + 2
  else if n = 18 ∨ n = 19 then pg_st i j k p + pg_vS i j k (p + pg_st i j k p) + 2
  else if n = 20 then 2
  else if n = 25 then (if p + 1 < i then 4 else 1)
  else if n = 27 then (if p + 1 < i then 0 else 1)
  else 0
def pg_rh (n p : Nat) : Nat := (20 - p) * 30 + pg_nr n
/-- m at q may be needed by n at p: n is stuck, or m isn't and is of lower rank -/
abbrev pg_dd (i j k m q n p : Nat) : Prop := pg_c i j k n p = 0 ∨ (pg_c i j k m q ≠ 0 ∧ pg_rh m q < pg_rh n p)
/-- n at p needs m at q as its second part, t being taken -/
abbrev pg_n2 (i j k m q t n p : Nat) : Prop := q ≤ i + j + k ∧ pg_dd i j k m q n p ∧ (pg_c i j k m q ≠ 0 → pg_c i j k n p = if pg_c i j k m q < 2 then 1 else t + pg_c i j k m q)
/-- the equations at node n, place p -/
abbrev pg_lc (i j k n p : Nat) : Prop :=
  pg_c i j k n p < 24 ∧
  (pg_op n ≤ 2 → pg_c i j k n p = pg_sg i j k n p) ∧
  (3 ≤ pg_op n → pg_dd i j k (pg_fs n) p n p) ∧
  (3 ≤ pg_op n → pg_c i j k (pg_fs n) p ≠ 0 →
    (pg_op n = 3 → pg_c i j k n p = pg_c i j k (pg_fs n) p) ∧
    (pg_op n = 4 → 2 ≤ pg_c i j k (pg_fs n) p → pg_n2 i j k (pg_sn n) (p + (pg_c i j k (pg_fs n) p - 2)) (pg_c i j k (pg_fs n) p - 2) n p) ∧
    (pg_op n = 4 → pg_c i j k (pg_fs n) p < 2 → pg_c i j k n p = pg_c i j k (pg_fs n) p) ∧
    (pg_op n = 5 → pg_c i j k (pg_fs n) p < 2 → pg_n2 i j k (pg_sn n) p 0 n p) ∧
    (pg_op n = 5 → 2 ≤ pg_c i j k (pg_fs n) p → pg_c i j k n p = pg_c i j k (pg_fs n) p) ∧
    (pg_op n = 6 → 2 < pg_c i j k (pg_fs n) p → pg_n2 i j k (pg_sn n) (p + (pg_c i j k (pg_fs n) p - 2)) (pg_c i j k (pg_fs n) p - 2) n p) ∧
    (pg_op n = 6 → pg_c i j k (pg_fs n) p ≤ 2 → pg_c i j k n p = 2) ∧
    (pg_op n = 8 → pg_c i j k n p = if pg_c i j k (pg_fs n) p < 2 then 1 else 2) ∧
    (pg_op n = 9 → pg_c i j k n p = if pg_c i j k (pg_fs n) p < 2 then 2 else 1))
def pg_b1 (i j k n p : Nat) : Bool := decide (pg_c i j k n p < 24)
def pg_b2 (i j k n p : Nat) : Bool := decide (pg_op n ≤ 2 → pg_c i j k n p = pg_sg i j k n p)
def pg_b3 (i j k n p : Nat) : Bool := decide (3 ≤ pg_op n → pg_dd i j k (pg_fs n) p n p)
def pg_b4 (i j k n p : Nat) : Bool := decide (pg_op n = 3 → pg_c i j k (pg_fs n) p ≠ 0 → pg_c i j k n p = pg_c i j k (pg_fs n) p)
def pg_b5 (i j k n p : Nat) : Bool := decide (pg_op n = 4 → pg_c i j k (pg_fs n) p ≠ 0 → 2 ≤ pg_c i j k (pg_fs n) p → pg_n2 i j k (pg_sn n) (p + (pg_c i j k (pg_fs n) p - 2)) (pg_c i j k (pg_fs n) p - 2) n p)
def pg_b6 (i j k n p : Nat) : Bool := decide (pg_op n = 4 → pg_c i j k (pg_fs n) p ≠ 0 → pg_c i j k (pg_fs n) p < 2 → pg_c i j k n p = pg_c i j k (pg_fs n) p)
def pg_b7 (i j k n p : Nat) : Bool := decide (pg_op n = 5 → pg_c i j k (pg_fs n) p ≠ 0 → pg_c i j k (pg_fs n) p < 2 → pg_n2 i j k (pg_sn n) p 0 n p)
def pg_b8 (i j k n p : Nat) : Bool := decide (pg_op n = 5 → pg_c i j k (pg_fs n) p ≠ 0 → 2 ≤ pg_c i j k (pg_fs n) p → pg_c i j k n p = pg_c i j k (pg_fs n) p)
def pg_b9 (i j k n p : Nat) : Bool := decide (pg_op n = 6 → pg_c i j k (pg_fs n) p ≠ 0 → 2 < pg_c i j k (pg_fs n) p → pg_n2 i j k (pg_sn n) (p + (pg_c i j k (pg_fs n) p - 2)) (pg_c i j k (pg_fs n) p - 2) n p)
def pg_b10 (i j k n p : Nat) : Bool := decide (pg_op n = 6 → pg_c i j k (pg_fs n) p ≠ 0 → pg_c i j k (pg_fs n) p ≤ 2 → pg_c i j k n p = 2)
def pg_b11 (i j k n p : Nat) : Bool := decide (pg_op n = 8 → pg_c i j k (pg_fs n) p ≠ 0 → pg_c i j k n p = if pg_c i j k (pg_fs n) p < 2 then 1 else 2)
def pg_b12 (i j k n p : Nat) : Bool := decide (pg_op n = 9 → pg_c i j k (pg_fs n) p ≠ 0 → pg_c i j k n p = if pg_c i j k (pg_fs n) p < 2 then 2 else 1)
def pg_b (i j k n p : Nat) : Bool := pg_b1 i j k n p && (pg_b2 i j k n p && (pg_b3 i j k n p && (pg_b4 i j k n p && (pg_b5 i j k n p && (pg_b6 i j k n p && (pg_b7 i j k n p && (pg_b8 i j k n p && (pg_b9 i j k n p && (pg_b10 i j k n p && (pg_b11 i j k n p && pg_b12 i j k n p))))))))))
theorem pg_b_lc {i j k n p : Nat} (h : pg_b i j k n p = true) : pg_lc i j k n p := by
  unfold pg_b at h
  simp only [Bool.and_eq_true] at h
  obtain ⟨h1, h2, h3, h4, h5, h6, h7, h8, h9, h10, h11, h12⟩ := h
  exact ⟨of_decide_eq_true h1, of_decide_eq_true h2, of_decide_eq_true h3, fun _ c0 => ⟨fun o => of_decide_eq_true h4 o c0, fun o => of_decide_eq_true h5 o c0, fun o => of_decide_eq_true h6 o c0, fun o => of_decide_eq_true h7 o c0, fun o => of_decide_eq_true h8 o c0, fun o => of_decide_eq_true h9 o c0, fun o => of_decide_eq_true h10 o c0, fun o => of_decide_eq_true h11 o c0, fun o => of_decide_eq_true h12 o c0⟩⟩
theorem pg_b_all0 : ∀ j, j < 6 → ∀ k, k < 6 → ∀ n, n < 28 → ∀ p, p < 0 + j + k + 1 → pg_b 0 j k n p = true := by decide +kernel
theorem pg_b_all1 : ∀ j, j < 6 → ∀ k, k < 6 → ∀ n, n < 28 → ∀ p, p < 1 + j + k + 1 → pg_b 1 j k n p = true := by decide +kernel
theorem pg_b_all2 : ∀ j, j < 6 → ∀ k, k < 6 → ∀ n, n < 28 → ∀ p, p < 2 + j + k + 1 → pg_b 2 j k n p = true := by decide +kernel
theorem pg_b_all3 : ∀ j, j < 6 → ∀ k, k < 6 → ∀ n, n < 28 → ∀ p, p < 3 + j + k + 1 → pg_b 3 j k n p = true := by decide +kernel
theorem pg_lc_all {i j k n p : Nat} (hi : i < 4) (hj : j < 6) (hk : k < 6) (hn : n < 28) (hp : p ≤ i + j + k) : pg_lc i j k n p := by
  match i, hi with
  | 0, _ => exact pg_b_lc (pg_b_all0 j hj k hk n hn p (by omega))
  | 1, _ => exact pg_b_lc (pg_b_all1 j hj k hk n hn p (by omega))
  | 2, _ => exact pg_b_lc (pg_b_all2 j hj k hk n hn p (by omega))
  | 3, _ => exact pg_b_lc (pg_b_all3 j hj k hk n hn p (by omega))
/-! facts of the table -/
theorem pg_op_t : ∀ n, n < 28 → pg_op n ≤ 9 ∧ pg_op n ≠ 7 ∧ (pg_op n = 6 → pg_sn n = n) ∧ (pg_op n = 3 → pg_ar n < 3 ∧ pg_rt (pg_ar n) = pg_fs n) ∧ (pg_op n = 0 → pg_ar n < 3) := by decide +kernel
/-- the parts lie among the first N nodes -/
abbrev pg_clo (N : Nat) : Prop := N ≤ 28 ∧ 19 ≤ N ∧ ∀ n, n < N → pg_fs n < N ∧ pg_sn n < N
theorem pg_clo19 : pg_clo 19 := by decide +kernel
theorem pg_clo23 : pg_clo 23 := by decide +kernel
theorem pg_clo28 : pg_clo 28 := by decide +kernel
/-! codes as ints -/
def pg_vl (c : Nat) : Int32 := if c = 0 then -2 else if c = 1 then -1 else nI (c - 2)
theorem pg_vl_t : ∀ c, c < 24 → pg_vl c ≠ -3 ∧ pg_vl c ≠ -4 ∧ (pg_vl c = -2 ↔ c = 0) ∧ (0 ≤ pg_vl c ↔ 2 ≤ c) ∧ (pg_vl c < 0 ↔ c < 2) ∧ (pg_vl c ≤ 0 ↔ c ≤ 2) := by decide +kernel
theorem pg_vl_2 {c : Nat} (h : 2 ≤ c) : pg_vl c = nI (c - 2) := by
  unfold pg_vl
  rw [if_neg (by omega), if_neg (by omega)]
/-! counting -/
def pg_ct (a : Nat → Int32) : Nat → Nat
  | 0 => 0
  | n + 1 => pg_ct a n + (if a n = -3 then 1 else 0)
theorem pg_ct_le {a b : Nat → Int32} : ∀ n : Nat, (∀ q, q < n → b q = -3 → a q = -3) → pg_ct b n ≤ pg_ct a n
  | 0, _ => Nat.le_refl 0
  | n + 1, h => by
    have ih := pg_ct_le n (fun q hq => h q (by omega))
    have h1 := h n (by omega)
    show pg_ct b n + (if b n = -3 then 1 else 0) ≤ pg_ct a n + (if a n = -3 then 1 else 0)
    by_cases e : b n = -3
    · rw [if_pos e, if_pos (h1 e)]; omega
    · rw [if_neg e]; omega
theorem pg_ct_lt {a b : Nat → Int32} {q0 : Nat} (ha : a q0 = -3) (hb : b q0 ≠ -3) : ∀ n : Nat, q0 < n → (∀ q, q < n → b q = -3 → a q = -3) → pg_ct b n + 1 ≤ pg_ct a n
  | 0, hq, _ => by omega
  | n + 1, hq, h => by
    show pg_ct b n + (if b n = -3 then 1 else 0) + 1 ≤ pg_ct a n + (if a n = -3 then 1 else 0)
    by_cases e : q0 = n
    · subst e
      have ih := pg_ct_le (a := a) (b := b) q0 (fun q hq => h q (by omega))
      rw [if_neg hb, if_pos ha]; omega
    · have ih := pg_ct_lt ha hb n (by omega) (fun q hq => h q (by omega))
      have h1 := h n (by omega)
      by_cases e2 : b n = -3
      · rw [if_pos e2, if_pos (h1 e2)]; omega
      · rw [if_neg e2]; omega
theorem pg_ct_n (a : Nat → Int32) : ∀ n : Nat, pg_ct a n ≤ n
  | 0 => Nat.le_refl 0
  | n + 1 => by
    have ih := pg_ct_n a n
    show pg_ct a n + (if a n = -3 then 1 else 0) ≤ n + 1
    by_cases e : a n = -3
    · rw [if_pos e]; omega
    · rw [if_neg e]; omega
def pg_sm (s : Nat → Nat) : Nat → Nat
  | 0 => 0
  | d + 1 => pg_sm s d + (3 - s d)
theorem pg_sm_c {s s' : Nat → Nat} : ∀ d : Nat, (∀ t, t < d → s' t = s t) → pg_sm s' d = pg_sm s d
  | 0, _ => rfl
  | d + 1, h => by
    have ih := pg_sm_c d (fun t ht => h t (by omega))
    show pg_sm s' d + (3 - s' d) = pg_sm s d + (3 - s d)
    rw [ih, h d (by omega)]
def pg_up (f : Nat → Nat) (k v : Nat) : Nat → Nat := fun j => if j = k then v else f j
theorem pg_up_s {f : Nat → Nat} {k v : Nat} : pg_up f k v k = v := if_pos rfl
theorem pg_up_n {f : Nat → Nat} {k v j : Nat} (h : j ≠ k) : pg_up f k v j = f j := if_neg h
end
section
/-! keys: 21 * node + place -/
def pg_C (i j k q : Nat) : Nat := pg_c i j k (q / 21) (q % 21)
def pg_R (q : Nat) : Nat := pg_rh (q / 21) (q % 21)
def pg_dom (N L q : Nat) : Prop := q / 21 < N ∧ q % 21 ≤ L
def pg_D (i j k q e : Nat) : Prop := pg_C i j k e = 0 ∨ (pg_C i j k q ≠ 0 ∧ pg_R q < pg_R e)
/-- the entry of key e at stage s, t being taken, waits for q -/
def pg_W (i j k e s t q : Nat) : Prop :=
  (s = 1 ∧ 3 ≤ pg_op (e / 21) ∧ q = 21 * pg_fs (e / 21) + e % 21) ∨
  (s = 2 ∧ (pg_op (e / 21) = 4 ∨ pg_op (e / 21) = 5 ∨ pg_op (e / 21) = 6) ∧ q = 21 * pg_sn (e / 21) + e % 21 + t ∧ (pg_C i j k q ≠ 0 → pg_C i j k e = if pg_C i j k q < 2 then 1 else t + pg_C i j k q))
theorem pg_C_k {i j k n p : Nat} (hp : p < 21) : pg_C i j k (21 * n + p) = pg_c i j k n p := by
  unfold pg_C
  rw [show (21 * n + p) / 21 = n by omega, show (21 * n + p) % 21 = p by omega]
theorem pg_R_k {n p : Nat} (hp : p < 21) : pg_R (21 * n + p) = pg_rh n p := by
  unfold pg_R
  rw [show (21 * n + p) / 21 = n by omega, show (21 * n + p) % 21 = p by omega]
theorem pg_D_k {i j k m q n p : Nat} (hq : q < 21) (hp : p < 21) (h : pg_dd i j k m q n p) : pg_D i j k (21 * m + q) (21 * n + p) := by
  unfold pg_D
  rw [pg_C_k hq, pg_C_k hp, pg_R_k hq, pg_R_k hp]
  exact h
theorem pg_dom_k {N L n p : Nat} (hn : n < N) (hp : p ≤ L) (hL : L ≤ 20) : pg_dom N L (21 * n + p) := by
  unfold pg_dom
  constructor <;> omega
/-- the outcomes at rest: unknown, or the closed form -/
def pg_T (N i j k : Nat) (a8 : Nat → Int32) : Prop := ∀ q, q < 840 → a8 q = -3 ∨ (pg_dom N (i + j + k) q ∧ a8 q = pg_vl (pg_C i j k q))
/-- the machine: ky, sg, tk are the keys, stages and taken counts of the d entries that wait -/
def pg_M (N i j k d : Nat) (ky sg tk : Nat → Nat) (a8 a9 a10 a11 : Nat → Int32) : Prop :=
  (∀ q, q < 840 → a8 q = -3 ∨ (pg_dom N (i + j + k) q ∧ a8 q = pg_vl (pg_C i j k q)) ∨ (a8 q = -4 ∧ ∃ t, t < d ∧ ky t = q)) ∧
  (∀ t, t < d → pg_dom N (i + j + k) (ky t) ∧ a8 (ky t) = -4 ∧ a9 t = nI (ky t) ∧ a10 t = nI (sg t) ∧ sg t ≤ 2 ∧ (sg t = 2 → a11 t = nI (tk t))) ∧
  (∀ s t, s < t → t < d → ky s ≠ ky t ∧ pg_D i j k (ky t) (ky s)) ∧
  (∀ t, t + 1 < d → pg_W i j k (ky t) (sg t) (tk t) (ky (t + 1))) ∧
  (∀ t, t + 1 = d → sg t = 0 ∨ ∃ q, pg_W i j k (ky t) (sg t) (tk t) q ∧ pg_dom N (i + j + k) q ∧ a8 q = pg_vl (pg_C i j k q) ∧ pg_C i j k q ≠ 0)
/-- with its measure; rt: the key that was asked for -/
def pg_K (N i j k rt d m : Nat) (ky sg tk : Nat → Nat) (a8 a9 a10 a11 : Nat → Int32) : Prop :=
  pg_ct a8 840 + d ≤ 840 ∧ a8 rt ≠ -3 ∧ pg_M N i j k d ky sg tk a8 a9 a10 a11 ∧ 3 * pg_ct a8 840 + pg_sm sg d ≤ m
def pg_J (N i j k rt d m : Nat) (a8 a9 a10 a11 : Nat → Int32) : Prop := ∃ ky sg tk : Nat → Nat, pg_K N i j k rt d m ky sg tk a8 a9 a10 a11
/-- the sizes -/
abbrev pg_Z (N i j k : Nat) : Prop := pg_clo N ∧ i < 4 ∧ j < 6 ∧ k < 6
theorem pg_C_lt {N i j k q : Nat} (z : pg_Z N i j k) (h : pg_dom N (i + j + k) q) : pg_C i j k q < 24 :=
  (pg_lc_all z.2.1 z.2.2.1 z.2.2.2 (Nat.lt_of_lt_of_le h.1 z.1.1) h.2).1
theorem pg_dom_lt {N i j k q : Nat} (z : pg_Z N i j k) (h : pg_dom N (i + j + k) q) : q < 588 := by
  have h1 := h.1
  have h2 := z.1.1
  omega
theorem pg_vl_3 {c : Nat} (h : c < 24) : pg_vl c ≠ -3 := (pg_vl_t c h).1
theorem pg_m4 : ¬ (-4 : Int32) = -3 := by decide
theorem pg_m2 : ¬ (-2 : Int32) = -3 := by decide
/-- the top is done -/
theorem pg_fin_M {N i j k d : Nat} {ky sg tk : Nat → Nat} {a8 a9 a10 a11 : Nat → Int32} (h : pg_M N i j k (d + 1) ky sg tk a8 a9 a10 a11) (hc : pg_C i j k (ky d) ≠ 0) :
    pg_M N i j k d ky sg tk (upd a8 (ky d) (pg_vl (pg_C i j k (ky d)))) a9 a10 a11 := by
  obtain ⟨hA, hB, hD, hW, hT⟩ := h
  refine ⟨fun q hq => ?_, fun t ht => ?_, fun s t hs ht => hD s t hs (by omega), fun t ht => hW t (by omega), fun t ht => ?_⟩
  · by_cases e : q = ky d
    · rw [e, pk_us]
      exact Or.inr (Or.inl ⟨(hB d (by omega)).1, rfl⟩)
    · rw [pk_un e]
      rcases hA q hq with h1 | h1 | ⟨h1, t, ht, ht2⟩
      · exact Or.inl h1
      · exact Or.inr (Or.inl h1)
      · refine Or.inr (Or.inr ⟨h1, t, ?_, ht2⟩)
        rcases Nat.lt_or_ge t d with g | g
        · exact g
        · have : t = d := by omega
          rw [this] at ht2
          exact absurd ht2.symm e
  · obtain ⟨h1, h2, h3, h4, h5, h6⟩ := hB t (by omega)
    refine ⟨h1, ?_, h3, h4, h5, h6⟩
    rw [pk_un (hD t d ht (by omega)).1]
    exact h2
  · refine Or.inr ⟨ky d, ?_, (hB d (by omega)).1, pk_us, hc⟩
    have := hW t (by omega)
    rw [ht] at this
    exact this
theorem pg_fin {N i j k rt d m : Nat} {ky sg tk : Nat → Nat} {post : St2 → Prop} {f1 f2 f3 f4 f5 : Int32} {a1 a2 a3 a4 a5 a6 a7 a8 a9 a10 a11 : Nat → Int32} {v : Int32} (z : pg_Z N i j k)
    (h : pg_K N i j k rt (d + 1) (m + 1) ky sg tk a8 a9 a10 a11) (hc : pg_C i j k (ky d) ≠ 0) (hv : v = pg_vl (pg_C i j k (ky d)))
    (H : ∀ d' a8' a9' a10' a11', pg_J N i j k rt d' m a8' a9' a10' a11' → post (f1, f2, f3, f4, nI d', a1, a2, a3, a4, a5, a6, a7, a8', a9', a10', a11')) :
    wpX_finish post (f1, f2, f3, f4, f5, a1, a2, a3, a4, a5, a6, a7, a8, a9, a10, a11) (nI d) v := by
  obtain ⟨h1, h2, h3, h4⟩ := h
  obtain ⟨b1, b2, b3, b4, b5, b6⟩ := h3.2.1 d (by omega)
  have l1 := pg_dom_lt z b1
  have l2 := pg_C_lt z b1
  have cd : (nI d).toNatClampNeg = d := nI_clamp (by omega)
  have ck : (a9 d).toNatClampNeg = ky d := by rw [b3]; exact nI_clamp (by omega)
  have q1 : pg_ct (upd a8 (ky d) (pg_vl (pg_C i j k (ky d)))) 840 ≤ pg_ct a8 840 := by
    refine pg_ct_le 840 (fun q _ hb => ?_)
    by_cases e : q = ky d
    · rw [e, pk_us] at hb
      exact absurd hb (pg_vl_3 l2)
    · rw [pk_un e] at hb
      exact hb
  unfold wpX_finish
  dsimp only
  rw [cd, ck, b3, hv]
  refine ⟨pk_in d 840 (by omega), pk_in (ky d) 840 (by omega), nm_e (H d _ _ _ _ ⟨ky, sg, tk, ?_, ?_, pg_fin_M h3 hc, ?_⟩)⟩
  · omega
  · by_cases e : rt = ky d
    · rw [e, pk_us]
      exact pg_vl_3 l2
    · rw [pk_un e]
      exact h2
  · have : pg_sm sg (d + 1) = pg_sm sg d + (3 - sg d) := rfl
    omega
end
section
theorem pg_known_M {N i j k d s' t' q : Nat} {ky sg tk : Nat → Nat} {a8 a9 a10 a11 b11 : Nat → Int32} (h : pg_M N i j k (d + 1) ky sg tk a8 a9 a10 a11)
    (hb : ∀ t, t < d → b11 t = a11 t) (hs : s' ≤ 2) (ht' : s' = 2 → b11 d = nI t') (hw : pg_W i j k (ky d) s' t' q) (hq : pg_dom N (i + j + k) q) (hv : a8 q = pg_vl (pg_C i j k q)) (hc : pg_C i j k q ≠ 0) :
    pg_M N i j k (d + 1) ky (pg_up sg d s') (pg_up tk d t') a8 a9 (upd a10 d (nI s')) b11 := by
  obtain ⟨hA, hB, hD, hW, hT⟩ := h
  refine ⟨hA, fun t ht => ?_, hD, fun t ht => ?_, fun t ht => ?_⟩
  · obtain ⟨h1, h2, h3, h4, h5, h6⟩ := hB t ht
    by_cases e : t = d
    · subst e
      refine ⟨h1, h2, h3, ?_, ?_, ?_⟩
      · rw [pk_us, pg_up_s]
      · rw [pg_up_s]; exact hs
      · rw [pg_up_s, pg_up_s]; exact ht'
    · refine ⟨h1, h2, h3, ?_, ?_, ?_⟩
      · rw [pk_un e, pg_up_n e]; exact h4
      · rw [pg_up_n e]; exact h5
      · rw [pg_up_n e, pg_up_n e, hb t (by omega)]; exact h6
  · have e : t ≠ d := by omega
    rw [pg_up_n e, pg_up_n e]
    exact hW t ht
  · have e : t = d := by omega
    subst e
    rw [pg_up_s, pg_up_s]
    exact Or.inr ⟨q, hw, hq, hv, hc⟩
theorem pg_push_M {N i j k d s' t' q : Nat} {ky sg tk : Nat → Nat} {a8 a9 a10 a11 b11 : Nat → Int32} (h : pg_M N i j k (d + 1) ky sg tk a8 a9 a10 a11)
    (hb : ∀ t, t < d → b11 t = a11 t) (hs : s' ≤ 2) (ht' : s' = 2 → b11 d = nI t') (hw : pg_W i j k (ky d) s' t' q) (hq : pg_dom N (i + j + k) q) (hv : a8 q = -3) (hd : pg_D i j k q (ky d)) :
    pg_M N i j k (d + 2) (pg_up ky (d + 1) q) (pg_up (pg_up sg d s') (d + 1) 0) (pg_up tk d t') (upd a8 q (-4)) (upd a9 (d + 1) (nI q)) (upd (upd a10 d (nI s')) (d + 1) 0) b11 := by
  obtain ⟨hA, hB, hD, hW, hT⟩ := h
  have nq : ∀ t, t < d + 1 → ky t ≠ q := by
    intro t ht e
    have := (hB t ht).2.1
    rw [e, hv] at this
    exact absurd this.symm pg_m4
  refine ⟨fun r hr => ?_, fun t ht => ?_, fun s t hst ht => ?_, fun t ht => ?_, fun t ht => ?_⟩
  · by_cases e : r = q
    · rw [e, pk_us]
      exact Or.inr (Or.inr ⟨rfl, d + 1, by omega, pg_up_s⟩)
    · rw [pk_un e]
      rcases hA r hr with h1 | h1 | ⟨h1, t, ht, ht2⟩
      · exact Or.inl h1
      · exact Or.inr (Or.inl h1)
      · refine Or.inr (Or.inr ⟨h1, t, by omega, ?_⟩)
        rw [pg_up_n (by omega)]
        exact ht2
  · by_cases e : t = d + 1
    · subst e
      rw [pg_up_s, pg_up_s, pk_us, pk_us, pk_us]
      exact ⟨hq, rfl, rfl, rfl, by omega, fun z => absurd z (by omega)⟩
    · obtain ⟨h1, h2, h3, h4, h5, h6⟩ := hB t (by omega)
      rw [pg_up_n e, pg_up_n e, pk_un e, pk_un e, pk_un (nq t (by omega))]
      by_cases e2 : t = d
      · subst e2
        refine ⟨h1, h2, h3, ?_, ?_, ?_⟩
        · rw [pk_us, pg_up_s]
        · rw [pg_up_s]; exact hs
        · rw [pg_up_s, pg_up_s]; exact ht'
      · refine ⟨h1, h2, h3, ?_, ?_, ?_⟩
        · rw [pk_un e2, pg_up_n e2]; exact h4
        · rw [pg_up_n e2]; exact h5
        · rw [pg_up_n e2, pg_up_n e2, hb t (by omega)]; exact h6
  · have es : s ≠ d + 1 := by omega
    rw [pg_up_n es]
    by_cases e : t = d + 1
    · rw [e, pg_up_s]
      refine ⟨nq s (by omega), ?_⟩
      by_cases e2 : s = d
      · rw [e2]; exact hd
      · rcases (hD s d (by omega) (by omega)).2 with g | ⟨g1, g2⟩
        · exact Or.inl g
        · rcases hd with g3 | ⟨g3, g4⟩
          · exact absurd g3 g1
          · exact Or.inr ⟨g3, by omega⟩
    · rw [pg_up_n e]
      exact hD s t hst (by omega)
  · have e : t ≠ d + 1 := by omega
    rw [pg_up_n e, pg_up_n e]
    by_cases e2 : t = d
    · subst e2
      rw [pg_up_s, pg_up_s, pg_up_s]
      exact hw
    · rw [pg_up_n e2, pg_up_n e2, pg_up_n (by omega)]
      exact hW t (by omega)
  · have e : t = d + 1 := by omega
    subst e
    exact Or.inl pg_up_s
theorem pg_all_st {N i j k d q : Nat} {ky sg tk : Nat → Nat} {a8 a9 a10 a11 : Nat → Int32} (h : pg_M N i j k (d + 1) ky sg tk a8 a9 a10 a11)
    (hd : pg_D i j k q (ky d)) (hq : pg_C i j k q = 0 ∨ ∃ t, t < d + 1 ∧ ky t = q) : ∀ t, t < d + 1 → pg_C i j k (ky t) = 0 := by
  obtain ⟨hA, hB, hD, hW, hT⟩ := h
  have top : pg_C i j k (ky d) = 0 := by
    rcases hd with g | ⟨g1, g2⟩
    · exact g
    · rcases hq with g3 | ⟨t, ht, e⟩
      · exact absurd g3 g1
      · by_cases e2 : t = d
        · rw [e2] at e
          rw [e] at g2
          omega
        · rcases (hD t d (by omega) (by omega)).2 with g3 | ⟨g3, g4⟩
          · rw [e] at g3
            exact absurd g3 g1
          · rw [e] at g4
            omega
  intro t ht
  by_cases e : t = d
  · rw [e]; exact top
  · rcases (hD t d (by omega) (by omega)).2 with g | ⟨g1, g2⟩
    · exact g
    · exact absurd top g1
theorem pg_stuck_M {N i j k d : Nat} {ky sg tk : Nat → Nat} {a8 a9 a10 a11 b8 b9 b10 b11 : Nat → Int32} (h : pg_M N i j k (d + 1) ky sg tk a8 a9 a10 a11)
    (hc : ∀ t, t < d + 1 → pg_C i j k (ky t) = 0) (h1 : ∀ t, t < d + 1 → b8 (ky t) = -2) (h2 : ∀ q, (∀ t, t < d + 1 → ky t ≠ q) → b8 q = a8 q) :
    pg_M N i j k 0 ky sg tk b8 b9 b10 b11 := by
  obtain ⟨hA, hB, hD, hW, hT⟩ := h
  refine ⟨fun q hq => ?_, fun t ht => absurd ht (by omega), fun s t _ ht => absurd ht (by omega), fun t ht => absurd ht (by omega), fun t ht => absurd ht (by omega)⟩
  by_cases e : ∃ t, t < d + 1 ∧ ky t = q
  · obtain ⟨t, ht, e⟩ := e
    refine Or.inr (Or.inl ?_)
    rw [← e]
    refine ⟨(hB t ht).1, ?_⟩
    rw [h1 t ht, hc t ht]
    rfl
  · have e' : ∀ t, t < d + 1 → ky t ≠ q := fun t ht g => e ⟨t, ht, g⟩
    rw [h2 q e']
    rcases hA q hq with g | g | ⟨_, t, ht, g⟩
    · exact Or.inl g
    · exact Or.inr (Or.inl g)
    · exact absurd g (e' t ht)
theorem pg_21 (n p : Nat) : (21 : Int32) * nI n + nI p = nI (21 * n + p) := by
  rw [show (21 : Int32) = nI 21 from rfl, pk_mul, nI_add]
theorem pg_put {post : St2 → Prop} {d n p : Nat} {f1 f2 f3 f4 : Int32} {a1 a2 a3 a4 a5 a6 a7 a8 a9 a10 a11 : Nat → Int32} (hd : d < 840) (hq : 21 * n + p < 840)
    (H : post (f1, f2, f3, f4, nI (d + 1), a1, a2, a3, a4, a5, a6, a7, upd a8 (21 * n + p) (-4), upd a9 d (nI (21 * n + p)), upd a10 d 0, a11)) :
    wpX_putOn post (f1, f2, f3, f4, nI d, a1, a2, a3, a4, a5, a6, a7, a8, a9, a10, a11) (nI n) (nI p) := by
  unfold wpX_putOn
  dsimp only
  rw [pg_21, nI_1, nI_clamp (show d < 2 ^ 31 by omega)]
  refine nm_e ⟨pk_in _ 840 hq, ?_⟩
  rw [nI_clamp (show 21 * n + p < 2 ^ 31 by omega)]
  exact nm_e ⟨pk_in d 840 hd, nm_e ⟨pk_in d 840 hd, nm_e (nm_e H)⟩⟩
/-- the loop that marks all that wait as stuck -/
theorem pg_54 {post : St2 → Prop} {d : Nat} {ky : Nat → Nat} {f1 f2 f3 f4 : Int32} {a1 a2 a3 a4 a5 a6 a7 a8 a9 a10 a11 : Nat → Int32} (hd : d ≤ 840) (hk : ∀ t, t < d → ky t < 840 ∧ a9 t = nI (ky t))
    (H : ∀ b8 : Nat → Int32, (∀ t, t < d → b8 (ky t) = -2) → (∀ q, (∀ t, t < d → ky t ≠ q) → b8 q = a8 q) → post (f1, f2, f3, f4, nI 0, a1, a2, a3, a4, a5, a6, a7, b8, a9, a10, a11)) :
    ∃ n, wX_need_54 post f1 f2 f3 f4 (nI d) n 0 a1 a2 a3 a4 a5 a6 a7 a8 a9 a10 a11 :=
  pk_loop (fun n t s => wX_need_54 post f1 f2 f3 f4 (nI d) n (nI t) a1 a2 a3 a4 a5 a6 a7 s a9 a10 a11)
    (fun m b8 => (∀ t, t < m → b8 (ky t) = -2) ∧ (∀ q, (∀ t, t < m → ky t ≠ q) → b8 q = a8 q)) d 0 a8 (by omega) ⟨fun t ht => absurd ht (by omega), fun q _ => rfl⟩
    (fun n s h => pk_le d d (fun _ => H s h.1 h.2) (fun z => absurd z (by omega)))
    (fun n t s ht h hw => pk_le d t (fun z => absurd z (by omega)) (fun _ => by
      have c1 : (nI t).toNatClampNeg = t := nI_clamp (by omega)
      have c2 : (a9 t).toNatClampNeg = ky t := by rw [(hk t ht).2]; exact nI_clamp (by have := (hk t ht).1; omega)
      rw [c1, c2]
      refine ⟨pk_in t 840 (by omega), pk_in (ky t) 840 (hk t ht).1 (hk t ht).2, nm_e (nm_r (nI_1 t) (hw _ ⟨fun t' ht' => ?_, fun q hq => ?_⟩))⟩
      · by_cases e : ky t' = ky t
        · rw [e, pk_us]
        · rw [pk_un e]
          refine h.1 t' ?_
          rcases Nat.lt_or_ge t' t with g | g
          · exact g
          · exact absurd (show ky t' = ky t by rw [show t' = t by omega]) e
      · rw [pk_un (fun g => hq t (by omega) g.symm)]
        exact h.2 q (fun t' ht' => hq t' (by omega))))
theorem pg_nd {N i j k rt d m n p s' t' : Nat} {ky sg tk : Nat → Nat} {post : St2 → Prop} {f1 f2 f3 f4 : Int32} {a1 a2 a3 a4 a5 a6 a7 a8 a9 a10 a11 b11 : Nat → Int32} (z : pg_Z N i j k)
    (h : pg_K N i j k rt (d + 1) (m + 1) ky sg tk a8 a9 a10 a11) (hb : ∀ t, t < d → b11 t = a11 t) (hs0 : sg d < s') (hs : s' ≤ 2) (ht' : s' = 2 → b11 d = nI t')
    (hn : n < N) (hp : p ≤ i + j + k) (hw : pg_W i j k (ky d) s' t' (21 * n + p)) (hd : pg_D i j k (21 * n + p) (ky d))
    (H : ∀ d' a8' a9' a10' a11', pg_J N i j k rt d' m a8' a9' a10' a11' → post (f1, f2, f3, f4, nI d', a1, a2, a3, a4, a5, a6, a7, a8', a9', a10', a11')) :
    wpX_need post (f1, f2, f3, f4, nI (d + 1), a1, a2, a3, a4, a5, a6, a7, a8, a9, a10, b11) (nI d) (nI n) (nI p) (nI s') := by
  obtain ⟨h1, h2, h3, h4⟩ := h
  have zi := z.2.1
  have zj := z.2.2.1
  have zk := z.2.2.2
  have zn := z.1.1
  have dq : pg_dom N (i + j + k) (21 * n + p) := pg_dom_k hn hp (by omega)
  have l1 := pg_dom_lt z dq
  have l2 := pg_C_lt z dq
  have sm1 : pg_sm sg (d + 1) = pg_sm sg d + (3 - sg d) := rfl
  have stuck : (pg_C i j k (21 * n + p) = 0 ∨ ∃ t, t < d + 1 ∧ ky t = 21 * n + p) →
      ∃ fu, wX_need_54 post f1 f2 f3 f4 (nI (d + 1)) fu 0 a1 a2 a3 a4 a5 a6 a7 a8 a9 (upd a10 d (nI s')) b11 := by
    intro hq
    have hall := pg_all_st h3 hd hq
    refine pg_54 (ky := ky) (by omega) (fun t ht => ⟨?_, (h3.2.1 t ht).2.2.1⟩) (fun b8 g1 g2 => ?_)
    · have := pg_dom_lt z (h3.2.1 t ht).1
      omega
    have q0 : ∀ q, b8 q = -3 → a8 q = -3 := by
      intro q hq3
      by_cases e : ∃ t, t < d + 1 ∧ ky t = q
      · obtain ⟨t, ht, e⟩ := e
        rw [← e, g1 t ht] at hq3
        exact absurd hq3 pg_m2
      · rw [g2 q (fun t ht g => e ⟨t, ht, g⟩)] at hq3
        exact hq3
    have q1 : pg_ct b8 840 ≤ pg_ct a8 840 := pg_ct_le 840 (fun q _ => q0 q)
    have q2 : pg_sm sg 0 = 0 := rfl
    exact H 0 _ _ _ _ ⟨ky, sg, tk, by omega, fun g => h2 (q0 rt g), pg_stuck_M h3 hall g1 g2, by omega⟩
  unfold wpX_need
  dsimp only
  rw [pg_21, nI_clamp (show d < 2 ^ 31 by omega), nI_clamp (show 21 * n + p < 2 ^ 31 by omega)]
  refine ⟨pk_in d 840 (by omega), nm_e ⟨pk_in (21 * n + p) 840 (by omega), ?_⟩⟩
  rcases h3.1 (21 * n + p) (by omega) with g | ⟨_, g⟩ | ⟨g, ht⟩
  · have q1 : pg_ct (upd a8 (21 * n + p) (-4)) 840 + 1 ≤ pg_ct a8 840 := by
      refine pg_ct_lt g (by rw [pk_us]; exact pg_m4) 840 (by omega) (fun q _ hb => ?_)
      by_cases e : q = 21 * n + p
      · rw [e]; exact g
      · rw [pk_un e] at hb; exact hb
    have hJ : pg_J N i j k rt (d + 2) m (upd a8 (21 * n + p) (-4)) (upd a9 (d + 1) (nI (21 * n + p))) (upd (upd a10 d (nI s')) (d + 1) 0) b11 := by
      refine ⟨_, _, _, by omega, ?_, pg_push_M h3 hb hs ht' hw dq g hd, ?_⟩
      · by_cases e : rt = 21 * n + p
        · rw [e, pk_us]
          exact pg_m4
        · rw [pk_un e]
          exact h2
      · have e1 : pg_sm (pg_up (pg_up sg d s') (d + 1) 0) (d + 2) = pg_sm (pg_up (pg_up sg d s') (d + 1) 0) d + (3 - pg_up (pg_up sg d s') (d + 1) 0 d) + (3 - pg_up (pg_up sg d s') (d + 1) 0 (d + 1)) := rfl
        have e2 : pg_sm (pg_up (pg_up sg d s') (d + 1) 0) d = pg_sm sg d := pg_sm_c d (fun t ht => by rw [pg_up_n (show t ≠ d + 1 by omega), pg_up_n (show t ≠ d by omega)])
        rw [e2, pg_up_s, pg_up_n (show d ≠ d + 1 by omega), pg_up_s] at e1
        omega
    exact nm_r g (br_t rfl (pg_put (by omega) (by omega) (H (d + 2) _ _ _ _ hJ)))
  · refine nm_r g (br_f (pg_vl_t _ l2).1 (br_f (pg_vl_t _ l2).2.1 ?_))
    refine ek_if (pg_vl_t _ l2).2.2.1 (fun c0 => stuck (Or.inl c0)) (fun c0 => ?_)
    have hJ : pg_J N i j k rt (d + 1) m a8 a9 (upd a10 d (nI s')) b11 := by
      refine ⟨_, _, _, h1, h2, pg_known_M h3 hb hs ht' hw dq g c0, ?_⟩
      have e1 : pg_sm (pg_up sg d s') (d + 1) = pg_sm (pg_up sg d s') d + (3 - pg_up sg d s' d) := rfl
      have e2 : pg_sm (pg_up sg d s') d = pg_sm sg d := pg_sm_c d (fun t ht => pg_up_n (show t ≠ d by omega))
      rw [e2, pg_up_s] at e1
      omega
    exact H (d + 1) _ _ _ _ hJ
  · exact nm_r g (br_f pg_m4 (br_t rfl (stuck (Or.inr ht))))
end
section
/-- the letter of a kind -/
def pg_lt (x y z : Int32) (c : Nat) : Int32 := if c = 0 then z else if c = 1 then x else y
def pg_G (N : Nat) (x y z : Int32) (a1 a2 a3 a4 : Nat → Int32) : Prop :=
  ∀ n, n < N → a1 n = nI (pg_op n) ∧ (pg_op n = 0 → a2 n = pg_lt x y z (pg_ar n)) ∧ (pg_op n = 3 → a2 n = nI (pg_ar n)) ∧ (3 < pg_op n → a3 n = nI (pg_fs n)) ∧ ((pg_op n = 4 ∨ pg_op n = 5) → a4 n = nI (pg_sn n))
def pg_E (N i j k : Nat) (x y z f4 : Int32) (a1 a2 a3 a4 a6 a7 : Nat → Int32) : Prop :=
  f4 = nI (i + j + k) ∧ pg_G N x y z a1 a2 a3 a4 ∧ (a6 0 = nI 6 ∧ a6 1 = nI 11 ∧ a6 2 = nI 18) ∧ (∀ p, p < i + j + k → a7 p = pg_lt x y z (pg_cl i j p)) ∧ (x ≠ y ∧ x ≠ z ∧ y ≠ z)
theorem pg_lt_eq {x y z : Int32} (h : x ≠ y ∧ x ≠ z ∧ y ≠ z) {c c' : Nat} (hc : c < 3) (hc' : c' < 3) : pg_lt x y z c = pg_lt x y z c' ↔ c = c' := by
  obtain ⟨h1, h2, h3⟩ := h
  constructor
  · intro e
    match c, c', hc, hc' with
    | 0, 0, _, _ => rfl
    | 0, 1, _, _ => exact absurd (show z = x from e).symm h2
    | 0, 2, _, _ => exact absurd (show z = y from e).symm h3
    | 1, 0, _, _ => exact absurd (show x = z from e) h2
    | 1, 1, _, _ => rfl
    | 1, 2, _, _ => exact absurd (show x = y from e) h1
    | 2, 0, _, _ => exact absurd (show y = z from e) h3
    | 2, 1, _, _ => exact absurd (show y = x from e).symm h1
    | 2, 2, _, _ => rfl
  · intro e
    rw [e]
theorem pg_cl_lt (i j p : Nat) : pg_cl i j p < 3 := by
  unfold pg_cl
  by_cases h1 : p < i
  · rw [if_pos h1]; omega
  · rw [if_neg h1]
    by_cases h2 : p < i + j
    · rw [if_pos h2]; omega
    · rw [if_neg h2]; omega
theorem pg_sg_0 (i j k n p : Nat) : pg_sg i j k n p ≠ 0 := by
  unfold pg_sg
  by_cases h1 : pg_op n = 2
  · rw [if_pos h1]; omega
  · rw [if_neg h1]
    by_cases h2 : p < i + j + k ∧ (pg_op n = 1 ∨ pg_cl i j p = pg_ar n)
    · rw [if_pos h2]; omega
    · rw [if_neg h2]; omega
theorem pg_v1 : pg_vl 1 = -1 := rfl
theorem pg_v2 : pg_vl 2 = 0 := rfl
theorem pg_v3 : pg_vl 3 = 1 := rfl
theorem pg_sgl {N i j k n p : Nat} {x y z : Int32} {post : Int32 → Prop} {f1 f2 f3 f4 f5 : Int32} {a1 a2 a3 a4 a5 a6 a7 a8 a9 a10 a11 : Nat → Int32}
    (E : pg_E N i j k x y z f4 a1 a2 a3 a4 a6 a7) (hN : N ≤ 28) (hL : i + j + k ≤ 13) (hn : n < N) (hp : p ≤ i + j + k) (ho : pg_op n ≤ 2) (H : post (pg_vl (pg_sg i j k n p))) :
    wpX_single post (f1, f2, f3, f4, f5, a1, a2, a3, a4, a5, a6, a7, a8, a9, a10, a11) (nI (pg_op n)) (a2 n) (nI p) := by
  obtain ⟨E1, E2, E3, E4, E5⟩ := E
  unfold wpX_single
  dsimp only
  refine pk_eq (pg_op n) 2 (fun e => ?_) (fun e => ?_)
  · have : pg_sg i j k n p = 2 := if_pos e
    rw [this, pg_v2] at H
    exact H
  · have s1 : pg_sg i j k n p = if p < i + j + k ∧ (pg_op n = 1 ∨ pg_cl i j p = pg_ar n) then 3 else 1 := if_neg e
    refine pk_le (i + j + k) p (fun g => ?_) (fun g => ?_) E1
    · rw [s1, if_neg (by omega), pg_v1] at H
      exact H
    · refine pk_eq (pg_op n) 1 (fun e1 => ?_) (fun e1 => ⟨pk_in p 20 (by omega), ?_⟩)
      · rw [s1, if_pos ⟨g, Or.inl e1⟩, pg_v3] at H
        exact H
      · have e0 : pg_op n = 0 := by omega
        rw [nI_clamp (show p < 2 ^ 31 by omega), E4 p g, (E2 n hn).2.1 e0]
        refine ek_if (pg_lt_eq E5 (pg_cl_lt i j p) ((pg_op_t n (by omega)).2.2.2.2 e0)) (fun g2 => ?_) (fun g2 => ?_)
        · rw [s1, if_pos ⟨g, Or.inr g2⟩, pg_v3] at H
          exact H
        · rw [s1, if_neg (fun g3 => g3.2.elim e1 g2), pg_v1] at H
          exact H
section
variable {N i j k rt d m n p : Nat} {ky sg tk : Nat → Nat} {x y z : Int32} {post : St2 → Prop} {f1 f2 f3 f4 : Int32} {a1 a2 a3 a4 a5 a6 a7 a8 a9 a10 a11 : Nat → Int32}
theorem pg_root (E : pg_E N i j k x y z f4 a1 a2 a3 a4 a6 a7) (hN : N ≤ 28) (hn : n < N) (ho : pg_op n = 3) : pg_ar n < 3 ∧ a6 (pg_ar n) = nI (pg_fs n) := by
  obtain ⟨E1, E2, ⟨r0, r1, r2⟩, E4, E5⟩ := E
  obtain ⟨h1, h2⟩ := (pg_op_t n (by omega)).2.2.2.1 ho
  refine ⟨h1, ?_⟩
  rw [← h2]
  generalize pg_ar n = r at h1
  match r, h1 with
  | 0, _ => exact r0
  | 1, _ => exact r1
  | 2, _ => exact r2
theorem pg_beg (Z : pg_Z N i j k) (E : pg_E N i j k x y z f4 a1 a2 a3 a4 a6 a7) (hK : pg_K N i j k rt (d + 1) (m + 1) ky sg tk a8 a9 a10 a11) (ek : ky d = 21 * n + p) (hn : n < N) (hp : p ≤ i + j + k) (s0 : sg d = 0) (ho : 2 < pg_op n)
    (H : ∀ d' a8' a9' a10' a11', pg_J N i j k rt d' m a8' a9' a10' a11' → post (f1, f2, f3, f4, nI d', a1, a2, a3, a4, a5, a6, a7, a8', a9', a10', a11')) :
    wpX_begin post (f1, f2, f3, f4, nI (d + 1), a1, a2, a3, a4, a5, a6, a7, a8, a9, a10, a11) (nI d) (nI n) (nI p) (nI (pg_op n)) := by
  have zi := Z.2.1
  have zj := Z.2.2.1
  have zk := Z.2.2.2
  have zn := Z.1.1
  have en : ky d / 21 = n := by omega
  have ep : ky d % 21 = p := by omega
  have fl := (Z.1.2.2 n hn).1
  obtain ⟨la, lb, lc, ld⟩ := pg_lc_all zi zj zk (show n < 28 by omega) hp
  have o9 := (pg_op_t n (by omega)).1
  have part : wX_begin_26 post (nI d) (nI p) (nI (pg_fs n)) f1 f2 f3 f4 (nI (d + 1)) a1 a2 a3 a4 a5 a6 a7 a8 a9 a10 a11 := by
    unfold wX_begin_26
    refine br_t (nI_pos' (by omega)) ?_
    refine pg_nd (s' := 1) (t' := 0) Z hK (fun _ _ => rfl) (by omega) (by omega) (fun e => absurd e (by decide)) fl hp (Or.inl ⟨rfl, by rw [en]; omega, by rw [en, ep]⟩) ?_ (fun d' b8 b9 b10 b11 hJ => H d' b8 b9 b10 b11 hJ)
    rw [ek]
    exact pg_D_k (by omega) (by omega) (lc (by omega))
  unfold wpX_begin
  dsimp only
  rw [nI_clamp (show n < 2 ^ 31 by omega)]
  refine pk_eq (pg_op n) 3 (fun e3 => ⟨pk_in n 40 (by omega), ?_⟩) (fun e3 => ⟨pk_in n 40 (by omega), ?_⟩)
  · obtain ⟨r1, r2⟩ := pg_root E zn hn e3
    rw [(E.2.1 n hn).2.2.1 e3, nI_clamp (show pg_ar n < 2 ^ 31 by omega), r2]
    exact ⟨pk_in (pg_ar n) 4 (by omega), part⟩
  · rw [(E.2.1 n hn).2.2.2.1 (by omega)]
    exact part
theorem pg_164 {r : Nat} (Z : pg_Z N i j k) (hK : pg_K N i j k rt (d + 1) (m + 1) ky sg tk a8 a9 a10 a11) (ek : ky d = 21 * n + p) (hn : n < N) (hp : p ≤ i + j + k) (hr : pg_c i j k (pg_fs n) p = r) (r0 : r ≠ 0) (rl : r < 24)
    (ho : 3 < pg_op n) (c4 : pg_op n = 4 → r < 2) (c5 : pg_op n = 5 → 2 ≤ r) (c6 : pg_op n = 6 → r ≤ 2)
    (H : ∀ d' a8' a9' a10' a11', pg_J N i j k rt d' m a8' a9' a10' a11' → post (f1, f2, f3, f4, nI d', a1, a2, a3, a4, a5, a6, a7, a8', a9', a10', a11')) :
    wX_afterFirst_164 post (nI d) (nI (pg_op n)) (pg_vl r) f1 f2 f3 f4 (nI (d + 1)) a1 a2 a3 a4 a5 a6 a7 a8 a9 a10 a11 := by
  have zi := Z.2.1
  have zj := Z.2.2.1
  have zk := Z.2.2.2
  have zn := Z.1.1
  obtain ⟨la, lb, lc, ld⟩ := pg_lc_all zi zj zk (show n < 28 by omega) hp
  rw [hr] at ld
  obtain ⟨d3, d4, d4', d5, d5', d6, d6', d8, d9⟩ := ld (by omega) r0
  obtain ⟨o9, o7, _⟩ := pg_op_t n (by omega)
  have eC : pg_C i j k (ky d) = pg_c i j k n p := by rw [ek]; exact pg_C_k (by omega)
  obtain ⟨v3, v4, v2, vge, vlt, vle⟩ := pg_vl_t r rl
  have H' : ∀ {v : Int32} {w : Nat} {P : St2 → Prop}, pg_c i j k n p = w → w ≠ 0 → v = pg_vl w → (∀ d' a8' a9' a10' a11', pg_J N i j k rt d' m a8' a9' a10' a11' → P (f1, f2, f3, f4, nI d', a1, a2, a3, a4, a5, a6, a7, a8', a9', a10', a11')) → wpX_finish P (f1, f2, f3, f4, nI (d + 1), a1, a2, a3, a4, a5, a6, a7, a8, a9, a10, a11) (nI d) v := by
    intro v w P e1 e2 e3 h
    exact pg_fin Z hK (by rw [eC, e1]; exact e2) (by rw [eC, e1]; exact e3) h
  unfold wX_afterFirst_164
  refine pk_eq (pg_op n) 6 (fun e6 => ?_) (fun e6 => ?_)
  · have w := d6' e6 (c6 e6)
    unfold wX_afterFirst_178
    refine ek_if vge (fun g => ?_) (fun g => ?_)
    · have r2 : r = 2 := by have := c6 e6; omega
      rw [r2]
      exact H' w (by omega) rfl (fun d' b8 b9 b10 b11 hJ => H d' b8 b9 b10 b11 hJ)
    · exact H' w (by omega) pg_v2.symm (fun d' b8 b9 b10 b11 hJ => H d' b8 b9 b10 b11 hJ)
  · refine pk_eq (pg_op n) 7 (fun e7 => absurd e7 o7) (fun e7 => ?_)
    refine pk_eq (pg_op n) 8 (fun e8 => ?_) (fun e8 => ?_)
    · have w := d8 e8
      refine ek_if vge (fun g => ?_) (fun g => ?_)
      · rw [if_neg (by omega)] at w
        exact H' w (by omega) pg_v2.symm (fun d' b8 b9 b10 b11 hJ => H d' b8 b9 b10 b11 hJ)
      · rw [if_pos (by omega)] at w
        exact H' w (by omega) pg_v1.symm (fun d' b8 b9 b10 b11 hJ => H d' b8 b9 b10 b11 hJ)
    · refine pk_eq (pg_op n) 9 (fun e9 => ?_) (fun e9 => ?_)
      · have w := d9 e9
        refine ek_if vge (fun g => ?_) (fun g => ?_)
        · rw [if_neg (by omega)] at w
          exact H' w (by omega) pg_v1.symm (fun d' b8 b9 b10 b11 hJ => H d' b8 b9 b10 b11 hJ)
        · rw [if_pos (by omega)] at w
          exact H' w (by omega) pg_v2.symm (fun d' b8 b9 b10 b11 hJ => H d' b8 b9 b10 b11 hJ)
      · by_cases e4 : pg_op n = 4
        · exact H' (d4' e4 (c4 e4)) r0 rfl (fun d' b8 b9 b10 b11 hJ => H d' b8 b9 b10 b11 hJ)
        · have e5 : pg_op n = 5 := by omega
          exact H' (d5' e5 (c5 e5)) r0 rfl (fun d' b8 b9 b10 b11 hJ => H d' b8 b9 b10 b11 hJ)
/-- a need of the second part -/
theorem pg_nd2 {q t : Nat} {tv pv cv : Int32} (Z : pg_Z N i j k) (hK : pg_K N i j k rt (d + 1) (m + 1) ky sg tk a8 a9 a10 a11) (ek : ky d = 21 * n + p) (hn : n < N) (hp : p ≤ i + j + k) (s1 : sg d = 1)
    (ho : pg_op n = 4 ∨ pg_op n = 5 ∨ pg_op n = 6) (h2 : pg_n2 i j k (pg_sn n) q t n p) (hq : q = p + t) (hv : tv = nI t) (hpv : pv = nI q) (hcv : cv = nI (pg_sn n))
    (H : ∀ d' a8' a9' a10' a11', pg_J N i j k rt d' m a8' a9' a10' a11' → post (f1, f2, f3, f4, nI d', a1, a2, a3, a4, a5, a6, a7, a8', a9', a10', a11')) :
    wpX_need post (f1, f2, f3, f4, nI (d + 1), a1, a2, a3, a4, a5, a6, a7, a8, a9, a10, upd a11 d tv) (nI d) cv pv 2 := by
  have zi := Z.2.1
  have zj := Z.2.2.1
  have zk := Z.2.2.2
  have zn := Z.1.1
  have en : ky d / 21 = n := by omega
  have ep : ky d % 21 = p := by omega
  obtain ⟨q1, q2, q3⟩ := h2
  subst hpv hcv
  refine pg_nd (s' := 2) (t' := t) Z hK (fun t' ht' => pk_un (by omega)) (by omega) (by omega) (fun _ => by rw [pk_us, hv]) (Z.1.2.2 n hn).2 q1 (Or.inr ⟨rfl, ?_, ?_, ?_⟩) ?_ H
  · rw [en]; exact ho
  · rw [en, ep]; omega
  · rw [pg_C_k (by omega), ek, pg_C_k (by omega)]
    exact q3
  · rw [ek]
    exact pg_D_k (by omega) (by omega) q2
theorem pg_130 {r : Nat} (Z : pg_Z N i j k) (hK : pg_K N i j k rt (d + 1) (m + 1) ky sg tk a8 a9 a10 a11) (ek : ky d = 21 * n + p) (hn : n < N) (hp : p ≤ i + j + k) (hr : pg_c i j k (pg_fs n) p = r) (r0 : r ≠ 0) (rl : r < 24) (s1 : sg d = 1)
    (ho : 3 < pg_op n) (c4 : pg_op n = 4 → r < 2) (c5 : pg_op n = 5 → 2 ≤ r)
    (H : ∀ d' a8' a9' a10' a11', pg_J N i j k rt d' m a8' a9' a10' a11' → post (f1, f2, f3, f4, nI d', a1, a2, a3, a4, a5, a6, a7, a8', a9', a10', a11')) :
    wX_afterFirst_130 post (nI d) (nI n) (nI p) (nI (pg_op n)) (pg_vl r) f1 f2 f3 f4 (nI (d + 1)) a1 a2 a3 a4 a5 a6 a7 a8 a9 a10 a11 := by
  have zi := Z.2.1
  have zj := Z.2.2.1
  have zk := Z.2.2.2
  have zn := Z.1.1
  obtain ⟨la, lb, lc, ld⟩ := pg_lc_all zi zj zk (show n < 28 by omega) hp
  rw [hr] at ld
  obtain ⟨d3, d4, d4', d5, d5', d6, d6', d8, d9⟩ := ld (by omega) r0
  obtain ⟨o9, o7, o6, _⟩ := pg_op_t n (by omega)
  obtain ⟨v3, v4, v2, vge, vlt, vle⟩ := pg_vl_t r rl
  have hd := hK.1
  unfold wX_afterFirst_130
  refine pk_eq (pg_op n) 6 (fun e6 => ?_) (fun e6 => pg_164 Z hK ek hn hp hr r0 rl ho c4 c5 (fun e => absurd e e6) H)
  refine ek_if vle (fun g => pg_164 Z hK ek hn hp hr r0 rl ho c4 c5 (fun _ => g) H) (fun g => ⟨pk_in d 840 (by omega), nm_e ?_⟩)
  rw [nI_clamp (show d < 2 ^ 31 by omega)]
  refine pg_nd2 Z hK ek hn hp s1 (Or.inr (Or.inr e6)) (d6 e6 (by omega)) rfl (pg_vl_2 (by omega)) ?_ (by rw [o6 e6]) (fun d' b8 b9 b10 b11 hJ => H d' b8 b9 b10 b11 hJ)
  rw [pg_vl_2 (show 2 ≤ r by omega), nI_add]
theorem pg_96 {r : Nat} (Z : pg_Z N i j k) (E : pg_E N i j k x y z f4 a1 a2 a3 a4 a6 a7) (hK : pg_K N i j k rt (d + 1) (m + 1) ky sg tk a8 a9 a10 a11) (ek : ky d = 21 * n + p) (hn : n < N) (hp : p ≤ i + j + k) (hr : pg_c i j k (pg_fs n) p = r) (r0 : r ≠ 0) (rl : r < 24) (s1 : sg d = 1)
    (ho : 3 < pg_op n) (c4 : pg_op n = 4 → r < 2)
    (H : ∀ d' a8' a9' a10' a11', pg_J N i j k rt d' m a8' a9' a10' a11' → post (f1, f2, f3, f4, nI d', a1, a2, a3, a4, a5, a6, a7, a8', a9', a10', a11')) :
    wX_afterFirst_96 post (nI d) (nI n) (nI p) (nI (pg_op n)) (pg_vl r) f1 f2 f3 f4 (nI (d + 1)) a1 a2 a3 a4 a5 a6 a7 a8 a9 a10 a11 := by
  have zi := Z.2.1
  have zj := Z.2.2.1
  have zk := Z.2.2.2
  have zn := Z.1.1
  obtain ⟨la, lb, lc, ld⟩ := pg_lc_all zi zj zk (show n < 28 by omega) hp
  rw [hr] at ld
  obtain ⟨d3, d4, d4', d5, d5', d6, d6', d8, d9⟩ := ld (by omega) r0
  obtain ⟨o9, o7, o6, _⟩ := pg_op_t n (by omega)
  obtain ⟨v3, v4, v2, vge, vlt, vle⟩ := pg_vl_t r rl
  have hd := hK.1
  unfold wX_afterFirst_96
  refine pk_eq (pg_op n) 5 (fun e5 => ?_) (fun e5 => pg_130 Z hK ek hn hp hr r0 rl s1 ho c4 (fun e => absurd e e5) H)
  refine ek_if vge (fun g => pg_130 Z hK ek hn hp hr r0 rl s1 ho c4 (fun _ => g) H) (fun g => ⟨pk_in d 840 (by omega), nm_e ⟨pk_in n 40 (by omega), ?_⟩⟩)
  rw [nI_clamp (show d < 2 ^ 31 by omega), nI_clamp (show n < 2 ^ 31 by omega)]
  exact pg_nd2 Z hK ek hn hp s1 (Or.inr (Or.inl e5)) (d5 e5 (by omega)) rfl rfl rfl ((E.2.1 n hn).2.2.2.2 (Or.inr e5)) (fun d' b8 b9 b10 b11 hJ => H d' b8 b9 b10 b11 hJ)
theorem pg_af (Z : pg_Z N i j k) (E : pg_E N i j k x y z f4 a1 a2 a3 a4 a6 a7) (hK : pg_K N i j k rt (d + 1) (m + 1) ky sg tk a8 a9 a10 a11) (ek : ky d = 21 * n + p) (hn : n < N) (hp : p ≤ i + j + k) (s1 : sg d = 1) (ho : 2 < pg_op n)
    (H : ∀ d' a8' a9' a10' a11', pg_J N i j k rt d' m a8' a9' a10' a11' → post (f1, f2, f3, f4, nI d', a1, a2, a3, a4, a5, a6, a7, a8', a9', a10', a11')) :
    wpX_afterFirst post (f1, f2, f3, f4, nI (d + 1), a1, a2, a3, a4, a5, a6, a7, a8, a9, a10, a11) (nI d) (nI n) (nI p) (nI (pg_op n)) := by
  have zi := Z.2.1
  have zj := Z.2.2.1
  have zk := Z.2.2.2
  have zn := Z.1.1
  have en : ky d / 21 = n := by omega
  have ep : ky d % 21 = p := by omega
  have fl := (Z.1.2.2 n hn).1
  obtain ⟨la, lb, lc, ld⟩ := pg_lc_all zi zj zk (show n < 28 by omega) hp
  obtain ⟨o9, o7, o6, _⟩ := pg_op_t n (by omega)
  have hd := hK.1
  have eC : pg_C i j k (ky d) = pg_c i j k n p := by rw [ek]; exact pg_C_k (by omega)
  obtain ⟨r, hr⟩ : ∃ r, pg_c i j k (pg_fs n) p = r := ⟨_, rfl⟩
  have rl : r < 24 := by rw [← hr]; exact (pg_lc_all zi zj zk (show pg_fs n < 28 by omega) hp).1
  have known : a8 (21 * pg_fs n + p) = pg_vl r ∧ r ≠ 0 := by
    rcases hK.2.2.1.2.2.2.2 d rfl with g | ⟨q, hw, _, h8, h0⟩
    · omega
    · rcases hw with ⟨_, _, e⟩ | ⟨e, _⟩
      · rw [en, ep] at e
        rw [e, pg_C_k (by omega), hr] at h8 h0
        exact ⟨h8, h0⟩
      · omega
  obtain ⟨k8, r0⟩ := known
  rw [hr] at ld
  obtain ⟨d3, d4, d4', d5, d5', d6, d6', d8, d9⟩ := ld (by omega) r0
  obtain ⟨v3, v4, v2, vge, vlt, vle⟩ := pg_vl_t r rl
  have part : wX_afterFirst_26 post (nI d) (nI n) (nI p) (nI (pg_op n)) (nI (pg_fs n)) f1 f2 f3 f4 (nI (d + 1)) a1 a2 a3 a4 a5 a6 a7 a8 a9 a10 a11 := by
    unfold wX_afterFirst_26
    rw [pg_21, nI_clamp (show 21 * pg_fs n + p < 2 ^ 31 by omega), nI_clamp (show d < 2 ^ 31 by omega), nI_clamp (show n < 2 ^ 31 by omega)]
    refine ⟨pk_in (21 * pg_fs n + p) 840 (by omega), nm_r k8 ?_⟩
    refine pk_eq (pg_op n) 3 (fun e3 => ?_) (fun e3 => ?_)
    · exact pg_fin Z hK (by rw [eC, d3 e3]; exact r0) (by rw [eC, d3 e3]) (fun d' b8 b9 b10 b11 hJ => H d' b8 b9 b10 b11 hJ)
    · refine pk_eq (pg_op n) 4 (fun e4 => ?_) (fun e4 => pg_96 Z E hK ek hn hp hr r0 rl s1 (by omega) (fun e => absurd e e4) H)
      refine ek_if vlt (fun g => pg_96 Z E hK ek hn hp hr r0 rl s1 (by omega) (fun _ => g) H) (fun g => ⟨pk_in d 840 (by omega), nm_e ⟨pk_in n 40 (by omega), ?_⟩⟩)
      refine pg_nd2 Z hK ek hn hp s1 (Or.inl e4) (d4 e4 (by omega)) rfl (pg_vl_2 (by omega)) ?_ ((E.2.1 n hn).2.2.2.2 (Or.inl e4)) (fun d' b8 b9 b10 b11 hJ => H d' b8 b9 b10 b11 hJ)
      rw [pg_vl_2 (show 2 ≤ r by omega), nI_add]
  unfold wpX_afterFirst
  dsimp only
  rw [nI_clamp (show n < 2 ^ 31 by omega)]
  refine pk_eq (pg_op n) 3 (fun e3 => ⟨pk_in n 40 (by omega), ?_⟩) (fun e3 => ⟨pk_in n 40 (by omega), ?_⟩)
  · obtain ⟨r1, r2⟩ := pg_root E zn hn e3
    rw [(E.2.1 n hn).2.2.1 e3, nI_clamp (show pg_ar n < 2 ^ 31 by omega), r2]
    exact ⟨pk_in (pg_ar n) 4 (by omega), part⟩
  · rw [(E.2.1 n hn).2.2.2.1 (by omega)]
    exact part
theorem pg_as (Z : pg_Z N i j k) (E : pg_E N i j k x y z f4 a1 a2 a3 a4 a6 a7) (hK : pg_K N i j k rt (d + 1) (m + 1) ky sg tk a8 a9 a10 a11) (ek : ky d = 21 * n + p) (hn : n < N) (hp : p ≤ i + j + k) (s2 : sg d = 2)
    (H : ∀ d' a8' a9' a10' a11', pg_J N i j k rt d' m a8' a9' a10' a11' → post (f1, f2, f3, f4, nI d', a1, a2, a3, a4, a5, a6, a7, a8', a9', a10', a11')) :
    wpX_afterSecond post (f1, f2, f3, f4, nI (d + 1), a1, a2, a3, a4, a5, a6, a7, a8, a9, a10, a11) (nI d) (nI n) (nI p) (nI (pg_op n)) := by
  have zi := Z.2.1
  have zj := Z.2.2.1
  have zk := Z.2.2.2
  have zn := Z.1.1
  have en : ky d / 21 = n := by omega
  have ep : ky d % 21 = p := by omega
  obtain ⟨o9, o7, o6, _⟩ := pg_op_t n (by omega)
  have hd := hK.1
  have eC : pg_C i j k (ky d) = pg_c i j k n p := by rw [ek]; exact pg_C_k (by omega)
  have e11 := (hK.2.2.1.2.1 d (by omega)).2.2.2.2.2 s2
  obtain ⟨t, et⟩ : ∃ t, tk d = t := ⟨_, rfl⟩
  rw [et] at e11
  have known : ∃ q r, q = 21 * pg_sn n + p + t ∧ q < 588 ∧ (pg_op n = 4 ∨ pg_op n = 5 ∨ pg_op n = 6) ∧ a8 q = pg_vl r ∧ r ≠ 0 ∧ r < 24 ∧ pg_c i j k n p = (if r < 2 then 1 else t + r) := by
    rcases hK.2.2.1.2.2.2.2 d rfl with g | ⟨q, hw, hq, h8, h0⟩
    · omega
    · rcases hw with ⟨e, _⟩ | ⟨_, ho, e, hc⟩
      · omega
      · rw [en, ep, et] at e
        rw [en] at ho
        rw [eC, et] at hc
        exact ⟨q, _, e, pg_dom_lt Z hq, ho, h8, h0, pg_C_lt Z hq, hc h0⟩
  obtain ⟨q, r, hq, ql, ho, k8, r0, rl, hc⟩ := known
  obtain ⟨v3, v4, v2, vge, vlt, vle⟩ := pg_vl_t r rl
  have part : wX_afterSecond_17 post (nI d) (nI p) (nI (pg_sn n)) f1 f2 f3 f4 (nI (d + 1)) a1 a2 a3 a4 a5 a6 a7 a8 a9 a10 a11 := by
    unfold wX_afterSecond_17
    rw [nI_clamp (show d < 2 ^ 31 by omega), e11, pg_21, nI_add, ← hq, nI_clamp (show q < 2 ^ 31 by omega)]
    refine ⟨pk_in d 840 (by omega), pk_in q 840 (by omega), nm_r k8 (ek_if vge (fun g => ⟨pk_in d 840 (by omega), ?_⟩) (fun g => ?_))⟩
    · rw [if_neg (by omega)] at hc
      refine pg_fin Z hK (by rw [eC, hc]; omega) ?_ (fun d' b8 b9 b10 b11 hJ => H d' b8 b9 b10 b11 hJ)
      rw [eC, hc, pg_vl_2 g, pg_vl_2 (show 2 ≤ t + r by omega), nI_add, show t + (r - 2) = t + r - 2 by omega]
    · rw [if_pos (by omega)] at hc
      exact pg_fin Z hK (by rw [eC, hc]; omega) (by rw [eC, hc]; rfl) (fun d' b8 b9 b10 b11 hJ => H d' b8 b9 b10 b11 hJ)
  unfold wpX_afterSecond
  dsimp only
  rw [nI_clamp (show n < 2 ^ 31 by omega)]
  refine pk_eq (pg_op n) 6 (fun e6 => ?_) (fun e6 => ⟨pk_in n 40 (by omega), ?_⟩)
  · have := o6 e6
    rw [this] at part
    exact part
  · rw [(E.2.1 n hn).2.2.2.2 (by omega)]
    exact part
theorem pg_go (Z : pg_Z N i j k) (E : pg_E N i j k x y z f4 a1 a2 a3 a4 a6 a7) (h : pg_J N i j k rt (d + 1) (m + 1) a8 a9 a10 a11)
    (H : ∀ d' a8' a9' a10' a11', pg_J N i j k rt d' m a8' a9' a10' a11' → post (f1, f2, f3, f4, nI d', a1, a2, a3, a4, a5, a6, a7, a8', a9', a10', a11')) :
    wpX_goOn post (f1, f2, f3, f4, nI (d + 1), a1, a2, a3, a4, a5, a6, a7, a8, a9, a10, a11) (nI d) := by
  obtain ⟨ky, sg, tk, hK⟩ := h
  have zi := Z.2.1
  have zj := Z.2.2.1
  have zk := Z.2.2.2
  have zn := Z.1.1
  have hd := hK.1
  obtain ⟨b1, b2, b3, b4, b5, b6⟩ := hK.2.2.1.2.1 d (by omega)
  have l1 := pg_dom_lt Z b1
  obtain ⟨n, p, hn, hp, ek⟩ : ∃ n p, n < N ∧ p ≤ i + j + k ∧ ky d = 21 * n + p := ⟨ky d / 21, ky d % 21, b1.1, b1.2, by omega⟩
  have en : ky d / 21 = n := by omega
  have ep : ky d % 21 = p := by omega
  obtain ⟨la, lb, lc, ld⟩ := pg_lc_all zi zj zk (show n < 28 by omega) hp
  obtain ⟨o9, o7, o6, _⟩ := pg_op_t n (by omega)
  have eC : pg_C i j k (ky d) = pg_c i j k n p := by rw [ek]; exact pg_C_k (by omega)
  unfold wpX_goOn
  dsimp only
  rw [nI_clamp (show d < 2 ^ 31 by omega), b3, b4]
  refine ⟨pk_in d 840 (by omega), by decide, nm_r (e' := nI n) (by rw [← en]; exact pk_div (d := 21) (by omega) (by omega) (by omega)) ⟨pk_in d 840 (by omega), by decide, nm_r (e' := nI p) (by rw [← ep]; exact pk_rem (d := 21) (by omega) (by omega) (by omega)) ⟨pk_in n 40 (by omega), ?_⟩⟩⟩
  rw [nI_clamp (show n < 2 ^ 31 by omega)]
  refine nm_r (E.2.1 n hn).1 (pk_lt 2 (pg_op n) (fun o2 => ⟨pk_in d 840 (by omega), ?_⟩) (fun o2 => ⟨pk_in n 40 (by omega), ?_⟩))
  · refine pk_eq (sg d) 0 (fun s0 => ?_) (fun s0 => ⟨pk_in d 840 (by omega), ?_⟩)
    · exact pg_beg Z E hK ek hn hp s0 o2 (fun d' b8 b9 b10 b11 hJ => H d' b8 b9 b10 b11 hJ)
    · refine pk_eq (sg d) 1 (fun s1 => ?_) (fun s1 => ?_)
      · exact pg_af Z E hK ek hn hp s1 o2 (fun d' b8 b9 b10 b11 hJ => H d' b8 b9 b10 b11 hJ)
      · exact pg_as Z E hK ek hn hp (by omega) (fun d' b8 b9 b10 b11 hJ => H d' b8 b9 b10 b11 hJ)
  · refine pg_sgl E zn (by omega) hn hp o2 ?_
    have w := lb (by omega)
    exact pg_fin Z hK (by rw [eC, w]; exact pg_sg_0 _ _ _ _ _) (by rw [eC, w]) (fun d' b8 b9 b10 b11 hJ => H d' b8 b9 b10 b11 hJ)
theorem pg_29 (Z : pg_Z N i j k) (E : pg_E N i j k x y z f4 a1 a2 a3 a4 a6 a7) (hrt : rt < 840)
    (H : ∀ a8' a9' a10' a11', pg_T N i j k a8' → a8' rt = pg_vl (pg_C i j k rt) → post (f1, f2, f3, f4, nI 0, a1, a2, a3, a4, a5, a6, a7, a8', a9', a10', a11')) :
    ∀ (m s d : Nat) (b8 b9 b10 b11 : Nat → Int32), s + m < 3000 → pg_J N i j k rt d m b8 b9 b10 b11 → wX_workOut_29 post (m + 1) (nI s) f1 f2 f3 f4 (nI d) a1 a2 a3 a4 a5 a6 a7 b8 b9 b10 b11 := by
  have fin : ∀ (m : Nat) (b8 b9 b10 b11 : Nat → Int32), pg_J N i j k rt 0 m b8 b9 b10 b11 → post (f1, f2, f3, f4, nI 0, a1, a2, a3, a4, a5, a6, a7, b8, b9, b10, b11) := by
    intro m b8 b9 b10 b11 hJ
    obtain ⟨ky, sg, tk, h1, h2, h3, h4⟩ := hJ
    have hT : pg_T N i j k b8 := by
      intro q hq
      rcases h3.1 q hq with g | g | ⟨_, t, ht, _⟩
      · exact Or.inl g
      · exact Or.inr g
      · omega
    refine H b8 b9 b10 b11 hT ?_
    rcases hT rt hrt with g | g
    · exact absurd g h2
    · exact g.2
  intro m
  induction m with
  | zero =>
    intro s d b8 b9 b10 b11 hs hJ
    have d0 : d = 0 := by
      obtain ⟨ky, sg, tk, h1, h2, h3, h4⟩ := hJ
      match d with
      | 0 => rfl
      | d + 1 =>
        have := (h3.2.1 d (by omega)).2.2.2.2.1
        have : pg_sm sg (d + 1) = pg_sm sg d + (3 - sg d) := rfl
        omega
    subst d0
    exact pk_le 3000 s (fun g => absurd g (by omega)) (fun _ => pk_le 0 0 (fun _ => fin _ _ _ _ _ hJ) (fun g => absurd g (by omega)))
  | succ m ih =>
    intro s d b8 b9 b10 b11 hs hJ
    match d, hJ with
    | 0, hJ => exact pk_le 3000 s (fun g => absurd g (by omega)) (fun _ => pk_le 0 0 (fun _ => fin _ _ _ _ _ hJ) (fun g => absurd g (by omega)))
    | d + 1, hJ =>
      have dl : d + 1 ≤ 840 := by
        obtain ⟨ky, sg, tk, h1, h2, h3, h4⟩ := hJ
        omega
      refine pk_le 3000 s (fun g => absurd g (by omega)) (fun _ => pk_le (d + 1) 0 (fun g => absurd g (by omega)) (fun _ => ?_))
      rw [nI_pred]
      exact pg_go Z E hJ (fun d' c8 c9 c10 c11 hJ' => nm_r (nI_1 s) (ih (s + 1) d' c8 c9 c10 c11 (by omega) hJ'))
theorem pg_wo {f5 : Int32} (Z : pg_Z N i j k) (E : pg_E N i j k x y z f4 a1 a2 a3 a4 a6 a7) (hT : pg_T N i j k a8) (hn : n < N) (hp : p ≤ i + j + k)
    (H : ∀ a8' a9' a10' a11', pg_T N i j k a8' → a8' (21 * n + p) = pg_vl (pg_c i j k n p) → post (f1, f2, f3, f4, nI 0, a1, a2, a3, a4, a5, a6, a7, a8', a9', a10', a11')) :
    wpX_workOut post (f1, f2, f3, f4, f5, a1, a2, a3, a4, a5, a6, a7, a8, a9, a10, a11) (nI n) (nI p) := by
  have zi := Z.2.1
  have zj := Z.2.2.1
  have zk := Z.2.2.2
  have zn := Z.1.1
  have dq : pg_dom N (i + j + k) (21 * n + p) := pg_dom_k hn hp (by omega)
  have l2 := pg_C_lt Z dq
  have eC : pg_C i j k (21 * n + p) = pg_c i j k n p := pg_C_k (by omega)
  rw [← eC] at H
  have ct := pg_ct_n a8 840
  unfold wpX_workOut
  dsimp only
  rw [pg_21, nI_clamp (show 21 * n + p < 2 ^ 31 by omega)]
  refine ⟨pk_in (21 * n + p) 840 (by omega), br_c (fun g => ?_) (fun g => ?_)⟩
  · have q1 : pg_ct (upd a8 (21 * n + p) (-4)) 840 + 1 ≤ pg_ct a8 840 := by
      refine pg_ct_lt g (by rw [pk_us]; exact pg_m4) 840 (by omega) (fun q _ hb => ?_)
      by_cases e : q = 21 * n + p
      · rw [e]; exact g
      · rw [pk_un e] at hb; exact hb
    have hJ : pg_J N i j k (21 * n + p) 1 2520 (upd a8 (21 * n + p) (-4)) (upd a9 0 (nI (21 * n + p))) (upd a10 0 0) a11 := by
      refine ⟨fun _ => 21 * n + p, fun _ => 0, fun _ => 0, by omega, ?_, ⟨fun q hq => ?_, fun t ht => ?_, fun s t _ _ => by omega, fun t ht => by omega, fun t _ => Or.inl rfl⟩, ?_⟩
      · rw [pk_us]; exact pg_m4
      · by_cases e : q = 21 * n + p
        · rw [e, pk_us]
          exact Or.inr (Or.inr ⟨rfl, 0, by omega, rfl⟩)
        · rw [pk_un e]
          rcases hT q hq with g1 | g1
          · exact Or.inl g1
          · exact Or.inr (Or.inl g1)
      · have t0 : t = 0 := by omega
        subst t0
        rw [pk_us, pk_us, pk_us]
        exact ⟨dq, rfl, rfl, rfl, Nat.zero_le 2, fun e => absurd (show (0 : Nat) = 2 from e) (by decide)⟩
      · have : pg_sm (fun _ => 0) 1 = 3 := rfl
        omega
    exact pg_put (d := 0) (by omega) (by omega) ⟨2521, pg_29 Z E (rt := 21 * n + p) (by omega) H 2520 0 1 _ _ _ _ (by omega) hJ⟩
  · refine ⟨2521, pg_29 Z E (rt := 21 * n + p) (by omega) H 2520 0 0 _ _ _ _ (by omega) ⟨fun _ => 0, fun _ => 0, fun _ => 0, by omega, g, ⟨fun q hq => ?_, fun t ht => by omega, fun s t _ ht => by omega, fun t ht => by omega, fun t ht => by omega⟩, ?_⟩⟩
    · rcases hT q hq with g1 | g1
      · exact Or.inl g1
      · exact Or.inr (Or.inl g1)
    · have : pg_sm (fun _ => 0) 0 = 0 := rfl
      omega
end
end
section
/-! the law's view of an object -/
def pg_I (t n s s0 s1 : Nat) (r0 r1 r2 r3 : Int32) (i j k : Nat) (x y z : Int32) (u : St2) : Prop := match u with
  | (f1, f2, f3, f4, f5, a1, a2, a3, a4, a5, a6, a7, a8, a9, a10, a11) => f1 = nI t ∧ f2 = nI n ∧ f3 = nI s ∧ f4 = nI (i + j + k) ∧ ((0 < s → a5 0 = nI s0) ∧ (1 < s → a5 1 = nI s1)) ∧ pg_G n x y z a1 a2 a3 a4 ∧ (a6 0 = r0 ∧ a6 1 = r1 ∧ a6 2 = r2 ∧ a6 3 = r3) ∧ (∀ p, p < i + j + k → a7 p = pg_lt x y z (pg_cl i j p)) ∧ (x ≠ y ∧ x ≠ z ∧ y ≠ z) ∧ pg_T n i j k a8
section
variable {t n s s0 s1 i j k : Nat} {r0 r1 r2 r3 x y z : Int32} {f1 f2 f3 f4 f5 : Int32} {a1 a2 a3 a4 a5 a6 a7 a8 a9 a10 a11 : Nat → Int32}
theorem pg_T_new {n i j k : Nat} {b8 : Nat → Int32} (h : ∀ q, q < 840 → b8 q = -3) : pg_T n i j k b8 := fun q hq => Or.inl (h q hq)
theorem pg_forget {post : St2 → Prop} (H : ∀ b8 : Nat → Int32, (∀ q, q < 840 → b8 q = -3) → post (f1, f2, f3, f4, f5, a1, a2, a3, a4, a5, a6, a7, b8, a9, a10, a11)) : wpX_forget post (f1, f2, f3, f4, f5, a1, a2, a3, a4, a5, a6, a7, a8, a9, a10, a11) := by
  unfold wpX_forget
  dsimp only
  exact pk_loop (fun n q b => wX_forget_2 post f1 f2 f3 f4 f5 n (nI q) a1 a2 a3 a4 a5 a6 a7 b a9 a10 a11) (fun m b => ∀ q, q < m → b q = -3) 840 0 a8 (by omega) (fun q hq => absurd hq (by omega))
    (fun n b h => pk_le 840 840 (fun _ => H b h) (fun e => absurd e (by omega)))
    (fun n q b hq h hw => pk_le 840 q (fun e => absurd e (by omega)) (fun _ => ⟨pk_in q 840 hq, nm_e (nm_r (nI_1 q) (hw _ (by
      rw [nI_clamp (show q < 2 ^ 31 by omega)]
      intro q' hq'
      by_cases e : q' = q
      · rw [e, pk_us]
      · rw [pk_un e]
        exact h q' (by omega))))⟩))
theorem pg_clear0 {post : St2 → Prop} (H : ∀ b6 b8 : Nat → Int32, (∀ q, q < 4 → b6 q = -1) → (∀ q, q < 840 → b8 q = -3) → post (0, 0, 0, f4, f5, a1, a2, a3, a4, a5, b6, a7, b8, a9, a10, a11)) : wpX_clear post (f1, f2, f3, f4, f5, a1, a2, a3, a4, a5, a6, a7, a8, a9, a10, a11) := by
  unfold wpX_clear
  dsimp only
  exact pk_loop (fun n q b => wX_clear_17 post 0 0 0 f4 f5 n (nI q) a1 a2 a3 a4 a5 b a7 a8 a9 a10 a11) (fun m b => ∀ q, q < m → b q = -1) 4 0 a6 (by omega) (fun q hq => absurd hq (by omega))
    (fun n b h => pk_le 4 4 (fun _ => pg_forget (fun b8 h8 => H b b8 h h8)) (fun e => absurd e (by omega)))
    (fun n q b hq h hw => pk_le 4 q (fun e => absurd e (by omega)) (fun _ => ⟨pk_in q 4 hq, nm_e (nm_r (nI_1 q) (hw _ (by
      rw [nI_clamp (show q < 2 ^ 31 by omega)]
      intro q' hq'
      by_cases e : q' = q
      · rw [e, pk_us]
      · rw [pk_un e]
        exact h q' (by omega))))⟩))
theorem pg_clear {post : St2 → Prop} (h : pg_I t n s s0 s1 r0 r1 r2 r3 i j k x y z (f1, f2, f3, f4, f5, a1, a2, a3, a4, a5, a6, a7, a8, a9, a10, a11)) (H : ∀ f1 f2 f3 f4 f5 a1 a2 a3 a4 a5 a6 a7 a8 a9 a10 a11, pg_I 0 0 0 0 0 (-1) (-1) (-1) (-1) i j k x y z (f1, f2, f3, f4, f5, a1, a2, a3, a4, a5, a6, a7, a8, a9, a10, a11) → post (f1, f2, f3, f4, f5, a1, a2, a3, a4, a5, a6, a7, a8, a9, a10, a11)) : wpX_clear post (f1, f2, f3, f4, f5, a1, a2, a3, a4, a5, a6, a7, a8, a9, a10, a11) := by
  obtain ⟨h1, h2, h3, h4, h5, h6, h7, h8, h9, h10⟩ := h
  exact pg_clear0 (fun b6 b8 g6 g8 => H _ _ _ _ _ _ _ _ _ _ _ _ _ _ _ _ ⟨rfl, rfl, rfl, h4, ⟨fun e => absurd e (by omega), fun e => absurd e (by omega)⟩, fun q hq => absurd hq (by omega), ⟨g6 0 (by omega), g6 1 (by omega), g6 2 (by omega), g6 3 (by omega)⟩, h8, h9, pg_T_new g8⟩)
theorem pg_init {post : St2 → Prop} (hd : x ≠ y ∧ x ≠ z ∧ y ≠ z) (H : ∀ f1 f2 f3 f4 f5 a1 a2 a3 a4 a5 a6 a7 a8 a9 a10 a11, pg_I 0 0 0 0 0 (-1) (-1) (-1) (-1) 0 0 0 x y z (f1, f2, f3, f4, f5, a1, a2, a3, a4, a5, a6, a7, a8, a9, a10, a11) → post (f1, f2, f3, f4, f5, a1, a2, a3, a4, a5, a6, a7, a8, a9, a10, a11)) : wpX_init post 11 3584 (0, 0, 0, 0, 0) := by
  unfold wpX_init
  dsimp only
  refine ⟨by omega, by omega, by omega, by omega, by omega, by omega, by omega, by omega, by omega, by omega, by omega, by omega, by omega, by omega, by omega, by omega, by omega, by omega, by omega, by omega, by omega, by omega, ?_⟩
  exact pg_clear0 (fun b6 b8 g6 g8 => H _ _ _ _ _ _ _ _ _ _ _ _ _ _ _ _ ⟨rfl, rfl, rfl, rfl, ⟨fun e => absurd e (by omega), fun e => absurd e (by omega)⟩, fun q hq => absurd hq (by omega), ⟨g6 0 (by omega), g6 1 (by omega), g6 2 (by omega), g6 3 (by omega)⟩, fun p hp => absurd hp (by omega), hd, pg_T_new g8⟩)
theorem pg_erase {post : St2 → Prop} (h : pg_I t n s s0 s1 r0 r1 r2 r3 i j k x y z (f1, f2, f3, f4, f5, a1, a2, a3, a4, a5, a6, a7, a8, a9, a10, a11)) (H : ∀ f1 f2 f3 f4 f5 a1 a2 a3 a4 a5 a6 a7 a8 a9 a10 a11, pg_I t n s s0 s1 r0 r1 r2 r3 0 0 0 x y z (f1, f2, f3, f4, f5, a1, a2, a3, a4, a5, a6, a7, a8, a9, a10, a11) → post (f1, f2, f3, f4, f5, a1, a2, a3, a4, a5, a6, a7, a8, a9, a10, a11)) : wpX_erase post (f1, f2, f3, f4, f5, a1, a2, a3, a4, a5, a6, a7, a8, a9, a10, a11) := by
  obtain ⟨h1, h2, h3, h4, h5, h6, h7, h8, h9, h10⟩ := h
  unfold wpX_erase
  dsimp only
  exact pg_forget (fun b8 g8 => H _ _ _ _ _ _ _ _ _ _ _ _ _ _ _ _ ⟨h1, h2, h3, rfl, h5, h6, h7, fun p hp => absurd hp (by omega), h9, pg_T_new g8⟩)
theorem pg_type {post : Int32 → St2 → Prop} {v : Int32} (i' j' k' c : Nat) (h : pg_I t n s s0 s1 r0 r1 r2 r3 i j k x y z (f1, f2, f3, f4, f5, a1, a2, a3, a4, a5, a6, a7, a8, a9, a10, a11)) (hL : i + j + k < 20) (hL' : i' + j' + k' = i + j + k + 1)
    (hc : ∀ p, p < i + j + k → pg_cl i' j' p = pg_cl i j p) (hc' : pg_cl i' j' (i + j + k) = c) (hv : v &&& 3 = pg_lt x y z c)
    (H : ∀ f1 f2 f3 f4 f5 a1 a2 a3 a4 a5 a6 a7 a8 a9 a10 a11, pg_I t n s s0 s1 r0 r1 r2 r3 i' j' k' x y z (f1, f2, f3, f4, f5, a1, a2, a3, a4, a5, a6, a7, a8, a9, a10, a11) → post (nI (i' + j' + k')) (f1, f2, f3, f4, f5, a1, a2, a3, a4, a5, a6, a7, a8, a9, a10, a11)) : wpX_type post (f1, f2, f3, f4, f5, a1, a2, a3, a4, a5, a6, a7, a8, a9, a10, a11) v := by
  obtain ⟨h1, h2, h3, h4, h5, h6, h7, h8, h9, h10⟩ := h
  subst h4
  unfold wpX_type
  dsimp only
  rw [nI_clamp (show i + j + k < 2 ^ 31 by omega), hv]
  refine pk_lt (i + j + k) 20 (fun _ => ⟨pk_in (i + j + k) 20 hL, nm_e (nm_r (e' := nI (i' + j' + k')) (by rw [nI_1, hL']) ?_)⟩) (fun e => absurd e (by omega))
  have tx : ∀ p, p < i' + j' + k' → upd a7 (i + j + k) (pg_lt x y z c) p = pg_lt x y z (pg_cl i' j' p) := by
    intro p hp
    by_cases e : p = i + j + k
    · rw [e, pk_us, hc']
    · rw [pk_un e, hc p (by omega)]
      exact h8 p (by omega)
  exact pg_forget (fun b8 g8 => H _ _ _ _ _ _ _ _ _ _ _ _ _ _ _ _ ⟨h1, h2, h3, rfl, h5, h6, h7, tx, h9, pg_T_new g8⟩)
/-! tokens -/
theorem pg_t19 {post : Int32 → St2 → Prop} {ar : Int32} (c w : Nat) (hc : c < 10) (hw : w ≤ s) (hw2 : w ≤ 2) (hs : s ≤ 2) (ht : t < 40) (hn : n < 40)
    (H : post (nI (s - w + 1)) (nI (t + 1), nI (n + 1), nI (s - w + 1), f4, f5, upd a1 n (nI c), upd a2 n (ar &&& 3), upd a3 n (if w = 0 then -1 else a5 (s - w)), upd a4 n (if w = 2 then a5 (s - 1) else -1), upd a5 (s - w) (nI n), a6, a7, a8, a9, a10, a11)) :
    wX_token_19 post (nI c) ar (nI w) (nI t) (nI n) (nI s) f4 f5 a1 a2 a3 a4 a5 a6 a7 a8 a9 a10 a11 := by
  have cn : (nI n).toNatClampNeg = n := nI_clamp (by omega)
  have es : nI s - nI w = nI (s - w) := pk_sub hw
  have cs : (nI (s - w)).toNatClampNeg = s - w := nI_clamp (by omega)
  have last : ∀ b3 b4 : Nat → Int32, ∀ l4 : Int32, upd b4 n l4 = upd a4 n (if w = 2 then a5 (s - 1) else -1) → b3 = upd a3 n (if w = 0 then -1 else a5 (s - w)) →
      wX_token_179 post (nI w) l4 (nI n) (nI (t + 1)) (nI n) (nI s) f4 f5 (upd a1 n (nI c)) (upd a2 n (ar &&& 3)) b3 b4 a5 a6 a7 a8 a9 a10 a11 := by
    intro b3 b4 l4 e1 e2
    unfold wX_token_179
    rw [cn, es]
    refine ⟨pk_in n 40 hn, nm_r e1 (nm_e ⟨pk_in (s - w) 40 (by omega), ?_⟩)⟩
    rw [cs, e2]
    exact nm_e (nm_r (nI_1 _) (nm_r (nI_1 _) H))
  have mid : ∀ l3 : Int32, l3 = (if w = 0 then -1 else a5 (s - w)) →
      wX_token_150 post (nI w) l3 (nI n) (nI (t + 1)) (nI n) (nI s) f4 f5 (upd a1 n (nI c)) (upd a2 n (ar &&& 3)) a3 a4 a5 a6 a7 a8 a9 a10 a11 := by
    intro l3 e
    unfold wX_token_150
    rw [cn]
    refine ⟨pk_in n 40 hn, nm_e (pk_eq w 2 (fun w2 => ?_) (fun w2 => ?_))⟩
    · have e1 : nI s - 1 = nI (s - 1) := pk_sub (b := 1) (by omega)
      rw [e1, nI_clamp (show s - 1 < 2 ^ 31 by omega)]
      exact ⟨pk_in (s - 1) 40 (by omega), last _ _ _ (by rw [if_pos w2]) (by rw [e])⟩
    · exact last _ _ _ (by rw [if_neg w2]) (by rw [e])
  unfold wX_token_19
  rw [cn, es, cs]
  refine pk_lt c 0 (fun e => absurd e (by omega)) (fun _ => pk_lt 10 c (fun e => absurd e (by omega)) (fun _ => pk_lt s w (fun e => absurd e (by omega)) (fun _ => pk_lt t 40 (fun _ => nm_r (nI_1 t) ?_) (fun e => absurd e (by omega)))))
  refine pk_eq c 10 (fun e => absurd e (by omega)) (fun _ => ⟨pk_in n 40 hn, nm_e ⟨pk_in n 40 hn, nm_e (pk_le w 0 (fun e => mid _ (by rw [if_pos (by omega)])) (fun e => ⟨pk_in (s - w) 40 (by omega), mid _ (by rw [if_neg (by omega)])⟩))⟩⟩)
/-- a token that makes a node -/
theorem pg_tok {post : Int32 → St2 → Prop} {ar : Int32} (c w s' s0' s1' : Nat) (h : pg_I t n s s0 s1 r0 r1 r2 r3 i j k x y z (f1, f2, f3, f4, f5, a1, a2, a3, a4, a5, a6, a7, a8, a9, a10, a11)) (hc : c = pg_op n) (hw : w = if c ≤ 3 then 0 else if c ≤ 5 then 2 else 1) (hc9 : c < 10)
    (hs : s ≤ 2) (hws : w ≤ s) (ht : t < 40) (hn : n < 40) (g0 : pg_op n = 0 → ar &&& 3 = pg_lt x y z (pg_ar n)) (g3 : pg_op n = 3 → ar &&& 3 = nI (pg_ar n))
    (gf : 3 < pg_op n → s - w = 0 ∧ pg_fs n = s0) (gs : (pg_op n = 4 ∨ pg_op n = 5) → s = 2 ∧ pg_sn n = s1) (es' : s' = s - w + 1) (es2 : s' ≤ 2) (e0 : s0' = if s - w = 0 then n else s0) (e1 : s1' = n)
    (H : ∀ f1 f2 f3 f4 f5 a1 a2 a3 a4 a5 a6 a7 a8 a9 a10 a11, pg_I (t + 1) (n + 1) s' s0' s1' r0 r1 r2 r3 i j k x y z (f1, f2, f3, f4, f5, a1, a2, a3, a4, a5, a6, a7, a8, a9, a10, a11) → post (nI s') (f1, f2, f3, f4, f5, a1, a2, a3, a4, a5, a6, a7, a8, a9, a10, a11)) : wpX_token post (f1, f2, f3, f4, f5, a1, a2, a3, a4, a5, a6, a7, a8, a9, a10, a11) (nI c) ar := by
  obtain ⟨h1, h2, h3, h4, h5, h6, h7, h8, h9, h10⟩ := h
  subst h1 h2 h3
  have hw2 : w ≤ 2 := by
    rw [hw]
    by_cases q1 : c ≤ 3
    · rw [if_pos q1]; omega
    · rw [if_neg q1]
      by_cases q2 : c ≤ 5
      · rw [if_pos q2]; omega
      · rw [if_neg q2]; omega
  have G : wX_token_19 post (nI c) ar (nI w) (nI t) (nI n) (nI s) f4 f5 a1 a2 a3 a4 a5 a6 a7 a8 a9 a10 a11 := by
    refine pg_t19 c w hc9 hws hw2 hs ht hn ?_
    rw [← es']
    refine H _ _ _ _ _ _ _ _ _ _ _ _ _ _ _ _ ⟨rfl, rfl, rfl, h4, ⟨fun _ => ?_, fun q => ?_⟩, fun m hm => ?_, h7, h8, h9, fun q hq => ?_⟩
    · by_cases q : s - w = 0
      · rw [q, pk_us, e0, if_pos q]
      · rw [pk_un (fun e => q e.symm), e0, if_neg q]
        exact h5.1 (by omega)
    · rw [show s - w = 1 by omega, pk_us, e1]
    · by_cases e : m = n
      · subst e
        rw [pk_us, pk_us, pk_us, pk_us]
        refine ⟨by rw [hc], g0, g3, fun o => ?_, fun o => ?_⟩
        · obtain ⟨q1, q2⟩ := gf o
          rw [q1, q2]
          by_cases w0 : w = 0
          · exfalso
            rw [if_neg (show ¬ c ≤ 3 by omega)] at hw
            by_cases q3 : c ≤ 5
            · rw [if_pos q3] at hw; omega
            · rw [if_neg q3] at hw; omega
          · rw [if_neg w0]
            exact h5.1 (by omega)
        · obtain ⟨q1, q2⟩ := gs o
          have q3 : w = 2 := by
            rw [if_neg (show ¬ c ≤ 3 by omega), if_pos (show c ≤ 5 by omega)] at hw
            exact hw
          rw [if_pos q3, q1, q2]
          exact h5.2 (by omega)
      · rw [pk_un e, pk_un e, pk_un e, pk_un e]
        exact h6 m (by omega)
    · rcases h10 q hq with g | ⟨⟨g1, g2⟩, g3⟩
      · exact Or.inl g
      · exact Or.inr ⟨⟨by omega, g2⟩, g3⟩
  unfold wpX_token
  dsimp only
  refine pk_lt 3 c (fun q => pk_lt 5 c (fun q2 => ?_) (fun q2 => ?_)) (fun q => ?_)
  · rw [if_neg (by omega), if_neg (by omega)] at hw
    rw [hw] at G
    exact G
  · rw [if_neg (by omega), if_pos (by omega)] at hw
    rw [hw] at G
    exact G
  · rw [if_pos (by omega)] at hw
    rw [hw] at G
    exact G
/-- a token that defines rule q -/
theorem pg_def {post : Int32 → St2 → Prop} {ar : Int32} (q : Nat) (r0' r1' r2' r3' : Int32) (h : pg_I t n 1 s0 s1 r0 r1 r2 r3 i j k x y z (f1, f2, f3, f4, f5, a1, a2, a3, a4, a5, a6, a7, a8, a9, a10, a11)) (ht : t < 40) (hq : ar &&& 3 = nI q) (hq4 : q < 4)
    (e0 : r0' = if q = 0 then nI s0 else r0) (e1 : r1' = if q = 1 then nI s0 else r1) (e2 : r2' = if q = 2 then nI s0 else r2) (e3 : r3' = if q = 3 then nI s0 else r3)
    (H : ∀ f1 f2 f3 f4 f5 a1 a2 a3 a4 a5 a6 a7 a8 a9 a10 a11, pg_I (t + 1) n 0 0 0 r0' r1' r2' r3' i j k x y z (f1, f2, f3, f4, f5, a1, a2, a3, a4, a5, a6, a7, a8, a9, a10, a11) → post (nI 0) (f1, f2, f3, f4, f5, a1, a2, a3, a4, a5, a6, a7, a8, a9, a10, a11)) : wpX_token post (f1, f2, f3, f4, f5, a1, a2, a3, a4, a5, a6, a7, a8, a9, a10, a11) 10 ar := by
  obtain ⟨h1, h2, h3, h4, h5, h6, ⟨k0, k1, k2, k3⟩, h8, h9, h10⟩ := h
  subst h1 h3
  unfold wpX_token
  dsimp only
  refine pk_lt 3 10 (fun _ => pk_lt 5 10 (fun _ => ?_) (fun e => absurd e (by omega))) (fun e => absurd e (by omega))
  unfold wX_token_19
  rw [hq, nI_clamp (show q < 2 ^ 31 by omega)]
  refine pk_lt 10 0 (fun e => absurd e (by omega)) (fun _ => pk_lt 10 10 (fun e => absurd e (by omega)) (fun _ => pk_lt 1 1 (fun e => absurd e (by omega)) (fun _ => pk_lt t 40 (fun _ => nm_r (nI_1 t) ?_) (fun e => absurd e (by omega)))))
  refine pk_eq 10 10 (fun _ => nm_r (e' := nI 0) rfl ⟨pk_in 0 40 (by omega), pk_in q 4 hq4, ?_⟩) (fun e => absurd rfl e)
  have z0 : a5 (nI 0).toNatClampNeg = nI s0 := h5.1 (by omega)
  rw [z0]
  refine nm_e (pg_forget (fun b8 g8 => H _ _ _ _ _ _ _ _ _ _ _ _ _ _ _ _ ⟨rfl, h2, rfl, h4, ⟨fun e => absurd e (by omega), fun e => absurd e (by omega)⟩, h6, ⟨?_, ?_, ?_, ?_⟩, h8, h9, pg_T_new g8⟩))
  · by_cases e : 0 = q
    · rw [← e, pk_us, e0, if_pos e.symm]
    · rw [pk_un e, e0, if_neg (fun g => e g.symm)]; exact k0
  · by_cases e : 1 = q
    · rw [← e, pk_us, e1, if_pos e.symm]
    · rw [pk_un e, e1, if_neg (fun g => e g.symm)]; exact k1
  · by_cases e : 2 = q
    · rw [← e, pk_us, e2, if_pos e.symm]
    · rw [pk_un e, e2, if_neg (fun g => e g.symm)]; exact k2
  · by_cases e : 3 = q
    · rw [← e, pk_us, e3, if_pos e.symm]
    · rw [pk_un e, e3, if_neg (fun g => e g.symm)]; exact k3
/-- a token that is refused: an unknown code, or too few parts -/
theorem pg_tok_no {post : Int32 → St2 → Prop} {ar : Int32} (c : Nat) (h : pg_I t n 0 s0 s1 r0 r1 r2 r3 i j k x y z (f1, f2, f3, f4, f5, a1, a2, a3, a4, a5, a6, a7, a8, a9, a10, a11)) (hc : 3 < c) (hc2 : c < 100) (H : post (-1) (f1, f2, f3, f4, f5, a1, a2, a3, a4, a5, a6, a7, a8, a9, a10, a11)) : wpX_token post (f1, f2, f3, f4, f5, a1, a2, a3, a4, a5, a6, a7, a8, a9, a10, a11) (nI c) ar := by
  obtain ⟨h1, h2, h3, h4, h5, h6, h7, h8, h9, h10⟩ := h
  subst h3
  have G : ∀ w : Nat, 0 < w → w < 3 → wX_token_19 post (nI c) ar (nI w) f1 f2 (nI 0) f4 f5 a1 a2 a3 a4 a5 a6 a7 a8 a9 a10 a11 := by
    intro w w0 w3
    unfold wX_token_19
    exact pk_lt c 0 (fun e => absurd e (by omega)) (fun _ => pk_lt 10 c (fun _ => H) (fun _ => pk_lt 0 w (fun _ => H) (fun e => absurd e (by omega))))
  unfold wpX_token
  dsimp only
  exact pk_lt 3 c (fun _ => pk_lt 5 c (fun _ => G 1 (by omega) (by omega)) (fun _ => G 2 (by omega) (by omega))) (fun e => absurd e (by omega))
end
end
section
/-! questions -/
def pg_rr (r3 : Int32) (q : Nat) : Int32 := if q = 0 then nI 6 else if q = 1 then nI 11 else if q = 2 then nI 18 else r3
/-- at how many places below m node g is stuck -/
def pg_cs (i j k g : Nat) : Nat → Nat
  | 0 => 0
  | m + 1 => pg_cs i j k g m + (if pg_c i j k g m = 0 then 1 else 0)
/-- at how many places below m node g matches -/
def pg_cm (i j k g : Nat) : Nat → Nat
  | 0 => 0
  | m + 1 => pg_cm i j k g m + (if pg_c i j k g m < 2 then 0 else 1)
theorem pg_vl_L : ∀ c, c < 24 → ∀ l, l < 14 → (pg_vl c = nI l ↔ c = l + 2) := by decide +kernel
section
variable {t n s s0 s1 i j k : Nat} {r0 r1 r2 r3 x y z : Int32} {f1 f2 f3 f4 f5 : Int32} {a1 a2 a3 a4 a5 a6 a7 a8 a9 a10 a11 : Nat → Int32} {post : Int32 → St2 → Prop}
theorem pg_mt (q g p : Nat) (Z : pg_Z n i j k) (hq : q < 4) (hr : pg_rr r3 q = nI g) (hg : g < n) (h : pg_I t n s s0 s1 (nI 6) (nI 11) (nI 18) r3 i j k x y z (f1, f2, f3, f4, f5, a1, a2, a3, a4, a5, a6, a7, a8, a9, a10, a11)) (hp : p ≤ i + j + k)
    (H : ∀ f1 f2 f3 f4 f5 a1 a2 a3 a4 a5 a6 a7 a8 a9 a10 a11, pg_I t n s s0 s1 (nI 6) (nI 11) (nI 18) r3 i j k x y z (f1, f2, f3, f4, f5, a1, a2, a3, a4, a5, a6, a7, a8, a9, a10, a11) → post (pg_vl (pg_c i j k g p)) (f1, f2, f3, f4, f5, a1, a2, a3, a4, a5, a6, a7, a8, a9, a10, a11)) : wpX_match post (f1, f2, f3, f4, f5, a1, a2, a3, a4, a5, a6, a7, a8, a9, a10, a11) (nI q) (nI p) := by
  obtain ⟨h1, h2, h3, h4, h5, h6, ⟨k0, k1, k2, k3⟩, h8, h9, h10⟩ := h
  have zi := Z.2.1
  have zj := Z.2.2.1
  have zk := Z.2.2.2
  have zn := Z.1.1
  have ea : a6 q = nI g := by
    rw [← hr]
    match q, hq with
    | 0, _ => exact k0
    | 1, _ => exact k1
    | 2, _ => exact k2
    | 3, _ => exact k3
  unfold wpX_match
  dsimp only
  rw [nI_clamp (show q < 2 ^ 31 by omega), ea]
  refine pk_lt q 0 (fun e => absurd e (by omega)) (fun _ => pk_lt 3 q (fun e => absurd e (by omega)) (fun _ => pk_lt p 0 (fun e => absurd e (by omega)) (fun _ => pk_le p (i + j + k) (fun _ => ⟨pk_in q 4 hq, br_t (nI_pos' (by omega)) ⟨pk_in q 4 hq, ?_⟩⟩) (fun e => absurd e (by omega)) rfl h4)))
  refine pg_wo Z ⟨h4, h6, ⟨k0, k1, k2⟩, h8, h9⟩ h10 hg hp (fun b8 b9 b10 b11 hT hv => ?_)
  show vp_in (nI q) 4 ∧ vp_in (21 * a6 q + nI p) 840 ∧ post (b8 (21 * a6 q + nI p).toNatClampNeg) (f1, f2, f3, f4, nI 0, a1, a2, a3, a4, a5, a6, a7, b8, b9, b10, b11)
  rw [ea, pg_21, nI_clamp (show 21 * g + p < 2 ^ 31 by omega), hv]
  exact ⟨pk_in q 4 hq, pk_in (21 * g + p) 840 (by omega), H _ _ _ _ _ _ _ _ _ _ _ _ _ _ _ _ ⟨h1, h2, h3, h4, h5, h6, ⟨k0, k1, k2, k3⟩, h8, h9, hT⟩⟩
/-- a place behind the text -/
theorem pg_mt_out (q p : Nat) (hq : q < 4) (h : pg_I t n s s0 s1 r0 r1 r2 r3 i j k x y z (f1, f2, f3, f4, f5, a1, a2, a3, a4, a5, a6, a7, a8, a9, a10, a11)) (hp : i + j + k < p) (hp2 : p < 100) (H : post (-3) (f1, f2, f3, f4, f5, a1, a2, a3, a4, a5, a6, a7, a8, a9, a10, a11)) : wpX_match post (f1, f2, f3, f4, f5, a1, a2, a3, a4, a5, a6, a7, a8, a9, a10, a11) (nI q) (nI p) := by
  obtain ⟨h1, h2, h3, h4, h5⟩ := h
  unfold wpX_match
  dsimp only
  exact pk_lt q 0 (fun e => absurd e (by omega)) (fun _ => pk_lt 3 q (fun e => absurd e (by omega)) (fun _ => pk_lt p 0 (fun e => absurd e (by omega)) (fun _ => pk_le p (i + j + k) (fun e => absurd e (by omega)) (fun _ => H) rfl h4)))
/-- no such rule -/
theorem pg_mt_no {v : Int32} (H : post (-3) (f1, f2, f3, f4, f5, a1, a2, a3, a4, a5, a6, a7, a8, a9, a10, a11)) : wpX_match post (f1, f2, f3, f4, f5, a1, a2, a3, a4, a5, a6, a7, a8, a9, a10, a11) 4 v := by
  unfold wpX_match
  dsimp only
  exact br_f (by decide) (br_t (by decide) H)
/-- a rule that isn't defined -/
theorem pg_mt_un (q p : Nat) (hq : q < 4) (h : pg_I t n s s0 s1 (-1) (-1) (-1) (-1) i j k x y z (f1, f2, f3, f4, f5, a1, a2, a3, a4, a5, a6, a7, a8, a9, a10, a11)) (hp : p ≤ i + j + k) (hL : i + j + k < 20) (H : post (-1) (f1, f2, f3, f4, f5, a1, a2, a3, a4, a5, a6, a7, a8, a9, a10, a11)) : wpX_match post (f1, f2, f3, f4, f5, a1, a2, a3, a4, a5, a6, a7, a8, a9, a10, a11) (nI q) (nI p) := by
  obtain ⟨h1, h2, h3, h4, h5, h6, ⟨k0, k1, k2, k3⟩, h8, h9, h10⟩ := h
  have ea : a6 q = -1 := by
    match q, hq with
    | 0, _ => exact k0
    | 1, _ => exact k1
    | 2, _ => exact k2
    | 3, _ => exact k3
  unfold wpX_match
  dsimp only
  rw [nI_clamp (show q < 2 ^ 31 by omega), ea]
  exact pk_lt q 0 (fun e => absurd e (by omega)) (fun _ => pk_lt 3 q (fun e => absurd e (by omega)) (fun _ => pk_lt p 0 (fun e => absurd e (by omega)) (fun _ => pk_le p (i + j + k) (fun _ => ⟨pk_in q 4 hq, br_f (by decide) H⟩) (fun e => absurd e (by omega)) rfl h4)))
theorem pg_c_lt {g p : Nat} (Z : pg_Z n i j k) (hg : g < n) (hp : p ≤ i + j + k) : pg_c i j k g p < 24 :=
  (pg_lc_all Z.2.1 Z.2.2.1 Z.2.2.2 (Nat.lt_of_lt_of_le hg Z.1.1) hp).1
theorem pg_st16 (q g : Nat) (Z : pg_Z n i j k) (hq : q < 4) (hr : pg_rr r3 q = nI g) (hg : g < n)
    (H : ∀ f1 f2 f3 f4 f5 a1 a2 a3 a4 a5 a6 a7 a8 a9 a10 a11, pg_I t n s s0 s1 (nI 6) (nI 11) (nI 18) r3 i j k x y z (f1, f2, f3, f4, f5, a1, a2, a3, a4, a5, a6, a7, a8, a9, a10, a11) → post (nI (pg_cs i j k g (i + j + k + 1))) (f1, f2, f3, f4, f5, a1, a2, a3, a4, a5, a6, a7, a8, a9, a10, a11)) :
    ∀ (r p : Nat) f1 f2 f3 f4 f5 a1 a2 a3 a4 a5 a6 a7 a8 a9 a10 a11, p + r = i + j + k + 1 → pg_I t n s s0 s1 (nI 6) (nI 11) (nI 18) r3 i j k x y z (f1, f2, f3, f4, f5, a1, a2, a3, a4, a5, a6, a7, a8, a9, a10, a11) → wX_stuck_16 post (nI q) (r + 1) (nI (pg_cs i j k g p)) (nI p) f1 f2 f3 f4 f5 a1 a2 a3 a4 a5 a6 a7 a8 a9 a10 a11 := by
  have zi := Z.2.1
  have zj := Z.2.2.1
  have zk := Z.2.2.2
  intro r
  induction r with
  | zero =>
    intro p f1 f2 f3 f4 f5 a1 a2 a3 a4 a5 a6 a7 a8 a9 a10 a11 hp h
    have e : p = i + j + k + 1 := by omega
    subst e
    exact pk_lt (i + j + k) (i + j + k + 1) (fun _ => H _ _ _ _ _ _ _ _ _ _ _ _ _ _ _ _ h) (fun e => absurd e (by omega)) h.2.2.2.1
  | succ r ih =>
    intro p f1 f2 f3 f4 f5 a1 a2 a3 a4 a5 a6 a7 a8 a9 a10 a11 hp h
    refine pk_lt (i + j + k) p (fun e => absurd e (by omega)) (fun _ => pg_mt q g p Z hq hr hg h (by omega) (fun f1 f2 f3 f4 f5 a1 a2 a3 a4 a5 a6 a7 a8 a9 a10 a11 h' => ?_)) h.2.2.2.1
    have cl := pg_vl_t _ (pg_c_lt (g := g) (p := p) Z hg (by omega))
    have e1 : pg_cs i j k g (p + 1) = pg_cs i j k g p + (if pg_c i j k g p = 0 then 1 else 0) := rfl
    refine ek_if cl.2.2.1 (fun e => nm_r (e' := nI (pg_cs i j k g (p + 1))) ?_ (nm_r (nI_1 p) (ih (p + 1) _ _ _ _ _ _ _ _ _ _ _ _ _ _ _ _ (by omega) h'))) (fun e => nm_r (e' := nI (pg_cs i j k g (p + 1))) ?_ (nm_r (nI_1 p) (ih (p + 1) _ _ _ _ _ _ _ _ _ _ _ _ _ _ _ _ (by omega) h')))
    · rw [e1, if_pos e, nI_1]
    · rw [e1, if_neg e]
      exact nI_add _ 0
theorem pg_stuck (q g : Nat) (Z : pg_Z n i j k) (hq : q < 4) (hr : pg_rr r3 q = nI g) (hg : g < n) (h : pg_I t n s s0 s1 (nI 6) (nI 11) (nI 18) r3 i j k x y z (f1, f2, f3, f4, f5, a1, a2, a3, a4, a5, a6, a7, a8, a9, a10, a11))
    (H : ∀ f1 f2 f3 f4 f5 a1 a2 a3 a4 a5 a6 a7 a8 a9 a10 a11, pg_I t n s s0 s1 (nI 6) (nI 11) (nI 18) r3 i j k x y z (f1, f2, f3, f4, f5, a1, a2, a3, a4, a5, a6, a7, a8, a9, a10, a11) → post (nI (pg_cs i j k g (i + j + k + 1))) (f1, f2, f3, f4, f5, a1, a2, a3, a4, a5, a6, a7, a8, a9, a10, a11)) : wpX_stuck post (f1, f2, f3, f4, f5, a1, a2, a3, a4, a5, a6, a7, a8, a9, a10, a11) (nI q) := by
  unfold wpX_stuck
  dsimp only
  exact pk_lt q 0 (fun e => absurd e (by omega)) (fun _ => pk_le q 3 (fun _ => ⟨_, pg_st16 q g Z hq hr hg H (i + j + k + 1) 0 _ _ _ _ _ _ _ _ _ _ _ _ _ _ _ _ (by omega) h⟩) (fun e => absurd e (by omega)))
theorem pg_ma16 (q g : Nat) (Z : pg_Z n i j k) (hq : q < 4) (hr : pg_rr r3 q = nI g) (hg : g < n)
    (H : ∀ f1 f2 f3 f4 f5 a1 a2 a3 a4 a5 a6 a7 a8 a9 a10 a11, pg_I t n s s0 s1 (nI 6) (nI 11) (nI 18) r3 i j k x y z (f1, f2, f3, f4, f5, a1, a2, a3, a4, a5, a6, a7, a8, a9, a10, a11) → post (nI (pg_cm i j k g (i + j + k + 1))) (f1, f2, f3, f4, f5, a1, a2, a3, a4, a5, a6, a7, a8, a9, a10, a11)) :
    ∀ (r p : Nat) f1 f2 f3 f4 f5 a1 a2 a3 a4 a5 a6 a7 a8 a9 a10 a11, p + r = i + j + k + 1 → pg_I t n s s0 s1 (nI 6) (nI 11) (nI 18) r3 i j k x y z (f1, f2, f3, f4, f5, a1, a2, a3, a4, a5, a6, a7, a8, a9, a10, a11) → wX_matches_16 post (nI q) (r + 1) (nI (pg_cm i j k g p)) (nI p) f1 f2 f3 f4 f5 a1 a2 a3 a4 a5 a6 a7 a8 a9 a10 a11 := by
  have zi := Z.2.1
  have zj := Z.2.2.1
  have zk := Z.2.2.2
  intro r
  induction r with
  | zero =>
    intro p f1 f2 f3 f4 f5 a1 a2 a3 a4 a5 a6 a7 a8 a9 a10 a11 hp h
    have e : p = i + j + k + 1 := by omega
    subst e
    exact pk_lt (i + j + k) (i + j + k + 1) (fun _ => H _ _ _ _ _ _ _ _ _ _ _ _ _ _ _ _ h) (fun e => absurd e (by omega)) h.2.2.2.1
  | succ r ih =>
    intro p f1 f2 f3 f4 f5 a1 a2 a3 a4 a5 a6 a7 a8 a9 a10 a11 hp h
    refine pk_lt (i + j + k) p (fun e => absurd e (by omega)) (fun _ => pg_mt q g p Z hq hr hg h (by omega) (fun f1 f2 f3 f4 f5 a1 a2 a3 a4 a5 a6 a7 a8 a9 a10 a11 h' => ?_)) h.2.2.2.1
    have cl := pg_vl_t _ (pg_c_lt (g := g) (p := p) Z hg (by omega))
    have e1 : pg_cm i j k g (p + 1) = pg_cm i j k g p + (if pg_c i j k g p < 2 then 0 else 1) := rfl
    refine ek_if cl.2.2.2.2.1 (fun e => nm_r (e' := nI (pg_cm i j k g (p + 1))) ?_ (nm_r (nI_1 p) (ih (p + 1) _ _ _ _ _ _ _ _ _ _ _ _ _ _ _ _ (by omega) h'))) (fun e => nm_r (e' := nI (pg_cm i j k g (p + 1))) ?_ (nm_r (nI_1 p) (ih (p + 1) _ _ _ _ _ _ _ _ _ _ _ _ _ _ _ _ (by omega) h')))
    · rw [e1, if_pos e]
      exact nI_add _ 0
    · rw [e1, if_neg e, nI_1]
theorem pg_matches (q g : Nat) (Z : pg_Z n i j k) (hq : q < 4) (hr : pg_rr r3 q = nI g) (hg : g < n) (h : pg_I t n s s0 s1 (nI 6) (nI 11) (nI 18) r3 i j k x y z (f1, f2, f3, f4, f5, a1, a2, a3, a4, a5, a6, a7, a8, a9, a10, a11))
    (H : ∀ f1 f2 f3 f4 f5 a1 a2 a3 a4 a5 a6 a7 a8 a9 a10 a11, pg_I t n s s0 s1 (nI 6) (nI 11) (nI 18) r3 i j k x y z (f1, f2, f3, f4, f5, a1, a2, a3, a4, a5, a6, a7, a8, a9, a10, a11) → post (nI (pg_cm i j k g (i + j + k + 1))) (f1, f2, f3, f4, f5, a1, a2, a3, a4, a5, a6, a7, a8, a9, a10, a11)) : wpX_matches post (f1, f2, f3, f4, f5, a1, a2, a3, a4, a5, a6, a7, a8, a9, a10, a11) (nI q) := by
  unfold wpX_matches
  dsimp only
  exact pk_lt q 0 (fun e => absurd e (by omega)) (fun _ => pk_le q 3 (fun _ => ⟨_, pg_ma16 q g Z hq hr hg H (i + j + k + 1) 0 _ _ _ _ _ _ _ _ _ _ _ _ _ _ _ _ (by omega) h⟩) (fun e => absurd e (by omega)))
theorem pg_matches_no (H : post (-3) (f1, f2, f3, f4, f5, a1, a2, a3, a4, a5, a6, a7, a8, a9, a10, a11)) : wpX_matches post (f1, f2, f3, f4, f5, a1, a2, a3, a4, a5, a6, a7, a8, a9, a10, a11) (-1) := by
  unfold wpX_matches
  dsimp only
  exact br_t (by decide) H
/-- the search finds none -/
theorem pg_fi22 (q g : Nat) (Z : pg_Z n i j k) (hq : q < 4) (hr : pg_rr r3 q = nI g) (hg : g < n) (hc : ∀ p, p < i + j + k + 1 → pg_c i j k g p < 2)
    (H : ∀ f1 f2 f3 f4 f5 a1 a2 a3 a4 a5 a6 a7 a8 a9 a10 a11, pg_I t n s s0 s1 (nI 6) (nI 11) (nI 18) r3 i j k x y z (f1, f2, f3, f4, f5, a1, a2, a3, a4, a5, a6, a7, a8, a9, a10, a11) → post (-1) (f1, f2, f3, f4, f5, a1, a2, a3, a4, a5, a6, a7, a8, a9, a10, a11)) :
    ∀ (r p : Nat) f1 f2 f3 f4 f5 a1 a2 a3 a4 a5 a6 a7 a8 a9 a10 a11, p + r = i + j + k + 1 → pg_I t n s s0 s1 (nI 6) (nI 11) (nI 18) r3 i j k x y z (f1, f2, f3, f4, f5, a1, a2, a3, a4, a5, a6, a7, a8, a9, a10, a11) → wX_find_22 post (nI q) (r + 1) (nI p) f1 f2 f3 f4 f5 a1 a2 a3 a4 a5 a6 a7 a8 a9 a10 a11 := by
  have zi := Z.2.1
  have zj := Z.2.2.1
  have zk := Z.2.2.2
  intro r
  induction r with
  | zero =>
    intro p f1 f2 f3 f4 f5 a1 a2 a3 a4 a5 a6 a7 a8 a9 a10 a11 hp h
    have e : p = i + j + k + 1 := by omega
    subst e
    exact pk_lt (i + j + k) (i + j + k + 1) (fun _ => H _ _ _ _ _ _ _ _ _ _ _ _ _ _ _ _ h) (fun e => absurd e (by omega)) h.2.2.2.1
  | succ r ih =>
    intro p f1 f2 f3 f4 f5 a1 a2 a3 a4 a5 a6 a7 a8 a9 a10 a11 hp h
    refine pk_lt (i + j + k) p (fun e => absurd e (by omega)) (fun _ => pg_mt q g p Z hq hr hg h (by omega) (fun f1 f2 f3 f4 f5 a1 a2 a3 a4 a5 a6 a7 a8 a9 a10 a11 h' => ?_)) h.2.2.2.1
    have cl := pg_vl_t _ (pg_c_lt (g := g) (p := p) Z hg (by omega))
    exact ek_if cl.2.2.2.2.1 (fun e => nm_r (nI_1 p) (ih (p + 1) _ _ _ _ _ _ _ _ _ _ _ _ _ _ _ _ (by omega) h')) (fun e => absurd (hc p (by omega)) e)
theorem pg_find_no (q g : Nat) (Z : pg_Z n i j k) (hq : q < 4) (hr : pg_rr r3 q = nI g) (hg : g < n) (h : pg_I t n s s0 s1 (nI 6) (nI 11) (nI 18) r3 i j k x y z (f1, f2, f3, f4, f5, a1, a2, a3, a4, a5, a6, a7, a8, a9, a10, a11)) (hc : ∀ p, p < i + j + k + 1 → pg_c i j k g p < 2)
    (H : ∀ f1 f2 f3 f4 f5 a1 a2 a3 a4 a5 a6 a7 a8 a9 a10 a11, pg_I t n s s0 s1 (nI 6) (nI 11) (nI 18) r3 i j k x y z (f1, f2, f3, f4, f5, a1, a2, a3, a4, a5, a6, a7, a8, a9, a10, a11) → post (-1) (f1, f2, f3, f4, f5, a1, a2, a3, a4, a5, a6, a7, a8, a9, a10, a11)) : wpX_find post (f1, f2, f3, f4, f5, a1, a2, a3, a4, a5, a6, a7, a8, a9, a10, a11) (nI q) (nI 0) := by
  unfold wpX_find
  dsimp only
  exact pk_lt q 0 (fun e => absurd e (by omega)) (fun _ => pk_le q 3 (fun _ => pk_le 0 0 (fun _ => ⟨_, pg_fi22 q g Z hq hr hg hc H (i + j + k + 1) 0 _ _ _ _ _ _ _ _ _ _ _ _ _ _ _ _ (by omega) h⟩) (fun e => absurd e (by omega))) (fun e => absurd e (by omega)))
/-- the search finds at once -/
theorem pg_find_at (q g p : Nat) (Z : pg_Z n i j k) (hq : q < 4) (hr : pg_rr r3 q = nI g) (hg : g < n) (h : pg_I t n s s0 s1 (nI 6) (nI 11) (nI 18) r3 i j k x y z (f1, f2, f3, f4, f5, a1, a2, a3, a4, a5, a6, a7, a8, a9, a10, a11)) (hp : p ≤ i + j + k) (hc : 2 ≤ pg_c i j k g p)
    (H : ∀ f1 f2 f3 f4 f5 a1 a2 a3 a4 a5 a6 a7 a8 a9 a10 a11, pg_I t n s s0 s1 (nI 6) (nI 11) (nI 18) r3 i j k x y z (f1, f2, f3, f4, f5, a1, a2, a3, a4, a5, a6, a7, a8, a9, a10, a11) → post (nI p) (f1, f2, f3, f4, f5, a1, a2, a3, a4, a5, a6, a7, a8, a9, a10, a11)) : wpX_find post (f1, f2, f3, f4, f5, a1, a2, a3, a4, a5, a6, a7, a8, a9, a10, a11) (nI q) (nI p) := by
  have zi := Z.2.1
  have zj := Z.2.2.1
  have zk := Z.2.2.2
  have cl := pg_vl_t _ (pg_c_lt (g := g) (p := p) Z hg (by omega))
  unfold wpX_find
  dsimp only
  refine pk_lt q 0 (fun e => absurd e (by omega)) (fun _ => pk_le q 3 (fun _ => pk_le 0 p (fun _ => ⟨1, ?_⟩) (fun e => absurd e (by omega))) (fun e => absurd e (by omega)))
  exact pk_lt (i + j + k) p (fun e => absurd e (by omega)) (fun _ => pg_mt q g p Z hq hr hg h hp (fun f1 f2 f3 f4 f5 a1 a2 a3 a4 a5 a6 a7 a8 a9 a10 a11 h' => ek_if cl.2.2.2.2.1 (fun e => absurd hc (by omega)) (fun _ => H _ _ _ _ _ _ _ _ _ _ _ _ _ _ _ _ h'))) h.2.2.2.1
theorem pg_whole (q g : Nat) (Z : pg_Z n i j k) (hq : q < 4) (hr : pg_rr r3 q = nI g) (hg : g < n) (h : pg_I t n s s0 s1 (nI 6) (nI 11) (nI 18) r3 i j k x y z (f1, f2, f3, f4, f5, a1, a2, a3, a4, a5, a6, a7, a8, a9, a10, a11))
    (H : ∀ f1 f2 f3 f4 f5 a1 a2 a3 a4 a5 a6 a7 a8 a9 a10 a11, pg_I t n s s0 s1 (nI 6) (nI 11) (nI 18) r3 i j k x y z (f1, f2, f3, f4, f5, a1, a2, a3, a4, a5, a6, a7, a8, a9, a10, a11) → post (if pg_c i j k g 0 = i + j + k + 2 then 1 else 0) (f1, f2, f3, f4, f5, a1, a2, a3, a4, a5, a6, a7, a8, a9, a10, a11)) : wpX_whole post (f1, f2, f3, f4, f5, a1, a2, a3, a4, a5, a6, a7, a8, a9, a10, a11) (nI q) := by
  have zi := Z.2.1
  have zj := Z.2.2.1
  have zk := Z.2.2.2
  unfold wpX_whole
  dsimp only
  refine pk_lt q 0 (fun e => absurd e (by omega)) (fun _ => pk_le q 3 (fun _ => pg_mt q g 0 Z hq hr hg h (by omega) (fun f1 f2 f3 f4 f5 a1 a2 a3 a4 a5 a6 a7 a8 a9 a10 a11 h' => ?_)) (fun e => absurd e (by omega)))
  have h4 := h'.2.2.2.1
  have l := pg_vl_L _ (pg_c_lt (g := g) (p := 0) Z hg (by omega)) (i + j + k) (by omega)
  have hH := H _ _ _ _ _ _ _ _ _ _ _ _ _ _ _ _ h'
  refine ek_if (d := pg_c i j k g 0 = i + j + k + 2) (by rw [h4]; exact l) (fun e => ?_) (fun e => ?_)
  · rw [if_pos e] at hH
    exact hH
  · rw [if_neg e] at hH
    exact hH
theorem pg_whole_un (q : Nat) (hq : q < 4) (h : pg_I t n s s0 s1 (-1) (-1) (-1) (-1) 0 1 0 x y z (f1, f2, f3, f4, f5, a1, a2, a3, a4, a5, a6, a7, a8, a9, a10, a11)) (H : post 0 (f1, f2, f3, f4, f5, a1, a2, a3, a4, a5, a6, a7, a8, a9, a10, a11)) : wpX_whole post (f1, f2, f3, f4, f5, a1, a2, a3, a4, a5, a6, a7, a8, a9, a10, a11) (nI q) := by
  unfold wpX_whole
  dsimp only
  refine pk_lt q 0 (fun e => absurd e (by omega)) (fun _ => pk_le q 3 (fun _ => pg_mt_un q 0 hq h (by omega) (by omega) ?_) (fun e => absurd e (by omega)))
  have h4 : f4 = nI 1 := h.2.2.2.1
  exact br_f (show ¬ (-1 : Int32) = f4 by rw [h4]; decide) H
end
end
section
/-! what the law asks for, over the closed form -/
theorem pg_fa : ∀ i, i < 4 → ∀ j, j < 6 → ∀ k, k < 6 → pg_c i j k 6 i = (if k < j then 0 else 2 * j) + 2 ∧ pg_c i j k 6 (i + j + k) = 2 ∧ pg_cs i j k 6 (i + j + k + 1) = 0 := by decide +kernel
theorem pg_fb : ∀ i, i < 4 → ∀ j, j < 6 → ∀ k, k < 6 → ∀ s, s < j → pg_c i j k 6 (i + s) = (if k < j - s then 0 else 2 * (j - s)) + 2 := by decide +kernel
theorem pg_fb2 : ∀ i, i < 4 → ∀ j, j < 6 → ∀ k, k < 6 → ∀ s, s < k → pg_c i j k 6 (i + j + s) = 2 := by decide +kernel
theorem pg_fc : ∀ i, i < 4 → ∀ j, j < 6 → ∀ k, k < 6 → pg_cs i j k 11 (i + j + k + 1) = i + j + k + 1 ∧ pg_cm i j k 11 (i + j + k + 1) = 0 := by decide +kernel
theorem pg_fd : ∀ i, i < 4 → ∀ j, j < 6 → ∀ k, k < 6 → pg_c i j k 18 0 = (if 0 < j then i + (if k < j then 0 else 2 * j) else i + k) + 2 ∧ pg_cm i j k 18 (i + j + k + 1) = i + j + k + 1 ∧ 2 ≤ pg_c i j k 18 (i + j + k) := by decide +kernel
theorem pg_fe : ∀ i, i < 4 → ∀ j, j < 6 → ∀ k, k < 6 → pg_cs i j k 22 (i + j + k + 1) = i + j + k + 1 := by decide +kernel
theorem pg_ff : ∀ i, i < 4 → ∀ j, j < 6 → ∀ k, k < 6 → pg_cs i j k 27 (i + j + k + 1) = i - 1 ∧ pg_cm i j k 27 (i + j + k + 1) = 0 := by decide +kernel
theorem pg_f11 (i j k p : Nat) : pg_c i j k 11 p = 0 := rfl
theorem pg_f22 (i j k p : Nat) : pg_c i j k 22 p = 0 := rfl
theorem pg_vl_p (v : Nat) : pg_vl (v + 2) = nI v := pg_vl_2 (by omega)
theorem pg_cl0 {i j p : Nat} (h : p < i) : pg_cl i j p = 0 := if_pos h
theorem pg_cl1 {i j p : Nat} (h : i ≤ p) (h2 : p < i + j) : pg_cl i j p = 1 := by
  unfold pg_cl
  rw [if_neg (by omega), if_pos h2]
theorem pg_cl2 {i j p : Nat} (h : i + j ≤ p) : pg_cl i j p = 2 := by
  unfold pg_cl
  rw [if_neg (by omega), if_neg (by omega)]
section
variable {post : Int32 → St0 → Prop} {mc ms kc ks : Nat} {i j k : Nat} {x y z : Int32} {f1 f2 f3 f4 f5 : Int32} {a1 a2 a3 a4 a5 a6 a7 a8 a9 a10 a11 : Nat → Int32}
/-- the letters are their own two lowest bits -/
abbrev pg_X (x y z : Int32) : Prop := x &&& 3 = x ∧ y &&& 3 = y ∧ z &&& 3 = z
theorem pg_942t (hp : post 1 ()) (hx : pg_X x y z) (hi : i < 4) (hj : j < 6) (hk : k < 6) (h : pg_I 33 28 0 0 0 (nI 6) (nI 11) (nI 18) (nI 27) i j k x y z (f1, f2, f3, f4, f5, a1, a2, a3, a4, a5, a6, a7, a8, a9, a10, a11)) (n : Nat) : wL_lawOf_942 post mc ms x (nI i) kc ks f1 f2 f3 f4 f5 a1 a2 a3 a4 a5 a6 a7 a8 a9 a10 a11 (n + 1) (nI (i - 1)) (nI (i - 1)) := by
  have Z : pg_Z 28 i j k := ⟨pg_clo28, hi, hj, hk⟩
  have Z0 : pg_Z 28 0 0 0 := ⟨pg_clo28, by omega, by omega, by omega⟩
  obtain ⟨e1, e2⟩ := pg_ff i hi j hj k hk
  refine pk_le i (i - 1 + 1) (fun _ => ?_) (fun e => absurd e (by omega)) rfl (nI_1 _)
  refine pg_stuck 3 27 Z (by omega) rfl (by omega) h (fun f1 f2 f3 f4 f5 a1 a2 a3 a4 a5 a6 a7 a8 a9 a10 a11 h => br_t (by rw [e1]) ?_)
  refine pg_matches 3 27 Z (by omega) rfl (by omega) h (fun f1 f2 f3 f4 f5 a1 a2 a3 a4 a5 a6 a7 a8 a9 a10 a11 h => br_t (by rw [e2]; rfl) ?_)
  refine pg_erase h (fun f1 f2 f3 f4 f5 a1 a2 a3 a4 a5 a6 a7 a8 a9 a10 a11 h => ?_)
  refine pg_mt 2 18 0 Z0 (by omega) rfl (by omega) h (by omega) (fun f1 f2 f3 f4 f5 a1 a2 a3 a4 a5 a6 a7 a8 a9 a10 a11 h => br_t (by decide) ?_)
  refine pg_whole 0 6 Z0 (by omega) rfl (by omega) h (fun f1 f2 f3 f4 f5 a1 a2 a3 a4 a5 a6 a7 a8 a9 a10 a11 h => br_t (by decide) ?_)
  refine pg_stuck 1 11 Z0 (by omega) rfl (by omega) h (fun f1 f2 f3 f4 f5 a1 a2 a3 a4 a5 a6 a7 a8 a9 a10 a11 h => br_t (by decide) ?_)
  refine pg_type 0 1 0 1 h (by omega) rfl (fun p q => absurd q (by omega)) rfl hx.1 (fun f1 f2 f3 f4 f5 a1 a2 a3 a4 a5 a6 a7 a8 a9 a10 a11 h => br_t rfl ?_)
  refine pg_clear h (fun f1 f2 f3 f4 f5 a1 a2 a3 a4 a5 a6 a7 a8 a9 a10 a11 h => ?_)
  refine pg_mt_un 1 0 (by omega) h (by omega) (by omega) (br_t rfl ?_)
  refine pg_whole_un 0 (by omega) h (br_t rfl ?_)
  refine pg_tok_no 4 h (by omega) (by omega) (br_t rfl ?_)
  refine pg_mt_no (br_t rfl ?_)
  refine pg_matches_no (br_t rfl ?_)
  exact pg_tok_no 11 h (by omega) (by omega) (br_t rfl hp)
theorem pg_942 (hp : post 1 ()) (hx : pg_X x y z) (hi : i < 4) (hj : j < 6) (hk : k < 6) (h : pg_I 33 28 0 0 0 (nI 6) (nI 11) (nI 18) (nI 27) i j k x y z (f1, f2, f3, f4, f5, a1, a2, a3, a4, a5, a6, a7, a8, a9, a10, a11)) : ∃ n, wL_lawOf_942 post mc ms x (nI i) kc ks f1 f2 f3 f4 f5 a1 a2 a3 a4 a5 a6 a7 a8 a9 a10 a11 n 0 0 :=
  pk_loop (σ := Unit) (fun n s _ => wL_lawOf_942 post mc ms x (nI i) kc ks f1 f2 f3 f4 f5 a1 a2 a3 a4 a5 a6 a7 a8 a9 a10 a11 n (nI s) (nI s)) (fun _ _ => True) (i - 1) 0 () (by omega) trivial
    (fun n _ _ => pg_942t hp hx hi hj hk h n)
    (fun n s _ hs _ hw => pk_le i (s + 1) (fun e => absurd e (by omega)) (fun _ => nm_r (nI_1 s) (nm_r (nI_1 s) (hw () trivial))) rfl (nI_1 s))
theorem pg_861 {z0 z1 : Int32} (hp : post 1 ()) (hx : pg_X x y z) (hi : i < 4) (hj : j < 6) (hk : k < 6) (he : z1 = z0) (h : pg_I 27 23 0 0 0 (nI 6) (nI 11) (nI 18) (nI 22) i j k x y z (f1, f2, f3, f4, f5, a1, a2, a3, a4, a5, a6, a7, a8, a9, a10, a11)) : wL_lawOf_861 post mc ms x z (nI i) z0 z1 kc ks f1 f2 f3 f4 f5 a1 a2 a3 a4 a5 a6 a7 a8 a9 a10 a11 := by
  refine br_t he ?_
  refine pg_tok 0 0 1 23 23 h (by decide) (by decide) (by decide) (by decide) (by decide) (by decide) (by decide) (fun _ => hx.2.2) (fun e => absurd e (by decide)) (fun e => absurd e (by decide)) (fun e => absurd e (by decide)) (by decide) (by decide) (by decide) (by decide) (fun f1 f2 f3 f4 f5 a1 a2 a3 a4 a5 a6 a7 a8 a9 a10 a11 h => br_t rfl ?_)
  refine pg_tok 0 0 2 23 24 h (by decide) (by decide) (by decide) (by decide) (by decide) (by decide) (by decide) (fun _ => hx.2.2) (fun e => absurd e (by decide)) (fun e => absurd e (by decide)) (fun e => absurd e (by decide)) (by decide) (by decide) (by decide) (by decide) (fun f1 f2 f3 f4 f5 a1 a2 a3 a4 a5 a6 a7 a8 a9 a10 a11 h => br_t rfl ?_)
  refine pg_tok 4 2 1 25 25 h (by decide) (by decide) (by decide) (by decide) (by decide) (by decide) (by decide) (fun e => absurd e (by decide)) (fun e => absurd e (by decide)) (fun _ => ⟨rfl, rfl⟩) (fun _ => ⟨rfl, rfl⟩) (by decide) (by decide) (by decide) (by decide) (fun f1 f2 f3 f4 f5 a1 a2 a3 a4 a5 a6 a7 a8 a9 a10 a11 h => br_t rfl ?_)
  refine pg_tok 3 0 2 25 26 h (by decide) (by decide) (by decide) (by decide) (by decide) (by decide) (by decide) (fun e => absurd e (by decide)) (fun _ => by decide) (fun e => absurd e (by decide)) (fun e => absurd e (by decide)) (by decide) (by decide) (by decide) (by decide) (fun f1 f2 f3 f4 f5 a1 a2 a3 a4 a5 a6 a7 a8 a9 a10 a11 h => br_t rfl ?_)
  refine pg_tok 4 2 1 27 27 h (by decide) (by decide) (by decide) (by decide) (by decide) (by decide) (by decide) (fun e => absurd e (by decide)) (fun e => absurd e (by decide)) (fun _ => ⟨rfl, rfl⟩) (fun _ => ⟨rfl, rfl⟩) (by decide) (by decide) (by decide) (by decide) (fun f1 f2 f3 f4 f5 a1 a2 a3 a4 a5 a6 a7 a8 a9 a10 a11 h => br_t rfl ?_)
  refine pg_def 3 (nI 6) (nI 11) (nI 18) (nI 27) h (by decide) (by decide) (by decide) rfl rfl rfl rfl (fun f1 f2 f3 f4 f5 a1 a2 a3 a4 a5 a6 a7 a8 a9 a10 a11 h => br_t rfl ?_)
  exact pg_942 hp hx hi hj hk h
theorem pg_754 {z0 z1 : Int32} (hp : post 1 ()) (hx : pg_X x y z) (hi : i < 4) (hj : j < 6) (hk : k < 6) (he : z1 = z0) (h : pg_I 22 19 0 0 0 (nI 6) (nI 11) (nI 18) (-1) i j k x y z (f1, f2, f3, f4, f5, a1, a2, a3, a4, a5, a6, a7, a8, a9, a10, a11)) : wL_lawOf_754 post mc ms x z (nI i) (nI (i + j + k)) z0 z1 kc ks f1 f2 f3 f4 f5 a1 a2 a3 a4 a5 a6 a7 a8 a9 a10 a11 := by
  have Z : pg_Z 19 i j k := ⟨pg_clo19, hi, hj, hk⟩
  have Z2 : pg_Z 23 i j k := ⟨pg_clo23, hi, hj, hk⟩
  refine br_t he ?_
  refine pg_find_at 2 18 (i + j + k) Z (by omega) rfl (by omega) h (by omega) (pg_fd i hi j hj k hk).2.2 (fun f1 f2 f3 f4 f5 a1 a2 a3 a4 a5 a6 a7 a8 a9 a10 a11 h => br_t rfl ?_)
  refine pg_tok 3 0 1 19 19 h (by decide) (by decide) (by decide) (by decide) (by decide) (by decide) (by decide) (fun e => absurd e (by decide)) (fun _ => by decide) (fun e => absurd e (by decide)) (fun e => absurd e (by decide)) (by decide) (by decide) (by decide) (by decide) (fun f1 f2 f3 f4 f5 a1 a2 a3 a4 a5 a6 a7 a8 a9 a10 a11 h => br_t rfl ?_)
  refine pg_tok 8 1 1 20 20 h (by decide) (by decide) (by decide) (by decide) (by decide) (by decide) (by decide) (fun e => absurd e (by decide)) (fun e => absurd e (by decide)) (fun _ => ⟨rfl, rfl⟩) (fun e => absurd e (by decide)) (by decide) (by decide) (by decide) (by decide) (fun f1 f2 f3 f4 f5 a1 a2 a3 a4 a5 a6 a7 a8 a9 a10 a11 h => br_t rfl ?_)
  refine pg_tok 3 0 2 20 21 h (by decide) (by decide) (by decide) (by decide) (by decide) (by decide) (by decide) (fun e => absurd e (by decide)) (fun _ => by decide) (fun e => absurd e (by decide)) (fun e => absurd e (by decide)) (by decide) (by decide) (by decide) (by decide) (fun f1 f2 f3 f4 f5 a1 a2 a3 a4 a5 a6 a7 a8 a9 a10 a11 h => br_t rfl ?_)
  refine pg_tok 4 2 1 22 22 h (by decide) (by decide) (by decide) (by decide) (by decide) (by decide) (by decide) (fun e => absurd e (by decide)) (fun e => absurd e (by decide)) (fun _ => ⟨rfl, rfl⟩) (fun _ => ⟨rfl, rfl⟩) (by decide) (by decide) (by decide) (by decide) (fun f1 f2 f3 f4 f5 a1 a2 a3 a4 a5 a6 a7 a8 a9 a10 a11 h => br_t rfl ?_)
  refine pg_def 3 (nI 6) (nI 11) (nI 18) (nI 22) h (by decide) (by decide) (by decide) rfl rfl rfl rfl (fun f1 f2 f3 f4 f5 a1 a2 a3 a4 a5 a6 a7 a8 a9 a10 a11 h => br_t rfl ?_)
  refine pg_stuck 3 22 Z2 (by omega) rfl (by omega) h (fun f1 f2 f3 f4 f5 a1 a2 a3 a4 a5 a6 a7 a8 a9 a10 a11 h => br_t (by rw [pg_fe i hi j hj k hk, nI_1]) ?_)
  by_cases hL : 4 ≤ i + j + k
  · exact pg_mt 3 22 4 Z2 (by omega) rfl (by omega) h hL (fun f1 f2 f3 f4 f5 a1 a2 a3 a4 a5 a6 a7 a8 a9 a10 a11 h => pk_le 4 (i + j + k) (fun _ => pg_861 hp hx hi hj hk rfl h) (fun e => absurd e (by omega)))
  · exact pg_mt_out 3 4 (by omega) h (by omega) (by omega) (pk_le 4 (i + j + k) (fun e => absurd e (by omega)) (fun _ => pg_861 hp hx hi hj hk rfl h))
theorem pg_708 {z0 z1 : Int32} (w : Nat) (hw : pg_c i j k 18 0 = w + 2) (hz : z1 + z0 = nI w) (hp : post 1 ()) (hx : pg_X x y z) (hi : i < 4) (hj : j < 6) (hk : k < 6) (h : pg_I 22 19 0 0 0 (nI 6) (nI 11) (nI 18) (-1) i j k x y z (f1, f2, f3, f4, f5, a1, a2, a3, a4, a5, a6, a7, a8, a9, a10, a11)) : wL_lawOf_708 post mc ms x z (nI i) (nI (i + j + k)) z0 z1 kc ks f1 f2 f3 f4 f5 a1 a2 a3 a4 a5 a6 a7 a8 a9 a10 a11 := by
  have Z : pg_Z 19 i j k := ⟨pg_clo19, hi, hj, hk⟩
  have hw24 := pg_c_lt (g := 18) (p := 0) Z (by omega) (by omega)
  refine nm_r hz ?_
  refine pg_mt 2 18 0 Z (by omega) rfl (by omega) h (by omega) (fun f1 f2 f3 f4 f5 a1 a2 a3 a4 a5 a6 a7 a8 a9 a10 a11 h => br_t (by rw [hw, pg_vl_p]) ?_)
  refine pg_matches 2 18 Z (by omega) rfl (by omega) h (fun f1 f2 f3 f4 f5 a1 a2 a3 a4 a5 a6 a7 a8 a9 a10 a11 h => br_t (by rw [(pg_fd i hi j hj k hk).2.1, nI_1]) ?_)
  refine pg_whole 2 18 Z (by omega) rfl (by omega) h (fun f1 f2 f3 f4 f5 a1 a2 a3 a4 a5 a6 a7 a8 a9 a10 a11 h => pk_eq w (i + j + k) (fun e => pg_754 hp hx hi hj hk ?_ h) (fun e => pg_754 hp hx hi hj hk ?_ h))
  · rw [if_pos (by omega)]
  · rw [if_neg (by omega)]
theorem pg_693 {z0 : Int32} (v : Nat) (hv : v = if 0 < j then i else i + k) (hz : z0 = nI v) (hp : post 1 ()) (hx : pg_X x y z) (hi : i < 4) (hj : j < 6) (hk : k < 6) (h : pg_I 22 19 0 0 0 (nI 6) (nI 11) (nI 18) (-1) i j k x y z (f1, f2, f3, f4, f5, a1, a2, a3, a4, a5, a6, a7, a8, a9, a10, a11)) :
    wL_lawOf_693 post mc ms x z (nI i) (nI j) (nI (i + j + k)) (nI (if k < j then 0 else 2 * j)) z0 kc ks f1 f2 f3 f4 f5 a1 a2 a3 a4 a5 a6 a7 a8 a9 a10 a11 := by
  subst hz
  have fd := (pg_fd i hi j hj k hk).1
  refine pk_le j 0 (fun e => pg_708 v ?_ (nI_add v 0) hp hx hi hj hk h) (fun e => pg_708 (v + (if k < j then 0 else 2 * j)) ?_ (nI_add _ _) hp hx hi hj hk h)
  · rw [fd, hv, if_neg (by omega), if_neg (by omega)]
  · rw [fd, hv, if_pos e, if_pos e]
end
end
section
section
variable {post : Int32 → St0 → Prop} {mc ms kc ks : Nat} {i j k : Nat} {x y z : Int32} {f1 f2 f3 f4 f5 : Int32} {a1 a2 a3 a4 a5 a6 a7 a8 a9 a10 a11 : Nat → Int32}
theorem pg_581 {J : Int32 → Int32 → Int32 → Int32 → Int32 → Int32 → (Nat → Int32) → (Nat → Int32) → (Nat → Int32) → (Nat → Int32) → (Nat → Int32) → (Nat → Int32) → (Nat → Int32) → (Nat → Int32) → (Nat → Int32) → (Nat → Int32) → (Nat → Int32) → Prop} {x8 x13 x14 : Int32} {s : Nat} (hs : s < 6)
    (hi : i < 4) (hj : j < 6) (hk : k < 6) (hJ : ∀ f1 f2 f3 f4 f5 a1 a2 a3 a4 a5 a6 a7 a8 a9 a10 a11, pg_I 22 19 0 0 0 (nI 6) (nI 11) (nI 18) (-1) i j k x y z (f1, f2, f3, f4, f5, a1, a2, a3, a4, a5, a6, a7, a8, a9, a10, a11) → J (nI (s + 1)) f1 f2 f3 f4 f5 a1 a2 a3 a4 a5 a6 a7 a8 a9 a10 a11) (h : pg_I 22 19 0 0 0 (nI 6) (nI 11) (nI 18) (-1) i j k x y z (f1, f2, f3, f4, f5, a1, a2, a3, a4, a5, a6, a7, a8, a9, a10, a11)) :
    wL_lawOf_581 post mc ms J x x8 (nI i) (nI j) (nI k) x13 x14 (nI s) kc ks f1 f2 f3 f4 f5 a1 a2 a3 a4 a5 a6 a7 a8 a9 a10 a11 := by
  have Z : pg_Z 19 i j k := ⟨pg_clo19, hi, hj, hk⟩
  have e1 : nI i + nI j + nI s = nI (i + j + s) := by rw [nI_add, nI_add]
  unfold wL_lawOf_581
  rw [e1]
  exact pk_le k s (fun _ => nm_r (nI_1 s) (hJ _ _ _ _ _ _ _ _ _ _ _ _ _ _ _ _ h)) (fun e => pg_mt 0 6 (i + j + s) Z (by omega) rfl (by omega) h (by omega) (fun f1 f2 f3 f4 f5 a1 a2 a3 a4 a5 a6 a7 a8 a9 a10 a11 h => br_t (by rw [pg_fb2 i hi j hj k hk s e]; rfl) (nm_r (nI_1 s) (hJ _ _ _ _ _ _ _ _ _ _ _ _ _ _ _ _ h))))
theorem pg_532t (hp : post 1 ()) (hx : pg_X x y z) (hi : i < 4) (hj : j < 6) (hk : k < 6) (h : pg_I 22 19 0 0 0 (nI 6) (nI 11) (nI 18) (-1) i j k x y z (f1, f2, f3, f4, f5, a1, a2, a3, a4, a5, a6, a7, a8, a9, a10, a11)) (n : Nat) :
    wL_lawOf_532 post mc ms x z (nI i) (nI j) (nI k) (nI (i + j + k)) (nI (if k < j then 0 else 2 * j)) kc ks (n + 1) (nI 6) f1 f2 f3 f4 f5 a1 a2 a3 a4 a5 a6 a7 a8 a9 a10 a11 := by
  have Z : pg_Z 19 i j k := ⟨pg_clo19, hi, hj, hk⟩
  obtain ⟨c1, c2⟩ := pg_fc i hi j hj k hk
  refine pk_le 6 6 (fun _ => ?_) (fun e => absurd e (by omega))
  refine pg_stuck 1 11 Z (by omega) rfl (by omega) h (fun f1 f2 f3 f4 f5 a1 a2 a3 a4 a5 a6 a7 a8 a9 a10 a11 h => br_t (by rw [c1, nI_1]) ?_)
  refine pg_matches 1 11 Z (by omega) rfl (by omega) h (fun f1 f2 f3 f4 f5 a1 a2 a3 a4 a5 a6 a7 a8 a9 a10 a11 h => br_t (by rw [c2]; rfl) ?_)
  refine pg_mt 1 11 0 Z (by omega) rfl (by omega) h (by omega) (fun f1 f2 f3 f4 f5 a1 a2 a3 a4 a5 a6 a7 a8 a9 a10 a11 h => br_t rfl ?_)
  refine pg_find_no 1 11 Z (by omega) rfl (by omega) h (fun p _ => by rw [pg_f11]; omega) (fun f1 f2 f3 f4 f5 a1 a2 a3 a4 a5 a6 a7 a8 a9 a10 a11 h => br_t rfl ?_)
  refine pg_whole 1 11 Z (by omega) rfl (by omega) h (fun f1 f2 f3 f4 f5 a1 a2 a3 a4 a5 a6 a7 a8 a9 a10 a11 h => br_t (by rw [pg_f11, if_neg (by omega)]) ?_)
  refine pg_stuck 0 6 Z (by omega) rfl (by omega) h (fun f1 f2 f3 f4 f5 a1 a2 a3 a4 a5 a6 a7 a8 a9 a10 a11 h => br_t (by rw [(pg_fa i hi j hj k hk).2.2]; rfl) ?_)
  exact pk_le j 0 (fun e => pg_693 (i + k) (by rw [if_neg (by omega)]) (nI_add i k) hp hx hi hj hk h) (fun e => pg_693 i (by rw [if_pos e]) rfl hp hx hi hj hk h)
theorem pg_532 (hp : post 1 ()) (hx : pg_X x y z) (hi : i < 4) (hj : j < 6) (hk : k < 6) :
    ∀ (r s : Nat) f1 f2 f3 f4 f5 a1 a2 a3 a4 a5 a6 a7 a8 a9 a10 a11, s + r = 6 → pg_I 22 19 0 0 0 (nI 6) (nI 11) (nI 18) (-1) i j k x y z (f1, f2, f3, f4, f5, a1, a2, a3, a4, a5, a6, a7, a8, a9, a10, a11) → wL_lawOf_532 post mc ms x z (nI i) (nI j) (nI k) (nI (i + j + k)) (nI (if k < j then 0 else 2 * j)) kc ks (r + 1) (nI s) f1 f2 f3 f4 f5 a1 a2 a3 a4 a5 a6 a7 a8 a9 a10 a11 := by
  have Z : pg_Z 19 i j k := ⟨pg_clo19, hi, hj, hk⟩
  intro r
  induction r with
  | zero =>
    intro s f1 f2 f3 f4 f5 a1 a2 a3 a4 a5 a6 a7 a8 a9 a10 a11 hs h
    have e : s = 6 := by omega
    subst e
    exact pg_532t hp hx hi hj hk h 0
  | succ r ih =>
    intro s f1 f2 f3 f4 f5 a1 a2 a3 a4 a5 a6 a7 a8 a9 a10 a11 hs h
    have hJ : ∀ f1 f2 f3 f4 f5 a1 a2 a3 a4 a5 a6 a7 a8 a9 a10 a11, pg_I 22 19 0 0 0 (nI 6) (nI 11) (nI 18) (-1) i j k x y z (f1, f2, f3, f4, f5, a1, a2, a3, a4, a5, a6, a7, a8, a9, a10, a11) → wL_lawOf_532 post mc ms x z (nI i) (nI j) (nI k) (nI (i + j + k)) (nI (if k < j then 0 else 2 * j)) kc ks (r + 1) (nI (s + 1)) f1 f2 f3 f4 f5 a1 a2 a3 a4 a5 a6 a7 a8 a9 a10 a11 := by
      intro f1 f2 f3 f4 f5 a1 a2 a3 a4 a5 a6 a7 a8 a9 a10 a11 h
      exact ih (s + 1) f1 f2 f3 f4 f5 a1 a2 a3 a4 a5 a6 a7 a8 a9 a10 a11 (by omega) h
    refine pk_le 6 s (fun e => absurd e (by omega)) (fun _ => pk_le j s (fun _ => pg_581 (by omega) hi hj hk hJ h) (fun e => ?_))
    have e1 : nI i + nI s = nI (i + s) := nI_add i s
    have e2 : nI j - nI s = nI (j - s) := pk_sub (by omega)
    have fb := pg_fb i hi j hj k hk s e
    rw [e1, e2]
    refine pg_mt 0 6 (i + s) Z (by omega) rfl (by omega) h (by omega) (fun f1 f2 f3 f4 f5 a1 a2 a3 a4 a5 a6 a7 a8 a9 a10 a11 h => pk_lt k (j - s) (fun e3 => br_t ?_ (pg_581 (by omega) hi hj hk hJ h)) (fun e3 => br_t ?_ (pg_581 (by omega) hi hj hk hJ h)))
    · rw [fb, if_pos e3]; rfl
    · rw [fb, if_neg (by omega), pg_vl_p]
      exact (pk_mul 2 (j - s)).symm
theorem pg_486 {z0 : Int32} (hz : z0 = nI (if k < j then 0 else 2 * j)) (hp : post 1 ()) (hx : pg_X x y z) (hi : i < 4) (hj : j < 6) (hk : k < 6) (h : pg_I 22 19 0 0 0 (nI 6) (nI 11) (nI 18) (-1) i j k x y z (f1, f2, f3, f4, f5, a1, a2, a3, a4, a5, a6, a7, a8, a9, a10, a11)) :
    wL_lawOf_486 post mc ms x z (nI i) (nI j) (nI k) (nI (i + j + k)) z0 kc ks f1 f2 f3 f4 f5 a1 a2 a3 a4 a5 a6 a7 a8 a9 a10 a11 := by
  have Z : pg_Z 19 i j k := ⟨pg_clo19, hi, hj, hk⟩
  obtain ⟨c1, c2, c3⟩ := pg_fa i hi j hj k hk
  subst hz
  unfold wL_lawOf_486
  rw [nI_1]
  refine pg_mt 0 6 i Z (by omega) rfl (by omega) h (by omega) (fun f1 f2 f3 f4 f5 a1 a2 a3 a4 a5 a6 a7 a8 a9 a10 a11 h => br_t (by rw [c1, pg_vl_p]) ?_)
  refine pg_mt 0 6 (i + j + k) Z (by omega) rfl (by omega) h (by omega) (fun f1 f2 f3 f4 f5 a1 a2 a3 a4 a5 a6 a7 a8 a9 a10 a11 h => br_t (by rw [c2]; rfl) ?_)
  refine pg_mt_out 0 (i + j + k + 1) (by omega) h (by omega) (by omega) (br_t rfl ?_)
  exact ⟨7, pg_532 hp hx hi hj hk 6 0 _ _ _ _ _ _ _ _ _ _ _ _ _ _ _ _ (by omega) h⟩
theorem pg_427 (hp : post 1 ()) (hx : pg_X x y z) (hi : i < 4) (hj : j < 6) (hk : k < 6) :
    ∀ (r s : Nat) (v : Int32) f1 f2 f3 f4 f5 a1 a2 a3 a4 a5 a6 a7 a8 a9 a10 a11, s + r = 8 → pg_I 22 19 0 0 0 (nI 6) (nI 11) (nI 18) (-1) i j (min s k) x y z (f1, f2, f3, f4, f5, a1, a2, a3, a4, a5, a6, a7, a8, a9, a10, a11) → wL_lawOf_427 post mc ms x y z (nI i) (nI j) (nI k) kc ks (r + 1) v (nI s) f1 f2 f3 f4 f5 a1 a2 a3 a4 a5 a6 a7 a8 a9 a10 a11 := by
  intro r
  induction r with
  | zero =>
    intro s v f1 f2 f3 f4 f5 a1 a2 a3 a4 a5 a6 a7 a8 a9 a10 a11 hs h
    have e : s = 8 := by omega
    subst e
    rw [show min 8 k = k by omega] at h
    refine pk_le 8 8 (fun _ => nm_r (e' := nI (i + j + k)) (by rw [nI_add, nI_add]) ?_) (fun e => absurd e (by omega))
    exact pk_lt k j (fun e => pg_486 (by rw [if_pos e]; rfl) hp hx hi hj hk h) (fun e => pg_486 (by rw [if_neg (by omega)]; exact pk_mul 2 j) hp hx hi hj hk h)
  | succ r ih =>
    intro s v f1 f2 f3 f4 f5 a1 a2 a3 a4 a5 a6 a7 a8 a9 a10 a11 hs h
    refine pk_le 8 s (fun e => absurd e (by omega)) (fun _ => pk_le k s (fun e => ?_) (fun e => ?_))
    · rw [show min s k = min (s + 1) k by omega] at h
      exact nm_r (nI_1 s) (ih (s + 1) _ _ _ _ _ _ _ _ _ _ _ _ _ _ _ _ _ (by omega) h)
    · rw [show min s k = s by omega] at h
      refine pg_type i j (s + 1) 2 h (by omega) (by omega) (fun p _ => rfl) (pg_cl2 (by omega)) hx.2.1 (fun f1 f2 f3 f4 f5 a1 a2 a3 a4 a5 a6 a7 a8 a9 a10 a11 h => nm_r (nI_1 s) (ih (s + 1) _ _ _ _ _ _ _ _ _ _ _ _ _ _ _ _ _ (by omega) ?_))
      rw [show min (s + 1) k = s + 1 by omega]
      exact h
theorem pg_390 (hp : post 1 ()) (hx : pg_X x y z) (hi : i < 4) (hj : j < 6) (hk : k < 6) :
    ∀ (r s : Nat) (v : Int32) f1 f2 f3 f4 f5 a1 a2 a3 a4 a5 a6 a7 a8 a9 a10 a11, s + r = 8 → pg_I 22 19 0 0 0 (nI 6) (nI 11) (nI 18) (-1) i (min s j) 0 x y z (f1, f2, f3, f4, f5, a1, a2, a3, a4, a5, a6, a7, a8, a9, a10, a11) → wL_lawOf_390 post mc ms x y z (nI i) (nI j) (nI k) kc ks (r + 1) v (nI s) f1 f2 f3 f4 f5 a1 a2 a3 a4 a5 a6 a7 a8 a9 a10 a11 := by
  intro r
  induction r with
  | zero =>
    intro s v f1 f2 f3 f4 f5 a1 a2 a3 a4 a5 a6 a7 a8 a9 a10 a11 hs h
    have e : s = 8 := by omega
    subst e
    rw [show min 8 j = j by omega] at h
    exact pk_le 8 8 (fun _ => ⟨9, pg_427 hp hx hi hj hk 8 0 _ _ _ _ _ _ _ _ _ _ _ _ _ _ _ _ _ (by omega) (by rw [Nat.zero_min]; exact h)⟩) (fun e => absurd e (by omega))
  | succ r ih =>
    intro s v f1 f2 f3 f4 f5 a1 a2 a3 a4 a5 a6 a7 a8 a9 a10 a11 hs h
    refine pk_le 8 s (fun e => absurd e (by omega)) (fun _ => pk_le j s (fun e => ?_) (fun e => ?_))
    · rw [show min s j = min (s + 1) j by omega] at h
      exact nm_r (nI_1 s) (ih (s + 1) _ _ _ _ _ _ _ _ _ _ _ _ _ _ _ _ _ (by omega) h)
    · rw [show min s j = s by omega] at h
      refine pg_type i (s + 1) 0 1 h (by omega) (by omega) (fun p q => ?_) (pg_cl1 (by omega) (by omega)) hx.1 (fun f1 f2 f3 f4 f5 a1 a2 a3 a4 a5 a6 a7 a8 a9 a10 a11 h => nm_r (nI_1 s) (ih (s + 1) _ _ _ _ _ _ _ _ _ _ _ _ _ _ _ _ _ (by omega) ?_))
      · by_cases g : p < i
        · rw [pg_cl0 g, pg_cl0 g]
        · rw [pg_cl1 (by omega) (by omega), pg_cl1 (by omega) (by omega)]
      · rw [show min (s + 1) j = s + 1 by omega]
        exact h
theorem pg_353 (hp : post 1 ()) (hx : pg_X x y z) (hi : i < 4) (hj : j < 6) (hk : k < 6) :
    ∀ (r s : Nat) (v : Int32) f1 f2 f3 f4 f5 a1 a2 a3 a4 a5 a6 a7 a8 a9 a10 a11, s + r = 8 → pg_I 22 19 0 0 0 (nI 6) (nI 11) (nI 18) (-1) (min s i) 0 0 x y z (f1, f2, f3, f4, f5, a1, a2, a3, a4, a5, a6, a7, a8, a9, a10, a11) → wL_lawOf_353 post mc ms x y z (nI i) (nI j) (nI k) kc ks (r + 1) v (nI s) f1 f2 f3 f4 f5 a1 a2 a3 a4 a5 a6 a7 a8 a9 a10 a11 := by
  intro r
  induction r with
  | zero =>
    intro s v f1 f2 f3 f4 f5 a1 a2 a3 a4 a5 a6 a7 a8 a9 a10 a11 hs h
    have e : s = 8 := by omega
    subst e
    rw [show min 8 i = i by omega] at h
    exact pk_le 8 8 (fun _ => ⟨9, pg_390 hp hx hi hj hk 8 0 _ _ _ _ _ _ _ _ _ _ _ _ _ _ _ _ _ (by omega) (by rw [Nat.zero_min]; exact h)⟩) (fun e => absurd e (by omega))
  | succ r ih =>
    intro s v f1 f2 f3 f4 f5 a1 a2 a3 a4 a5 a6 a7 a8 a9 a10 a11 hs h
    refine pk_le 8 s (fun e => absurd e (by omega)) (fun _ => pk_le i s (fun e => ?_) (fun e => ?_))
    · rw [show min s i = min (s + 1) i by omega] at h
      exact nm_r (nI_1 s) (ih (s + 1) _ _ _ _ _ _ _ _ _ _ _ _ _ _ _ _ _ (by omega) h)
    · rw [show min s i = s by omega] at h
      refine pg_type (s + 1) 0 0 0 h (by omega) (by omega) (fun p q => ?_) (pg_cl0 (by omega)) hx.2.2 (fun f1 f2 f3 f4 f5 a1 a2 a3 a4 a5 a6 a7 a8 a9 a10 a11 h => nm_r (nI_1 s) (ih (s + 1) _ _ _ _ _ _ _ _ _ _ _ _ _ _ _ _ _ (by omega) ?_))
      · rw [pg_cl0 (by omega), pg_cl0 (by omega)]
      · rw [show min (s + 1) i = s + 1 by omega]
        exact h
theorem pg_33 {x2 x3 x4 : Int32} (hp : post 1 ()) (hx : pg_X x y z) (h : pg_I 0 0 0 0 0 (-1) (-1) (-1) (-1) 0 0 0 x y z (f1, f2, f3, f4, f5, a1, a2, a3, a4, a5, a6, a7, a8, a9, a10, a11)) (n : Nat) : wL_lawOf_33 post mc ms x2 x3 x4 x y kc ks f1 f2 f3 f4 f5 a1 a2 a3 a4 a5 a6 a7 a8 a9 a10 a11 (n + 1) z := by
  obtain ⟨q1, q2, q3⟩ := h.2.2.2.2.2.2.2.2.1
  obtain ⟨i, hi, ei⟩ := pk_andE x2 (m := 3) 2 (by decide)
  obtain ⟨u, hu, eu⟩ := pk_andE x3 (m := 255) 8 (by decide)
  obtain ⟨w, hw, ew⟩ := pk_andE x4 (m := 255) 8 (by decide)
  refine br_f (fun e => q2 e.symm) (br_f (fun e => q3 e.symm) ?_)
  refine pg_tok 0 0 1 0 0 h (by decide) (by decide) (by decide) (by decide) (by decide) (by decide) (by decide) (fun _ => hx.1) (fun e => absurd e (by decide)) (fun e => absurd e (by decide)) (fun e => absurd e (by decide)) (by decide) (by decide) (by decide) (by decide) (fun f1 f2 f3 f4 f5 a1 a2 a3 a4 a5 a6 a7 a8 a9 a10 a11 h => br_t rfl ?_)
  refine pg_tok 3 0 2 0 1 h (by decide) (by decide) (by decide) (by decide) (by decide) (by decide) (by decide) (fun e => absurd e (by decide)) (fun _ => by decide) (fun e => absurd e (by decide)) (fun e => absurd e (by decide)) (by decide) (by decide) (by decide) (by decide) (fun f1 f2 f3 f4 f5 a1 a2 a3 a4 a5 a6 a7 a8 a9 a10 a11 h => br_t rfl ?_)
  refine pg_tok 4 2 1 2 2 h (by decide) (by decide) (by decide) (by decide) (by decide) (by decide) (by decide) (fun e => absurd e (by decide)) (fun e => absurd e (by decide)) (fun _ => ⟨rfl, rfl⟩) (fun _ => ⟨rfl, rfl⟩) (by decide) (by decide) (by decide) (by decide) (fun f1 f2 f3 f4 f5 a1 a2 a3 a4 a5 a6 a7 a8 a9 a10 a11 h => br_t rfl ?_)
  refine pg_tok 0 0 2 2 3 h (by decide) (by decide) (by decide) (by decide) (by decide) (by decide) (by decide) (fun _ => hx.2.1) (fun e => absurd e (by decide)) (fun e => absurd e (by decide)) (fun e => absurd e (by decide)) (by decide) (by decide) (by decide) (by decide) (fun f1 f2 f3 f4 f5 a1 a2 a3 a4 a5 a6 a7 a8 a9 a10 a11 h => br_t rfl ?_)
  refine pg_tok 4 2 1 4 4 h (by decide) (by decide) (by decide) (by decide) (by decide) (by decide) (by decide) (fun e => absurd e (by decide)) (fun e => absurd e (by decide)) (fun _ => ⟨rfl, rfl⟩) (fun _ => ⟨rfl, rfl⟩) (by decide) (by decide) (by decide) (by decide) (fun f1 f2 f3 f4 f5 a1 a2 a3 a4 a5 a6 a7 a8 a9 a10 a11 h => br_t rfl ?_)
  refine pg_tok 2 0 2 4 5 h (by decide) (by decide) (by decide) (by decide) (by decide) (by decide) (by decide) (fun e => absurd e (by decide)) (fun e => absurd e (by decide)) (fun e => absurd e (by decide)) (fun e => absurd e (by decide)) (by decide) (by decide) (by decide) (by decide) (fun f1 f2 f3 f4 f5 a1 a2 a3 a4 a5 a6 a7 a8 a9 a10 a11 h => br_t rfl ?_)
  refine pg_tok 5 2 1 6 6 h (by decide) (by decide) (by decide) (by decide) (by decide) (by decide) (by decide) (fun e => absurd e (by decide)) (fun e => absurd e (by decide)) (fun _ => ⟨rfl, rfl⟩) (fun _ => ⟨rfl, rfl⟩) (by decide) (by decide) (by decide) (by decide) (fun f1 f2 f3 f4 f5 a1 a2 a3 a4 a5 a6 a7 a8 a9 a10 a11 h => br_t rfl ?_)
  refine pg_def 0 (nI 6) (-1) (-1) (-1) h (by decide) (by decide) (by decide) rfl rfl rfl rfl (fun f1 f2 f3 f4 f5 a1 a2 a3 a4 a5 a6 a7 a8 a9 a10 a11 h => br_t rfl ?_)
  refine pg_tok 3 0 1 7 7 h (by decide) (by decide) (by decide) (by decide) (by decide) (by decide) (by decide) (fun e => absurd e (by decide)) (fun _ => by decide) (fun e => absurd e (by decide)) (fun e => absurd e (by decide)) (by decide) (by decide) (by decide) (by decide) (fun f1 f2 f3 f4 f5 a1 a2 a3 a4 a5 a6 a7 a8 a9 a10 a11 h => br_t rfl ?_)
  refine pg_tok 0 0 2 7 8 h (by decide) (by decide) (by decide) (by decide) (by decide) (by decide) (by decide) (fun _ => hx.1) (fun e => absurd e (by decide)) (fun e => absurd e (by decide)) (fun e => absurd e (by decide)) (by decide) (by decide) (by decide) (by decide) (fun f1 f2 f3 f4 f5 a1 a2 a3 a4 a5 a6 a7 a8 a9 a10 a11 h => br_t rfl ?_)
  refine pg_tok 4 2 1 9 9 h (by decide) (by decide) (by decide) (by decide) (by decide) (by decide) (by decide) (fun e => absurd e (by decide)) (fun e => absurd e (by decide)) (fun _ => ⟨rfl, rfl⟩) (fun _ => ⟨rfl, rfl⟩) (by decide) (by decide) (by decide) (by decide) (fun f1 f2 f3 f4 f5 a1 a2 a3 a4 a5 a6 a7 a8 a9 a10 a11 h => br_t rfl ?_)
  refine pg_tok 0 0 2 9 10 h (by decide) (by decide) (by decide) (by decide) (by decide) (by decide) (by decide) (fun _ => hx.1) (fun e => absurd e (by decide)) (fun e => absurd e (by decide)) (fun e => absurd e (by decide)) (by decide) (by decide) (by decide) (by decide) (fun f1 f2 f3 f4 f5 a1 a2 a3 a4 a5 a6 a7 a8 a9 a10 a11 h => br_t rfl ?_)
  refine pg_tok 5 2 1 11 11 h (by decide) (by decide) (by decide) (by decide) (by decide) (by decide) (by decide) (fun e => absurd e (by decide)) (fun e => absurd e (by decide)) (fun _ => ⟨rfl, rfl⟩) (fun _ => ⟨rfl, rfl⟩) (by decide) (by decide) (by decide) (by decide) (fun f1 f2 f3 f4 f5 a1 a2 a3 a4 a5 a6 a7 a8 a9 a10 a11 h => br_t rfl ?_)
  refine pg_def 1 (nI 6) (nI 11) (-1) (-1) h (by decide) (by decide) (by decide) rfl rfl rfl rfl (fun f1 f2 f3 f4 f5 a1 a2 a3 a4 a5 a6 a7 a8 a9 a10 a11 h => br_t rfl ?_)
  refine pg_tok_no 10 h (by omega) (by omega) (br_t rfl ?_)
  refine pg_tok 0 0 1 12 12 h (by decide) (by decide) (by decide) (by decide) (by decide) (by decide) (by decide) (fun _ => hx.1) (fun e => absurd e (by decide)) (fun e => absurd e (by decide)) (fun e => absurd e (by decide)) (by decide) (by decide) (by decide) (by decide) (fun f1 f2 f3 f4 f5 a1 a2 a3 a4 a5 a6 a7 a8 a9 a10 a11 h => br_t rfl ?_)
  refine pg_tok 9 1 1 13 13 h (by decide) (by decide) (by decide) (by decide) (by decide) (by decide) (by decide) (fun e => absurd e (by decide)) (fun e => absurd e (by decide)) (fun _ => ⟨rfl, rfl⟩) (fun e => absurd e (by decide)) (by decide) (by decide) (by decide) (by decide) (fun f1 f2 f3 f4 f5 a1 a2 a3 a4 a5 a6 a7 a8 a9 a10 a11 h => br_t rfl ?_)
  refine pg_tok 1 0 2 13 14 h (by decide) (by decide) (by decide) (by decide) (by decide) (by decide) (by decide) (fun e => absurd e (by decide)) (fun e => absurd e (by decide)) (fun e => absurd e (by decide)) (fun e => absurd e (by decide)) (by decide) (by decide) (by decide) (by decide) (fun f1 f2 f3 f4 f5 a1 a2 a3 a4 a5 a6 a7 a8 a9 a10 a11 h => br_t rfl ?_)
  refine pg_tok 4 2 1 15 15 h (by decide) (by decide) (by decide) (by decide) (by decide) (by decide) (by decide) (fun e => absurd e (by decide)) (fun e => absurd e (by decide)) (fun _ => ⟨rfl, rfl⟩) (fun _ => ⟨rfl, rfl⟩) (by decide) (by decide) (by decide) (by decide) (fun f1 f2 f3 f4 f5 a1 a2 a3 a4 a5 a6 a7 a8 a9 a10 a11 h => br_t rfl ?_)
  refine pg_tok 6 1 1 16 16 h (by decide) (by decide) (by decide) (by decide) (by decide) (by decide) (by decide) (fun e => absurd e (by decide)) (fun e => absurd e (by decide)) (fun _ => ⟨rfl, rfl⟩) (fun e => absurd e (by decide)) (by decide) (by decide) (by decide) (by decide) (fun f1 f2 f3 f4 f5 a1 a2 a3 a4 a5 a6 a7 a8 a9 a10 a11 h => br_t rfl ?_)
  refine pg_tok 3 0 2 16 17 h (by decide) (by decide) (by decide) (by decide) (by decide) (by decide) (by decide) (fun e => absurd e (by decide)) (fun _ => by decide) (fun e => absurd e (by decide)) (fun e => absurd e (by decide)) (by decide) (by decide) (by decide) (by decide) (fun f1 f2 f3 f4 f5 a1 a2 a3 a4 a5 a6 a7 a8 a9 a10 a11 h => br_t rfl ?_)
  refine pg_tok 4 2 1 18 18 h (by decide) (by decide) (by decide) (by decide) (by decide) (by decide) (by decide) (fun e => absurd e (by decide)) (fun e => absurd e (by decide)) (fun _ => ⟨rfl, rfl⟩) (fun _ => ⟨rfl, rfl⟩) (by decide) (by decide) (by decide) (by decide) (fun f1 f2 f3 f4 f5 a1 a2 a3 a4 a5 a6 a7 a8 a9 a10 a11 h => br_t rfl ?_)
  refine pg_def 2 (nI 6) (nI 11) (nI 18) (-1) h (by decide) (by decide) (by decide) rfl rfl rfl rfl (fun f1 f2 f3 f4 f5 a1 a2 a3 a4 a5 a6 a7 a8 a9 a10 a11 h => br_t rfl ?_)
  rw [eu, ew]
  refine nm_r ei ⟨by decide, nm_r (e' := nI (u % 6)) (pk_rem (d := 6) (by omega) (by omega) (by omega)) ⟨by decide, nm_r (e' := nI (w % 6)) (pk_rem (d := 6) (by omega) (by omega) (by omega)) ?_⟩⟩
  exact ⟨9, pg_353 hp hx (by omega) (by omega) (by omega) 8 0 _ _ _ _ _ _ _ _ _ _ _ _ _ _ _ _ _ (by omega) (by rw [Nat.zero_min]; exact h)⟩
end
end
section
theorem pg_mod4 (n : Nat) (h : n < 100) : nI n &&& 3 = nI (n % 4) := pk_andN (k := 2) (by omega) (by decide)
theorem pg_33z {post : Int32 → St0 → Prop} {mc ms kc ks : Nat} {x2 x3 x4 : Int32} {X Y : Nat} (hX : X < 4) (hY : Y < 4) (hne : X ≠ Y) :
    ∃ Z : Nat, Z < 4 ∧ Z ≠ X ∧ Z ≠ Y ∧ ∀ f1 f2 f3 f4 f5 a1 a2 a3 a4 a5 a6 a7 a8 a9 a10 a11, (∀ n, wL_lawOf_33 post mc ms x2 x3 x4 (nI X) (nI Y) kc ks f1 f2 f3 f4 f5 a1 a2 a3 a4 a5 a6 a7 a8 a9 a10 a11 (n + 1) (nI Z)) → ∃ n, wL_lawOf_33 post mc ms x2 x3 x4 (nI X) (nI Y) kc ks f1 f2 f3 f4 f5 a1 a2 a3 a4 a5 a6 a7 a8 a9 a10 a11 n 0 := by
  by_cases c0 : 0 ≠ X ∧ 0 ≠ Y
  · refine ⟨0, by omega, c0.1, c0.2, ?_⟩
    intro f1 f2 f3 f4 f5 a1 a2 a3 a4 a5 a6 a7 a8 a9 a10 a11 H
    exact ⟨1, H 0⟩
  · by_cases c1 : 1 ≠ X ∧ 1 ≠ Y
    · refine ⟨1, by omega, c1.1, c1.2, ?_⟩
      intro f1 f2 f3 f4 f5 a1 a2 a3 a4 a5 a6 a7 a8 a9 a10 a11 H
      exact ⟨2, pk_eq 0 X (fun _ => nm_r (nI_1 0) (H 0)) (fun e1 => pk_eq 0 Y (fun _ => nm_r (nI_1 0) (H 0)) (fun e2 => absurd ⟨e1, e2⟩ c0))⟩
    · refine ⟨2, by omega, by omega, by omega, ?_⟩
      intro f1 f2 f3 f4 f5 a1 a2 a3 a4 a5 a6 a7 a8 a9 a10 a11 H
      have s1 : wL_lawOf_33 post mc ms x2 x3 x4 (nI X) (nI Y) kc ks f1 f2 f3 f4 f5 a1 a2 a3 a4 a5 a6 a7 a8 a9 a10 a11 2 (nI 1) :=
        pk_eq 1 X (fun _ => nm_r (nI_1 1) (H 0)) (fun e1 => pk_eq 1 Y (fun _ => nm_r (nI_1 1) (H 0)) (fun e2 => absurd ⟨e1, e2⟩ c1))
      exact ⟨3, pk_eq 0 X (fun _ => nm_r (nI_1 0) s1) (fun e1 => pk_eq 0 Y (fun _ => nm_r (nI_1 0) s1) (fun e2 => absurd ⟨e1, e2⟩ c0))⟩
theorem pg_lawOf {post : Int32 → St0 → Prop} {p0 p1 p2 p3 p4 : Int32} (hp : post 1 ()) : wpL_lawOf post 12 3600 () p0 p1 p2 p3 p4 := by
  obtain ⟨X, hX, eX⟩ := pk_andE p0 (m := 3) 2 (by decide)
  obtain ⟨b, hb, eb⟩ := pk_andE p1 (m := 255) 8 (by decide)
  obtain ⟨Y, hY⟩ : ∃ Y, Y = (X + 1 + b % 3) % 4 := ⟨_, rfl⟩
  have hne : X ≠ Y := by omega
  obtain ⟨Z, hZ, zx, zy, loop⟩ := pg_33z (post := post) (mc := 12) (ms := 3600) (kc := 1 + 11) (ks := 16 + 3584) (x2 := p2) (x3 := p3) (x4 := p4) (X := X) (Y := Y) (by omega) (by omega) hne
  have hd : nI X ≠ nI Y ∧ nI X ≠ nI Z ∧ nI Y ≠ nI Z :=
    ⟨fun e => hne ((nI_eq (by omega) (by omega)).mp e), fun e => zx ((nI_eq (by omega) (by omega)).mp e).symm, fun e => zy ((nI_eq (by omega) (by omega)).mp e).symm⟩
  have hx : pg_X (nI X) (nI Y) (nI Z) := by
    refine ⟨?_, ?_, ?_⟩
    · rw [pg_mod4 X (by omega), show X % 4 = X by omega]
    · rw [pg_mod4 Y (by omega), show Y % 4 = Y by omega]
    · rw [pg_mod4 Z (by omega), show Z % 4 = Z by omega]
  have ey : nI X + 1 + (nI b - nI b / 3 * 3) &&& 3 = nI Y := by
    rw [nI_1, show nI b - nI b / 3 * 3 = nI (b % 3) from pk_rem (d := 3) (by omega) (by omega) (by omega), nI_add, pg_mod4 _ (by omega), hY]
  unfold wpL_lawOf
  refine ⟨by omega, by omega, 11, 3584, by omega, by omega, pg_init hd (fun f1 f2 f3 f4 f5 a1 a2 a3 a4 a5 a6 a7 a8 a9 a10 a11 h => ?_)⟩
  dsimp only
  rw [eb]
  refine nm_r eX ⟨by decide, nm_r ey ?_⟩
  exact loop f1 f2 f3 f4 f5 a1 a2 a3 a4 a5 a6 a7 a8 a9 a10 a11 (fun n => pg_33 hp hx h n)
theorem pg_cell {post : Int32 → Prop} {L : Nat} {xs : Nat → Int32} {u : St0} (c : Nat) (hL : L ≤ 5) (hc : c < 10) (H : ∀ v, post v) : wpL_cellAt post L xs u (nI c) := by
  unfold wpL_cellAt
  exact pk_le L c (fun _ => H _) (fun e => ⟨pk_in c L e, H _⟩)
theorem i_vc (xs : Nat → Int32) (L : Nat) (hL : L ≤ 5) : wpL_law (fun r => r = 1) L xs := by
  unfold wpL_law
  exact pg_cell 0 hL (by omega) (fun _ => pg_cell 1 hL (by omega) (fun _ => pg_cell 2 hL (by omega) (fun _ => pg_cell 3 hL (by omega) (fun _ => pg_cell 4 hL (by omega) (fun _ => ⟨12, 3600, by omega, by omega, pg_lawOf rfl⟩)))))
end
