section
/-! counts -/
/-- how many of the first n places are unknown -/
def pg_u (f : Nat → Int32) : Nat → Nat
  | 0 => 0
  | n + 1 => pg_u f n + (if f n = -3 then 1 else 0)
theorem pg_u_le (f : Nat → Int32) (n : Nat) : pg_u f n ≤ n := by
  induction n with
  | zero => exact Nat.le_refl 0
  | succ n ih =>
    show pg_u f n + (if f n = -3 then 1 else 0) ≤ n + 1
    split <;> omega
theorem pg_u_same {f g : Nat → Int32} (n : Nat) (h : ∀ j, j < n → (f j = -3 ↔ g j = -3)) : pg_u f n = pg_u g n := by
  induction n with
  | zero => rfl
  | succ n ih =>
    show pg_u f n + (if f n = -3 then 1 else 0) = pg_u g n + (if g n = -3 then 1 else 0)
    rw [ih (fun j hj => h j (by omega))]
    have h1 := h n (by omega)
    by_cases e : f n = -3
    · rw [if_pos e, if_pos (h1.mp e)]
    · rw [if_neg e, if_neg (fun z => e (h1.mpr z))]
theorem pg_u_put {f : Nat → Int32} {i : Nat} {v : Int32} (n : Nat) (hi : i < n) (hf : f i = -3) (hv : ¬ v = -3) : pg_u (upd f i v) n + 1 = pg_u f n := by
  induction n with
  | zero => exact absurd hi (by omega)
  | succ n ih =>
    show pg_u (upd f i v) n + (if upd f i v n = -3 then 1 else 0) + 1 = pg_u f n + (if f n = -3 then 1 else 0)
    by_cases e : n = i
    · subst e
      rw [pk_us, if_neg hv, if_pos hf, pg_u_same (f := upd f n v) (g := f) n (fun j hj => by rw [pk_un (by omega)])]
    · have h1 := ih (by omega)
      rw [pk_un e]
      omega
theorem pg_u_keep {f : Nat → Int32} {i : Nat} {v : Int32} (n : Nat) (hf : ¬ f i = -3) (hv : ¬ v = -3) : pg_u (upd f i v) n = pg_u f n := by
  refine pg_u_same n (fun j _ => ?_)
  by_cases e : j = i
  · subst e
    rw [pk_us]
    exact ⟨fun z => absurd z hv, fun z => absurd z hf⟩
  · rw [pk_un e]
def pg_s (st : Nat → Nat) : Nat → Nat
  | 0 => 0
  | d + 1 => pg_s st d + (3 - st d)
theorem pg_s_same {f g : Nat → Nat} (d : Nat) (h : ∀ k, k < d → f k = g k) : pg_s f d = pg_s g d := by
  induction d with
  | zero => rfl
  | succ d ih =>
    show pg_s f d + (3 - f d) = pg_s g d + (3 - g d)
    rw [ih (fun k hk => h k (by omega)), h d (by omega)]
/-! small facts of Int32 -/
theorem pg_neg {m : Nat} (h : m < 2 ^ 31) {v : Int32} (hv : v < 0) : ¬ nI m = v := fun e => nI_pos h (by rw [e]; exact hv)
theorem pg_n1 {m : Nat} (h : m < 2 ^ 31) : ¬ nI m = -1 := pg_neg h (by decide)
theorem pg_n2 {m : Nat} (h : m < 2 ^ 31) : ¬ nI m = -2 := pg_neg h (by decide)
theorem pg_n3 {m : Nat} (h : m < 2 ^ 31) : ¬ nI m = -3 := pg_neg h (by decide)
theorem pg_n4 {m : Nat} (h : m < 2 ^ 31) : ¬ nI m = -4 := pg_neg h (by decide)
theorem pg_ix (n p : Nat) : (21 : Int32) * nI n + nI p = nI (21 * n + p) := by
  rw [show (21 : Int32) = nI 21 from rfl, pk_mul, nI_add]
theorem pg_ic {n p : Nat} (h : 21 * n + p < 2 ^ 31) : ((21 : Int32) * nI n + nI p).toNatClampNeg = 21 * n + p := by
  rw [pg_ix, nI_clamp h]
theorem pg_ii {n p : Nat} (h : 21 * n + p < 840) : vp_in ((21 : Int32) * nI n + nI p) 840 := by
  rw [pg_ix]
  exact vp_in_nI h (by omega)
theorem pg_dv {n p : Nat} (hp : p ≤ 20) (h : n < 40) : nI (21 * n + p) / 21 = nI n := by
  rw [show (21 : Int32) = nI 21 from rfl, pk_div (by omega) (by omega) (by omega)]
  congr 1
  omega
theorem pg_rm {n p : Nat} (hp : p ≤ 20) (h : n < 40) : nI (21 * n + p) - nI (21 * n + p) / 21 * 21 = nI p := by
  rw [show (21 : Int32) = nI 21 from rfl, pk_rem (by omega) (by omega) (by omega)]
  congr 1
  omega
theorem pg_a2 {o : Int32} (h : o = 4 ∨ o = 5 ∨ o = 6) : 2 < o := by
  rcases h with h | h | h <;> rw [h] <;> decide
/-! the static part: the nodes and the rules -/
def pg_WF (nd len : Nat) (a1 a2 a3 a4 a6 : Nat → Int32) : Prop :=
  nd ≤ 40 ∧ len ≤ 20 ∧
  (∀ n, n < nd → ∃ j, j < 4 ∧ a2 n = nI j) ∧
  (∀ n, n < nd → 2 < a1 n → ¬ a1 n = 3 → ∃ l, l < n ∧ a3 n = nI l) ∧
  (∀ n, n < nd → (a1 n = 4 ∨ a1 n = 5) → ∃ r, r < n ∧ a4 n = nI r) ∧
  (∀ j, j < 4 → a6 j = -1 ∨ ∃ m, m < nd ∧ a6 j = nI m)
/-- m is the first part of the node n -/
def pg_C1 (a1 a2 a3 a6 : Nat → Int32) (n m : Nat) : Prop :=
  (a1 n = 3 ∧ ∃ j, j < 4 ∧ a2 n = nI j ∧ a6 j = nI m) ∨ (¬ a1 n = 3 ∧ a3 n = nI m)
/-- c is the second entry that node n at place p waits for, when the first has taken u -/
def pg_C2 (a1 a3 a4 : Nat → Int32) (Q : Nat → Int32 → Prop) (n p u c : Nat) : Prop :=
  (a1 n = 4 ∧ ∃ l r, a3 n = nI l ∧ a4 n = nI r ∧ l < n ∧ r < n ∧ Q (21 * l + p) (nI u) ∧ c = 21 * r + (p + u)) ∨
  (a1 n = 5 ∧ u = 0 ∧ ∃ l r, a3 n = nI l ∧ a4 n = nI r ∧ l < n ∧ r < n ∧ Q (21 * l + p) (-1) ∧ c = 21 * r + (p + u)) ∨
  (a1 n = 6 ∧ 1 ≤ u ∧ ∃ l, a3 n = nI l ∧ l < n ∧ Q (21 * l + p) (nI u) ∧ c = 21 * n + (p + u))
/-- the entry that (n, p) waits for at stage s, having taken t -/
def pg_Ch (nd len : Nat) (a1 a2 a3 a4 a6 : Nat → Int32) (Q : Nat → Int32 → Prop) (n p s : Nat) (t : Int32) (c : Nat) : Prop :=
  (s = 1 ∧ 2 < a1 n ∧ ∃ m, m < nd ∧ pg_C1 a1 a2 a3 a6 n m ∧ c = 21 * m + p) ∨
  (s = 2 ∧ ∃ u, t = nI u ∧ p + u ≤ len ∧ pg_C2 a1 a3 a4 Q n p u c)
/-- values that one step of the machine may give are allowed -/
def pg_Cl (pl : Prop) (nd len : Nat) (a1 a2 a3 a4 a6 a7 : Nat → Int32) (Q : Nat → Int32 → Prop) : Prop :=
  (∀ i v, Q i v → v = -2 ∨ v = -1 ∨ ∃ m, v = nI m ∧ i % 21 + m ≤ len) ∧
  (¬ pl → ∀ i, Q i (-2)) ∧ (pl → ∀ i, ¬ Q i (-2)) ∧ (pl → ∀ n, n < nd → ¬ a1 n = 3 ∧ ¬ a1 n = 6) ∧
  (∀ n p, n < nd → p ≤ len → ¬ 2 < a1 n →
    (a1 n = 2 → Q (21 * n + p) 0) ∧ (¬ a1 n = 2 → len ≤ p → Q (21 * n + p) (-1)) ∧ (p < len → a1 n = 1 → Q (21 * n + p) 1) ∧
    (p < len → ¬ a1 n = 2 → ¬ a1 n = 1 → (a7 p = a2 n → Q (21 * n + p) 1) ∧ (¬ a7 p = a2 n → Q (21 * n + p) (-1)))) ∧
  (∀ n p, n < nd → p ≤ len → a1 n = 3 → Q (21 * n + p) (-1)) ∧
  (∀ n p m, n < nd → p ≤ len → 2 < a1 n → pg_C1 a1 a2 a3 a6 n m → Q (21 * m + p) (-1) →
    (¬ a1 n = 5 → ¬ a1 n = 6 → ¬ a1 n = 7 → ¬ a1 n = 9 → Q (21 * n + p) (-1)) ∧ (a1 n = 6 ∨ a1 n = 7 ∨ a1 n = 9 → Q (21 * n + p) 0)) ∧
  (∀ n p m u, n < nd → p ≤ len → 2 < a1 n → pg_C1 a1 a2 a3 a6 n m → Q (21 * m + p) (nI u) →
    (¬ a1 n = 4 → (a1 n = 6 → u = 0) → ¬ a1 n = 8 → ¬ a1 n = 9 → Q (21 * n + p) (nI u)) ∧ (a1 n = 8 → Q (21 * n + p) 0) ∧ (a1 n = 9 → Q (21 * n + p) (-1))) ∧
  (∀ n p u c, n < nd → p ≤ len → p + u ≤ len → pg_C2 a1 a3 a4 Q n p u c → (Q c (-1) → Q (21 * n + p) (-1)) ∧ ∀ z, z ≤ len → Q c (nI z) → Q (21 * n + p) (nI (u + z)))
/-- the waiting stack, its top at d; b the table at the start, root the entry asked for -/
def pg_K (pl : Prop) (nd len : Nat) (a1 a2 a3 a4 a6 : Nat → Int32) (Q : Nat → Int32 → Prop) (b : Nat → Int32) (root d : Nat) (x y st : Nat → Nat) (a8 a9 a10 a11 : Nat → Int32) : Prop :=
  (∀ k, k ≤ d → x k < nd ∧ y k ≤ len ∧ a8 (21 * x k + y k) = -4 ∧ a9 k = nI (21 * x k + y k)) ∧
  (∀ j k, j ≤ d → k ≤ d → 21 * x j + y j = 21 * x k + y k → j = k) ∧
  (∀ i, i < 840 → a8 i = -3 ∨ Q i (a8 i) ∨ ∃ k, k ≤ d ∧ i = 21 * x k + y k) ∧
  (∀ k, k < d → a10 k = nI (st k) ∧ pg_Ch nd len a1 a2 a3 a4 a6 Q (x k) (y k) (st k) (a11 k) (21 * x (k + 1) + y (k + 1)) ∧ (pl → x (k + 1) < x k)) ∧
  (∀ i, i < 840 → b i = -3 ∨ a8 i = b i) ∧ ¬ a8 root = -3 ∧ d + 1 + pg_u a8 840 ≤ 840
/-- the machine at rest -/
def pg_D (Q : Nat → Int32 → Prop) (b : Nat → Int32) (root : Nat) (a8 : Nat → Int32) : Prop :=
  (∀ i, i < 840 → a8 i = -3 ∨ Q i (a8 i)) ∧ (∀ i, i < 840 → b i = -3 ∨ a8 i = b i) ∧ ¬ a8 root = -3
/-- the top's part is known, or it has not begun -/
def pg_T (nd len : Nat) (a1 a2 a3 a4 a6 : Nat → Int32) (Q : Nat → Int32 → Prop) (n p s : Nat) (t : Int32) (a8 : Nat → Int32) : Prop :=
  s = 0 ∨ ∃ c, pg_Ch nd len a1 a2 a3 a4 a6 Q n p s t c ∧ Q c (a8 c) ∧ ¬ a8 c = -2
/-- depth D, at most N steps to go -/
def pg_R (pl : Prop) (nd len : Nat) (a1 a2 a3 a4 a6 : Nat → Int32) (Q : Nat → Int32 → Prop) (b : Nat → Int32) (root N D : Nat) (a8 a9 a10 a11 : Nat → Int32) : Prop :=
  (D = 0 ∧ pg_D Q b root a8) ∨
  (∃ d x y st s, D = d + 1 ∧ pg_K pl nd len a1 a2 a3 a4 a6 Q b root d x y st a8 a9 a10 a11 ∧ a10 d = nI s ∧
    pg_T nd len a1 a2 a3 a4 a6 Q (x d) (y d) s (a11 d) a8 ∧ 3 * pg_u a8 840 + pg_s st d + (3 - s) ≤ N)
section
variable {pl : Prop} {nd len : Nat} {a1 a2 a3 a4 a6 a7 : Nat → Int32} {Q : Nat → Int32 → Prop} {b : Nat → Int32} {root d N : Nat} {x y st : Nat → Nat} {a8 a9 a10 a11 : Nat → Int32}
theorem pg_Q3 (hl : len ≤ 20) (hC : pg_Cl pl nd len a1 a2 a3 a4 a6 a7 Q) {i : Nat} {v : Int32} (h : Q i v) : ¬ v = -3 ∧ ¬ v = -4 := by
  rcases hC.1 i v h with e | e | ⟨m, e, hm⟩
  · subst e; decide
  · subst e; decide
  · subst e
    exact ⟨pg_n3 (by omega), pg_n4 (by omega)⟩
theorem pg_in (hW : pg_WF nd len a1 a2 a3 a4 a6) {n p : Nat} (hn : n < nd) (hp : p ≤ len) : 21 * n + p < 840 := by
  have h1 := hW.1
  have h2 := hW.2.1
  omega
/-- the stage of a Ch is 1 or 2 -/
theorem pg_Ch_s {n p s c : Nat} {t : Int32} (h : pg_Ch nd len a1 a2 a3 a4 a6 Q n p s t c) : 1 ≤ s ∧ s ≤ 2 := by
  rcases h with ⟨e, _⟩ | ⟨e, _⟩ <;> omega
theorem pg_K_11 {t : Int32} (h : pg_K pl nd len a1 a2 a3 a4 a6 Q b root d x y st a8 a9 a10 a11) : pg_K pl nd len a1 a2 a3 a4 a6 Q b root d x y st a8 a9 a10 (upd a11 d t) := by
  obtain ⟨k1, k2, k3, k4, k5, k6, k7⟩ := h
  refine ⟨k1, k2, k3, fun k hk => ?_, k5, k6, k7⟩
  rw [pk_un (show k ≠ d by omega)]
  exact k4 k hk
theorem pg_K_10 {t : Int32} (h : pg_K pl nd len a1 a2 a3 a4 a6 Q b root d x y st a8 a9 a10 a11) : pg_K pl nd len a1 a2 a3 a4 a6 Q b root d x y st a8 a9 (upd a10 d t) a11 := by
  obtain ⟨k1, k2, k3, k4, k5, k6, k7⟩ := h
  refine ⟨k1, k2, k3, fun k hk => ?_, k5, k6, k7⟩
  rw [pk_un (show k ≠ d by omega)]
  exact k4 k hk
/-- the top is finished with v -/
theorem pg_fin (hW : pg_WF nd len a1 a2 a3 a4 a6) (hC : pg_Cl pl nd len a1 a2 a3 a4 a6 a7 Q) (hb : ∀ i, i < 840 → ¬ b i = -4)
    (hK : pg_K pl nd len a1 a2 a3 a4 a6 Q b root d x y st a8 a9 a10 a11) {v : Int32} (hQ : Q (21 * x d + y d) v) (hv : ¬ v = -2) (hN : 3 * pg_u a8 840 + pg_s st d ≤ N) :
    pg_R pl nd len a1 a2 a3 a4 a6 Q b root N d (upd a8 (21 * x d + y d) v) a9 a10 a11 := by
  obtain ⟨k1, k2, k3, k4, k5, k6, k7⟩ := hK
  obtain ⟨t1, t2, t3, t4⟩ := k1 d (Nat.le_refl d)
  have hi := pg_in hW t1 t2
  have v3 := pg_Q3 hW.2.1 hC hQ
  have M : ∀ i, i < 840 → b i = -3 ∨ upd a8 (21 * x d + y d) v i = b i := by
    intro i hi'
    by_cases e : i = 21 * x d + y d
    · rcases k5 i hi' with h | h
      · exact Or.inl h
      · rw [e, t3] at h
        exact absurd h.symm (hb _ hi)
    · rw [pk_un e]
      exact k5 i hi'
  have Rt : ¬ upd a8 (21 * x d + y d) v root = -3 := by
    by_cases e : root = 21 * x d + y d
    · rw [e, pk_us]; exact v3.1
    · rw [pk_un e]; exact k6
  have U : pg_u (upd a8 (21 * x d + y d) v) 840 = pg_u a8 840 := pg_u_keep 840 (by rw [t3]; decide) v3.1
  cases d with
  | zero =>
    refine Or.inl ⟨rfl, fun i hi' => ?_, M, Rt⟩
    by_cases e : i = 21 * x 0 + y 0
    · rw [e, pk_us]; exact Or.inr hQ
    · rw [pk_un e]
      rcases k3 i hi' with h | h | ⟨k, hk, h⟩
      · exact Or.inl h
      · exact Or.inr h
      · rw [show k = 0 by omega] at h
        exact absurd h e
  | succ d =>
    refine Or.inr ⟨d, x, y, st, st d, rfl, ⟨fun k hk => ?_, fun j k hj hk => k2 j k (by omega) (by omega), fun i hi' => ?_, fun k hk => k4 k (by omega), M, Rt, by rw [U]; omega⟩, (k4 d (by omega)).1, Or.inr ⟨21 * x (d + 1) + y (d + 1), (k4 d (by omega)).2.1, ?_, ?_⟩, ?_⟩
    · obtain ⟨q1, q2, q3, q4⟩ := k1 k (by omega)
      refine ⟨q1, q2, ?_, q4⟩
      rw [pk_un (fun e => ?_)]
      · exact q3
      · exact absurd (k2 k (d + 1) (by omega) (by omega) e) (by omega)
    · by_cases e : i = 21 * x (d + 1) + y (d + 1)
      · rw [e, pk_us]; exact Or.inr (Or.inl hQ)
      · rw [pk_un e]
        rcases k3 i hi' with h | h | ⟨k, hk, h⟩
        · exact Or.inl h
        · exact Or.inr (Or.inl h)
        · refine Or.inr (Or.inr ⟨k, ?_, h⟩)
          by_cases e' : k = d + 1
          · rw [e'] at h; exact absurd h e
          · omega
    · rw [pk_us]; exact hQ
    · rw [pk_us]; exact hv
    · rw [U]
      have hN' : 3 * pg_u a8 840 + (pg_s st d + (3 - st d)) ≤ N := hN
      omega
/-- an unknown part is put on -/
theorem pg_put (hW : pg_WF nd len a1 a2 a3 a4 a6) (hb : ∀ i, i < 840 → ¬ b i = -4)
    (hK : pg_K pl nd len a1 a2 a3 a4 a6 Q b root d x y st a8 a9 a10 a11) {m q s s0 : Nat} (hm : m < nd) (hq : q ≤ len) (h3 : a8 (21 * m + q) = -3)
    (hc : pg_Ch nd len a1 a2 a3 a4 a6 Q (x d) (y d) s (a11 d) (21 * m + q)) (hp : pl → m < x d) (hs : s0 < s) (hN : 3 * pg_u a8 840 + pg_s st d + (3 - s0) ≤ N + 1) :
    pg_R pl nd len a1 a2 a3 a4 a6 Q b root N (d + 1 + 1) (upd a8 (21 * m + q) (-4)) (upd a9 (d + 1) (nI (21 * m + q))) (upd (upd a10 d (nI s)) (d + 1) 0) a11 := by
  obtain ⟨k1, k2, k3, k4, k5, k6, k7⟩ := hK
  have hi := pg_in hW hm hq
  have U : pg_u (upd a8 (21 * m + q) (-4)) 840 + 1 = pg_u a8 840 := pg_u_put 840 hi h3 (by decide)
  have N4 : ∀ k, k ≤ d → 21 * x k + y k ≠ 21 * m + q := by
    intro k hk e
    have h := (k1 k hk).2.2.1
    rw [e, h3] at h
    exact absurd h (by decide)
  have S2 := pg_Ch_s hc
  refine Or.inr ⟨d + 1, fun k => if k = d + 1 then m else x k, fun k => if k = d + 1 then q else y k, fun k => if k = d then s else st k, 0, rfl, ⟨fun k hk => ?_, fun j k hj hk => ?_, fun i hi' => ?_, fun k hk => ?_, fun i hi' => ?_, ?_, by omega⟩, by rw [pk_us]; rfl, Or.inl rfl, ?_⟩
  · by_cases e : k = d + 1
    · simp only [if_pos e]
      refine ⟨hm, hq, pk_us, ?_⟩
      rw [e, pk_us]
    · simp only [if_neg e]
      obtain ⟨q1, q2, q3, q4⟩ := k1 k (by omega)
      refine ⟨q1, q2, ?_, ?_⟩
      · rw [pk_un (N4 k (by omega))]; exact q3
      · rw [pk_un e]; exact q4
  · by_cases e : j = d + 1
    · by_cases e' : k = d + 1
      · intro _; omega
      · simp only [if_pos e, if_neg e']
        intro h
        exact absurd h.symm (N4 k (by omega))
    · by_cases e' : k = d + 1
      · simp only [if_neg e, if_pos e']
        intro h
        exact absurd h (N4 j (by omega))
      · simp only [if_neg e, if_neg e']
        exact k2 j k (by omega) (by omega)
  · by_cases e : i = 21 * m + q
    · refine Or.inr (Or.inr ⟨d + 1, Nat.le_refl _, ?_⟩)
      simp only [if_true]
      exact e
    · rw [pk_un e]
      rcases k3 i hi' with h | h | ⟨k, hk, h⟩
      · exact Or.inl h
      · exact Or.inr (Or.inl h)
      · refine Or.inr (Or.inr ⟨k, by omega, ?_⟩)
        simp only [if_neg (show ¬ k = d + 1 by omega)]
        exact h
  · by_cases e : k = d
    · subst e
      simp only [if_true, if_neg (show ¬ k = k + 1 by omega)]
      rw [pk_un (show k ≠ k + 1 by omega), pk_us]
      exact ⟨rfl, hc, hp⟩
    · simp only [if_neg e, if_neg (show ¬ k = d + 1 by omega), if_neg (show ¬ k + 1 = d + 1 by omega)]
      rw [pk_un (show k ≠ d + 1 by omega), pk_un e]
      exact k4 k (by omega)
  · by_cases e : i = 21 * m + q
    · rcases k5 i hi' with h | h
      · exact Or.inl h
      · rw [e, h3] at h
        rw [e]
        exact Or.inl h.symm
    · rw [pk_un e]
      exact k5 i hi'
  · by_cases e : root = 21 * m + q
    · rw [e, pk_us]; decide
    · rw [pk_un e]; exact k6
  · have e1 : pg_s (fun k => if k = d then s else st k) (d + 1) = pg_s st d + (3 - s) := by
      show pg_s (fun k => if k = d then s else st k) d + (3 - (if d = d then s else st d)) = pg_s st d + (3 - s)
      rw [if_pos rfl, pg_s_same (f := fun k => if k = d then s else st k) (g := st) d (fun k hk => if_neg (by omega))]
    rw [e1]
    omega
/-- the part is known already -/
theorem pg_kn (hK : pg_K pl nd len a1 a2 a3 a4 a6 Q b root d x y st a8 a9 a10 a11) {c s s0 : Nat}
    (hc : pg_Ch nd len a1 a2 a3 a4 a6 Q (x d) (y d) s (a11 d) c) (hQ : Q c (a8 c)) (h2 : ¬ a8 c = -2) (hs : s0 < s) (hN : 3 * pg_u a8 840 + pg_s st d + (3 - s0) ≤ N + 1) :
    pg_R pl nd len a1 a2 a3 a4 a6 Q b root N (d + 1) a8 a9 (upd a10 d (nI s)) a11 := by
  have S2 := pg_Ch_s hc
  exact Or.inr ⟨d, x, y, st, s, rfl, pg_K_10 hK, pk_us, Or.inr ⟨c, hc, hQ, h2⟩, by omega⟩
/-- all that waits is stuck -/
theorem pg_all (hC : pg_Cl pl nd len a1 a2 a3 a4 a6 a7 Q) (hl : len ≤ 20) (hb : ∀ i, i < 840 → ¬ b i = -4) (hp : ¬ pl)
    (hK : pg_K pl nd len a1 a2 a3 a4 a6 Q b root d x y st a8 a9 a10 a11) {f : Nat → Int32} (h1 : ∀ k, k < d + 1 → f (21 * x k + y k) = -2) (h2 : ∀ j, (∀ k, k < d + 1 → j ≠ 21 * x k + y k) → f j = a8 j) :
    pg_D Q b root f := by
  obtain ⟨k1, k2, k3, k4, k5, k6, k7⟩ := hK
  have E : ∀ j, (∃ k, k < d + 1 ∧ j = 21 * x k + y k) ∨ (∀ k, k < d + 1 → j ≠ 21 * x k + y k) := by
    intro j
    by_cases h : ∃ k, k < d + 1 ∧ j = 21 * x k + y k
    · exact Or.inl h
    · exact Or.inr (fun k hk e => h ⟨k, hk, e⟩)
  refine ⟨fun i hi => ?_, fun i hi => ?_, ?_⟩
  · rcases E i with ⟨k, hk, e⟩ | h
    · rw [e, h1 k hk]
      exact Or.inr (hC.2.1 hp _)
    · rw [h2 i h]
      rcases k3 i hi with z | z | ⟨k, hk, z⟩
      · exact Or.inl z
      · exact Or.inr z
      · exact absurd z (h k (by omega))
  · rcases E i with ⟨k, hk, e⟩ | h
    · rcases k5 i hi with z | z
      · exact Or.inl z
      · have q := (k1 k (by omega)).2.2.1
        rw [← e, z] at q
        exact absurd q (hb i hi)
    · rw [h2 i h]
      exact k5 i hi
  · rcases E root with ⟨k, hk, e⟩ | h
    · rw [e, h1 k hk]; decide
    · rw [h2 root h]; exact k6
/-- in the plain mode a part is neither waiting nor stuck -/
theorem pg_desc (hp : pl) (hK : pg_K pl nd len a1 a2 a3 a4 a6 Q b root d x y st a8 a9 a10 a11) : ∀ j, j ≤ d → x d ≤ x (d - j) := by
  intro j
  induction j with
  | zero => intro _; exact Nat.le_refl _
  | succ j ih =>
    intro hj
    have h1 := ih (by omega)
    have h2 := (hK.2.2.2.1 (d - (j + 1)) (by omega)).2.2 hp
    rw [show d - (j + 1) + 1 = d - j by omega] at h2
    omega
theorem pg_nst (hW : pg_WF nd len a1 a2 a3 a4 a6) (hC : pg_Cl pl nd len a1 a2 a3 a4 a6 a7 Q) (hp : pl)
    (hK : pg_K pl nd len a1 a2 a3 a4 a6 Q b root d x y st a8 a9 a10 a11) {m q : Nat} (hm : m < x d) (hx : m < nd) (hq : q ≤ len) : ¬ a8 (21 * m + q) = -4 ∧ ¬ a8 (21 * m + q) = -2 := by
  rcases hK.2.2.1 (21 * m + q) (pg_in hW hx hq) with z | z | ⟨k, hk, z⟩
  · rw [z]; decide
  · refine ⟨(pg_Q3 hW.2.1 hC z).2, fun e => ?_⟩
    rw [e] at z
    exact hC.2.2.1 hp _ z
  · have h1 := pg_desc hp hK (d - k) (by omega)
    rw [show d - (d - k) = k by omega] at h1
    have h2 := (hK.1 k hk).2.1
    have h3 := hW.2.1
    omega
end
end
section
section
variable {post : St1 → Prop} {pl : Prop} {nd len : Nat} {f0 f1 f2 f3 f4 : Int32} {a1 a2 a3 a4 a5 a6 a7 : Nat → Int32} {Q : Nat → Int32 → Prop} {b : Nat → Int32} {root d N : Nat} {x y st : Nat → Nat} {a8 a9 a10 a11 : Nat → Int32}
theorem pg_wfin {i : Nat} {v : Int32} (hd : d < 840) (h9 : a9 d = nI i) (hi : i < 840)
    (H : post (f0, f1, f2, f3, nI d, a1, a2, a3, a4, a5, a6, a7, upd a8 i v, a9, a10, a11)) :
    wpX_finish post (f0, f1, f2, f3, f4, a1, a2, a3, a4, a5, a6, a7, a8, a9, a10, a11) (nI d) v := by
  have e1 : (nI d).toNatClampNeg = d := nI_clamp (by omega)
  have e2 : (nI i).toNatClampNeg = i := nI_clamp (by omega)
  unfold wpX_finish
  dsimp only
  rw [e1, h9, e2]
  exact ⟨vp_in_nI hd (by omega), vp_in_nI hi (by omega), nm_e H⟩
theorem pg_wput {n p : Nat} (hd : d < 840) (hi : 21 * n + p < 840)
    (H : post (f0, f1, f2, f3, nI (d + 1), a1, a2, a3, a4, a5, a6, a7, upd a8 (21 * n + p) (-4), upd a9 d (nI (21 * n + p)), upd a10 d 0, a11)) :
    wpX_putOn post (f0, f1, f2, f3, nI d, a1, a2, a3, a4, a5, a6, a7, a8, a9, a10, a11) (nI n) (nI p) := by
  have e1 : (nI d).toNatClampNeg = d := nI_clamp (by omega)
  have e2 : (nI (21 * n + p)).toNatClampNeg = 21 * n + p := nI_clamp (by omega)
  unfold wpX_putOn
  dsimp only
  rw [e1, pg_ix]
  refine nm_e ?_
  rw [e2]
  exact ⟨vp_in_nI hi (by omega), nm_e ⟨vp_in_nI hd (by omega), nm_e ⟨vp_in_nI hd (by omega), nm_e (nm_r (nI_1 d) H)⟩⟩⟩
theorem pg_wall (w : Nat → Nat) (hd : d ≤ 840) (h9 : ∀ k, k < d → a9 k = nI (w k) ∧ w k < 840)
    (H : ∀ f : Nat → Int32, (∀ k, k < d → f (w k) = -2) → (∀ j, (∀ k, k < d → j ≠ w k) → f j = a8 j) → post (f0, f1, f2, f3, 0, a1, a2, a3, a4, a5, a6, a7, f, a9, a10, a11)) :
    ∃ n, wX_need_54 post f0 f1 f2 f3 (nI d) n 0 a1 a2 a3 a4 a5 a6 a7 a8 a9 a10 a11 :=
  pk_loop (fun n i s => wX_need_54 post f0 f1 f2 f3 (nI d) n (nI i) a1 a2 a3 a4 a5 a6 a7 s a9 a10 a11)
    (fun i s => (∀ k, k < i → s (w k) = -2) ∧ (∀ j, (∀ k, k < i → j ≠ w k) → s j = a8 j)) d 0 a8 (by omega)
    ⟨fun k hk => absurd hk (by omega), fun _ _ => rfl⟩
    (fun n s h => pk_le d d (fun _ => H s h.1 h.2) (fun z => absurd z (by omega)))
    (fun n i s hi h hw => pk_le d i (fun z => absurd z (by omega)) (fun _ => by
      have e1 : (nI i).toNatClampNeg = i := nI_clamp (by omega)
      have e2 : (nI (w i)).toNatClampNeg = w i := nI_clamp (by have := (h9 i hi).2; omega)
      rw [e1, (h9 i hi).1, e2]
      refine ⟨vp_in_nI (by omega) (by omega), vp_in_nI (h9 i hi).2 (by omega), nm_e (nm_r (nI_1 i) (hw _ ⟨fun k hk => ?_, fun j hj => ?_⟩))⟩
      · by_cases e : w k = w i
        · rw [e, pk_us]
        · rw [pk_un e]
          refine h.1 k ?_
          by_cases e' : k = i
          · rw [e'] at e; exact absurd rfl e
          · omega
      · rw [pk_un (hj i (by omega))]
        exact h.2 j (fun k hk => hj k (by omega))))
/-- the top is finished with v: walk -/
theorem pg_wF (hW : pg_WF nd len a1 a2 a3 a4 a6) (hC : pg_Cl pl nd len a1 a2 a3 a4 a6 a7 Q) (hb : ∀ i, i < 840 → ¬ b i = -4)
    (hK : pg_K pl nd len a1 a2 a3 a4 a6 Q b root d x y st a8 a9 a10 a11) {v : Int32} (hQ : Q (21 * x d + y d) v) (hv : ¬ v = -2) (hN : 3 * pg_u a8 840 + pg_s st d ≤ N)
    (H : ∀ D f8 f9 f10 f11, pg_R pl nd len a1 a2 a3 a4 a6 Q b root N D f8 f9 f10 f11 → post (f0, f1, f2, f3, nI D, a1, a2, a3, a4, a5, a6, a7, f8, f9, f10, f11)) :
    wpX_finish post (f0, f1, f2, f3, f4, a1, a2, a3, a4, a5, a6, a7, a8, a9, a10, a11) (nI d) v := by
  have k7 := hK.2.2.2.2.2.2
  obtain ⟨t1, t2, t3, t4⟩ := hK.1 d (Nat.le_refl d)
  exact pg_wfin (by omega) t4 (pg_in hW t1 t2) (H d _ _ _ _ (pg_fin hW hC hb hK hQ hv hN))
theorem pg_wN (hW : pg_WF nd len a1 a2 a3 a4 a6) (hC : pg_Cl pl nd len a1 a2 a3 a4 a6 a7 Q) (hb : ∀ i, i < 840 → ¬ b i = -4)
    (hK : pg_K pl nd len a1 a2 a3 a4 a6 Q b root d x y st a8 a9 a10 a11) {m q s s0 : Nat} {S : Int32} (hS : S = nI s) (hm : m < nd) (hq : q ≤ len)
    (hc : pg_Ch nd len a1 a2 a3 a4 a6 Q (x d) (y d) s (a11 d) (21 * m + q)) (hp : pl → m < x d) (hs : s0 < s) (hN : 3 * pg_u a8 840 + pg_s st d + (3 - s0) ≤ N + 1)
    (H : ∀ D f8 f9 f10 f11, pg_R pl nd len a1 a2 a3 a4 a6 Q b root N D f8 f9 f10 f11 → post (f0, f1, f2, f3, nI D, a1, a2, a3, a4, a5, a6, a7, f8, f9, f10, f11)) :
    wpX_need post (f0, f1, f2, f3, nI (d + 1), a1, a2, a3, a4, a5, a6, a7, a8, a9, a10, a11) (nI d) (nI m) (nI q) S := by
  have hi := pg_in hW hm hq
  have k7 := hK.2.2.2.2.2.2
  have e1 : (nI d).toNatClampNeg = d := nI_clamp (by omega)
  have e2 : (nI (21 * m + q)).toNatClampNeg = 21 * m + q := nI_clamp (by omega)
  subst hS
  unfold wpX_need
  dsimp only
  rw [e1, pg_ix, e2]
  refine ⟨vp_in_nI (by omega) (by omega), nm_e ⟨vp_in_nI hi (by omega), nm_e ?_⟩⟩
  have stuck : ¬ pl → ∃ n, wX_need_54 post f0 f1 f2 f3 (nI (d + 1)) n 0 a1 a2 a3 a4 a5 a6 a7 a8 a9 (upd a10 d (nI s)) a11 := fun np =>
    pg_wall (fun k => 21 * x k + y k) (by omega) (fun k hk => ⟨(hK.1 k (by omega)).2.2.2, pg_in hW (hK.1 k (by omega)).1 (hK.1 k (by omega)).2.1⟩)
      (fun f g1 g2 => H 0 _ _ _ _ (Or.inl ⟨rfl, pg_all hC hW.2.1 hb np hK g1 g2⟩))
  by_cases e3 : a8 (21 * m + q) = -3
  · refine br_t e3 (pg_wput ?_ hi (H _ _ _ _ _ (pg_put hW hb hK hm hq e3 hc hp hs hN)))
    have := pg_u_put (f := a8) (v := -4) 840 hi e3 (by decide)
    omega
  · refine br_f e3 ?_
    by_cases e4 : a8 (21 * m + q) = -4
    · exact br_t e4 (stuck (fun p => (pg_nst hW hC p hK (hp p) hm hq).1 e4))
    · refine br_f e4 ?_
      by_cases e5 : a8 (21 * m + q) = -2
      · exact br_t e5 (stuck (fun p => (pg_nst hW hC p hK (hp p) hm hq).2 e5))
      · refine br_f e5 (H _ _ _ _ _ (pg_kn hK hc ?_ e5 hs hN))
        rcases hK.2.2.1 _ hi with z | z | ⟨k, hk, z⟩
        · exact absurd z e3
        · exact z
        · have := (hK.1 k hk).2.2.1
          rw [← z] at this
          exact absurd this e4
theorem pg_wbegin (hW : pg_WF nd len a1 a2 a3 a4 a6) (hC : pg_Cl pl nd len a1 a2 a3 a4 a6 a7 Q) (hb : ∀ i, i < 840 → ¬ b i = -4)
    (hK : pg_K pl nd len a1 a2 a3 a4 a6 Q b root d x y st a8 a9 a10 a11) (h2 : 2 < a1 (x d)) (hN : 3 * pg_u a8 840 + pg_s st d + (3 - 0) ≤ N + 1)
    (H : ∀ D f8 f9 f10 f11, pg_R pl nd len a1 a2 a3 a4 a6 Q b root N D f8 f9 f10 f11 → post (f0, f1, f2, f3, nI D, a1, a2, a3, a4, a5, a6, a7, f8, f9, f10, f11)) :
    wpX_begin post (f0, f1, f2, f3, nI (d + 1), a1, a2, a3, a4, a5, a6, a7, a8, a9, a10, a11) (nI d) (nI (x d)) (nI (y d)) (a1 (x d)) := by
  obtain ⟨t1, t2, t3, t4⟩ := hK.1 d (Nat.le_refl d)
  have hnd := hW.1
  have e1 : (nI (x d)).toNatClampNeg = x d := nI_clamp (by omega)
  unfold wpX_begin
  dsimp only
  rw [e1]
  have go : ∀ m, m < nd → pg_C1 a1 a2 a3 a6 (x d) m → (pl → m < x d) → wX_begin_26 post (nI d) (nI (y d)) (nI m) f0 f1 f2 f3 (nI (d + 1)) a1 a2 a3 a4 a5 a6 a7 a8 a9 a10 a11 := fun m hm h1 hp =>
    br_t (nI_pos' (by omega)) (pg_wN (s := 1) (s0 := 0) hW hC hb hK rfl hm t2 (Or.inl ⟨rfl, h2, m, hm, h1, rfl⟩) hp (by omega) hN H)
  by_cases e3 : a1 (x d) = 3
  · refine br_t e3 ?_
    obtain ⟨j, hj, e⟩ := hW.2.2.1 _ t1
    have e4 : (nI j).toNatClampNeg = j := nI_clamp (by omega)
    rw [e, e4]
    refine ⟨vp_in_nI (by omega) (by omega), vp_in_nI hj (by omega), ?_⟩
    rcases hW.2.2.2.2.2 j hj with g | ⟨m, hm, g⟩
    · rw [g]
      exact br_f (by decide) (pg_wF hW hC hb hK (hC.2.2.2.2.2.1 _ _ t1 t2 e3) (by decide) (by omega) H)
    · rw [g]
      exact go m hm (Or.inl ⟨e3, j, hj, e, g⟩) (fun p => absurd e3 (hC.2.2.2.1 p _ t1).1)
  · refine br_f e3 ?_
    obtain ⟨l, hl, e⟩ := hW.2.2.2.1 _ t1 h2 e3
    rw [e]
    exact ⟨vp_in_nI (by omega) (by omega), go l (by omega) (Or.inr ⟨e3, e⟩) (fun _ => hl)⟩
end
end
section
section
variable {post : St1 → Prop} {pl : Prop} {nd len : Nat} {f0 f1 f2 f3 f4 : Int32} {a1 a2 a3 a4 a5 a6 a7 : Nat → Int32} {Q : Nat → Int32 → Prop} {b : Nat → Int32} {root d N : Nat} {x y st : Nat → Nat} {a8 a9 a10 a11 : Nat → Int32}
/-- behind the first part, which failed -/
theorem pg_waf_n (hW : pg_WF nd len a1 a2 a3 a4 a6) (hC : pg_Cl pl nd len a1 a2 a3 a4 a6 a7 Q) (hb : ∀ i, i < 840 → ¬ b i = -4)
    (hK : pg_K pl nd len a1 a2 a3 a4 a6 Q b root d x y st a8 a9 a10 a11) {m : Nat} (h2 : 2 < a1 (x d)) (hm : m < nd) (h1 : pg_C1 a1 a2 a3 a6 (x d) m)
    (hv : a8 (21 * m + y d) = -1) (hQ : Q (21 * m + y d) (-1)) (hN : 3 * pg_u a8 840 + pg_s st d + (3 - 1) ≤ N + 1)
    (H : ∀ D f8 f9 f10 f11, pg_R pl nd len a1 a2 a3 a4 a6 Q b root N D f8 f9 f10 f11 → post (f0, f1, f2, f3, nI D, a1, a2, a3, a4, a5, a6, a7, f8, f9, f10, f11)) :
    wX_afterFirst_26 post (nI d) (nI (x d)) (nI (y d)) (a1 (x d)) (nI m) f0 f1 f2 f3 (nI (d + 1)) a1 a2 a3 a4 a5 a6 a7 a8 a9 a10 a11 := by
  obtain ⟨t1, t2, t3, t4⟩ := hK.1 d (Nat.le_refl d)
  have hnd := hW.1
  have hi := pg_in hW hm t2
  have k7 := hK.2.2.2.2.2.2
  have e1 : (nI (x d)).toNatClampNeg = x d := nI_clamp (by omega)
  have e2 : (nI (21 * m + y d)).toNatClampNeg = 21 * m + y d := nI_clamp (by omega)
  have e3 : (nI d).toNatClampNeg = d := nI_clamp (by omega)
  obtain ⟨c1, c2⟩ := hC.2.2.2.2.2.2.1 _ _ m t1 t2 h2 h1 hQ
  have F : ∀ v, Q (21 * x d + y d) v → ¬ v = -2 → ∀ P : St1 → Prop, (∀ u, post u → P u) → wpX_finish P (f0, f1, f2, f3, nI (d + 1), a1, a2, a3, a4, a5, a6, a7, a8, a9, a10, a11) (nI d) v :=
    fun v h h' P hP => pg_wF hW hC hb hK h h' (by omega) (fun D f8 f9 f10 f11 r => hP _ (H D f8 f9 f10 f11 r))
  unfold wX_afterFirst_26
  rw [pg_ix, e2]
  refine ⟨vp_in_nI hi (by omega), nm_r hv ?_⟩
  by_cases o3 : a1 (x d) = 3
  · refine br_t o3 (F _ (c1 ?_ ?_ ?_ ?_) (by decide) _ (fun _ h => h)) <;> rw [o3] <;> decide
  · refine br_f o3 ?_
    have A96 : wX_afterFirst_96 post (nI d) (nI (x d)) (nI (y d)) (a1 (x d)) (-1) f0 f1 f2 f3 (nI (d + 1)) a1 a2 a3 a4 a5 a6 a7 a8 a9 a10 a11 := by
      unfold wX_afterFirst_96
      rw [e1, e3]
      by_cases o5 : a1 (x d) = 5
      · refine br_t o5 (br_f (by decide) ?_)
        obtain ⟨r, hr, er⟩ := hW.2.2.2.2.1 _ t1 (Or.inr o5)
        have el : a3 (x d) = nI m := by
          rcases h1 with ⟨z, _⟩ | ⟨_, z⟩
          · exact absurd z o3
          · exact z
        obtain ⟨l, hl, el'⟩ := hW.2.2.2.1 _ t1 h2 o3
        have elm : l = m := (nI_eq (by omega) (by omega)).mp (el'.symm.trans el)
        rw [er]
        refine ⟨vp_in_nI (by omega) (by omega), nm_e ⟨vp_in_nI (by omega) (by omega), ?_⟩⟩
        refine pg_wN (s := 2) (s0 := 1) hW hC hb (pg_K_11 hK) rfl (show r < nd by omega) t2 ?_ (fun _ => hr) (by omega) hN H
        rw [pk_us]
        exact Or.inr ⟨rfl, 0, rfl, by omega, Or.inr (Or.inl ⟨o5, rfl, m, r, el, er, by omega, hr, hQ, rfl⟩)⟩
      · refine br_f o5 ?_
        have A164 : wX_afterFirst_164 post (nI d) (a1 (x d)) (-1) f0 f1 f2 f3 (nI (d + 1)) a1 a2 a3 a4 a5 a6 a7 a8 a9 a10 a11 := by
          have A178 : (a1 (x d) = 6 ∨ a1 (x d) = 7 ∨ a1 (x d) = 9) → wX_afterFirst_178 post (nI d) (-1) f0 f1 f2 f3 (nI (d + 1)) a1 a2 a3 a4 a5 a6 a7 a8 a9 a10 a11 := fun h =>
            br_f (by decide) (F 0 (c2 h) (by decide) _ (fun _ h => h))
          by_cases o6 : a1 (x d) = 6
          · exact br_t o6 (A178 (Or.inl o6))
          · refine br_f o6 ?_
            by_cases o7 : a1 (x d) = 7
            · exact br_t o7 (A178 (Or.inr (Or.inl o7)))
            · refine br_f o7 ?_
              by_cases o8 : a1 (x d) = 8
              · refine br_t o8 (br_f (by decide) (F _ (c1 o5 o6 o7 ?_) (by decide) _ (fun _ h => h)))
                rw [o8]; decide
              · refine br_f o8 ?_
                by_cases o9 : a1 (x d) = 9
                · exact br_t o9 (br_f (by decide) (F _ (c2 (Or.inr (Or.inr o9))) (by decide) _ (fun _ h => h)))
                · exact br_f o9 (F _ (c1 o5 o6 o7 o9) (by decide) _ (fun _ h => h))
        unfold wX_afterFirst_130
        by_cases o6 : a1 (x d) = 6
        · exact br_t o6 (br_t (by decide) A164)
        · exact br_f o6 A164
    by_cases o4 : a1 (x d) = 4
    · exact br_t o4 (br_t (by decide) A96)
    · exact br_f o4 A96
/-- behind the first part, which took u -/
theorem pg_waf_p (hW : pg_WF nd len a1 a2 a3 a4 a6) (hC : pg_Cl pl nd len a1 a2 a3 a4 a6 a7 Q) (hb : ∀ i, i < 840 → ¬ b i = -4)
    (hK : pg_K pl nd len a1 a2 a3 a4 a6 Q b root d x y st a8 a9 a10 a11) {m u : Nat} (h2 : 2 < a1 (x d)) (hm : m < nd) (h1 : pg_C1 a1 a2 a3 a6 (x d) m)
    (hv : a8 (21 * m + y d) = nI u) (hu : y d + u ≤ len) (hQ : Q (21 * m + y d) (nI u)) (hN : 3 * pg_u a8 840 + pg_s st d + (3 - 1) ≤ N + 1)
    (H : ∀ D f8 f9 f10 f11, pg_R pl nd len a1 a2 a3 a4 a6 Q b root N D f8 f9 f10 f11 → post (f0, f1, f2, f3, nI D, a1, a2, a3, a4, a5, a6, a7, f8, f9, f10, f11)) :
    wX_afterFirst_26 post (nI d) (nI (x d)) (nI (y d)) (a1 (x d)) (nI m) f0 f1 f2 f3 (nI (d + 1)) a1 a2 a3 a4 a5 a6 a7 a8 a9 a10 a11 := by
  obtain ⟨t1, t2, t3, t4⟩ := hK.1 d (Nat.le_refl d)
  have hnd := hW.1
  have hln := hW.2.1
  have hi := pg_in hW hm t2
  have k7 := hK.2.2.2.2.2.2
  have e1 : (nI (x d)).toNatClampNeg = x d := nI_clamp (by omega)
  have e2 : (nI (21 * m + y d)).toNatClampNeg = 21 * m + y d := nI_clamp (by omega)
  have e3 : (nI d).toNatClampNeg = d := nI_clamp (by omega)
  have u0 : (0 : Int32) ≤ nI u := nI_pos' (by omega)
  have u1 : ¬ nI u < 0 := nI_pos (by omega)
  have u2 : ¬ nI u = -2 := pg_n2 (by omega)
  obtain ⟨c1, c2, c3⟩ := hC.2.2.2.2.2.2.2.1 _ _ m u t1 t2 h2 h1 hQ
  have F : ∀ v, Q (21 * x d + y d) v → ¬ v = -2 → ∀ P : St1 → Prop, (∀ u, post u → P u) → wpX_finish P (f0, f1, f2, f3, nI (d + 1), a1, a2, a3, a4, a5, a6, a7, a8, a9, a10, a11) (nI d) v :=
    fun v h h' P hP => pg_wF hW hC hb hK h h' (by omega) (fun D f8 f9 f10 f11 r => hP _ (H D f8 f9 f10 f11 r))
  unfold wX_afterFirst_26
  rw [pg_ix, e2]
  refine ⟨vp_in_nI hi (by omega), nm_r hv ?_⟩
  by_cases o3 : a1 (x d) = 3
  · refine br_t o3 (F _ (c1 ?_ ?_ ?_ ?_) u2 _ (fun _ h => h))
    · rw [o3]; decide
    · intro z
      rw [o3] at z
      exact absurd z (by decide)
    · rw [o3]; decide
    · rw [o3]; decide
  · refine br_f o3 ?_
    have el : a3 (x d) = nI m := by
      rcases h1 with ⟨z, _⟩ | ⟨_, z⟩
      · exact absurd z o3
      · exact z
    obtain ⟨l, hl, el'⟩ := hW.2.2.2.1 _ t1 h2 o3
    have elm : l = m := (nI_eq (by omega) (by omega)).mp (el'.symm.trans el)
    by_cases o4 : a1 (x d) = 4
    · obtain ⟨r, hr, er⟩ := hW.2.2.2.2.1 _ t1 (Or.inl o4)
      refine br_t o4 (br_f u1 ?_)
      rw [e1, e3, er, nI_add]
      refine ⟨vp_in_nI (by omega) (by omega), nm_e ⟨vp_in_nI (by omega) (by omega), ?_⟩⟩
      refine pg_wN (s := 2) (s0 := 1) hW hC hb (pg_K_11 hK) rfl (show r < nd by omega) hu ?_ (fun _ => hr) (by omega) hN H
      rw [pk_us]
      exact Or.inr ⟨rfl, u, rfl, hu, Or.inl ⟨o4, m, r, el, er, by omega, hr, hQ, rfl⟩⟩
    · refine br_f o4 ?_
      have A164 : (a1 (x d) = 6 → u = 0) → wX_afterFirst_164 post (nI d) (a1 (x d)) (nI u) f0 f1 f2 f3 (nI (d + 1)) a1 a2 a3 a4 a5 a6 a7 a8 a9 a10 a11 := by
        intro hz
        have A178 : ¬ a1 (x d) = 8 → ¬ a1 (x d) = 9 → wX_afterFirst_178 post (nI d) (nI u) f0 f1 f2 f3 (nI (d + 1)) a1 a2 a3 a4 a5 a6 a7 a8 a9 a10 a11 := fun o8 o9 =>
          br_t u0 (F _ (c1 o4 hz o8 o9) u2 _ (fun _ h => h))
        by_cases o6 : a1 (x d) = 6
        · refine br_t o6 (A178 ?_ ?_) <;> rw [o6] <;> decide
        · refine br_f o6 ?_
          by_cases o7 : a1 (x d) = 7
          · refine br_t o7 (A178 ?_ ?_) <;> rw [o7] <;> decide
          · refine br_f o7 ?_
            by_cases o8 : a1 (x d) = 8
            · exact br_t o8 (br_t u0 (F _ (c2 o8) (by decide) _ (fun _ h => h)))
            · refine br_f o8 ?_
              by_cases o9 : a1 (x d) = 9
              · exact br_t o9 (br_t u0 (F _ (c3 o9) (by decide) _ (fun _ h => h)))
              · exact br_f o9 (F _ (c1 o4 hz o8 o9) u2 _ (fun _ h => h))
      have A130 : wX_afterFirst_130 post (nI d) (nI (x d)) (nI (y d)) (a1 (x d)) (nI u) f0 f1 f2 f3 (nI (d + 1)) a1 a2 a3 a4 a5 a6 a7 a8 a9 a10 a11 := by
        unfold wX_afterFirst_130
        rw [e3, nI_add]
        by_cases o6 : a1 (x d) = 6
        · refine br_t o6 ?_
          by_cases z : u = 0
          · refine br_t ?_ (A164 (fun _ => z))
            rw [z]; decide
          · refine br_f (nI_nle (by omega) (by omega)) ⟨vp_in_nI (by omega) (by omega), nm_e ?_⟩
            refine pg_wN (s := 2) (s0 := 1) hW hC hb (pg_K_11 hK) rfl t1 hu ?_ (fun p => absurd o6 (hC.2.2.2.1 p _ t1).2) (by omega) hN H
            rw [pk_us]
            exact Or.inr ⟨rfl, u, rfl, hu, Or.inr (Or.inr ⟨o6, by omega, m, el, by omega, hQ, rfl⟩)⟩
        · exact br_f o6 (A164 (fun z => absurd z o6))
      unfold wX_afterFirst_96
      by_cases o5 : a1 (x d) = 5
      · exact br_t o5 (br_t u0 A130)
      · exact br_f o5 A130
theorem pg_wafter (hW : pg_WF nd len a1 a2 a3 a4 a6) (hC : pg_Cl pl nd len a1 a2 a3 a4 a6 a7 Q) (hb : ∀ i, i < 840 → ¬ b i = -4)
    (hK : pg_K pl nd len a1 a2 a3 a4 a6 Q b root d x y st a8 a9 a10 a11) {m : Nat} (h2 : 2 < a1 (x d)) (hm : m < nd) (h1 : pg_C1 a1 a2 a3 a6 (x d) m)
    (hQ : Q (21 * m + y d) (a8 (21 * m + y d))) (hv : ¬ a8 (21 * m + y d) = -2) (hN : 3 * pg_u a8 840 + pg_s st d + (3 - 1) ≤ N + 1)
    (H : ∀ D f8 f9 f10 f11, pg_R pl nd len a1 a2 a3 a4 a6 Q b root N D f8 f9 f10 f11 → post (f0, f1, f2, f3, nI D, a1, a2, a3, a4, a5, a6, a7, f8, f9, f10, f11)) :
    wpX_afterFirst post (f0, f1, f2, f3, nI (d + 1), a1, a2, a3, a4, a5, a6, a7, a8, a9, a10, a11) (nI d) (nI (x d)) (nI (y d)) (a1 (x d)) := by
  obtain ⟨t1, t2, t3, t4⟩ := hK.1 d (Nat.le_refl d)
  have hnd := hW.1
  have hln := hW.2.1
  have e1 : (nI (x d)).toNatClampNeg = x d := nI_clamp (by omega)
  have main : wX_afterFirst_26 post (nI d) (nI (x d)) (nI (y d)) (a1 (x d)) (nI m) f0 f1 f2 f3 (nI (d + 1)) a1 a2 a3 a4 a5 a6 a7 a8 a9 a10 a11 := by
    rcases hC.1 _ _ hQ with e | e | ⟨u, e, hu⟩
    · exact absurd e hv
    · exact pg_waf_n hW hC hb hK h2 hm h1 e (by rw [e] at hQ; exact hQ) hN H
    · refine pg_waf_p hW hC hb hK h2 hm h1 e ?_ (by rw [e] at hQ; exact hQ) hN H
      omega
  unfold wpX_afterFirst
  dsimp only
  rw [e1]
  rcases h1 with ⟨o3, j, hj, ej, em⟩ | ⟨o3, em⟩
  · have e4 : (nI j).toNatClampNeg = j := nI_clamp (by omega)
    rw [ej, e4, em]
    exact br_t o3 ⟨vp_in_nI (by omega) (by omega), vp_in_nI hj (by omega), main⟩
  · rw [em]
    exact br_f o3 ⟨vp_in_nI (by omega) (by omega), main⟩
/-- behind the second part -/
theorem pg_wsecond (hW : pg_WF nd len a1 a2 a3 a4 a6) (hC : pg_Cl pl nd len a1 a2 a3 a4 a6 a7 Q) (hb : ∀ i, i < 840 → ¬ b i = -4)
    (hK : pg_K pl nd len a1 a2 a3 a4 a6 Q b root d x y st a8 a9 a10 a11) {u c : Nat} (h11 : a11 d = nI u) (hu : y d + u ≤ len) (hc : pg_C2 a1 a3 a4 Q (x d) (y d) u c)
    (hQ : Q c (a8 c)) (hv : ¬ a8 c = -2) (hN : 3 * pg_u a8 840 + pg_s st d + (3 - 2) ≤ N + 1)
    (H : ∀ D f8 f9 f10 f11, pg_R pl nd len a1 a2 a3 a4 a6 Q b root N D f8 f9 f10 f11 → post (f0, f1, f2, f3, nI D, a1, a2, a3, a4, a5, a6, a7, f8, f9, f10, f11)) :
    wpX_afterSecond post (f0, f1, f2, f3, nI (d + 1), a1, a2, a3, a4, a5, a6, a7, a8, a9, a10, a11) (nI d) (nI (x d)) (nI (y d)) (a1 (x d)) := by
  obtain ⟨t1, t2, t3, t4⟩ := hK.1 d (Nat.le_refl d)
  have hnd := hW.1
  have hln := hW.2.1
  have k7 := hK.2.2.2.2.2.2
  have e1 : (nI (x d)).toNatClampNeg = x d := nI_clamp (by omega)
  have e3 : (nI d).toNatClampNeg = d := nI_clamp (by omega)
  obtain ⟨c1, c2⟩ := hC.2.2.2.2.2.2.2.2 _ _ u c t1 t2 hu hc
  have F : ∀ v, Q (21 * x d + y d) v → ¬ v = -2 → ∀ P : St1 → Prop, (∀ u, post u → P u) → wpX_finish P (f0, f1, f2, f3, nI (d + 1), a1, a2, a3, a4, a5, a6, a7, a8, a9, a10, a11) (nI d) v :=
    fun v h h' P hP => pg_wF hW hC hb hK h h' (by omega) (fun D f8 f9 f10 f11 r => hP _ (H D f8 f9 f10 f11 r))
  have main : ∀ r, r < nd → c = 21 * r + (y d + u) → wX_afterSecond_17 post (nI d) (nI (y d)) (nI r) f0 f1 f2 f3 (nI (d + 1)) a1 a2 a3 a4 a5 a6 a7 a8 a9 a10 a11 := by
    intro r hr ec
    have hi := pg_in hW hr hu
    have e4 : (nI (21 * r + y d + u)).toNatClampNeg = c := by rw [nI_clamp (by omega)]; omega
    unfold wX_afterSecond_17
    rw [e3, h11, pg_ix, nI_add, e4]
    refine ⟨vp_in_nI (by omega) (by omega), vp_in_nI (by omega) (by omega), ?_⟩
    rcases hC.1 _ _ hQ with e | e | ⟨z, e, hz⟩
    · exact absurd e hv
    · rw [e] at hQ
      exact nm_r e (br_f (by decide) (F _ (c1 hQ) (by decide) _ (fun _ h => h)))
    · rw [e] at hQ
      refine nm_r e (br_t (nI_pos' (by omega)) ⟨vp_in_nI (by omega) (by omega), ?_⟩)
      rw [nI_add]
      exact F _ (c2 z (by omega) hQ) (pg_n2 (by omega)) _ (fun _ h => h)
  unfold wpX_afterSecond
  dsimp only
  rw [e1]
  rcases hc with ⟨o, l, r, el, er, hl, hr, _, ec⟩ | ⟨o, _, l, r, el, er, hl, hr, _, ec⟩ | ⟨o, _, l, el, hl, _, ec⟩
  · rw [er]
    exact br_f (by rw [o]; decide) ⟨vp_in_nI (by omega) (by omega), main r (by omega) ec⟩
  · rw [er]
    exact br_f (by rw [o]; decide) ⟨vp_in_nI (by omega) (by omega), main r (by omega) ec⟩
  · exact br_t o (main (x d) t1 ec)
/-- one step of the machine -/
theorem pg_wgo (hW : pg_WF nd len a1 a2 a3 a4 a6) (hC : pg_Cl pl nd len a1 a2 a3 a4 a6 a7 Q) (hb : ∀ i, i < 840 → ¬ b i = -4)
    (hR : pg_R pl nd len a1 a2 a3 a4 a6 Q b root (N + 1) (d + 1) a8 a9 a10 a11)
    (H : ∀ D f8 f9 f10 f11, pg_R pl nd len a1 a2 a3 a4 a6 Q b root N D f8 f9 f10 f11 → post (f0, f1, f2, nI len, nI D, a1, a2, a3, a4, a5, a6, a7, f8, f9, f10, f11)) :
    wpX_goOn post (f0, f1, f2, nI len, nI (d + 1), a1, a2, a3, a4, a5, a6, a7, a8, a9, a10, a11) (nI d) := by
  rcases hR with ⟨z, _⟩ | ⟨d', x, y, st, s, ed, hK, h10, hT, hN⟩
  · exact absurd z (by omega)
  have ed' : d' = d := by omega
  subst ed'
  obtain ⟨t1, t2, t3, t4⟩ := hK.1 d' (Nat.le_refl d')
  have hnd := hW.1
  have hln := hW.2.1
  have k7 := hK.2.2.2.2.2.2
  have e1 : (nI (x d')).toNatClampNeg = x d' := nI_clamp (by omega)
  have e2 : (nI (y d')).toNatClampNeg = y d' := nI_clamp (by omega)
  have e3 : (nI d').toNatClampNeg = d' := nI_clamp (by omega)
  have s2 : s ≤ 2 := by
    rcases hT with h | ⟨c, h, _⟩
    · omega
    · exact (pg_Ch_s h).2
  unfold wpX_goOn
  dsimp only
  rw [e3, t4]
  refine ⟨vp_in_nI (by omega) (by omega), by decide, nm_r (pg_dv (by omega) (by omega)) ⟨vp_in_nI (by omega) (by omega), by decide, nm_r (pg_rm (by omega) (by omega)) ?_⟩⟩
  rw [e1]
  refine ⟨vp_in_nI (by omega) (by omega), nm_e ?_⟩
  by_cases o2 : 2 < a1 (x d')
  · refine br_t o2 ⟨vp_in_nI (by omega) (by omega), ?_⟩
    rw [h10]
    rcases hT with h | ⟨c, h, hQ, hv⟩
    · subst h
      exact br_t rfl (pg_wbegin hW hC hb hK o2 hN H)
    · rcases h with ⟨es, _, m, hm, h1, ec⟩ | ⟨es, u, eu, hu, h2⟩
      · subst es
        subst ec
        exact br_f (by decide) ⟨vp_in_nI (by omega) (by omega), br_t rfl (pg_wafter hW hC hb hK o2 hm h1 hQ hv hN H)⟩
      · subst es
        exact br_f (by decide) ⟨vp_in_nI (by omega) (by omega), br_f (by decide) (pg_wsecond hW hC hb hK eu hu h2 hQ hv hN H)⟩
  · refine br_f o2 ⟨vp_in_nI (by omega) (by omega), ?_⟩
    obtain ⟨c1, c2, c3, c4⟩ := hC.2.2.2.2.1 _ _ t1 t2 o2
    have F : ∀ v, Q (21 * x d' + y d') v → ¬ v = -2 → ∀ P : St1 → Prop, (∀ u, post u → P u) → wpX_finish P (f0, f1, f2, nI len, nI (d' + 1), a1, a2, a3, a4, a5, a6, a7, a8, a9, a10, a11) (nI d') v :=
      fun v h h' P hP => pg_wF hW hC hb hK h h' (by omega) (fun D f8 f9 f10 f11 r => hP _ (H D f8 f9 f10 f11 r))
    unfold wpX_single
    dsimp only
    rw [e2]
    by_cases o : a1 (x d') = 2
    · exact br_t o (F _ (c1 o) (by decide) _ (fun _ h => h))
    · refine br_f o (pk_le len (y d') (fun z => F _ (c2 o z) (by decide) _ (fun _ h => h)) (fun z => ?_))
      by_cases o1 : a1 (x d') = 1
      · exact br_t o1 (F _ (c3 z o1) (by decide) _ (fun _ h => h))
      · refine br_f o1 ⟨vp_in_nI (by omega) (by omega), br_c (fun g => F _ ((c4 z o o1).1 g) (by decide) _ (fun _ h => h)) (fun g => F _ ((c4 z o o1).2 g) (by decide) _ (fun _ h => h))⟩
end
end
section
/-- a table f that goes on from b -/
def pg_E (Q : Nat → Int32 → Prop) (b f : Nat → Int32) : Prop := (∀ i, i < 840 → f i = -3 ∨ Q i (f i)) ∧ (∀ i, i < 840 → b i = -3 ∨ f i = b i)
/-- what the table says of rule r at place p -/
def pg_v (a6 a8 : Nat → Int32) (r p : Nat) : Int32 := if a6 r = -1 then -1 else a8 (21 * (a6 r).toNatClampNeg + p)
theorem pg_E_trans {Q : Nat → Int32 → Prop} {b f g : Nat → Int32} (h1 : pg_E Q b f) (h2 : pg_E Q f g) : pg_E Q b g := by
  refine ⟨h2.1, fun i hi => ?_⟩
  rcases h1.2 i hi with h | h
  · exact Or.inl h
  · rcases h2.2 i hi with z | z
    · exact Or.inl (h.symm.trans z)
    · exact Or.inr (z.trans h)
theorem pg_E_refl {Q : Nat → Int32 → Prop} {b : Nat → Int32} (h : ∀ i, i < 840 → b i = -3 ∨ Q i (b i)) : pg_E Q b b := ⟨h, fun _ _ => Or.inr rfl⟩
/-- how many of the first n values are such -/
def pg_c (P : Int32 → Bool) (v : Nat → Int32) : Nat → Nat
  | 0 => 0
  | n + 1 => pg_c P v n + (if P (v n) = true then 1 else 0)
theorem pg_c_same {P : Int32 → Bool} {v w : Nat → Int32} (n : Nat) (h : ∀ j, j < n → v j = w j) : pg_c P v n = pg_c P w n := by
  induction n with
  | zero => rfl
  | succ n ih =>
    show pg_c P v n + (if P (v n) = true then 1 else 0) = pg_c P w n + (if P (w n) = true then 1 else 0)
    rw [ih (fun j hj => h j (by omega)), h n (by omega)]
theorem pg_c_le (P : Int32 → Bool) (v : Nat → Int32) (n : Nat) : pg_c P v n ≤ n := by
  induction n with
  | zero => exact Nat.le_refl 0
  | succ n ih =>
    show pg_c P v n + (if P (v n) = true then 1 else 0) ≤ n + 1
    split <;> omega
theorem pg_c_t {P : Int32 → Bool} {v : Nat → Int32} {n : Nat} (h : P (v n) = true) : pg_c P v (n + 1) = pg_c P v n + 1 := by
  show pg_c P v n + (if P (v n) = true then 1 else 0) = pg_c P v n + 1
  rw [if_pos h]
theorem pg_c_f {P : Int32 → Bool} {v : Nat → Int32} {n : Nat} (h : ¬ P (v n) = true) : pg_c P v (n + 1) = pg_c P v n := by
  show pg_c P v n + (if P (v n) = true then 1 else 0) = pg_c P v n
  rw [if_neg h, Nat.add_zero]
def pg_ge (v : Int32) : Bool := decide (¬ v < 0)
def pg_st (v : Int32) : Bool := decide (v = -2)
theorem pg_ge_t {v : Int32} (h : ¬ v < 0) : pg_ge v = true := decide_eq_true h
theorem pg_ge_f {v : Int32} (h : v < 0) : ¬ pg_ge v = true := fun z => of_decide_eq_true z h
theorem pg_st_t {v : Int32} (h : v = -2) : pg_st v = true := decide_eq_true h
theorem pg_st_f {v : Int32} (h : ¬ v = -2) : ¬ pg_st v = true := fun z => h (of_decide_eq_true z)
theorem pg_c_two (v : Nat → Int32) (n : Nat) : pg_c pg_ge v n + pg_c pg_st v n ≤ n := by
  induction n with
  | zero => exact Nat.le_refl 0
  | succ n ih =>
    by_cases e : v n = -2
    · rw [pg_c_t (P := pg_st) (pg_st_t e), pg_c_f (P := pg_ge) (pg_ge_f (by rw [e]; decide))]
      omega
    · rw [pg_c_f (P := pg_st) (pg_st_f e)]
      by_cases g : v n < 0
      · rw [pg_c_f (P := pg_ge) (pg_ge_f g)]; omega
      · rw [pg_c_t (P := pg_ge) (pg_ge_t g)]; omega
section
variable {pl : Prop} {nd len : Nat} {f0 f1 f2 f3 f4 : Int32} {a1 a2 a3 a4 a5 a6 a7 : Nat → Int32} {Q : Nat → Int32 → Prop} {b : Nat → Int32} {root r p : Nat} {a8 a9 a10 a11 : Nat → Int32}
theorem pg_v_or (hW : pg_WF nd len a1 a2 a3 a4 a6) (hr : r < 4) (p : Nat) (f : Nat → Int32) : (a6 r = -1 ∧ pg_v a6 f r p = -1) ∨ ∃ n, n < nd ∧ a6 r = nI n ∧ pg_v a6 f r p = f (21 * n + p) := by
  rcases hW.2.2.2.2.2 r hr with h | ⟨m, hm, h⟩
  · exact Or.inl ⟨h, if_pos h⟩
  · refine Or.inr ⟨m, hm, h, ?_⟩
    have h1 := hW.1
    unfold pg_v
    rw [h, if_neg (pg_n1 (by omega)), nI_clamp (by omega)]
theorem pg_v_keep (hW : pg_WF nd len a1 a2 a3 a4 a6) (hr : r < 4) (hp : p ≤ len) {f g : Nat → Int32} (hE : pg_E Q f g) (h : ¬ pg_v a6 f r p = -3) : pg_v a6 g r p = pg_v a6 f r p := by
  rcases hW.2.2.2.2.2 r hr with e | ⟨m, hm, e⟩
  · unfold pg_v
    rw [if_pos e, if_pos e]
  · have h1 := hW.1
    have hi := pg_in hW hm hp
    unfold pg_v at h ⊢
    rw [e, if_neg (pg_n1 (by omega)), nI_clamp (by omega)] at h ⊢
    rw [if_neg (pg_n1 (by omega))]
    rcases hE.2 _ hi with z | z
    · exact absurd z h
    · exact z
/-- a known value -/
theorem pg_v_val (hW : pg_WF nd len a1 a2 a3 a4 a6) (hC : pg_Cl pl nd len a1 a2 a3 a4 a6 a7 Q) (hr : r < 4) (hp : p ≤ len) {f : Nat → Int32} (hE : ∀ i, i < 840 → f i = -3 ∨ Q i (f i)) (h : ¬ pg_v a6 f r p = -3) :
    pg_v a6 f r p = -2 ∨ pg_v a6 f r p = -1 ∨ ∃ m, pg_v a6 f r p = nI m ∧ p + m ≤ len := by
  rcases pg_v_or hW hr p f with ⟨_, e⟩ | ⟨n, hn, _, e⟩
  · exact Or.inr (Or.inl e)
  · rw [e] at h ⊢
    rcases hE _ (pg_in hW hn hp) with z | z
    · exact absurd z h
    · have h2 := hW.2.1
      rcases hC.1 _ _ z with q | q | ⟨m, q, hm⟩
      · exact Or.inl q
      · exact Or.inr (Or.inl q)
      · exact Or.inr (Or.inr ⟨m, q, by omega⟩)
/-- the machine runs to its end -/
theorem pg_wloop {post : St1 → Prop} (hW : pg_WF nd len a1 a2 a3 a4 a6) (hC : pg_Cl pl nd len a1 a2 a3 a4 a6 a7 Q) (hb : ∀ i, i < 840 → ¬ b i = -4)
    (H : ∀ f8 f9 f10 f11, pg_D Q b root f8 → post (f0, f1, f2, nI len, 0, a1, a2, a3, a4, a5, a6, a7, f8, f9, f10, f11)) :
    ∀ N k D a8 a9 a10 a11, k + N ≤ 2520 → pg_R pl nd len a1 a2 a3 a4 a6 Q b root N D a8 a9 a10 a11 →
      wX_workOut_29 post (N + 1) (nI k) f0 f1 f2 (nI len) (nI D) a1 a2 a3 a4 a5 a6 a7 a8 a9 a10 a11 := by
  intro N
  induction N with
  | zero =>
    intro k D a8 a9 a10 a11 hk hR
    rcases hR with ⟨z, h⟩ | ⟨d, x, y, st, s, _, _, _, hT, hN⟩
    · subst z
      exact pk_le 3000 k (fun z => absurd z (by omega)) (fun _ => pk_le 0 0 (fun _ => H _ _ _ _ h) (fun z => absurd z (by omega)))
    · exfalso
      have s2 : s ≤ 2 := by
        rcases hT with h | ⟨c, h, _⟩
        · omega
        · exact (pg_Ch_s h).2
      omega
  | succ N ih =>
    intro k D a8 a9 a10 a11 hk hR
    cases D with
    | zero =>
      rcases hR with ⟨_, h⟩ | ⟨d, x, y, st, s, z, _⟩
      · exact pk_le 3000 k (fun z => absurd z (by omega)) (fun _ => pk_le 0 0 (fun _ => H _ _ _ _ h) (fun z => absurd z (by omega)))
      · exact absurd z (by omega)
    | succ d =>
      have hd : d < 840 := by
        rcases hR with ⟨z, _⟩ | ⟨d', x, y, st, s, z, hK, _⟩
        · exact absurd z (by omega)
        · have := hK.2.2.2.2.2.2
          omega
      refine pk_le 3000 k (fun z => absurd z (by omega)) (fun _ => pk_le (d + 1) 0 (fun z => absurd z (by omega)) (fun _ => ?_))
      rw [nI_pred]
      exact pg_wgo hW hC hb hR (fun D f8 f9 f10 f11 h => nm_r (nI_1 k) (ih (k + 1) D f8 f9 f10 f11 (by omega) h))
theorem pg_wwork {post : St1 → Prop} (hW : pg_WF nd len a1 a2 a3 a4 a6) (hC : pg_Cl pl nd len a1 a2 a3 a4 a6 a7 Q) (hT : ∀ i, i < 840 → a8 i = -3 ∨ Q i (a8 i)) {n : Nat} (hn : n < nd) (hp : p ≤ len)
    (H : ∀ f8 f9 f10 f11, pg_D Q a8 (21 * n + p) f8 → post (f0, f1, f2, nI len, 0, a1, a2, a3, a4, a5, a6, a7, f8, f9, f10, f11)) :
    wpX_workOut post (f0, f1, f2, nI len, f4, a1, a2, a3, a4, a5, a6, a7, a8, a9, a10, a11) (nI n) (nI p) := by
  have hi := pg_in hW hn hp
  have e1 : (nI (21 * n + p)).toNatClampNeg = 21 * n + p := nI_clamp (by omega)
  have hb : ∀ i, i < 840 → ¬ a8 i = -4 := by
    intro i hi
    rcases hT i hi with h | h
    · rw [h]; decide
    · exact (pg_Q3 hW.2.1 hC h).2
  unfold wpX_workOut
  dsimp only
  rw [pg_ix, e1]
  refine ⟨vp_in_nI hi (by omega), ?_⟩
  by_cases e3 : a8 (21 * n + p) = -3
  · have hR : pg_R pl nd len a1 a2 a3 a4 a6 Q a8 (21 * n + p) 2520 1 (upd a8 (21 * n + p) (-4)) (upd a9 0 (nI (21 * n + p))) (upd a10 0 0) a11 := by
      refine Or.inr ⟨0, fun _ => n, fun _ => p, fun _ => 0, 0, rfl, ⟨fun k hk => ⟨hn, hp, pk_us, ?_⟩, fun j k hj hk _ => by omega, fun i hi' => ?_, fun k hk => absurd hk (by omega), fun i hi' => ?_, ?_, ?_⟩, by rw [pk_us]; rfl, Or.inl rfl, ?_⟩
      · rw [show k = 0 by omega, pk_us]
      · by_cases e : i = 21 * n + p
        · exact Or.inr (Or.inr ⟨0, by omega, e⟩)
        · rw [pk_un e]
          rcases hT i hi' with h | h
          · exact Or.inl h
          · exact Or.inr (Or.inl h)
      · by_cases e : i = 21 * n + p
        · rw [e]; exact Or.inl e3
        · rw [pk_un e]; exact Or.inr rfl
      · rw [pk_us]; decide
      · have h1 := pg_u_put (f := a8) (v := -4) 840 hi e3 (by decide)
        have h2 := pg_u_le a8 840
        omega
      · have h1 := pg_u_put (f := a8) (v := -4) 840 hi e3 (by decide)
        have h2 := pg_u_le a8 840
        show 3 * pg_u (upd a8 (21 * n + p) (-4)) 840 + 0 + (3 - 0) ≤ 2520
        omega
    exact br_t e3 (pg_wput (d := 0) (by omega) hi ⟨2520 + 1, pg_wloop hW hC hb H 2520 0 1 _ _ _ _ (by omega) hR⟩)
  · exact br_f e3 ⟨0 + 1, pg_wloop hW hC hb H 0 0 0 _ _ _ _ (by omega) (Or.inl ⟨rfl, hT, fun _ _ => Or.inr rfl, e3⟩)⟩
theorem pg_wmatch {post : Int32 → St1 → Prop} (hW : pg_WF nd len a1 a2 a3 a4 a6) (hC : pg_Cl pl nd len a1 a2 a3 a4 a6 a7 Q) (hT : ∀ i, i < 840 → a8 i = -3 ∨ Q i (a8 i)) (hr : r < 4) (hp : p ≤ len)
    (H : ∀ g4 f8 f9 f10 f11, pg_E Q a8 f8 → ¬ pg_v a6 f8 r p = -3 → post (pg_v a6 f8 r p) (f0, f1, f2, nI len, g4, a1, a2, a3, a4, a5, a6, a7, f8, f9, f10, f11)) :
    wpX_match post (f0, f1, f2, nI len, f4, a1, a2, a3, a4, a5, a6, a7, a8, a9, a10, a11) (nI r) (nI p) := by
  have h1 := hW.1
  have h2 := hW.2.1
  have e1 : (nI r).toNatClampNeg = r := nI_clamp (by omega)
  have vr : vp_in (nI r) 4 := vp_in_nI hr (by omega)
  unfold wpX_match
  dsimp only
  rw [e1]
  refine br_f (nI_pos (by omega)) (pk_lt 3 r (fun z => absurd z (by omega)) (fun _ => br_f (nI_pos (by omega)) (br_t (nI_le hp (by omega)) ⟨vr, ?_⟩)))
  rcases pg_v_or hW hr p a8 with ⟨e, v⟩ | ⟨n, hn, e, v⟩
  · rw [e]
    refine br_f (by decide) ?_
    have h := H f4 a8 a9 a10 a11 (pg_E_refl hT) (by rw [v]; decide)
    rw [v] at h
    exact h
  · rw [e]
    refine br_t (nI_pos' (by omega)) ⟨vr, pg_wwork hW hC hT hn hp (fun f8 f9 f10 f11 hD => ?_)⟩
    have hv : pg_v a6 f8 r p = f8 (21 * n + p) := by
      unfold pg_v
      rw [e, if_neg (pg_n1 (by omega)), nI_clamp (by omega)]
    have h := H 0 f8 f9 f10 f11 ⟨hD.1, hD.2.1⟩ (by rw [hv]; exact hD.2.2)
    rw [hv] at h
    have hi := pg_in hW hn hp
    show vp_in (nI r) 4 ∧ (vp_in (21 * a6 r + nI p) 840 ∧ post (f8 (21 * a6 r + nI p).toNatClampNeg) _)
    rw [e, pg_ic (by omega)]
    exact ⟨vr, pg_ii hi, h⟩
end
end
section
section
variable {pl : Prop} {nd len : Nat} {f0 f1 f2 f3 f4 : Int32} {a1 a2 a3 a4 a5 a6 a7 : Nat → Int32} {Q : Nat → Int32 → Prop} {b : Nat → Int32} {r : Nat} {a8 a9 a10 a11 : Nat → Int32}
theorem pg_wm16 {post : Int32 → St1 → Prop} (hW : pg_WF nd len a1 a2 a3 a4 a6) (hC : pg_Cl pl nd len a1 a2 a3 a4 a6 a7 Q) (hr : r < 4)
    (H : ∀ g4 f8 f9 f10 f11, pg_E Q b f8 → (∀ j, j ≤ len → ¬ pg_v a6 f8 r j = -3) → post (nI (pg_c pg_ge (pg_v a6 f8 r) (len + 1))) (f0, f1, f2, nI len, g4, a1, a2, a3, a4, a5, a6, a7, f8, f9, f10, f11)) :
    ∀ m i g4 f8 f9 f10 f11, i + m = len + 1 → pg_E Q b f8 → (∀ j, j < i → ¬ pg_v a6 f8 r j = -3) →
      wX_matches_16 post (nI r) (m + 1) (nI (pg_c pg_ge (pg_v a6 f8 r) i)) (nI i) f0 f1 f2 (nI len) g4 a1 a2 a3 a4 a5 a6 a7 f8 f9 f10 f11 := by
  have hln := hW.2.1
  intro m
  induction m with
  | zero =>
    intro i g4 f8 f9 f10 f11 hi hE hk
    have ei : i = len + 1 := by omega
    subst ei
    exact pk_lt len (len + 1) (fun _ => H g4 f8 f9 f10 f11 hE (fun j hj => hk j (by omega))) (fun z => absurd z (by omega))
  | succ m ih =>
    intro i g4 f8 f9 f10 f11 hi hE hk
    refine pk_lt len i (fun z => absurd z (by omega)) (fun _ => pg_wmatch hW hC hE.1 hr (by omega) (fun g4' f8' f9' f10' f11' hE' hv => ?_))
    have hk' : ∀ j, j < i + 1 → ¬ pg_v a6 f8' r j = -3 := by
      intro j hj
      by_cases e : j = i
      · rw [e]; exact hv
      · rw [pg_v_keep hW hr (by omega) hE' (hk j (by omega))]
        exact hk j (by omega)
    have hs : pg_c pg_ge (pg_v a6 f8 r) i = pg_c pg_ge (pg_v a6 f8' r) i := pg_c_same i (fun j hj => (pg_v_keep hW hr (by omega) hE' (hk j hj)).symm)
    refine br_c (fun g => ?_) (fun g => ?_)
    · refine nm_r (show nI (pg_c pg_ge (pg_v a6 f8 r) i) + 0 = nI (pg_c pg_ge (pg_v a6 f8' r) (i + 1)) from ?_) (nm_r (nI_1 i) (ih (i + 1) g4' f8' f9' f10' f11' (by omega) (pg_E_trans hE hE') hk'))
      rw [pg_c_f (pg_ge_f g), hs, Int32.add_zero]
    · refine nm_r (show nI (pg_c pg_ge (pg_v a6 f8 r) i) + 1 = nI (pg_c pg_ge (pg_v a6 f8' r) (i + 1)) from ?_) (nm_r (nI_1 i) (ih (i + 1) g4' f8' f9' f10' f11' (by omega) (pg_E_trans hE hE') hk'))
      rw [pg_c_t (pg_ge_t g), hs, nI_1]
theorem pg_wmatches {post : Int32 → St1 → Prop} (hW : pg_WF nd len a1 a2 a3 a4 a6) (hC : pg_Cl pl nd len a1 a2 a3 a4 a6 a7 Q) (hT : ∀ i, i < 840 → a8 i = -3 ∨ Q i (a8 i)) (hr : r < 4)
    (H : ∀ g4 f8 f9 f10 f11, pg_E Q a8 f8 → (∀ j, j ≤ len → ¬ pg_v a6 f8 r j = -3) → post (nI (pg_c pg_ge (pg_v a6 f8 r) (len + 1))) (f0, f1, f2, nI len, g4, a1, a2, a3, a4, a5, a6, a7, f8, f9, f10, f11)) :
    wpX_matches post (f0, f1, f2, nI len, f4, a1, a2, a3, a4, a5, a6, a7, a8, a9, a10, a11) (nI r) :=
  br_f (nI_pos (by omega)) (pk_le r 3 (fun _ => ⟨len + 1 + 1, pg_wm16 hW hC hr H (len + 1) 0 f4 a8 a9 a10 a11 (by omega) (pg_E_refl hT) (fun j hj => absurd hj (by omega))⟩) (fun z => absurd z (by omega)))
theorem pg_ws16 {post : Int32 → St1 → Prop} (hW : pg_WF nd len a1 a2 a3 a4 a6) (hC : pg_Cl pl nd len a1 a2 a3 a4 a6 a7 Q) (hr : r < 4)
    (H : ∀ g4 f8 f9 f10 f11, pg_E Q b f8 → (∀ j, j ≤ len → ¬ pg_v a6 f8 r j = -3) → post (nI (pg_c pg_st (pg_v a6 f8 r) (len + 1))) (f0, f1, f2, nI len, g4, a1, a2, a3, a4, a5, a6, a7, f8, f9, f10, f11)) :
    ∀ m i g4 f8 f9 f10 f11, i + m = len + 1 → pg_E Q b f8 → (∀ j, j < i → ¬ pg_v a6 f8 r j = -3) →
      wX_stuck_16 post (nI r) (m + 1) (nI (pg_c pg_st (pg_v a6 f8 r) i)) (nI i) f0 f1 f2 (nI len) g4 a1 a2 a3 a4 a5 a6 a7 f8 f9 f10 f11 := by
  have hln := hW.2.1
  intro m
  induction m with
  | zero =>
    intro i g4 f8 f9 f10 f11 hi hE hk
    have ei : i = len + 1 := by omega
    subst ei
    exact pk_lt len (len + 1) (fun _ => H g4 f8 f9 f10 f11 hE (fun j hj => hk j (by omega))) (fun z => absurd z (by omega))
  | succ m ih =>
    intro i g4 f8 f9 f10 f11 hi hE hk
    refine pk_lt len i (fun z => absurd z (by omega)) (fun _ => pg_wmatch hW hC hE.1 hr (by omega) (fun g4' f8' f9' f10' f11' hE' hv => ?_))
    have hk' : ∀ j, j < i + 1 → ¬ pg_v a6 f8' r j = -3 := by
      intro j hj
      by_cases e : j = i
      · rw [e]; exact hv
      · rw [pg_v_keep hW hr (by omega) hE' (hk j (by omega))]
        exact hk j (by omega)
    have hs : pg_c pg_st (pg_v a6 f8 r) i = pg_c pg_st (pg_v a6 f8' r) i := pg_c_same i (fun j hj => (pg_v_keep hW hr (by omega) hE' (hk j hj)).symm)
    refine br_c (fun g => ?_) (fun g => ?_)
    · refine nm_r (show nI (pg_c pg_st (pg_v a6 f8 r) i) + 1 = nI (pg_c pg_st (pg_v a6 f8' r) (i + 1)) from ?_) (nm_r (nI_1 i) (ih (i + 1) g4' f8' f9' f10' f11' (by omega) (pg_E_trans hE hE') hk'))
      rw [pg_c_t (pg_st_t g), hs, nI_1]
    · refine nm_r (show nI (pg_c pg_st (pg_v a6 f8 r) i) + 0 = nI (pg_c pg_st (pg_v a6 f8' r) (i + 1)) from ?_) (nm_r (nI_1 i) (ih (i + 1) g4' f8' f9' f10' f11' (by omega) (pg_E_trans hE hE') hk'))
      rw [pg_c_f (pg_st_f g), hs, Int32.add_zero]
theorem pg_wstuck {post : Int32 → St1 → Prop} (hW : pg_WF nd len a1 a2 a3 a4 a6) (hC : pg_Cl pl nd len a1 a2 a3 a4 a6 a7 Q) (hT : ∀ i, i < 840 → a8 i = -3 ∨ Q i (a8 i)) (hr : r < 4)
    (H : ∀ g4 f8 f9 f10 f11, pg_E Q a8 f8 → (∀ j, j ≤ len → ¬ pg_v a6 f8 r j = -3) → post (nI (pg_c pg_st (pg_v a6 f8 r) (len + 1))) (f0, f1, f2, nI len, g4, a1, a2, a3, a4, a5, a6, a7, f8, f9, f10, f11)) :
    wpX_stuck post (f0, f1, f2, nI len, f4, a1, a2, a3, a4, a5, a6, a7, a8, a9, a10, a11) (nI r) :=
  br_f (nI_pos (by omega)) (pk_le r 3 (fun _ => ⟨len + 1 + 1, pg_ws16 hW hC hr H (len + 1) 0 f4 a8 a9 a10 a11 (by omega) (pg_E_refl hT) (fun j hj => absurd hj (by omega))⟩) (fun z => absurd z (by omega)))
theorem pg_wf22 {post : Int32 → St1 → Prop} (hW : pg_WF nd len a1 a2 a3 a4 a6) (hC : pg_Cl pl nd len a1 a2 a3 a4 a6 a7 Q) (hr : r < 4)
    (H1 : ∀ p g4 f8 f9 f10 f11, p ≤ len → pg_E Q b f8 → ¬ pg_v a6 f8 r p = -3 → ¬ pg_v a6 f8 r p < 0 → post (nI p) (f0, f1, f2, nI len, g4, a1, a2, a3, a4, a5, a6, a7, f8, f9, f10, f11))
    (H2 : ∀ g4 f8 f9 f10 f11, pg_E Q b f8 → post (-1) (f0, f1, f2, nI len, g4, a1, a2, a3, a4, a5, a6, a7, f8, f9, f10, f11)) :
    ∀ m i g4 f8 f9 f10 f11, i + m = len + 1 → pg_E Q b f8 →
      wX_find_22 post (nI r) (m + 1) (nI i) f0 f1 f2 (nI len) g4 a1 a2 a3 a4 a5 a6 a7 f8 f9 f10 f11 := by
  have hln := hW.2.1
  intro m
  induction m with
  | zero =>
    intro i g4 f8 f9 f10 f11 hi hE
    exact pk_lt len i (fun _ => H2 g4 f8 f9 f10 f11 hE) (fun z => absurd z (by omega))
  | succ m ih =>
    intro i g4 f8 f9 f10 f11 hi hE
    refine pk_lt len i (fun z => absurd z (by omega)) (fun _ => pg_wmatch hW hC hE.1 hr (by omega) (fun g4' f8' f9' f10' f11' hE' hv => ?_))
    exact br_c (fun g => nm_r (nI_1 i) (ih (i + 1) g4' f8' f9' f10' f11' (by omega) (pg_E_trans hE hE'))) (fun g => H1 i g4' f8' f9' f10' f11' (by omega) (pg_E_trans hE hE') hv g)
theorem pg_wfind {post : Int32 → St1 → Prop} (hW : pg_WF nd len a1 a2 a3 a4 a6) (hC : pg_Cl pl nd len a1 a2 a3 a4 a6 a7 Q) (hT : ∀ i, i < 840 → a8 i = -3 ∨ Q i (a8 i)) (hr : r < 4) {i : Nat} (hi : i ≤ len + 1)
    (H1 : ∀ p g4 f8 f9 f10 f11, p ≤ len → pg_E Q a8 f8 → ¬ pg_v a6 f8 r p = -3 → ¬ pg_v a6 f8 r p < 0 → post (nI p) (f0, f1, f2, nI len, g4, a1, a2, a3, a4, a5, a6, a7, f8, f9, f10, f11))
    (H2 : ∀ g4 f8 f9 f10 f11, pg_E Q a8 f8 → post (-1) (f0, f1, f2, nI len, g4, a1, a2, a3, a4, a5, a6, a7, f8, f9, f10, f11)) :
    wpX_find post (f0, f1, f2, nI len, f4, a1, a2, a3, a4, a5, a6, a7, a8, a9, a10, a11) (nI r) (nI i) :=
  br_f (nI_pos (by omega)) (pk_le r 3 (fun _ => br_t (nI_pos' (by have := hW.2.1; omega)) ⟨len + 1 - i + 1, pg_wf22 hW hC hr H1 H2 (len + 1 - i) i f4 a8 a9 a10 a11 (by omega) (pg_E_refl hT)⟩) (fun z => absurd z (by omega)))
/-- the law's own loop over the places -/
theorem pg_wfits22 {post : Int32 → St1 → Prop} (hW : pg_WF nd len a1 a2 a3 a4 a6) (hC : pg_Cl pl nd len a1 a2 a3 a4 a6 a7 Q) (hr : r < 4) (hA : ∀ j, j ≤ len → ¬ pg_v a6 b r j = -3)
    (H : ∀ g4 f8 f9 f10 f11, pg_E Q b f8 → post 1 (f0, f1, f2, nI len, g4, a1, a2, a3, a4, a5, a6, a7, f8, f9, f10, f11)) :
    ∀ m i g4 f8 f9 f10 f11, i + m = len + 1 → pg_E Q b f8 →
      wL_fits_22 post (nI r) (nI len) (nI (pg_c pg_ge (pg_v a6 b r) (len + 1))) (nI (pg_c pg_st (pg_v a6 b r) (len + 1))) (m + 1) (nI (pg_c pg_ge (pg_v a6 b r) i)) (nI (pg_c pg_st (pg_v a6 b r) i)) (nI i) f0 f1 f2 (nI len) g4 a1 a2 a3 a4 a5 a6 a7 f8 f9 f10 f11 := by
  have hln := hW.2.1
  intro m
  induction m with
  | zero =>
    intro i g4 f8 f9 f10 f11 hi hE
    have ei : i = len + 1 := by omega
    subst ei
    have h2 := pg_c_two (pg_v a6 b r) (len + 1)
    exact pk_lt len (len + 1) (fun _ => br_t rfl (br_t rfl (pk_lt (len + 1) (pg_c pg_ge (pg_v a6 b r) (len + 1) + pg_c pg_st (pg_v a6 b r) (len + 1)) (fun z => absurd z (by omega)) (fun _ => H g4 f8 f9 f10 f11 hE) (nI_1 _) (nI_add _ _)))) (fun z => absurd z (by omega))
  | succ m ih =>
    intro i g4 f8 f9 f10 f11 hi hE
    refine pk_lt len i (fun z => absurd z (by omega)) (fun _ => pg_wmatch hW hC hE.1 hr (by omega) (fun g4' f8' f9' f10' f11' hE' hv => ?_))
    have hE2 := pg_E_trans hE hE'
    have ev : pg_v a6 f8' r i = pg_v a6 b r i := pg_v_keep hW hr (by omega) hE2 (hA i (by omega))
    have hval := pg_v_val hW hC hr (show i ≤ len by omega) hE2.1 hv
    rw [ev] at hval ⊢
    have next : ∀ z : Int32, nI (pg_c pg_ge (pg_v a6 b r) i) + z = nI (pg_c pg_ge (pg_v a6 b r) (i + 1)) →
        wL_fits_72 post (wL_fits_22 post (nI r) (nI len) (nI (pg_c pg_ge (pg_v a6 b r) (len + 1))) (nI (pg_c pg_st (pg_v a6 b r) (len + 1))) (m + 1)) (nI r) (nI len) (nI (pg_c pg_ge (pg_v a6 b r) (len + 1))) (nI (pg_c pg_st (pg_v a6 b r) (len + 1))) (nI (pg_c pg_st (pg_v a6 b r) i)) (nI i) (pg_v a6 b r i) z (nI (pg_c pg_ge (pg_v a6 b r) i)) f0 f1 f2 (nI len) g4' a1 a2 a3 a4 a5 a6 a7 f8' f9' f10' f11' := by
      intro z hz
      refine nm_r hz (br_c (fun g => ?_) (fun g => ?_))
      · exact nm_r (show nI (pg_c pg_st (pg_v a6 b r) i) + 1 = nI (pg_c pg_st (pg_v a6 b r) (i + 1)) by rw [pg_c_t (pg_st_t g), nI_1]) (nm_r (nI_1 i) (ih (i + 1) g4' f8' f9' f10' f11' (by omega) hE2))
      · exact nm_r (show nI (pg_c pg_st (pg_v a6 b r) i) + 0 = nI (pg_c pg_st (pg_v a6 b r) (i + 1)) by rw [pg_c_f (pg_st_f g), Int32.add_zero]) (nm_r (nI_1 i) (ih (i + 1) g4' f8' f9' f10' f11' (by omega) hE2))
    rcases hval with e | e | ⟨u, e, hu⟩
    · have g : pg_v a6 b r i < 0 := by rw [e]; decide
      exact br_f (by rw [e]; decide) (br_t g (br_t g (next 0 (by rw [pg_c_f (pg_ge_f g), Int32.add_zero]))))
    · have g : pg_v a6 b r i < 0 := by rw [e]; decide
      exact br_f (by rw [e]; decide) (br_t g (br_t g (next 0 (by rw [pg_c_f (pg_ge_f g), Int32.add_zero]))))
    · have g0 : ¬ pg_v a6 b r i < 0 := by rw [e]; exact nI_pos (by omega)
      have g2 : ¬ pg_v a6 b r i < -2 := by
        rw [e]
        intro z
        exact nI_pos (show u < 2 ^ 31 by omega) (Int32.lt_trans z (by decide))
      have g3 : pg_v a6 b r i + nI i ≤ nI len := by
        rw [e, nI_add]
        exact nI_le (by omega) (by omega)
      exact br_f g2 (br_f g0 (br_t g3 (br_f g0 (next 1 (by rw [pg_c_t (pg_ge_t g0), nI_1])))))
theorem pg_wfits {post : Int32 → St1 → Prop} (hW : pg_WF nd len a1 a2 a3 a4 a6) (hC : pg_Cl pl nd len a1 a2 a3 a4 a6 a7 Q) (hT : ∀ i, i < 840 → a8 i = -3 ∨ Q i (a8 i)) (hr : r < 4)
    (H : ∀ g4 f8 f9 f10 f11, (∀ i, i < 840 → f8 i = -3 ∨ Q i (f8 i)) → post 1 (f0, f1, f2, nI len, g4, a1, a2, a3, a4, a5, a6, a7, f8, f9, f10, f11)) :
    wpL_fits post (f0, f1, f2, nI len, f4, a1, a2, a3, a4, a5, a6, a7, a8, a9, a10, a11) (nI r) (nI len) := by
  unfold wpL_fits
  dsimp only
  refine pg_wmatches hW hC hT hr (fun g4 f8 f9 f10 f11 hE hk => pg_wstuck hW hC hE.1 hr (fun g4' f8' f9' f10' f11' hE' hk' => ⟨len + 1 + 1, ?_⟩))
  have e1 : pg_c pg_ge (pg_v a6 f8 r) (len + 1) = pg_c pg_ge (pg_v a6 f8' r) (len + 1) := pg_c_same _ (fun j hj => (pg_v_keep hW hr (by omega) hE' (hk j (by omega))).symm)
  rw [e1]
  exact pg_wfits22 hW hC hr hk' (fun g4 f8 f9 f10 f11 h => H g4 f8 f9 f10 f11 h.1) (len + 1) 0 g4' f8' f9' f10' f11' (by omega) (pg_E_refl hE'.1)
end
end
section
/-- the values that any grammar may give -/
def pg_Q0 (len i : Nat) (v : Int32) : Prop := v = -2 ∨ v = -1 ∨ ∃ m, v = nI m ∧ i % 21 + m ≤ len
section
variable {nd len : Nat} {f0 f1 f2 f3 f4 : Int32} {a1 a2 a3 a4 a5 a6 a7 : Nat → Int32} {a8 a9 a10 a11 : Nat → Int32}
theorem pg_md {n p : Nat} (hp : p ≤ 20) : (21 * n + p) % 21 = p := by omega
theorem pg_Cl0 (hW : pg_WF nd len a1 a2 a3 a4 a6) : pg_Cl False nd len a1 a2 a3 a4 a6 a7 (pg_Q0 len) := by
  have hln := hW.2.1
  have M1 : ∀ i, pg_Q0 len i (-1) := fun i => Or.inr (Or.inl rfl)
  have Z : ∀ n p, p ≤ len → pg_Q0 len (21 * n + p) 0 := fun n p hp => Or.inr (Or.inr ⟨0, rfl, by rw [pg_md (by omega)]; omega⟩)
  have O : ∀ n p, p < len → pg_Q0 len (21 * n + p) 1 := fun n p hp => Or.inr (Or.inr ⟨1, rfl, by rw [pg_md (by omega)]; omega⟩)
  refine ⟨fun i v h => h, fun _ i => Or.inl rfl, fun z => z.elim, fun z => z.elim, ?_, fun n p _ _ _ => M1 _, ?_, ?_, ?_⟩
  · intro n p hn hp _
    exact ⟨fun _ => Z n p hp, fun _ _ => M1 _, fun z _ => O n p z, fun z _ _ => ⟨fun _ => O n p z, fun _ => M1 _⟩⟩
  · intro n p m hn hp _ _ _
    exact ⟨fun _ _ _ _ => M1 _, fun _ => Z n p hp⟩
  · intro n p m u hn hp _ _ hu
    refine ⟨fun _ _ _ _ => ?_, fun _ => Z n p hp, fun _ => M1 _⟩
    rcases hu with h | h | ⟨w, h, hw⟩
    · exact Or.inl h
    · exact Or.inr (Or.inl h)
    · rw [pg_md (by omega)] at hw
      exact Or.inr (Or.inr ⟨w, h, by rw [pg_md (by omega)]; exact hw⟩)
  · intro n p u c hn hp hu hc
    refine ⟨fun _ => M1 _, fun z hzl hz => ?_⟩
    have ec : c % 21 = p + u := by
      rcases hc with ⟨_, l, r, _, _, _, _, _, e⟩ | ⟨_, _, l, r, _, _, _, _, _, e⟩ | ⟨_, _, l, _, _, _, e⟩
      · rw [e]; exact pg_md (by omega)
      · rw [e]; exact pg_md (by omega)
      · rw [e]; exact pg_md (by omega)
    have go : ∀ w, nI z = nI w → c % 21 + w ≤ len → pg_Q0 len (21 * n + p) (nI (u + z)) := by
      intro w h hw
      refine Or.inr (Or.inr ⟨u + w, ?_, ?_⟩)
      · rw [← nI_add, h, nI_add]
      · rw [pg_md (by omega)]; omega
    rcases hz with h | h | ⟨w, h, hw⟩
    · exact absurd h (pg_n2 (by omega))
    · exact absurd h (pg_n1 (by omega))
    · exact go w h hw
theorem pg_wforget {post : St1 → Prop} (H : ∀ f8, (∀ i, i < 840 → f8 i = -3) → post (f0, f1, f2, f3, f4, a1, a2, a3, a4, a5, a6, a7, f8, a9, a10, a11)) :
    wpX_forget post (f0, f1, f2, f3, f4, a1, a2, a3, a4, a5, a6, a7, a8, a9, a10, a11) :=
  pk_loop (fun n i s => wX_forget_2 post f0 f1 f2 f3 f4 n (nI i) a1 a2 a3 a4 a5 a6 a7 s a9 a10 a11) (fun i s => ∀ j, j < i → s j = -3) 840 0 a8 (by omega) (fun j hj => absurd hj (by omega))
    (fun n s h => pk_le 840 840 (fun _ => H s h) (fun z => absurd z (by omega)))
    (fun n i s hi h hw => pk_le 840 i (fun z => absurd z (by omega)) (fun _ => ⟨pk_in i 840 hi, nm_r (show upd s (nI i).toNatClampNeg (-3) = upd s i (-3) by rw [nI_clamp (by omega)]) (nm_r (nI_1 i) (hw _ (fun j hj => by
      by_cases e : j = i
      · rw [e, pk_us]
      · rw [pk_un e]; exact h j (by omega))))⟩))
theorem pg_wclear {post : St1 → Prop} (H : ∀ f6 f8, (∀ j, j < 4 → f6 j = -1) → (∀ i, i < 840 → f8 i = -3) → post (0, 0, 0, f3, f4, a1, a2, a3, a4, a5, f6, a7, f8, a9, a10, a11)) :
    wpX_clear post (f0, f1, f2, f3, f4, a1, a2, a3, a4, a5, a6, a7, a8, a9, a10, a11) :=
  pk_loop (fun n i s => wX_clear_17 post 0 0 0 f3 f4 n (nI i) a1 a2 a3 a4 a5 s a7 a8 a9 a10 a11) (fun i s => ∀ j, j < i → s j = -1) 4 0 a6 (by omega) (fun j hj => absurd hj (by omega))
    (fun n s h => pk_le 4 4 (fun _ => pg_wforget (fun f8 h8 => H s f8 h h8)) (fun z => absurd z (by omega)))
    (fun n i s hi h hw => pk_le 4 i (fun z => absurd z (by omega)) (fun _ => ⟨pk_in i 4 hi, nm_r (show upd s (nI i).toNatClampNeg (-1) = upd s i (-1) by rw [nI_clamp (by omega)]) (nm_r (nI_1 i) (hw _ (fun j hj => by
      by_cases e : j = i
      · rw [e, pk_us]
      · rw [pk_un e]; exact h j (by omega))))⟩))
theorem pg_werase {post : St1 → Prop} (H : ∀ f8, (∀ i, i < 840 → f8 i = -3) → post (f0, f1, f2, 0, f4, a1, a2, a3, a4, a5, a6, a7, f8, a9, a10, a11)) :
    wpX_erase post (f0, f1, f2, f3, f4, a1, a2, a3, a4, a5, a6, a7, a8, a9, a10, a11) := by
  unfold wpX_erase
  dsimp only
  exact pg_wforget H
theorem pg_wtype {post : Int32 → St1 → Prop} {x : Int32} (hl : len ≤ 20)
    (H1 : len < 20 → ∀ f8, (∀ i, i < 840 → f8 i = -3) → post (nI (len + 1)) (f0, f1, f2, nI (len + 1), f4, a1, a2, a3, a4, a5, a6, upd a7 len (x &&& 3), f8, a9, a10, a11))
    (H2 : len = 20 → post (-1) (f0, f1, f2, nI len, f4, a1, a2, a3, a4, a5, a6, a7, a8, a9, a10, a11)) :
    wpX_type post (f0, f1, f2, nI len, f4, a1, a2, a3, a4, a5, a6, a7, a8, a9, a10, a11) x := by
  unfold wpX_type
  dsimp only
  refine pk_lt len 20 (fun z => ⟨pk_in len 20 z, nm_r (show upd a7 (nI len).toNatClampNeg (x &&& 3) = upd a7 len (x &&& 3) by rw [nI_clamp (by omega)]) (nm_r (nI_1 len) (pg_wforget (fun f8 h8 => H1 z f8 h8)))⟩) (fun z => H2 (by omega))
/-- a token that makes a node -/
theorem pg_wtok {post : Int32 → St1 → Prop} {tk ss t : Nat} {c x : Int32} (ht : tk < 40) (hn : nd < 40) (hs : ss < 40) (htt : t ≤ 2) (hts : t ≤ ss) (c0 : ¬ c < 0) (c1 : ¬ 10 < c) (c2 : ¬ c = 10)
    (H : post (nI (ss - t + 1)) (nI (tk + 1), nI (nd + 1), nI (ss - t + 1), f3, f4, upd a1 nd c, upd a2 nd (x &&& 3), upd a3 nd (if t = 0 then -1 else a5 (ss - t)), upd a4 nd (if t = 2 then a5 (ss - 1) else -1), upd a5 (ss - t) (nI nd), a6, a7, a8, a9, a10, a11)) :
    wX_token_19 post c x (nI t) (nI tk) (nI nd) (nI ss) f3 f4 a1 a2 a3 a4 a5 a6 a7 a8 a9 a10 a11 := by
  have e1 : (nI nd).toNatClampNeg = nd := nI_clamp (by omega)
  have e2 : (nI (ss - t)).toNatClampNeg = ss - t := nI_clamp (by omega)
  have L : ∀ (l : Int32) (b1 b2 : Nat → Int32), l = (if t = 0 then -1 else a5 (ss - t)) → b1 = upd a1 nd c → b2 = upd a2 nd (x &&& 3) → wX_token_150 post (nI t) l (nI nd) (nI (tk + 1)) (nI nd) (nI ss) f3 f4 b1 b2 a3 a4 a5 a6 a7 a8 a9 a10 a11 := by
    intro l b1 b2 el eb1 eb2
    subst el eb1 eb2
    have R : ∀ (q : Int32) (b3 : Nat → Int32), q = (if t = 2 then a5 (ss - 1) else -1) → b3 = upd a3 nd (if t = 0 then -1 else a5 (ss - t)) → wX_token_179 post (nI t) q (nI nd) (nI (tk + 1)) (nI nd) (nI ss) f3 f4 (upd a1 nd c) (upd a2 nd (x &&& 3)) b3 a4 a5 a6 a7 a8 a9 a10 a11 := by
      intro q b3 eq eb3
      subst eq eb3
      unfold wX_token_179
      rw [e1, pk_sub hts]
      refine ⟨vp_in_nI hn (by omega), nm_e (nm_e ?_)⟩
      rw [e2]
      exact ⟨vp_in_nI (by omega) (by omega), nm_e (nm_r (nI_1 _) (nm_r (nI_1 _) H))⟩
    unfold wX_token_150
    rw [e1]
    refine ⟨vp_in_nI hn (by omega), nm_e (pk_eq t 2 (fun z => ?_) (fun z => R _ _ (by rw [if_neg z]) rfl))⟩
    have e3 : nI ss - 1 = nI (ss - 1) := pk_sub (b := 1) (by omega)
    rw [e3, nI_clamp (show ss - 1 < 2 ^ 31 by omega)]
    exact ⟨vp_in_nI (by omega) (by omega), R _ _ (by rw [if_pos z]) rfl⟩
  unfold wX_token_19
  rw [e1]
  refine br_f c0 (br_f c1 (pk_lt ss t (fun z => absurd z (by omega)) (fun _ => pk_lt tk 40 (fun _ => nm_r (nI_1 tk) (br_f c2 ⟨vp_in_nI hn (by omega), nm_e ⟨vp_in_nI hn (by omega), nm_e ?_⟩⟩)) (fun z => absurd z (by omega)))))
  refine pk_le t 0 (fun z => L _ _ _ (by rw [if_pos (by omega)]) rfl rfl) (fun z => ?_)
  rw [pk_sub hts, e2]
  exact ⟨vp_in_nI (by omega) (by omega), L _ _ _ (by rw [if_neg (by omega)]) rfl rfl⟩
/-- a token that is refused -/
theorem pg_wtokN {post : Int32 → St1 → Prop} {tk ss t : Nat} {c x : Int32} (htk : tk ≤ 40) (hs : ss ≤ 40) (htt : t ≤ 2) (h : c < 0 ∨ 10 < c ∨ ss < t ∨ 40 ≤ tk)
    (H : post (-1) (nI tk, f1, nI ss, f3, f4, a1, a2, a3, a4, a5, a6, a7, a8, a9, a10, a11)) :
    wX_token_19 post c x (nI t) (nI tk) f1 (nI ss) f3 f4 a1 a2 a3 a4 a5 a6 a7 a8 a9 a10 a11 := by
  unfold wX_token_19
  by_cases c0 : c < 0
  · exact br_t c0 H
  · refine br_f c0 ?_
    by_cases c1 : 10 < c
    · exact br_t c1 H
    · refine br_f c1 (pk_lt ss t (fun _ => H) (fun z => pk_lt tk 40 (fun z' => ?_) (fun _ => H)))
      rcases h with h | h | h | h
      · exact absurd h c0
      · exact absurd h c1
      · exact absurd h (by omega)
      · exact absurd h (by omega)
/-- DEFINE -/
theorem pg_wtokD {post : Int32 → St1 → Prop} {tk ss j : Nat} {x : Int32} (ht : tk < 40) (hs : ss ≤ 40) (h1 : 1 ≤ ss) (hj : j < 4) (ej : x &&& 3 = nI j)
    (H : ∀ f8, (∀ i, i < 840 → f8 i = -3) → post (nI (ss - 1)) (nI (tk + 1), f1, nI (ss - 1), f3, f4, a1, a2, a3, a4, a5, upd a6 j (a5 (ss - 1)), a7, f8, a9, a10, a11)) :
    wX_token_19 post 10 x 1 (nI tk) f1 (nI ss) f3 f4 a1 a2 a3 a4 a5 a6 a7 a8 a9 a10 a11 := by
  have e3 : nI ss - 1 = nI (ss - 1) := pk_sub (b := 1) (by omega)
  unfold wX_token_19
  rw [e3, ej, nI_clamp (show j < 2 ^ 31 by omega)]
  refine br_f (by decide) (br_f (by decide) (pk_lt ss 1 (fun z => absurd z (by omega)) (fun _ => pk_lt tk 40 (fun _ => nm_r (nI_1 tk) (br_t rfl (nm_e ?_))) (fun z => absurd z (by omega)))))
  rw [nI_clamp (show ss - 1 < 2 ^ 31 by omega)]
  exact ⟨vp_in_nI (by omega) (by omega), vp_in_nI hj (by omega), nm_e (pg_wforget H)⟩
end
end
section
/-- the object between the law's calls -/
def pg_G (tk nd ss len : Nat) (a1 a2 a3 a4 a5 a6 a8 : Nat → Int32) : Prop :=
  pg_WF nd len a1 a2 a3 a4 a6 ∧ nd ≤ tk ∧ tk ≤ 40 ∧ ss ≤ nd ∧ (∀ k, k < ss → ∃ n, n < nd ∧ a5 k = nI n) ∧ (∀ i, i < 840 → a8 i = -3 ∨ pg_Q0 len i (a8 i))
theorem pg_three {c : Int32} (h1 : 2 < c) (h2 : ¬ 3 < c) : c = 3 := by
  rw [Int32.lt_iff_toInt_lt] at h1 h2
  rw [← Int32.toInt_inj]
  have e2 : (2 : Int32).toInt = 2 := by decide
  have e3 : (3 : Int32).toInt = 3 := by decide
  omega
theorem pg_and3 (x : Int32) : ∃ j, j < 4 ∧ x &&& 3 = nI j := pk_andE x 2 (by decide)
section
variable {nd len tk ss : Nat} {f0 f1 f2 f3 f4 : Int32} {a1 a2 a3 a4 a5 a6 a7 : Nat → Int32} {a8 a9 a10 a11 : Nat → Int32}
theorem pg_WF_add (hW : pg_WF nd len a1 a2 a3 a4 a6) (hn : nd < 40) {c g l r : Int32} (hg : ∃ j, j < 4 ∧ g = nI j) (hl : 2 < c → ¬ c = 3 → ∃ m, m < nd ∧ l = nI m) (hr : c = 4 ∨ c = 5 → ∃ m, m < nd ∧ r = nI m) :
    pg_WF (nd + 1) len (upd a1 nd c) (upd a2 nd g) (upd a3 nd l) (upd a4 nd r) a6 := by
  obtain ⟨w1, w2, w3, w4, w5, w6⟩ := hW
  refine ⟨by omega, w2, fun n h => ?_, fun n h => ?_, fun n h => ?_, fun j hj => ?_⟩
  · by_cases e : n = nd
    · rw [e, pk_us]; exact hg
    · rw [pk_un e]; exact w3 n (by omega)
  · by_cases e : n = nd
    · rw [e, pk_us, pk_us]; exact hl
    · rw [pk_un e, pk_un e]; exact w4 n (by omega)
  · by_cases e : n = nd
    · rw [e, pk_us, pk_us]; exact hr
    · rw [pk_un e, pk_un e]; exact w5 n (by omega)
  · rcases w6 j hj with h | ⟨m, hm, h⟩
    · exact Or.inl h
    · exact Or.inr ⟨m, by omega, h⟩
theorem pg_WF_def (hW : pg_WF nd len a1 a2 a3 a4 a6) {j : Nat} {v : Int32} (hv : ∃ m, m < nd ∧ v = nI m) : pg_WF nd len a1 a2 a3 a4 (upd a6 j v) := by
  obtain ⟨w1, w2, w3, w4, w5, w6⟩ := hW
  refine ⟨w1, w2, w3, w4, w5, fun k hk => ?_⟩
  by_cases e : k = j
  · rw [e, pk_us]; exact Or.inr hv
  · rw [pk_un e]; exact w6 k hk
theorem pg_G_add (hG : pg_G tk nd ss len a1 a2 a3 a4 a5 a6 a8) (ht : tk < 40) {t : Nat} (hts : t ≤ ss) {c x : Int32} (hl : 2 < c → ¬ c = 3 → 1 ≤ t) (hr : c = 4 ∨ c = 5 → t = 2) :
    pg_G (tk + 1) (nd + 1) (ss - t + 1) len (upd a1 nd c) (upd a2 nd (x &&& 3)) (upd a3 nd (if t = 0 then -1 else a5 (ss - t))) (upd a4 nd (if t = 2 then a5 (ss - 1) else -1)) (upd a5 (ss - t) (nI nd)) a6 a8 := by
  obtain ⟨hW, g1, g2, g3, g4, g5⟩ := hG
  refine ⟨pg_WF_add hW (by omega) (pg_and3 x) (fun h2 h3 => ?_) (fun h => ?_), by omega, by omega, by omega, fun k hk => ?_, g5⟩
  · have := hl h2 h3
    rw [if_neg (by omega)]
    exact g4 _ (by omega)
  · have := hr h
    rw [if_pos this]
    exact g4 _ (by omega)
  · by_cases e : k = ss - t
    · rw [e, pk_us]; exact ⟨nd, by omega, rfl⟩
    · rw [pk_un e]
      obtain ⟨n, hn, h⟩ := g4 k (by omega)
      exact ⟨n, by omega, h⟩
theorem pg_wtoken {post : Int32 → St1 → Prop} (hG : pg_G tk nd ss len a1 a2 a3 a4 a5 a6 a8) {c x : Int32}
    (H : ∀ v tk' nd' ss' b1 b2 b3 b4 b5 b6 b8, pg_G tk' nd' ss' len b1 b2 b3 b4 b5 b6 b8 → post v (nI tk', nI nd', nI ss', nI len, f4, b1, b2, b3, b4, b5, b6, a7, b8, a9, a10, a11)) :
    wpX_token post (nI tk, nI nd, nI ss, nI len, f4, a1, a2, a3, a4, a5, a6, a7, a8, a9, a10, a11) c x := by
  have hG' := hG
  obtain ⟨hW, g1, g2, g3, g4, g5⟩ := hG
  have main : ∀ t, t ≤ 2 → (2 < c → ¬ c = 3 → 1 ≤ t) → (c = 4 ∨ c = 5 → t = 2) → (c = 10 → t = 1) → wX_token_19 post c x (nI t) (nI tk) (nI nd) (nI ss) (nI len) f4 a1 a2 a3 a4 a5 a6 a7 a8 a9 a10 a11 := by
    intro t ht hl hr hd
    by_cases h : c < 0 ∨ 10 < c ∨ ss < t ∨ 40 ≤ tk
    · exact pg_wtokN g2 (by omega) ht h (H _ _ _ _ _ _ _ _ _ _ _ hG')
    · have h1 : ¬ c < 0 := fun z => h (Or.inl z)
      have h2 : ¬ 10 < c := fun z => h (Or.inr (Or.inl z))
      have h3 : t ≤ ss := Nat.le_of_not_lt (fun z => h (Or.inr (Or.inr (Or.inl z))))
      have h4 : tk < 40 := Nat.lt_of_not_le (fun z => h (Or.inr (Or.inr (Or.inr z))))
      by_cases e : c = 10
      · have et := hd e
        subst et
        subst e
        obtain ⟨j, hj, ej⟩ := pg_and3 x
        refine pg_wtokD h4 (by omega) h3 hj ej (fun f8 h8 => H _ _ _ _ _ _ _ _ _ _ _ ⟨pg_WF_def hW (g4 _ (by omega)), by omega, by omega, by omega, fun k hk => g4 k (by omega), fun i hi => Or.inl (h8 i hi)⟩)
      · exact pg_wtok h4 (by omega) (by omega) ht h3 h1 h2 e (H _ _ _ _ _ _ _ _ _ _ _ (pg_G_add hG' h4 h3 hl hr))
  unfold wpX_token
  dsimp only
  by_cases c3 : 3 < c
  · refine br_t c3 ?_
    by_cases c5 : 5 < c
    · refine br_t c5 (main 1 (by omega) (fun _ _ => by omega) (fun h => ?_) (fun _ => rfl))
      rcases h with h | h <;> rw [h] at c5 <;> exact absurd c5 (by decide)
    · refine br_f c5 (main 2 (by omega) (fun _ _ => by omega) (fun h => rfl) (fun h => ?_))
      rw [h] at c5
      exact absurd (show (5 : Int32) < 10 by decide) c5
  · refine br_f c3 (main 0 (by omega) (fun h1 h2 => absurd (pg_three h1 c3) h2) (fun h => ?_) (fun h => ?_))
    · rcases h with h | h <;> rw [h] at c3 <;> exact absurd (by decide) c3
    · rw [h] at c3
      exact absurd (by decide) c3
end
end
section
/-! the grammar that 'plain' builds, and what it says -/
def pg_l (len : Nat) (a7 : Nat → Int32) (x : Int32) (p : Nat) : Int32 := if p < len ∧ a7 p = x then 1 else -1
def pg_m (len : Nat) (a7 : Nat → Int32) (la lb : Int32) (p : Nat) : Int32 := if (p + 1 < len ∧ a7 p = la) ∧ a7 (p + 1) = lb then 2 else -1
def pg_n (len p : Nat) : Int32 := if p < len then 1 else -1
def pg_t (len : Nat) (a7 : Nat → Int32) (la lb : Int32) (p : Nat) : Int32 := if (p + 2 < len ∧ a7 p = la) ∧ a7 (p + 1) = lb then 3 else -1
def pg_S (la lb : Int32) (a7 : Nat → Int32) (len n p : Nat) (v : Int32) : Prop :=
  (n = 0 ∧ v = pg_l len a7 la p) ∨ (n = 1 ∧ v = pg_l len a7 lb p) ∨ (n = 2 ∧ v = pg_m len a7 la lb p) ∨ (n = 3 ∧ v = pg_n len p) ∨ (n = 4 ∧ v = pg_t len a7 la lb p)
def pg_Qp (la lb : Int32) (a7 : Nat → Int32) (len i : Nat) (v : Int32) : Prop := pg_S la lb a7 len (i / 21) (i % 21) v
/-- the arrays that 'plain' leaves -/
def pg_P (la lb : Int32) (b1 b2 b3 b4 b6 : Nat → Int32) : Prop :=
  (b1 0 = 0 ∧ b1 1 = 0 ∧ b1 2 = 4 ∧ b1 3 = 1 ∧ b1 4 = 4) ∧ (b2 0 = la ∧ b2 1 = lb ∧ ∀ n, n < 5 → ∃ j, j < 4 ∧ b2 n = nI j) ∧
  (b3 2 = nI 0 ∧ b4 2 = nI 1 ∧ b3 4 = nI 2 ∧ b4 4 = nI 3) ∧ b6 1 = nI 4 ∧ ∀ j, j < 4 → ¬ j = 1 → b6 j = -1
theorem pg_five {n : Nat} (h : n < 5) : n = 0 ∨ n = 1 ∨ n = 2 ∨ n = 3 ∨ n = 4 := by omega
section
variable {len n p : Nat} {la lb v : Int32} {a7 b1 b2 b3 b4 b6 : Nat → Int32}
theorem pg_l_or : (pg_l len a7 la p = 1 ∧ p < len ∧ a7 p = la) ∨ (pg_l len a7 la p = -1 ∧ ¬ (p < len ∧ a7 p = la)) := by
  unfold pg_l
  by_cases h : p < len ∧ a7 p = la
  · rw [if_pos h]; exact Or.inl ⟨rfl, h⟩
  · rw [if_neg h]; exact Or.inr ⟨rfl, h⟩
theorem pg_m_or : (pg_m len a7 la lb p = 2 ∧ (p + 1 < len ∧ a7 p = la) ∧ a7 (p + 1) = lb) ∨ (pg_m len a7 la lb p = -1 ∧ ¬ ((p + 1 < len ∧ a7 p = la) ∧ a7 (p + 1) = lb)) := by
  unfold pg_m
  by_cases h : (p + 1 < len ∧ a7 p = la) ∧ a7 (p + 1) = lb
  · rw [if_pos h]; exact Or.inl ⟨rfl, h⟩
  · rw [if_neg h]; exact Or.inr ⟨rfl, h⟩
theorem pg_n_or : (pg_n len p = 1 ∧ p < len) ∨ (pg_n len p = -1 ∧ ¬ p < len) := by
  unfold pg_n
  by_cases h : p < len
  · rw [if_pos h]; exact Or.inl ⟨rfl, h⟩
  · rw [if_neg h]; exact Or.inr ⟨rfl, h⟩
theorem pg_t_or : (pg_t len a7 la lb p = 3 ∧ (p + 2 < len ∧ a7 p = la) ∧ a7 (p + 1) = lb) ∨ (pg_t len a7 la lb p = -1 ∧ ¬ ((p + 2 < len ∧ a7 p = la) ∧ a7 (p + 1) = lb)) := by
  unfold pg_t
  by_cases h : (p + 2 < len ∧ a7 p = la) ∧ a7 (p + 1) = lb
  · rw [if_pos h]; exact Or.inl ⟨rfl, h⟩
  · rw [if_neg h]; exact Or.inr ⟨rfl, h⟩
theorem pg_Qp_iff (hp : p ≤ 20) : pg_Qp la lb a7 len (21 * n + p) v ↔ pg_S la lb a7 len n p v := by
  unfold pg_Qp
  rw [show (21 * n + p) / 21 = n by omega, show (21 * n + p) % 21 = p by omega]
theorem pg_S_lt (h : pg_S la lb a7 len n p v) : n < 5 := by
  rcases h with ⟨e, _⟩ | ⟨e, _⟩ | ⟨e, _⟩ | ⟨e, _⟩ | ⟨e, _⟩ <;> omega
theorem pg_S0 : pg_S la lb a7 len 0 p v ↔ v = pg_l len a7 la p := by
  refine ⟨fun h => ?_, fun h => Or.inl ⟨rfl, h⟩⟩
  rcases h with ⟨_, h⟩ | ⟨e, _⟩ | ⟨e, _⟩ | ⟨e, _⟩ | ⟨e, _⟩
  · exact h
  all_goals exact absurd e (by omega)
theorem pg_S1 : pg_S la lb a7 len 1 p v ↔ v = pg_l len a7 lb p := by
  refine ⟨fun h => ?_, fun h => Or.inr (Or.inl ⟨rfl, h⟩)⟩
  rcases h with ⟨e, _⟩ | ⟨_, h⟩ | ⟨e, _⟩ | ⟨e, _⟩ | ⟨e, _⟩
  rotate_left
  · exact h
  all_goals exact absurd e (by omega)
theorem pg_S2 : pg_S la lb a7 len 2 p v ↔ v = pg_m len a7 la lb p := by
  refine ⟨fun h => ?_, fun h => Or.inr (Or.inr (Or.inl ⟨rfl, h⟩))⟩
  rcases h with ⟨e, _⟩ | ⟨e, _⟩ | ⟨_, h⟩ | ⟨e, _⟩ | ⟨e, _⟩
  rotate_left 2
  · exact h
  all_goals exact absurd e (by omega)
theorem pg_S3 : pg_S la lb a7 len 3 p v ↔ v = pg_n len p := by
  refine ⟨fun h => ?_, fun h => Or.inr (Or.inr (Or.inr (Or.inl ⟨rfl, h⟩)))⟩
  rcases h with ⟨e, _⟩ | ⟨e, _⟩ | ⟨e, _⟩ | ⟨_, h⟩ | ⟨e, _⟩
  rotate_left 3
  · exact h
  all_goals exact absurd e (by omega)
theorem pg_S4 : pg_S la lb a7 len 4 p v ↔ v = pg_t len a7 la lb p := by
  refine ⟨fun h => ?_, fun h => Or.inr (Or.inr (Or.inr (Or.inr ⟨rfl, h⟩)))⟩
  rcases h with ⟨e, _⟩ | ⟨e, _⟩ | ⟨e, _⟩ | ⟨e, _⟩ | ⟨_, h⟩
  rotate_left 4
  · exact h
  all_goals exact absurd e (by omega)
theorem pg_S_Q0 (h : pg_S la lb a7 len n p v) : v = -1 ∨ ∃ m, 1 ≤ m ∧ m ≤ 3 ∧ v = nI m ∧ p + m ≤ len := by
  rcases h with ⟨_, e⟩ | ⟨_, e⟩ | ⟨_, e⟩ | ⟨_, e⟩ | ⟨_, e⟩
  · rcases pg_l_or (len := len) (a7 := a7) (la := la) (p := p) with ⟨h, h1⟩ | ⟨h, _⟩
    · exact Or.inr ⟨1, by omega, by omega, e.trans h, by omega⟩
    · exact Or.inl (e.trans h)
  · rcases pg_l_or (len := len) (a7 := a7) (la := lb) (p := p) with ⟨h, h1⟩ | ⟨h, _⟩
    · exact Or.inr ⟨1, by omega, by omega, e.trans h, by omega⟩
    · exact Or.inl (e.trans h)
  · rcases pg_m_or (len := len) (a7 := a7) (la := la) (lb := lb) (p := p) with ⟨h, h1⟩ | ⟨h, _⟩
    · exact Or.inr ⟨2, by omega, by omega, e.trans h, by omega⟩
    · exact Or.inl (e.trans h)
  · rcases pg_n_or (len := len) (p := p) with ⟨h, h1⟩ | ⟨h, _⟩
    · exact Or.inr ⟨1, by omega, by omega, e.trans h, by omega⟩
    · exact Or.inl (e.trans h)
  · rcases pg_t_or (len := len) (a7 := a7) (la := la) (lb := lb) (p := p) with ⟨h, h1⟩ | ⟨h, _⟩
    · exact Or.inr ⟨3, by omega, by omega, e.trans h, by omega⟩
    · exact Or.inl (e.trans h)
theorem pg_Qp_Q0 {i : Nat} (h : pg_Qp la lb a7 len i v) : pg_Q0 len i v := by
  rcases pg_S_Q0 h with e | ⟨m, _, _, e, hm⟩
  · exact Or.inr (Or.inl e)
  · exact Or.inr (Or.inr ⟨m, e, hm⟩)
theorem pg_P_WF (hl : len ≤ 20) (h : pg_P la lb b1 b2 b3 b4 b6) : pg_WF 5 len b1 b2 b3 b4 b6 := by
  obtain ⟨⟨o0, o1, o2, o3, o4⟩, ⟨_, _, g⟩, ⟨l2, r2, l4, r4⟩, m1, mo⟩ := h
  refine ⟨by omega, hl, g, fun n hn h2 h3 => ?_, fun n hn h => ?_, fun j hj => ?_⟩
  · rcases pg_five hn with e | e | e | e | e <;> subst e
    · rw [o0] at h2; exact absurd h2 (by decide)
    · rw [o1] at h2; exact absurd h2 (by decide)
    · exact ⟨0, by omega, l2⟩
    · rw [o3] at h2; exact absurd h2 (by decide)
    · exact ⟨2, by omega, l4⟩
  · rcases pg_five hn with e | e | e | e | e <;> subst e
    · rw [o0] at h; exact absurd h (by decide)
    · rw [o1] at h; exact absurd h (by decide)
    · exact ⟨1, by omega, r2⟩
    · rw [o3] at h; exact absurd h (by decide)
    · exact ⟨3, by omega, r4⟩
  · by_cases e : j = 1
    · subst e
      exact Or.inr ⟨4, by omega, m1⟩
    · exact Or.inl (mo j hj e)
theorem pg_P_Cl (hl : len ≤ 20) (h : pg_P la lb b1 b2 b3 b4 b6) : pg_Cl True 5 len b1 b2 b3 b4 b6 a7 (pg_Qp la lb a7 len) := by
  obtain ⟨⟨o0, o1, o2, o3, o4⟩, ⟨t0, t1, _⟩, ⟨l2, r2, l4, r4⟩, _, _⟩ := h
  have N3 : ∀ n, n < 5 → ¬ b1 n = 3 ∧ ¬ b1 n = 6 := by
    intro n hn
    rcases pg_five hn with e | e | e | e | e <;> subst e
    · rw [o0]; decide
    · rw [o1]; decide
    · rw [o2]; decide
    · rw [o3]; decide
    · rw [o4]; decide
  have N4 : ∀ n, n < 5 → 2 < b1 n → (n = 2 ∨ n = 4) ∧ b1 n = 4 := by
    intro n hn h2
    rcases pg_five hn with e | e | e | e | e <;> subst e
    · rw [o0] at h2; exact absurd h2 (by decide)
    · rw [o1] at h2; exact absurd h2 (by decide)
    · exact ⟨Or.inl rfl, o2⟩
    · rw [o3] at h2; exact absurd h2 (by decide)
    · exact ⟨Or.inr rfl, o4⟩
  refine ⟨fun i v h => pg_Qp_Q0 h, fun z => absurd trivial z, fun _ i h => ?_, fun _ => N3, ?_, ?_, ?_, ?_, ?_⟩
  · rcases pg_S_Q0 h with e | ⟨m, _, hm, e, _⟩
    · exact absurd e (by decide)
    · exact absurd e.symm (pg_n2 (by omega))
  · intro n p hn hp h2
    rw [pg_Qp_iff (by omega), pg_Qp_iff (by omega), pg_Qp_iff (by omega)]
    rcases pg_five hn with e | e | e | e | e <;> subst e
    · rw [o0, t0]
      refine ⟨fun z => absurd z (by decide), fun _ z => ?_, fun _ z => absurd z (by decide), fun z _ _ => ⟨fun q => ?_, fun q => ?_⟩⟩
      · exact pg_S0.mpr (if_neg (fun q => absurd q.1 (by omega))).symm
      · exact pg_S0.mpr (if_pos ⟨z, q⟩).symm
      · exact pg_S0.mpr (if_neg (fun k => q k.2)).symm
    · rw [o1, t1]
      refine ⟨fun z => absurd z (by decide), fun _ z => ?_, fun _ z => absurd z (by decide), fun z _ _ => ⟨fun q => ?_, fun q => ?_⟩⟩
      · exact pg_S1.mpr (if_neg (fun q => absurd q.1 (by omega))).symm
      · exact pg_S1.mpr (if_pos ⟨z, q⟩).symm
      · exact pg_S1.mpr (if_neg (fun k => q k.2)).symm
    · rw [o2] at h2; exact absurd (by decide) h2
    · rw [o3]
      refine ⟨fun z => absurd z (by decide), fun _ z => ?_, fun z _ => ?_, fun z _ q => absurd rfl q⟩
      · exact pg_S3.mpr (if_neg (by omega)).symm
      · exact pg_S3.mpr (if_pos z).symm
    · rw [o4] at h2; exact absurd (by decide) h2
  · intro n p hn _ z
    exact absurd z (N3 n hn).1
  · intro n p m hn hp h2 h1 hQ
    obtain ⟨hn2, e4⟩ := N4 n hn h2
    rw [e4]
    refine ⟨fun _ _ _ _ => ?_, fun z => absurd z (by decide)⟩
    rw [pg_Qp_iff (by omega)] at hQ ⊢
    have hm := pg_S_lt hQ
    rcases h1 with ⟨z, _⟩ | ⟨_, em⟩
    · exact absurd z (N3 n hn).1
    rcases hn2 with e | e <;> subst e
    · have : m = 0 := (nI_eq (by omega) (by omega)).mp (em.symm.trans l2)
      subst this
      have hq := pg_S0.mp hQ
      refine pg_S2.mpr (if_neg (fun k => ?_)).symm
      rcases pg_l_or (len := len) (a7 := a7) (la := la) (p := p) with ⟨h, _⟩ | ⟨h, h'⟩
      · rw [h] at hq; exact absurd hq (by decide)
      · exact h' ⟨by omega, k.1.2⟩
    · have : m = 2 := (nI_eq (by omega) (by omega)).mp (em.symm.trans l4)
      subst this
      have hq := pg_S2.mp hQ
      refine pg_S4.mpr (if_neg (fun k => ?_)).symm
      rcases pg_m_or (len := len) (a7 := a7) (la := la) (lb := lb) (p := p) with ⟨h, _⟩ | ⟨h, h'⟩
      · rw [h] at hq; exact absurd hq (by decide)
      · exact h' ⟨⟨by omega, k.1.2⟩, k.2⟩
  · intro n p m u hn hp h2 h1 hQ
    obtain ⟨hn2, e4⟩ := N4 n hn h2
    rw [e4]
    exact ⟨fun z => absurd rfl z, fun z => absurd z (by decide), fun z => absurd z (by decide)⟩
  · intro n p u c hn hp hu hc
    rcases hc with ⟨o, l, r, el, er, hl', hr', hQ, ec⟩ | ⟨o, _⟩ | ⟨o, _⟩
    · obtain ⟨hn2, _⟩ := N4 n hn (by rw [o]; decide)
      rw [ec]
      rw [pg_Qp_iff (by omega)] at hQ
      rcases hn2 with e | e <;> subst e
      · have e1 : l = 0 := (nI_eq (by omega) (by omega)).mp (el.symm.trans l2)
        have e2 : r = 1 := (nI_eq (by omega) (by omega)).mp (er.symm.trans r2)
        subst e1 e2
        have hq := pg_S0.mp hQ
        rcases pg_l_or (len := len) (a7 := a7) (la := la) (p := p) with ⟨h, h'⟩ | ⟨h, _⟩
        · have eu : u = 1 := (nI_eq (by omega) (by omega)).mp (hq.trans h)
          subst eu
          rw [pg_Qp_iff (by omega), pg_Qp_iff (by omega)]
          refine ⟨fun g => ?_, fun z hz g => ?_⟩
          · have g' := pg_S1.mp g
            refine pg_S2.mpr (if_neg (fun k => ?_)).symm
            rcases pg_l_or (len := len) (a7 := a7) (la := lb) (p := p + 1) with ⟨h3, _⟩ | ⟨h3, h4⟩
            · rw [h3] at g'; exact absurd g' (by decide)
            · exact h4 ⟨k.1.1, k.2⟩
          · rw [pg_Qp_iff (by omega)] at g ⊢
            have g' := pg_S1.mp g
            rcases pg_l_or (len := len) (a7 := a7) (la := lb) (p := p + 1) with ⟨h3, h4⟩ | ⟨h3, _⟩
            · have ez : z = 1 := (nI_eq (by omega) (by omega)).mp (g'.trans h3)
              subst ez
              exact pg_S2.mpr (if_pos ⟨⟨h4.1, h'.2⟩, h4.2⟩).symm
            · exact absurd (g'.trans h3) (pg_n1 (by omega))
        · exact absurd (hq.trans h) (pg_n1 (by omega))
      · have e1 : l = 2 := (nI_eq (by omega) (by omega)).mp (el.symm.trans l4)
        have e2 : r = 3 := (nI_eq (by omega) (by omega)).mp (er.symm.trans r4)
        subst e1 e2
        have hq := pg_S2.mp hQ
        rcases pg_m_or (len := len) (a7 := a7) (la := la) (lb := lb) (p := p) with ⟨h, h'⟩ | ⟨h, _⟩
        · have eu : u = 2 := (nI_eq (by omega) (by omega)).mp (hq.trans h)
          subst eu
          rw [pg_Qp_iff (by omega), pg_Qp_iff (by omega)]
          refine ⟨fun g => ?_, fun z hz g => ?_⟩
          · have g' := pg_S3.mp g
            refine pg_S4.mpr (if_neg (fun k => ?_)).symm
            rcases pg_n_or (len := len) (p := p + 2) with ⟨h3, _⟩ | ⟨h3, h4⟩
            · rw [h3] at g'; exact absurd g' (by decide)
            · exact h4 k.1.1
          · rw [pg_Qp_iff (by omega)] at g ⊢
            have g' := pg_S3.mp g
            rcases pg_n_or (len := len) (p := p + 2) with ⟨h3, h4⟩ | ⟨h3, _⟩
            · have ez : z = 1 := (nI_eq (by omega) (by omega)).mp (g'.trans h3)
              subst ez
              exact pg_S4.mpr (if_pos ⟨⟨h4, h'.1.2⟩, h'.2⟩).symm
            · exact absurd (g'.trans h3) (pg_n1 (by omega))
        · exact absurd (hq.trans h) (pg_n1 (by omega))
    · have := (N4 n hn (by rw [o]; decide)).2
      rw [o] at this
      exact absurd this (by decide)
    · exact absurd o (N3 n hn).2
/-- what the table says of rule 1 -/
theorem pg_P_v (h : pg_P la lb b1 b2 b3 b4 b6) (hl : len ≤ 20) (hp : p ≤ len) {f : Nat → Int32} (hT : ∀ i, i < 840 → f i = -3 ∨ pg_Qp la lb a7 len i (f i)) (hv : ¬ pg_v b6 f 1 p = -3) : pg_v b6 f 1 p = pg_t len a7 la lb p := by
  have e : pg_v b6 f 1 p = f (21 * 4 + p) := by
    unfold pg_v
    rw [h.2.2.2.1, if_neg (pg_n1 (by omega)), nI_clamp (by omega)]
  rw [e] at hv ⊢
  rcases hT (21 * 4 + p) (by omega) with z | z
  · exact absurd z hv
  · rw [pg_Qp_iff (by omega)] at z
    exact pg_S4.mp z
/-- more text, no fewer matches -/
theorem pg_t_more {len' : Nat} {c7 : Nat → Int32} (hl : len ≤ len') (hc : ∀ j, j < len → c7 j = a7 j) (h : pg_t len a7 la lb p = 3) : pg_t len' c7 la lb p = 3 := by
  rcases pg_t_or (len := len) (a7 := a7) (la := la) (lb := lb) (p := p) with ⟨_, h1⟩ | ⟨h1, _⟩
  · refine if_pos ⟨⟨by omega, ?_⟩, ?_⟩
    · rw [hc p (by omega)]; exact h1.1.2
    · rw [hc (p + 1) (by omega)]; exact h1.2
  · rw [h1] at h
    exact absurd h (by decide)
theorem pg_t_ge (h : ¬ pg_t len a7 la lb p < 0) : pg_t len a7 la lb p = 3 := by
  rcases pg_t_or (len := len) (a7 := a7) (la := la) (lb := lb) (p := p) with ⟨h1, _⟩ | ⟨h1, _⟩
  · exact h1
  · rw [h1] at h
    exact absurd (by decide) h
end
theorem pg_c_more {P : Int32 → Bool} {v w : Nat → Int32} (h : ∀ j, P (v j) = true → P (w j) = true) (n k : Nat) : pg_c P v n ≤ pg_c P w (n + k) := by
  have A : ∀ n, pg_c P v n ≤ pg_c P w n := by
    intro n
    induction n with
    | zero => exact Nat.le_refl 0
    | succ n ih =>
      by_cases e : P (v n) = true
      · rw [pg_c_t e, pg_c_t (h n e)]; omega
      · rw [pg_c_f e]
        have : pg_c P w n ≤ pg_c P w (n + 1) := Nat.le_add_right _ _
        omega
  have B : ∀ k, pg_c P w n ≤ pg_c P w (n + k) := by
    intro k
    induction k with
    | zero => exact Nat.le_refl _
    | succ k ih => exact Nat.le_trans ih (Nat.le_add_right _ _)
  exact Nat.le_trans (A n) (B k)
end
section
section
variable {len : Nat} {f0 f1 f2 f3 f4 : Int32} {a1 a2 a3 a4 a5 a6 a7 : Nat → Int32} {a8 a9 a10 a11 : Nat → Int32} {b1 b2 b3 b4 b5 b6 : Nat → Int32} {la lb : Int32}
/-- the end of 'plain': the second count, and what type answered -/
theorem pg_wp117 {post : Int32 → St1 → Prop} {n : Nat} {x1 x8 : Int32} (hl : len ≤ 20) (hP : pg_P la lb b1 b2 b3 b4 b6) (hT : ∀ i, i < 840 → a8 i = -3 ∨ pg_Qp la lb a7 len i (a8 i))
    (hn : n ≤ pg_c pg_ge (pg_t len a7 la lb) (len + 1)) (hx : (x1 = 20 ∧ x8 = -1) ∨ (¬ x1 = 20 ∧ x8 = x1 + 1))
    (H : ∀ g4 f8 f9 f10 f11, (∀ i, i < 840 → f8 i = -3 ∨ pg_Qp la lb a7 len i (f8 i)) → post 1 (f0, f1, f2, nI len, g4, b1, b2, b3, b4, b5, b6, a7, f8, f9, f10, f11)) :
    wL_plain_117 post x1 (nI n) x8 f0 f1 f2 (nI len) f4 b1 b2 b3 b4 b5 b6 a7 a8 a9 a10 a11 := by
  have hW := pg_P_WF hl hP
  have hC := pg_P_Cl (a7 := a7) hl hP
  unfold wL_plain_117
  refine pg_wmatches (r := 1) hW hC hT (by omega) (fun g4 f8 f9 f10 f11 hE hk => ?_)
  have e : pg_c pg_ge (pg_v b6 f8 1) (len + 1) = pg_c pg_ge (pg_t len a7 la lb) (len + 1) := pg_c_same _ (fun j hj => pg_P_v hP hl (by omega) hE.1 (hk j (by omega)))
  have e2 := pg_c_le pg_ge (pg_t len a7 la lb) (len + 1)
  rw [e]
  refine br_t (nI_le hn (by omega)) ?_
  rcases hx with ⟨h1, h2⟩ | ⟨h1, h2⟩
  · exact br_t h1 (br_t h2 (H g4 f8 f9 f10 f11 hE.1))
  · exact br_f h1 (br_t h2 (H g4 f8 f9 f10 f11 hE.1))
/-- a find's answer: nothing, or a place where the three letters stand -/
def pg_An (len : Nat) (a7 : Nat → Int32) (la lb r : Int32) : Prop := r = -1 ∨ ∃ p, p ≤ len ∧ r = nI p ∧ pg_t len a7 la lb p = 3
theorem pg_wp101 {post : Int32 → St1 → Prop} {n : Nat} {x1 x6 x8 : Int32} (hl : len ≤ 20) (hP : pg_P la lb b1 b2 b3 b4 b6) (hT : ∀ i, i < 840 → a8 i = -3 ∨ pg_Qp la lb a7 len i (a8 i))
    (h6 : pg_An len a7 la lb x6) (hn : n ≤ pg_c pg_ge (pg_t len a7 la lb) (len + 1)) (hx : (x1 = 20 ∧ x8 = -1) ∨ (¬ x1 = 20 ∧ x8 = x1 + 1))
    (H : ∀ g4 f8 f9 f10 f11, (∀ i, i < 840 → f8 i = -3 ∨ pg_Qp la lb a7 len i (f8 i)) → post 1 (f0, f1, f2, nI len, g4, b1, b2, b3, b4, b5, b6, a7, f8, f9, f10, f11)) :
    wL_plain_101 post x1 x6 (nI n) x8 f0 f1 f2 (nI len) f4 b1 b2 b3 b4 b5 b6 a7 a8 a9 a10 a11 := by
  have hW := pg_P_WF hl hP
  have hC := pg_P_Cl (a7 := a7) hl hP
  unfold wL_plain_101
  rcases h6 with e | ⟨p, hp, e, ht⟩
  · subst e
    exact br_t (by decide) (pg_wp117 hl hP hT hn hx H)
  · subst e
    refine br_f (nI_pos (by omega)) (pg_wmatch (r := 1) hW hC hT (by omega) hp (fun g4 f8 f9 f10 f11 hE hv => ?_))
    rw [pg_P_v hP hl hp hE.1 hv, ht]
    exact br_t rfl (pg_wp117 hl hP hE.1 hn hx H)
/-- behind type -/
theorem pg_wp80 {post : Int32 → St1 → Prop} {n : Nat} {x1 x5 x6 x8 : Int32} (hl : len ≤ 20) (hP : pg_P la lb b1 b2 b3 b4 b6) (hT : ∀ i, i < 840 → a8 i = -3 ∨ pg_Qp la lb a7 len i (a8 i))
    (h5 : pg_An len a7 la lb x5) (h6 : pg_An len a7 la lb x6) (hn : n ≤ pg_c pg_ge (pg_t len a7 la lb) (len + 1)) (hx : (x1 = 20 ∧ x8 = -1) ∨ (¬ x1 = 20 ∧ x8 = x1 + 1))
    (H : ∀ g4 f8 f9 f10 f11, (∀ i, i < 840 → f8 i = -3 ∨ pg_Qp la lb a7 len i (f8 i)) → post 1 (f0, f1, f2, nI len, g4, b1, b2, b3, b4, b5, b6, a7, f8, f9, f10, f11)) :
    (x5 < 0 → wL_plain_101 post x1 x6 (nI n) x8 f0 f1 f2 (nI len) f4 b1 b2 b3 b4 b5 b6 a7 a8 a9 a10 a11) ∧
    (¬ x5 < 0 → wpX_match (fun r_515 u => match u with
      | (f0_tokens_516, f0_nodes_517, f0_stackSize_518, f0_length_519, f0_depth_520, am941_523, am942_526, am943_529, am944_532, am945_535, am946_538, am947_541, am948_544, am949_547, am9410_550, am9411_553) =>
        (r_515 = 3 → wL_plain_101 post x1 x6 (nI n) x8 f0_tokens_516 f0_nodes_517 f0_stackSize_518 f0_length_519 f0_depth_520 am941_523 am942_526 am943_529 am944_532 am945_535 am946_538 am947_541 am948_544 am949_547 am9410_550 am9411_553) ∧
        (¬ r_515 = 3 → post 0 (f0_tokens_516, f0_nodes_517, f0_stackSize_518, f0_length_519, f0_depth_520, am941_523, am942_526, am943_529, am944_532, am945_535, am946_538, am947_541, am948_544, am949_547, am9410_550, am9411_553)))
      (f0, f1, f2, nI len, f4, b1, b2, b3, b4, b5, b6, a7, a8, a9, a10, a11) 1 x5) := by
  have hW := pg_P_WF hl hP
  have hC := pg_P_Cl (a7 := a7) hl hP
  rcases h5 with e | ⟨p, hp, e, ht⟩
  · subst e
    exact br_t (by decide) (pg_wp101 hl hP hT h6 hn hx H)
  · subst e
    refine br_f (nI_pos (by omega)) (pg_wmatch (r := 1) hW hC hT (by omega) hp (fun g4 f8 f9 f10 f11 hE hv => ?_))
    rw [pg_P_v hP hl hp hE.1 hv, ht]
    exact br_t rfl (pg_wp101 hl hP hE.1 h6 hn hx H)
theorem pg_An_more {len' : Nat} {c7 : Nat → Int32} {r : Int32} (hl : len ≤ len') (hc : ∀ j, j < len → c7 j = a7 j) (h : pg_An len a7 la lb r) : pg_An len' c7 la lb r := by
  rcases h with h | ⟨p, hp, h, ht⟩
  · exact Or.inl h
  · exact Or.inr ⟨p, by omega, h, pg_t_more hl hc ht⟩
/-- a find over the plain grammar, from i on -/
theorem pg_wpfind {post : Int32 → St1 → Prop} {i : Nat} (hl : len ≤ 20) (hP : pg_P la lb b1 b2 b3 b4 b6) (hT : ∀ i, i < 840 → a8 i = -3 ∨ pg_Qp la lb a7 len i (a8 i)) (hi : i ≤ len + 1)
    (H : ∀ r g4 f8 f9 f10 f11, pg_An len a7 la lb r → (∀ i, i < 840 → f8 i = -3 ∨ pg_Qp la lb a7 len i (f8 i)) → post r (f0, f1, f2, nI len, g4, b1, b2, b3, b4, b5, b6, a7, f8, f9, f10, f11)) :
    wpX_find post (f0, f1, f2, nI len, f4, b1, b2, b3, b4, b5, b6, a7, a8, a9, a10, a11) 1 (nI i) := by
  have hW := pg_P_WF hl hP
  have hC := pg_P_Cl (a7 := a7) hl hP
  refine pg_wfind (r := 1) hW hC hT (by omega) hi (fun p g4 f8 f9 f10 f11 hp hE hv hg => H _ g4 f8 f9 f10 f11 (Or.inr ⟨p, hp, rfl, ?_⟩) hE.1) (fun g4 f8 f9 f10 f11 hE => H _ g4 f8 f9 f10 f11 (Or.inl rfl) hE.1)
  rw [pg_P_v hP hl hp hE.1 hv] at hg
  exact pg_t_ge hg
theorem pg_t_up {len' : Nat} {c7 : Nat → Int32} (hl : len ≤ len') (hc : ∀ j, j < len → c7 j = a7 j) : pg_c pg_ge (pg_t len a7 la lb) (len + 1) ≤ pg_c pg_ge (pg_t len' c7 la lb) (len' + 1) := by
  have h := pg_c_more (P := pg_ge) (v := pg_t len a7 la lb) (w := pg_t len' c7 la lb) (fun j hj => by
    have h1 : ¬ pg_t len a7 la lb j < 0 := of_decide_eq_true hj
    have h2 := pg_t_more hl hc (pg_t_ge h1)
    rw [h2]
    rfl) (len + 1) (len' - len)
  rw [show len + 1 + (len' - len) = len' + 1 by omega] at h
  exact h
/-- plain -/
theorem pg_wplain {post : Int32 → St1 → Prop} {p2 p3 p4 : Int32} (hl : len ≤ 20)
    (H : ∀ len' c7 g4 b1 b2 b3 b4 b5 b6 f8 f9 f10 f11, (len = 20 ∧ len' = 20 ∨ len < 20 ∧ len' = len + 1) → pg_G 6 5 0 len' b1 b2 b3 b4 b5 b6 f8 → post 1 (nI 6, nI 5, nI 0, nI len', g4, b1, b2, b3, b4, b5, b6, c7, f8, f9, f10, f11)) :
    wpL_plain post (f0, f1, f2, nI len, f4, a1, a2, a3, a4, a5, a6, a7, a8, a9, a10, a11) (nI len) p2 p3 p4 := by
  unfold wpL_plain
  dsimp only
  refine pg_wclear (fun e6 e8 h6 h8 => ?_)
  dsimp only
  refine br_f (by decide) (pg_wtok (tk := 0) (nd := 0) (ss := 0) (t := 0) (by omega) (by omega) (by omega) (by omega) (by omega) (by decide) (by decide) (by decide) ?_)
  dsimp only
  refine br_f (by decide) (pg_wtok (tk := 1) (nd := 1) (ss := 1) (t := 0) (by omega) (by omega) (by omega) (by omega) (by omega) (by decide) (by decide) (by decide) ?_)
  dsimp only
  refine br_t (by decide) (br_f (by decide) (pg_wtok (tk := 2) (nd := 2) (ss := 2) (t := 2) (by omega) (by omega) (by omega) (by omega) (by omega) (by decide) (by decide) (by decide) ?_))
  dsimp only
  refine br_f (by decide) (pg_wtok (tk := 3) (nd := 3) (ss := 1) (t := 0) (by omega) (by omega) (by omega) (by omega) (by omega) (by decide) (by decide) (by decide) ?_)
  dsimp only
  refine br_t (by decide) (br_f (by decide) (pg_wtok (tk := 4) (nd := 4) (ss := 2) (t := 2) (by omega) (by omega) (by omega) (by omega) (by omega) (by decide) (by decide) (by decide) ?_))
  dsimp only
  refine br_t (by decide) (br_t (by decide) (pg_wtokD (tk := 5) (ss := 1) (j := 1) (by omega) (by omega) (by omega) (by omega) (by decide) (fun e8' h8' => ?_)))
  dsimp only
  refine br_t rfl ?_
  have hP : pg_P (p2 &&& 3) (p3 &&& 3) (upd (upd (upd (upd (upd a1 0 0) 1 0) 2 4) 3 1) 4 4) (upd (upd (upd (upd (upd a2 0 (p2 &&& 3)) 1 (p3 &&& 3)) 2 (0 &&& 3)) 3 (0 &&& 3)) 4 (0 &&& 3)) (upd (upd (upd (upd (upd a3 0 (if 0 = 0 then -1 else a5 (0 - 0))) 1 (if 0 = 0 then -1 else upd a5 (0 - 0) (nI 0) (1 - 0))) 2 (if 2 = 0 then -1 else upd (upd a5 (0 - 0) (nI 0)) (1 - 0) (nI 1) (2 - 2))) 3 (if 0 = 0 then -1 else upd (upd (upd a5 (0 - 0) (nI 0)) (1 - 0) (nI 1)) (2 - 2) (nI 2) (1 - 0))) 4 (if 2 = 0 then -1 else upd (upd (upd (upd a5 (0 - 0) (nI 0)) (1 - 0) (nI 1)) (2 - 2) (nI 2)) (1 - 0) (nI 3) (2 - 2))) (upd (upd (upd (upd (upd a4 0 (if 0 = 2 then a5 (0 - 1) else -1)) 1 (if 0 = 2 then upd a5 (0 - 0) (nI 0) (1 - 1) else -1)) 2 (if 2 = 2 then upd (upd a5 (0 - 0) (nI 0)) (1 - 0) (nI 1) (2 - 1) else -1)) 3 (if 0 = 2 then upd (upd (upd a5 (0 - 0) (nI 0)) (1 - 0) (nI 1)) (2 - 2) (nI 2) (1 - 1) else -1)) 4 (if 2 = 2 then upd (upd (upd (upd a5 (0 - 0) (nI 0)) (1 - 0) (nI 1)) (2 - 2) (nI 2)) (1 - 0) (nI 3) (2 - 1) else -1)) (upd e6 1 (upd (upd (upd (upd (upd a5 (0 - 0) (nI 0)) (1 - 0) (nI 1)) (2 - 2) (nI 2)) (1 - 0) (nI 3)) (2 - 2) (nI 4) (1 - 1))) := by
    refine ⟨⟨rfl, rfl, rfl, rfl, rfl⟩, ⟨rfl, rfl, fun n hn => ?_⟩, ⟨rfl, rfl, rfl, rfl⟩, rfl, fun j hj hj1 => ?_⟩
    · rcases pg_five hn with e | e | e | e | e <;> subst e
      · exact pg_and3 p2
      · exact pg_and3 p3
      · exact pg_and3 0
      · exact pg_and3 0
      · exact pg_and3 0
    · rw [pk_un hj1]
      exact h6 j hj
  refine pg_wpfind (i := 0) hl hP (fun i hi => Or.inl (h8' i hi)) (by omega) (fun r g4 f8 f9 f10 f11 hA hT => ?_)
  dsimp only
  obtain ⟨i, hi, ei⟩ : ∃ i, i ≤ len + 1 ∧ r + 1 = nI i := by
    rcases hA with e | ⟨p, hp, e, _⟩
    · exact ⟨0, by omega, by rw [e]; rfl⟩
    · exact ⟨p + 1, by omega, by rw [e, nI_1]⟩
  rw [ei]
  refine pg_wpfind hl hP hT hi (fun r2 g4 f8 f9 f10 f11 hA2 hT2 => ?_)
  dsimp only
  refine pg_wmatches (r := 1) (pg_P_WF hl hP) (pg_P_Cl hl hP) hT2 (by omega) (fun g4 f8 f9 f10 f11 hE hk => ?_)
  dsimp only
  rw [pg_c_same (P := pg_ge) (w := pg_t len a7 (p2 &&& 3) (p3 &&& 3)) (len + 1) (fun j hj => pg_P_v hP hl (by omega) hE.1 (hk j (by omega)))]
  refine pg_wtype hl (fun hlt e8 h8 => ?_) (fun h20 => ?_)
  · have hc : ∀ j, j < len → upd a7 len (p4 &&& 3) j = a7 j := fun j hj => pk_un (by omega)
    exact pg_wp80 (len := len + 1) (a7 := upd a7 len (p4 &&& 3)) (by omega) hP (fun i hi => Or.inl (h8 i hi)) (pg_An_more (by omega) hc hA) (pg_An_more (by omega) hc hA2) (pg_t_up (by omega) hc)
      (Or.inr ⟨fun z => absurd ((nI_eq (b := 20) (by omega) (by omega)).mp z) (by omega), (nI_1 len).symm⟩)
      (fun g4 f8 f9 f10 f11 hT => H (len + 1) _ _ _ _ _ _ _ _ _ _ _ _ (Or.inr ⟨hlt, rfl⟩) ⟨pg_P_WF (by omega) hP, by omega, by omega, by omega, fun k hk => absurd hk (by omega), fun i hi => (hT i hi).imp id pg_Qp_Q0⟩)
  · exact pg_wp80 hl hP hE.1 hA hA2 (Nat.le_refl _) (Or.inl ⟨by rw [h20]; rfl, rfl⟩)
      (fun g4 f8 f9 f10 f11 hT => H len _ _ _ _ _ _ _ _ _ _ _ _ (Or.inl ⟨h20, h20⟩) ⟨pg_P_WF hl hP, by omega, by omega, by omega, fun k hk => absurd hk (by omega), fun i hi => (hT i hi).imp id pg_Qp_Q0⟩)
end
end
section
theorem pg_c_zero {P : Int32 → Bool} {v : Nat → Int32} (n : Nat) (h : ∀ j, j < n → ¬ P (v j) = true) : pg_c P v n = 0 := by
  induction n with
  | zero => rfl
  | succ n ih => rw [pg_c_f (h n (by omega)), ih (fun j hj => h j (by omega))]
section
variable {post : Int32 → Prop} {L : Nat} {xs : Nat → Int32} {kc ks : Nat} {tk nd ss len : Nat} {f4 : Int32} {a1 a2 a3 a4 a5 a6 a7 : Nat → Int32} {a8 a9 a10 a11 : Nat → Int32}
theorem pg_G_len (hG : pg_G tk nd ss len a1 a2 a3 a4 a5 a6 a8) {len' : Nat} (hl : len' ≤ 20) {f8 : Nat → Int32} (h8 : ∀ i, i < 840 → f8 i = -3) : pg_G tk nd ss len' a1 a2 a3 a4 a5 a6 f8 := by
  obtain ⟨⟨w1, w2, w3⟩, g1, g2, g3, g4, g5⟩ := hG
  exact ⟨⟨w1, hl, w3⟩, g1, g2, g3, g4, fun i hi => Or.inl (h8 i hi)⟩
theorem pg_G_clear {f8 : Nat → Int32} (hl : len ≤ 20) (h6 : ∀ j, j < 4 → a6 j = -1) (h8 : ∀ i, i < 840 → f8 i = -3) : pg_G 0 0 0 len a1 a2 a3 a4 a5 a6 f8 :=
  ⟨⟨by omega, hl, fun n h => absurd h (by omega), fun n h => absurd h (by omega), fun n h => absurd h (by omega), fun j hj => Or.inl (h6 j hj)⟩, by omega, by omega, by omega, fun k h => absurd h (by omega), fun i hi => Or.inl (h8 i hi)⟩
/-- the two calls of fits, then the next turn -/
theorem pg_w296 {J : Int32 → Int32 → Int32 → Int32 → Int32 → Int32 → Int32 → (Nat → Int32) → (Nat → Int32) → (Nat → Int32) → (Nat → Int32) → (Nat → Int32) → (Nat → Int32) → (Nat → Int32) → (Nat → Int32) → (Nat → Int32) → (Nat → Int32) → (Nat → Int32) → Prop}
    {i : Nat} {x5 : Int32} (hG : pg_G tk nd ss len a1 a2 a3 a4 a5 a6 a8)
    (HJ : ∀ g4 f8 f9 f10 f11, pg_G tk nd ss len a1 a2 a3 a4 a5 a6 f8 → J (nI len) (nI (i + 2)) (nI tk) (nI nd) (nI ss) (nI len) g4 a1 a2 a3 a4 a5 a6 a7 f8 f9 f10 f11) :
    wL_law_296 post L xs J (nI len) (nI i) x5 kc ks (nI tk) (nI nd) (nI ss) (nI len) f4 a1 a2 a3 a4 a5 a6 a7 a8 a9 a10 a11 := by
  obtain ⟨hW, g1, g2, g3, g4, g5⟩ := hG
  have hC := pg_Cl0 (a7 := a7) hW
  obtain ⟨r1, hr1, e1⟩ := pg_and3 x5
  obtain ⟨r2, hr2, e2⟩ := pg_and3 (x5 >>> ((2 : Int32) &&& 31))
  unfold wL_law_296
  rw [e1, e2]
  refine pg_wfits hW hC g5 hr1 (fun g4' f8 f9 f10 f11 hT => br_f (by decide) (pg_wfits hW hC hT hr2 (fun g4'' f8' f9' f10' f11' hT' => br_f (by decide) (nm_r (nI_add i 2) (HJ _ _ _ _ _ ⟨hW, g1, g2, g3, g4, hT'⟩)))))
/-- behind clear: nothing matches, nothing is stuck -/
theorem pg_w253 {J : Int32 → Int32 → Int32 → Int32 → Int32 → Int32 → Int32 → (Nat → Int32) → (Nat → Int32) → (Nat → Int32) → (Nat → Int32) → (Nat → Int32) → (Nat → Int32) → (Nat → Int32) → (Nat → Int32) → (Nat → Int32) → (Nat → Int32) → (Nat → Int32) → Prop}
    {i : Nat} {x5 : Int32} (hl : len ≤ 20) (h6 : ∀ j, j < 4 → a6 j = -1)
    (HJ : ∀ g4 f8 f9 f10 f11, pg_G 0 0 0 len a1 a2 a3 a4 a5 a6 f8 → wL_law_296 post L xs J (nI len) (nI i) x5 kc ks (nI 0) (nI 0) (nI 0) (nI len) g4 a1 a2 a3 a4 a5 a6 a7 f8 f9 f10 f11) :
    ∀ m r g4 f8 f9 f10 f11, r + m = 4 → (∀ i, i < 840 → f8 i = -3 ∨ pg_Q0 len i (f8 i)) → wL_law_253 post L xs J (nI len) (nI i) x5 kc ks (m + 1) (nI r) (nI 0) (nI 0) (nI 0) (nI len) g4 a1 a2 a3 a4 a5 a6 a7 f8 f9 f10 f11 := by
  have hW : pg_WF 0 len a1 a2 a3 a4 a6 := ⟨by omega, hl, fun n h => absurd h (by omega), fun n h => absurd h (by omega), fun n h => absurd h (by omega), fun j hj => Or.inl (h6 j hj)⟩
  have hC := pg_Cl0 (a7 := a7) hW
  intro m
  induction m with
  | zero =>
    intro r g4 f8 f9 f10 f11 hr hT
    exact pk_le 4 r (fun _ => HJ g4 f8 f9 f10 f11 ⟨hW, by omega, by omega, by omega, fun k h => absurd h (by omega), hT⟩) (fun z => absurd z (by omega))
  | succ m ih =>
    intro r g4 f8 f9 f10 f11 hr hT
    have V : ∀ (f : Nat → Int32) j, pg_v a6 f r j = -1 := fun f j => if_pos (h6 r (by omega))
    refine pk_le 4 r (fun z => absurd z (by omega)) (fun _ => pg_wmatch hW hC hT (by omega) (Nat.le_refl len) (fun g4 f8 f9 f10 f11 hE hv => br_t (V f8 len) (pg_wmatches hW hC hE.1 (by omega) (fun g4 f8 f9 f10 f11 hE hk => ?_))))
    rw [pg_c_zero (P := pg_ge) (len + 1) (fun j _ => by rw [V f8 j]; decide)]
    refine br_t rfl (pg_wstuck hW hC hE.1 (by omega) (fun g4 f8 f9 f10 f11 hE hk => ?_))
    rw [pg_c_zero (P := pg_st) (len + 1) (fun j _ => by rw [V f8 j]; decide)]
    exact br_t rfl (nm_r (nI_1 r) (ih (r + 1) g4 f8 f9 f10 f11 (by omega) hE.1))
end
theorem pg_wlaw (xs : Nat → Int32) (L : Nat) (hL : L ≤ 260) (kc ks : Nat) : ∀ m i tk nd ss len g4 a1 a2 a3 a4 a5 a6 a7 a8 a9 a10 a11, i ≤ 152 → 150 ≤ i + 2 * m → pg_G tk nd ss len a1 a2 a3 a4 a5 a6 a8 →
    wL_law_12 (fun r => r = 1) L xs kc ks (m + 1) (nI len) (nI i) (nI tk) (nI nd) (nI ss) (nI len) g4 a1 a2 a3 a4 a5 a6 a7 a8 a9 a10 a11 := by
  intro m
  induction m with
  | zero =>
    intro i tk nd ss len g4 a1 a2 a3 a4 a5 a6 a7 a8 a9 a10 a11 hi hm hG
    exact pk_lt L (i + 2) (fun _ => rfl) (fun _ => pk_le 150 i (fun _ => rfl) (fun z => absurd z (by omega))) rfl (nI_add i 2)
  | succ m ih =>
    intro i tk nd ss len g4 a1 a2 a3 a4 a5 a6 a7 a8 a9 a10 a11 hi hm hG
    refine pk_lt L (i + 2) (fun _ => rfl) (fun hiL => pk_le 150 i (fun _ => rfl) (fun hi150 => ?_)) rfl (nI_add i 2)
    have hln : len ≤ 20 := hG.1.2.1
    refine ⟨vp_in_nI (by omega) (by omega), fun x4 _ => ⟨?_, fun x5 _ => ?_⟩⟩
    · rw [nI_1]
      exact vp_in_nI (by omega) (by omega)
    have C : ∀ tk nd ss len g4 a1 a2 a3 a4 a5 a6 a7 a8 a9 a10 a11, pg_G tk nd ss len a1 a2 a3 a4 a5 a6 a8 →
        wL_law_296 (fun r => r = 1) L xs (wL_law_12 (fun r => r = 1) L xs kc ks (m + 1)) (nI len) (nI i) x5 kc ks (nI tk) (nI nd) (nI ss) (nI len) g4 a1 a2 a3 a4 a5 a6 a7 a8 a9 a10 a11 := by
      intro tk nd ss len g4 a1 a2 a3 a4 a5 a6 a7 a8 a9 a10 a11 hG
      exact pg_w296 hG (fun g4 f8 f9 f10 f11 h => ih (i + 2) tk nd ss len g4 a1 a2 a3 a4 a5 a6 a7 f8 f9 f10 f11 (by omega) (by omega) h)
    have T133 : ∀ z0, wL_law_133 (fun r => r = 1) L xs (wL_law_12 (fun r => r = 1) L xs kc ks (m + 1)) (nI len) (nI i) x5 z0 kc ks (nI tk) (nI nd) (nI ss) (nI len) g4 a1 a2 a3 a4 a5 a6 a7 a8 a9 a10 a11 := by
      intro z0
      unfold wL_law_133
      refine pg_wtype hln (fun hlt f8 h8 => ?_) (fun h20 => ?_)
      · dsimp only
        rw [nI_1]
        exact br_f (nI_nle (by omega) (by omega)) (C _ _ _ _ _ _ _ _ _ _ _ _ _ _ _ _ (pg_G_len hG (by omega) h8))
      · exact br_t (by decide) (C _ _ _ _ _ _ _ _ _ _ _ _ _ _ _ _ hG)
    have T230 : wL_law_230 (fun r => r = 1) L xs (wL_law_12 (fun r => r = 1) L xs kc ks (m + 1)) (nI len) (nI i) x4 x5 kc ks (nI tk) (nI nd) (nI ss) (nI len) g4 a1 a2 a3 a4 a5 a6 a7 a8 a9 a10 a11 := by
      unfold wL_law_230
      refine br_c (fun _ => br_c (fun _ => ?_) (fun _ => C _ _ _ _ _ _ _ _ _ _ _ _ _ _ _ _ hG)) (fun _ => C _ _ _ _ _ _ _ _ _ _ _ _ _ _ _ _ hG)
      refine pg_wclear (fun e6 e8 h6 h8 => ⟨4 + 1, ?_⟩)
      exact pg_w253 hln h6 (fun g4 f8 f9 f10 f11 h => C _ _ _ _ _ _ _ _ _ _ _ _ _ _ _ _ h) 4 0 _ e8 _ _ _ (by omega) (fun i hi => Or.inl (h8 i hi))
    have T174 : wL_law_174 (fun r => r = 1) L xs (wL_law_12 (fun r => r = 1) L xs kc ks (m + 1)) (nI len) (nI i) x4 x5 kc ks (nI tk) (nI nd) (nI ss) (nI len) g4 a1 a2 a3 a4 a5 a6 a7 a8 a9 a10 a11 := by
      unfold wL_law_174
      refine br_c (fun _ => br_c (fun _ => ?_) (fun _ => T230)) (fun _ => T230)
      refine pg_wplain hln (fun len' c7 g4 b1 b2 b3 b4 b5 b6 f8 f9 f10 f11 hlen hG' => ?_)
      dsimp only
      refine br_f (by decide) ?_
      rcases hlen with ⟨h1, h2⟩ | ⟨h1, h2⟩
      · subst h1 h2
        exact br_t rfl (C _ _ _ _ _ _ _ _ _ _ _ _ _ _ _ _ hG')
      · subst h2
        refine br_f (fun z => absurd ((nI_eq (b := 20) (by omega) (by omega)).mp z) (by omega)) ?_
        rw [nI_1]
        exact C _ _ _ _ _ _ _ _ _ _ _ _ _ _ _ _ hG'
    have TK : ∀ c x, wpX_token (fun r u => match u with
      | (fm0_tokens, fm0_nodes, fm0_stackSize, fm0_length, fm0_depth, am1, am2, am3, am4, am5, am6, am7, am8, am9, am10, am11) => wL_law_296 (fun r => r = 1) L xs (wL_law_12 (fun r => r = 1) L xs kc ks (m + 1)) (nI len) (nI i) x5 kc ks fm0_tokens fm0_nodes fm0_stackSize fm0_length fm0_depth am1 am2 am3 am4 am5 am6 am7 am8 am9 am10 am11)
        (nI tk, nI nd, nI ss, nI len, g4, a1, a2, a3, a4, a5, a6, a7, a8, a9, a10, a11) c x :=
      fun c x => pg_wtoken hG (fun v tk' nd' ss' b1 b2 b3 b4 b5 b6 b8 h => C _ _ _ _ _ _ _ _ _ _ _ _ _ _ _ _ h)
    refine br_c (fun _ => br_c (fun _ => br_c (fun _ => br_c (fun _ => br_c (fun _ => br_c (fun _ => ?_) (fun _ => T174)) (fun _ => T174)) (fun _ => br_c (fun _ => T133 _) (fun _ => T133 _))) (fun _ => TK _ _)) (fun _ => ⟨by decide, TK _ _⟩)) (fun _ => TK _ _)
    exact pg_werase (fun f8 h8 => C tk nd ss 0 _ _ _ _ _ _ _ _ _ _ _ _ (pg_G_len hG (by omega) h8))
theorem i_vc (xs : Nat → Int32) (L : Nat) (hL : L ≤ 260) : wpL_law (fun r => r = 1) L xs := by
  refine ⟨11, 3584, by omega, by omega, ?_⟩
  refine ⟨by omega, by omega, by omega, by omega, by omega, by omega, by omega, by omega, by omega, by omega, by omega, by omega, by omega, by omega, by omega, by omega, by omega, by omega, by omega, by omega, by omega, by omega, ?_⟩
  exact pg_wclear (fun f6 f8 h6 h8 => ⟨75 + 1, pg_wlaw xs L hL _ _ 75 0 0 0 0 0 _ _ _ _ _ _ _ _ _ _ _ _ (by omega) (by omega) (pg_G_clear (by omega) h6 h8)⟩)
end
