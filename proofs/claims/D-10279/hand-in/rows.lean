section
/-! the pure picture: features, sums over rows, the best split, the tree that training makes -/
def ht_fe (x f : Int32) : Int32 := (x >>> ((3 * f) &&& 31)) &&& 7
def ht_ft (x : Int32) (f : Nat) : Nat := (ht_fe x (nI f)).toNatClampNeg
theorem ht_fe_nI (x f : Int32) : ∃ v : Nat, v < 8 ∧ ht_fe x f = nI v := pk_andE (x >>> ((3 * f) &&& 31)) (m := 7) 3 (by decide)
theorem ht_ft_lt (x : Int32) (f : Nat) : ht_ft x f < 8 := by
  obtain ⟨v, hv, e⟩ := ht_fe_nI x (nI f)
  unfold ht_ft
  rw [e, nI_clamp (by omega)]
  exact hv
theorem ht_ft_eq (x : Int32) (f : Nat) : ht_fe x (nI f) = nI (ht_ft x f) := by
  obtain ⟨v, hv, e⟩ := ht_fe_nI x (nI f)
  unfold ht_ft
  rw [e, nI_clamp (by omega)]

/-- the sum of w over the first n rows that P takes -/
def ht_sum (w : Nat → Int32) (P : Nat → Bool) : Nat → Int32
  | 0 => 0
  | n + 1 => ht_sum w P n + (if P n = true then w n else 0)
theorem ht_sum_congr {w w' : Nat → Int32} {P P' : Nat → Bool} {n : Nat} (hw : ∀ i, i < n → w i = w' i) (hP : ∀ i, i < n → P i = P' i) : ht_sum w P n = ht_sum w' P' n := by
  induction n with
  | zero => rfl
  | succ n ih =>
    show ht_sum w P n + _ = ht_sum w' P' n + _
    rw [ih (fun i hi => hw i (by omega)) (fun i hi => hP i (by omega)), hw n (by omega), hP n (by omega)]
theorem ht_sum_split {w : Nat → Int32} {P Q R : Nat → Bool} {n : Nat} (h : ∀ i, i < n → P i = (Q i || R i) ∧ (Q i && R i) = false) : ht_sum w P n = ht_sum w Q n + ht_sum w R n := by
  induction n with
  | zero => rfl
  | succ n ih =>
    show ht_sum w P n + (if P n = true then w n else 0) = (ht_sum w Q n + (if Q n = true then w n else 0)) + (ht_sum w R n + (if R n = true then w n else 0))
    rw [ih (fun i hi => h i (by omega))]
    obtain ⟨h1, h2⟩ := h n (by omega)
    rw [h1]
    cases hq : Q n <;> cases hr : R n <;> simp [hq, hr] at h2 ⊢ <;> grind
theorem ht_sum_none {w : Nat → Int32} {P : Nat → Bool} {n : Nat} (h : ∀ i, i < n → P i = false) : ht_sum w P n = 0 := by
  induction n with
  | zero => rfl
  | succ n ih =>
    show ht_sum w P n + (if P n = true then w n else 0) = 0
    rw [ih (fun i hi => h i (by omega)), h n (by omega)]
    rfl
/-- one cell of a node's histogram -/
def ht_C (n : Nat) (x w : Nat → Int32) (nd : Nat → Nat) (k f v : Nat) : Int32 := ht_sum w (fun i => decide (nd i = k ∧ ht_ft (x i) f = v)) n
def ht_one : Nat → Int32 := fun _ => 1

/-- the best split so far -/
abbrev ht_O : Type := Option (Nat × Nat × Int64 × Int64)
def ht_top (n s nl sl : Int32) : Int64 := ((sl.toInt64 * sl.toInt64) * (n.toInt64 - nl.toInt64)) + (((s.toInt64 - sl.toInt64) * (s.toInt64 - sl.toInt64)) * nl.toInt64)
def ht_bot (n nl : Int32) : Int64 := nl.toInt64 * (n.toInt64 - nl.toInt64)
/-- is the new split taken? -/
def ht_won (n s nl sl : Int32) (o : ht_O) : Prop := match o with
  | none => True
  | some (_, _, t, q) => t * ht_bot n nl < ht_top n s nl sl * q
def ht_big (m n nl : Int32) : Prop := ¬ nl.toInt64 < m.toInt64 ∧ m.toInt64 ≤ n.toInt64 - nl.toInt64
noncomputable def ht_try (m n s : Int32) (f b : Nat) (nl sl : Int32) (o : ht_O) : ht_O :=
  @ite _ (ht_big m n nl ∧ ht_won n s nl sl o) (Classical.propDecidable _) (some (f, b, ht_top n s nl sl, ht_bot n nl)) o
theorem ht_try_t {m n s : Int32} {f b : Nat} {nl sl : Int32} {o : ht_O} (h : ht_big m n nl ∧ ht_won n s nl sl o) : ht_try m n s f b nl sl o = some (f, b, ht_top n s nl sl, ht_bot n nl) := by
  unfold ht_try
  exact if_pos h
theorem ht_try_f {m n s : Int32} {f b : Nat} {nl sl : Int32} {o : ht_O} (h : ¬ (ht_big m n nl ∧ ht_won n s nl sl o)) : ht_try m n s f b nl sl o = o := by
  unfold ht_try
  exact if_neg h
/-- a feature's bounds below b, its running sums -/
noncomputable def ht_in (m n s : Int32) (C S : Nat → Int32) (f : Nat) (o : ht_O) : Nat → ht_O
  | 0 => o
  | b + 1 => ht_try m n s f b (bx_sum C (b + 1)) (bx_sum S (b + 1)) (ht_in m n s C S f o b)
noncomputable def ht_out (m n s : Int32) (C S : Nat → Nat → Int32) : Nat → ht_O
  | 0 => none
  | f + 1 => ht_in m n s (C f) (S f) f (ht_out m n s C S f) 7
noncomputable def ht_pick (n s : Int32) (o : ht_O) : Option (Nat × Nat) := match o with
  | none => none
  | some (f, b, t, q) => if (s.toInt64 * s.toInt64) * q < t * n.toInt64 then some (f, b) else none
/-- the decision at a node k -/
noncomputable def ht_dc (m : Int32) (C S : Nat → Nat → Int32) (k : Nat) : Option (Nat × Nat) := if k < 3 then ht_pick (bx_sum (C 0) 8) (bx_sum (S 0) 8) (ht_out m (bx_sum (C 0) 8) (bx_sum (S 0) 8) C S 3) else none
/-- the rows' nodes behind the decision o at k -/
def ht_mv (x : Nat → Int32) (nd : Nat → Nat) (k : Nat) (o : Option (Nat × Nat)) : Nat → Nat := fun i => match o with
  | none => nd i
  | some (f, b) => if nd i = k then (if b < ht_ft (x i) f then 2 * k + 2 else 2 * k + 1) else nd i
noncomputable def ht_dec (m : Int32) (n : Nat) (x r : Nat → Int32) (nd : Nat → Nat) (k : Nat) : Option (Nat × Nat) := ht_dc m (ht_C n x ht_one nd k) (ht_C n x r nd k) k
/-- the rows' nodes ahead of node k -/
noncomputable def ht_nd (m : Int32) (n : Nat) (x r : Nat → Int32) : Nat → Nat → Nat
  | 0 => fun _ => 0
  | k + 1 => ht_mv x (ht_nd m n x r k) k (ht_dec m n x r (ht_nd m n x r k) k)
noncomputable def ht_D (m : Int32) (n : Nat) (x r : Nat → Int32) (k : Nat) : Option (Nat × Nat) := ht_dec m n x r (ht_nd m n x r k) k
/-- node k is there -/
noncomputable def ht_T (m : Int32) (n : Nat) (x r : Nat → Int32) (k : Nat) : Bool := k == 0 || ((ht_D m n x r 0).isSome && (decide (k ≤ 2) || (ht_D m n x r ((k - 1) / 2)).isSome))
noncomputable def ht_lv (m : Int32) (n : Nat) (x r : Nat → Int32) : Nat → Nat
  | 0 => 0
  | k + 1 => ht_lv m n x r k + (if ht_T m n x r k = true ∧ ht_D m n x r k = none then 1 else 0)
/-- number of rows and sum of rests of node k -/
noncomputable def ht_cn (m : Int32) (n : Nat) (x r : Nat → Int32) (k : Nat) : Int32 := bx_sum (ht_C n x ht_one (ht_nd m n x r k) k 0) 8
noncomputable def ht_cs (m : Int32) (n : Nat) (x r : Nat → Int32) (k : Nat) : Int32 := bx_sum (ht_C n x r (ht_nd m n x r k) k 0) 8
def ht_av (n s : Int32) : Int32 := if n ≤ 0 then 0 else s / n
/-- node j of tree t is made: a3 .. a6 hold it -/
def ht_N (m : Int32) (n : Nat) (x r : Nat → Int32) (t j : Nat) (a3 a4 a5 a6 : Nat → Int32) : Prop :=
  (ht_T m n x r j = false → a3 (t * 7 + j) = -7) ∧
  (ht_T m n x r j = true → a6 (t * 7 + j) = ht_cn m n x r j) ∧
  (ht_T m n x r j = true → ht_D m n x r j = none → a3 (t * 7 + j) = -6 ∧ a5 (t * 7 + j) = ht_av (ht_cn m n x r j) (ht_cs m n x r j)) ∧
  (∀ f b, ht_T m n x r j = true → ht_D m n x r j = some (f, b) → f < 3 ∧ b < 7 ∧ a3 (t * 7 + j) = nI f ∧ a4 (t * 7 + j) = nI b)
end
section
section
variable {post : St2 → Prop} {qost : Int32 → Prop} {ls ct tr bf bb : Int32} {bt bm : Int64} {a1 a2 a3 a4 a5 a6 a7 a8 a9 a10 : Nat → Int32}
/-- a' differs from a in node k's cells alone -/
def ht_K (k : Nat) (a a' : Nat → Int32) : Prop := ∀ j f v, j ≠ k → f < 3 → v < 8 → a' (j * 24 + f * 8 + v) = a (j * 24 + f * 8 + v)
theorem ht_K_0 {k : Nat} {a : Nat → Int32} : ht_K k a a := fun _ _ _ _ _ _ => rfl
theorem ht_K_t {k : Nat} {a a' a'' : Nat → Int32} (h : ht_K k a a') (h' : ht_K k a' a'') : ht_K k a a'' := fun j f v hj hf hv => (h' j f v hj hf hv).trans (h j f v hj hf hv)
theorem ht_K_u {k c : Nat} {a s : Nat → Int32} {y : Int32} (h : ht_K k a s) (hc : c < 24) : ht_K k a (upd s (k * 24 + c) y) := by
  intro j f v hj hf hv
  rw [pk_un (by omega)]
  exact h j f v hj hf hv
theorem ht_ix (k c : Nat) : nI k * 24 + nI c = nI (k * 24 + c) := by
  show nI k * nI 24 + nI c = _
  rw [pk_mul, nI_add]
theorem ht_ix3 (k f v : Nat) : nI k * 24 + nI f * 8 + nI v = nI (k * 24 + f * 8 + v) := by
  show nI k * nI 24 + nI f * nI 8 + nI v = _
  rw [pk_mul, pk_mul, nI_add, nI_add]
theorem ht_ix7 (t k : Nat) : nI t * 7 + nI k = nI (t * 7 + k) := by
  show nI t * nI 7 + nI k = _
  rw [pk_mul, nI_add]
/-- all of node k's cells below c hold F -/
def ht_L (k c : Nat) (F : Nat → Nat → Int32) (a : Nat → Int32) : Prop := ∀ f v, f < 3 → v < 8 → f * 8 + v < c → a (k * 24 + f * 8 + v) = F f v
theorem ht_L_u {k c : Nat} {F : Nat → Nat → Int32} {a : Nat → Int32} {y : Int32} (h : ht_L k c F a) (hy : ∀ f v, f < 3 → v < 8 → f * 8 + v = c → y = F f v) : ht_L k (c + 1) F (upd a (k * 24 + c) y) := by
  intro f v hf hv hc
  by_cases e : f * 8 + v = c
  · rw [show k * 24 + f * 8 + v = k * 24 + c by omega, pk_us]
    exact hy f v hf hv e
  · rw [pk_un (by omega)]
    exact h f v hf hv (by omega)
theorem ht_clear {k : Nat} (hk : k < 7) (H : ∀ p q : Nat → Int32, ht_L k 24 (fun _ _ => 0) p → ht_L k 24 (fun _ _ => 0) q → ht_K k a9 p → ht_K k a10 q → post (ls, ct, tr, bf, bb, bt, bm, a1, a2, a3, a4, a5, a6, a7, a8, p, q)) : wpX_clearCells post (ls, ct, tr, bf, bb, bt, bm, a1, a2, a3, a4, a5, a6, a7, a8, a9, a10) (nI k) :=
  pk_loop (fun n i s => wX_clearCells_2 post (nI k) ls ct tr bf bb bt bm n (nI i) a1 a2 a3 a4 a5 a6 a7 a8 (s.1) (s.2)) (fun i s => ht_L k i (fun _ _ => 0) s.1 ∧ ht_L k i (fun _ _ => 0) s.2 ∧ ht_K k a9 s.1 ∧ ht_K k a10 s.2) 24 0 (a9, a10) (by omega) ⟨fun _ _ _ _ h => absurd h (by omega), fun _ _ _ _ h => absurd h (by omega), ht_K_0, ht_K_0⟩
    (fun n s h => pk_le 24 24 (fun _ => H s.1 s.2 h.1 h.2.1 h.2.2.1 h.2.2.2) (fun z => absurd z (by omega)))
    (fun n i s hi h hw => pk_le 24 i (fun z => absurd z (by omega)) (fun _ => ⟨pk_in (k * 24 + i) 168 (by omega) (ht_ix k i), nm_r (e' := upd s.1 (k * 24 + i) 0) (by rw [ht_ix, nI_clamp (by omega)]) ⟨pk_in (k * 24 + i) 168 (by omega) (ht_ix k i), nm_r (e' := upd s.2 (k * 24 + i) 0) (by rw [ht_ix, nI_clamp (by omega)]) (nm_r (nI_1 i) (hw (upd s.1 (k * 24 + i) 0, upd s.2 (k * 24 + i) 0) ⟨ht_L_u h.1 (fun _ _ _ _ _ => rfl), ht_L_u h.2.1 (fun _ _ _ _ _ => rfl), ht_K_u h.2.2.1 hi, ht_K_u h.2.2.2 hi⟩))⟩⟩))
theorem ht_fo {x f : Int32} (h : qost (ht_fe x f)) : wpX_featureOf qost () x f := h
/-- one row added below feature g -/
def ht_A (k g : Nat) (x y : Int32) (a a' : Nat → Int32) : Prop := ∀ f v, f < 3 → v < 8 → a' (k * 24 + f * 8 + v) = a (k * 24 + f * 8 + v) + (if f < g ∧ ht_ft x f = v then y else 0)
theorem ht_A_u {k g : Nat} {x y z : Int32} {a a' : Nat → Int32} (h : ht_A k g x y a a') (hg : g < 3) (hz : z = a' (k * 24 + g * 8 + ht_ft x g) + y) : ht_A k (g + 1) x y a (upd a' (k * 24 + g * 8 + ht_ft x g) z) := by
  intro f v hf hv
  have hl := ht_ft_lt x g
  by_cases e : f = g
  · subst e
    by_cases e' : ht_ft x f = v
    · rw [e', pk_us, hz, e', h f v hf hv, if_neg (by omega), if_pos (by omega)]
      grind
    · rw [pk_un (by omega), h f v hf hv, if_neg (by omega), if_neg (by omega)]
  · rw [pk_un (by omega), h f v hf hv]
    by_cases e' : f < g ∧ ht_ft x f = v
    · rw [if_pos e', if_pos (by omega)]
    · rw [if_neg e', if_neg (by omega)]
theorem ht_addRow {k i : Nat} (hk : k < 7) (hi : i < 24) (H : ∀ p q : Nat → Int32, ht_A k 3 (a1 i) 1 a9 p → ht_A k 3 (a1 i) (a7 i) a10 q → ht_K k a9 p → ht_K k a10 q → post (ls, ct, tr, bf, bb, bt, bm, a1, a2, a3, a4, a5, a6, a7, a8, p, q)) : wpX_addRow post (ls, ct, tr, bf, bb, bt, bm, a1, a2, a3, a4, a5, a6, a7, a8, a9, a10) (nI k) (nI i) := by
  refine pk_loop (fun n f s => wX_addRow_2 post (nI k) (nI i) ls ct tr bf bb bt bm n (nI f) a1 a2 a3 a4 a5 a6 a7 a8 (s.1) (s.2)) (fun f s => ht_A k f (a1 i) 1 a9 s.1 ∧ ht_A k f (a1 i) (a7 i) a10 s.2 ∧ ht_K k a9 s.1 ∧ ht_K k a10 s.2) 3 0 (a9, a10) (by omega) ⟨?_, ?_, ht_K_0, ht_K_0⟩ (fun n s h => pk_le 3 3 (fun _ => H s.1 s.2 h.1 h.2.1 h.2.2.1 h.2.2.2) (fun z => absurd z (by omega))) ?_
  · intro f v hf hv
    rw [if_neg (by omega)]
    grind
  · intro f v hf hv
    rw [if_neg (by omega)]
    grind
  · intro n f s hf h hw
    have hv := ht_ft_lt (a1 i) f
    have hc : k * 24 + f * 8 + ht_ft (a1 i) f < 168 := by omega
    have hz : (nI i).toNatClampNeg = i := nI_clamp (by omega)
    have hu : (nI (k * 24 + f * 8 + ht_ft (a1 i) f)).toNatClampNeg = k * 24 + f * 8 + ht_ft (a1 i) f := nI_clamp (by omega)
    have hx : nI k * 24 + nI f * 8 + ht_fe (a1 (nI i).toNatClampNeg) (nI f) = nI (k * 24 + f * 8 + ht_ft (a1 i) f) := by
      rw [hz, ht_ft_eq, ht_ix3]
    refine pk_le 3 f (fun z => absurd z (by omega)) (fun _ => ⟨pk_in i 24 hi, ht_fo (nm_r hx ⟨pk_in _ 168 hc, pk_in _ 168 hc, nm_r (e' := upd s.1 (k * 24 + f * 8 + ht_ft (a1 i) f) (s.1 (k * 24 + f * 8 + ht_ft (a1 i) f) + 1)) ?_ ⟨pk_in _ 168 hc, pk_in i 24 hi, pk_in _ 168 hc, nm_r (e' := upd s.2 (k * 24 + f * 8 + ht_ft (a1 i) f) (s.2 (k * 24 + f * 8 + ht_ft (a1 i) f) + a7 i)) ?_ (nm_r (nI_1 f) (hw (_, _) ⟨ht_A_u h.1 hf rfl, ht_A_u h.2.1 hf rfl, ?_, ?_⟩))⟩⟩)⟩)
    · rw [hu]
    · rw [hu, hz]
    · rw [Nat.add_assoc]
      exact ht_K_u h.2.2.1 (by omega)
    · rw [Nat.add_assoc]
      exact ht_K_u h.2.2.2 (by omega)
/-- node k's cells in a hold the sums of w -/
def ht_M (n : Nat) (x w : Nat → Int32) (nd : Nat → Nat) (k : Nat) (a : Nat → Int32) : Prop := ∀ f v, f < 3 → v < 8 → a (k * 24 + f * 8 + v) = ht_C n x w nd k f v
theorem ht_M_0 {x w : Nat → Int32} {nd : Nat → Nat} {k : Nat} {a : Nat → Int32} (h : ht_L k 24 (fun _ _ => 0) a) : ht_M 0 x w nd k a := fun f v hf hv => h f v hf hv (by omega)
theorem ht_M_y {x w : Nat → Int32} {nd : Nat → Nat} {n k : Nat} {a a' : Nat → Int32} {y : Int32} (h : ht_M n x w nd k a) (hk : nd n = k) (hy : y = w n) (ha : ht_A k 3 (x n) y a a') : ht_M (n + 1) x w nd k a' := by
  intro f v hf hv
  rw [ha f v hf hv, h f v hf hv, hy]
  show _ = ht_C n x w nd k f v + (if decide (nd n = k ∧ ht_ft (x n) f = v) = true then w n else 0)
  simp only [hk, hf, true_and, decide_eq_true_eq]
theorem ht_M_n {x w : Nat → Int32} {nd : Nat → Nat} {n k : Nat} {a : Nat → Int32} (h : ht_M n x w nd k a) (hk : nd n ≠ k) : ht_M (n + 1) x w nd k a := by
  intro f v hf hv
  rw [h f v hf hv]
  show _ = ht_C n x w nd k f v + (if decide (nd n = k ∧ ht_ft (x n) f = v) = true then w n else 0)
  rw [if_neg (by simp [hk])]
  grind
theorem ht_fromRows {k N : Nat} {nd : Nat → Nat} {r : Nat → Int32} (hk : k < 7) (hN : N ≤ 24) (h7 : ∀ i, i < N → a7 i = r i) (h8 : ∀ i, i < N → a8 i = nI (nd i) ∧ nd i < 100)
    (H : ∀ p q : Nat → Int32, ht_M N a1 ht_one nd k p → ht_M N a1 r nd k q → ht_K k a9 p → ht_K k a10 q → post (ls, nI N, tr, bf, bb, bt, bm, a1, a2, a3, a4, a5, a6, a7, a8, p, q)) : wpX_fromRows post (ls, nI N, tr, bf, bb, bt, bm, a1, a2, a3, a4, a5, a6, a7, a8, a9, a10) (nI k) := by
  refine ht_clear hk (fun p q hp hq kp kq => ?_)
  refine pk_loop (fun n i s => wX_fromRows_7 post (nI k) n (nI i) ls (nI N) tr bf bb bt bm a1 a2 a3 a4 a5 a6 a7 a8 (s.1) (s.2)) (fun i s => ht_M i a1 ht_one nd k s.1 ∧ ht_M i a1 r nd k s.2 ∧ ht_K k a9 s.1 ∧ ht_K k a10 s.2) N 0 (p, q) (by omega) ⟨ht_M_0 hp, ht_M_0 hq, kp, kq⟩ (fun n s h => pk_le N N (fun _ => H s.1 s.2 h.1 h.2.1 h.2.2.1 h.2.2.2) (fun z => absurd z (by omega))) ?_
  intro n i s hi h hw
  have hz : a8 (nI i).toNatClampNeg = nI (nd i) := by
    rw [nI_clamp (by omega)]
    exact (h8 i hi).1
  have hd := (h8 i hi).2
  refine pk_le N i (fun z => absurd z (by omega)) (fun _ => ⟨pk_in i 24 (by omega), pk_eq (nd i) k (fun e => ?_) (fun e => ?_) hz⟩)
  · exact ht_addRow hk (by omega) (fun p' q' hp' hq' kp' kq' => nm_r (nI_1 i) (hw (p', q') ⟨ht_M_y h.1 e rfl hp', ht_M_y h.2.1 e (h7 i hi) hq', ht_K_t h.2.2.1 kp', ht_K_t h.2.2.2 kq'⟩))
  · exact nm_r (nI_1 i) (hw s ⟨ht_M_n h.1 e, ht_M_n h.2.1 e, h.2.2.1, h.2.2.2⟩)
theorem ht_rowsIn {k : Nat} {C : Nat → Int32} (hk : k < 7) (hC : ∀ v, v < 8 → a9 (k * 24 + v) = C v) (H : qost (bx_sum C 8)) : wpX_rowsIn qost (ls, ct, tr, bf, bb, bt, bm, a1, a2, a3, a4, a5, a6, a7, a8, a9, a10) (nI k) :=
  pk_loop (σ := Unit) (fun n v _ => wX_rowsIn_4 qost (nI k) ls ct tr bf bb bt bm a1 a2 a3 a4 a5 a6 a7 a8 a9 a10 n (bx_sum C v) (nI v)) (fun _ _ => True) 8 0 () (by omega) trivial
    (fun n _ _ => pk_le 8 8 (fun _ => H) (fun z => absurd z (by omega)))
    (fun n v _ hv _ hw => pk_le 8 v (fun z => absurd z (by omega)) (fun _ => ⟨pk_in (k * 24 + v) 168 (by omega) (ht_ix k v), nm_r (e' := bx_sum C (v + 1)) (by rw [ht_ix, nI_clamp (by omega), hC v hv]; rfl) (nm_r (nI_1 v) (hw () trivial))⟩))
theorem ht_sumIn {k : Nat} {C : Nat → Int32} (hk : k < 7) (hC : ∀ v, v < 8 → a10 (k * 24 + v) = C v) (H : qost (bx_sum C 8)) : wpX_sumIn qost (ls, ct, tr, bf, bb, bt, bm, a1, a2, a3, a4, a5, a6, a7, a8, a9, a10) (nI k) :=
  pk_loop (σ := Unit) (fun n v _ => wX_sumIn_4 qost (nI k) ls ct tr bf bb bt bm a1 a2 a3 a4 a5 a6 a7 a8 a9 a10 n (bx_sum C v) (nI v)) (fun _ _ => True) 8 0 () (by omega) trivial
    (fun n _ _ => pk_le 8 8 (fun _ => H) (fun z => absurd z (by omega)))
    (fun n v _ hv _ hw => pk_le 8 v (fun z => absurd z (by omega)) (fun _ => ⟨pk_in (k * 24 + v) 168 (by omega) (ht_ix k v), nm_r (e' := bx_sum C (v + 1)) (by rw [ht_ix, nI_clamp (by omega), hC v hv]; rfl) (nm_r (nI_1 v) (hw () trivial))⟩))
theorem ht_fromParent {p q o : Nat} (hp : p < 7) (hq : q < 7) (ho : o < 7) (hpq : q ≠ p) (hpo : o ≠ p)
    (H : ∀ y z : Nat → Int32, ht_L p 24 (fun f v => a9 (q * 24 + f * 8 + v) - a9 (o * 24 + f * 8 + v)) y → ht_L p 24 (fun f v => a10 (q * 24 + f * 8 + v) - a10 (o * 24 + f * 8 + v)) z → ht_K p a9 y → ht_K p a10 z → post (ls, ct, tr, bf, bb, bt, bm, a1, a2, a3, a4, a5, a6, a7, a8, y, z)) : wpX_fromParent post (ls, ct, tr, bf, bb, bt, bm, a1, a2, a3, a4, a5, a6, a7, a8, a9, a10) (nI p) (nI q) (nI o) := by
  refine pk_loop (fun n c s => wX_fromParent_3 post (nI p) (nI q) (nI o) ls ct tr bf bb bt bm n (nI c) a1 a2 a3 a4 a5 a6 a7 a8 (s.1) (s.2)) (fun c s => ht_L p c (fun f v => a9 (q * 24 + f * 8 + v) - a9 (o * 24 + f * 8 + v)) s.1 ∧ ht_L p c (fun f v => a10 (q * 24 + f * 8 + v) - a10 (o * 24 + f * 8 + v)) s.2 ∧ ht_K p a9 s.1 ∧ ht_K p a10 s.2) 24 0 (a9, a10) (by omega) ⟨fun _ _ _ _ h => absurd h (by omega), fun _ _ _ _ h => absurd h (by omega), ht_K_0, ht_K_0⟩ (fun n s h => pk_le 24 24 (fun _ => H s.1 s.2 h.1 h.2.1 h.2.2.1 h.2.2.2) (fun z => absurd z (by omega))) ?_
  intro n c s hc h hw
  have hcp : (nI p * 24 + nI c).toNatClampNeg = p * 24 + c := by rw [ht_ix, nI_clamp (by omega)]
  have hcq : (nI q * 24 + nI c).toNatClampNeg = q * 24 + c := by rw [ht_ix, nI_clamp (by omega)]
  have hco : (nI o * 24 + nI c).toNatClampNeg = o * 24 + c := by rw [ht_ix, nI_clamp (by omega)]
  have ip : vp_in (nI p * 24 + nI c) 168 := pk_in (p * 24 + c) 168 (by omega) (ht_ix p c)
  have iq : vp_in (nI q * 24 + nI c) 168 := pk_in (q * 24 + c) 168 (by omega) (ht_ix q c)
  have io : vp_in (nI o * 24 + nI c) 168 := pk_in (o * 24 + c) 168 (by omega) (ht_ix o c)
  refine pk_le 24 c (fun z => absurd z (by omega)) (fun _ => ⟨iq, io, ip, nm_r (e' := upd s.1 (p * 24 + c) (s.1 (q * 24 + c) - s.1 (o * 24 + c))) (by rw [hcp, hcq, hco]) ⟨iq, io, ip, nm_r (e' := upd s.2 (p * 24 + c) (s.2 (q * 24 + c) - s.2 (o * 24 + c))) (by rw [hcp, hcq, hco]) (nm_r (nI_1 c) (hw (_, _) ⟨ht_L_u h.1 ?_, ht_L_u h.2.1 ?_, ht_K_u h.2.2.1 hc, ht_K_u h.2.2.2 hc⟩))⟩⟩)
  · intro f v hf hv e
    rw [show q * 24 + c = q * 24 + f * 8 + v by omega, show o * 24 + c = o * 24 + f * 8 + v by omega, h.2.2.1 q f v hpq hf hv, h.2.2.1 o f v hpo hf hv]
  · intro f v hf hv e
    rw [show q * 24 + c = q * 24 + f * 8 + v by omega, show o * 24 + c = o * 24 + f * 8 + v by omega, h.2.2.2 q f v hpq hf hv, h.2.2.2 o f v hpo hf hv]
end
end
section
section
variable {post : St2 → Prop} {rost : Int32 → St2 → Prop} {ls ct tr bf bb : Int32} {bt bm : Int64} {a1 a2 a3 a4 a5 a6 a7 a8 a9 a10 : Nat → Int32}
/-- the fields hold the best split o -/
def ht_R (o : ht_O) (bf bb : Int32) (bt bm : Int64) : Prop := match o with
  | none => bf = -1
  | some (f, b, t, q) => f < 3 ∧ b < 7 ∧ bf = nI f ∧ bb = nI b ∧ bt = t ∧ bm = q
theorem ht_tryLeft {o : ht_O} {f b : Nat} {n s nl sl : Int32} (hf : f < 3) (hb : b < 7) (hR : ht_R o bf bb bt bm)
    (H : ∀ (bf' bb' : Int32) (bt' bm' : Int64), ht_R (ht_try ls n s f b nl sl o) bf' bb' bt' bm' → post (ls, ct, tr, bf', bb', bt', bm', a1, a2, a3, a4, a5, a6, a7, a8, a9, a10)) :
    wpX_tryLeft post (ls, ct, tr, bf, bb, bt, bm, a1, a2, a3, a4, a5, a6, a7, a8, a9, a10) (nI f) (nI b) nl.toInt64 sl.toInt64 n.toInt64 s.toInt64 := by
  have Y : ht_big ls n nl → ht_won n s nl sl o → post (ls, ct, tr, nI f, nI b, ht_top n s nl sl, ht_bot n nl, a1, a2, a3, a4, a5, a6, a7, a8, a9, a10) := fun h1 h2 => H _ _ _ _ (by
    rw [ht_try_t ⟨h1, h2⟩]
    exact ⟨hf, hb, rfl, rfl, rfl, rfl⟩)
  have Z : ¬ (ht_big ls n nl ∧ ht_won n s nl sl o) → post (ls, ct, tr, bf, bb, bt, bm, a1, a2, a3, a4, a5, a6, a7, a8, a9, a10) := fun h => H _ _ _ _ (by
    rw [ht_try_f h]
    exact hR)
  refine nm_e (nm_e (br_c (fun h1 => Z (fun z => z.1.1 h1)) (fun h1 => br_c (fun h2 => nm_e (nm_e ?_)) (fun h2 => Z (fun z => h2 z.1.2)))))
  cases o with
  | none =>
    have e : bf = -1 := hR
    exact br_t (by rw [e]; decide) (Y ⟨h1, h2⟩ trivial)
  | some w =>
    obtain ⟨f0, b0, t0, q0⟩ := w
    obtain ⟨g1, g2, g3, g4, g5, g6⟩ := hR
    refine br_f (by rw [g3]; exact nI_pos (by omega)) (br_c (fun h3 => Y ⟨h1, h2⟩ ?_) (fun h3 => Z (fun z => h3 ?_)))
    · rw [g5, g6] at h3
      exact h3
    · rw [g5, g6]
      exact z.2
theorem ht_f23 {J : Int32 → Int32 → Int32 → Int32 → Int32 → Int32 → Int64 → Int64 → (Nat → Int32) → (Nat → Int32) → (Nat → Int32) → (Nat → Int32) → (Nat → Int32) → (Nat → Int32) → (Nat → Int32) → (Nat → Int32) → (Nat → Int32) → (Nat → Int32) → Prop} {o : ht_O} {k f : Nat} {n s : Int32} {C S : Nat → Int32} (hk : k < 7) (hf : f < 3) (hR : ht_R o bf bb bt bm)
    (hC : ∀ v, v < 8 → a9 (k * 24 + f * 8 + v) = C v) (hS : ∀ v, v < 8 → a10 (k * 24 + f * 8 + v) = S v)
    (H : ∀ (bf' bb' : Int32) (bt' bm' : Int64), ht_R (ht_in ls n s C S f o 7) bf' bb' bt' bm' → J (nI (f + 1)) ls ct tr (bf') (bb') (bt') (bm') a1 a2 a3 a4 a5 a6 a7 a8 a9 a10) :
    ∃ fu, wX_findSplit_23 post J (nI k) n s (nI f) fu 0 0 0 ls ct tr bf bb bt bm a1 a2 a3 a4 a5 a6 a7 a8 a9 a10 := by
  refine pk_loop (σ := Int32 × Int32 × Int64 × Int64) (fun u b w => wX_findSplit_23 post J (nI k) n s (nI f) u (bx_sum C b) (bx_sum S b) (nI b) ls ct tr (w.1) (w.2.1) (w.2.2.1) (w.2.2.2) a1 a2 a3 a4 a5 a6 a7 a8 a9 a10) (fun b w => ht_R (ht_in ls n s C S f o b) w.1 w.2.1 w.2.2.1 w.2.2.2) 7 0 (bf, bb, bt, bm) (by omega) hR
    (fun u w h => pk_le 7 7 (fun _ => nm_r (nI_1 f) (H _ _ _ _ h)) (fun z => absurd z (by omega))) ?_
  intro u b w hb h hw
  have hc : (nI k * 24 + nI f * 8 + nI b).toNatClampNeg = k * 24 + f * 8 + b := by rw [ht_ix3, nI_clamp (by omega)]
  have hi : vp_in (nI k * 24 + nI f * 8 + nI b) 168 := pk_in (k * 24 + f * 8 + b) 168 (by omega) (ht_ix3 k f b)
  refine pk_le 7 b (fun z => absurd z (by omega)) (fun _ => ⟨hi, nm_r (e' := bx_sum C (b + 1)) (by rw [hc, hC b (by omega)]; rfl) ⟨hi, nm_r (e' := bx_sum S (b + 1)) (by rw [hc, hS b (by omega)]; rfl) ?_⟩⟩)
  exact ht_tryLeft hf hb h (fun bf' bb' bt' bm' h' => nm_r (nI_1 b) (hw (bf', bb', bt', bm') h'))
theorem ht_findSplit {k : Nat} {n s : Int32} {C S : Nat → Nat → Int32} (hk : k < 7)
    (hC : ∀ f v, f < 3 → v < 8 → a9 (k * 24 + f * 8 + v) = C f v) (hS : ∀ f v, f < 3 → v < 8 → a10 (k * 24 + f * 8 + v) = S f v)
    (H : ∀ (bf' bb' : Int32) (bt' bm' : Int64), ht_R (ht_out ls n s C S 3) bf' bb' bt' bm' → post (ls, ct, tr, bf', bb', bt', bm', a1, a2, a3, a4, a5, a6, a7, a8, a9, a10)) :
    wpX_findSplit post (ls, ct, tr, bf, bb, bt, bm, a1, a2, a3, a4, a5, a6, a7, a8, a9, a10) (nI k) n s :=
  pk_loop (σ := Int32 × Int32 × Int64 × Int64) (fun u f w => wX_findSplit_8 post (nI k) n s u (nI f) ls ct tr (w.1) (w.2.1) (w.2.2.1) (w.2.2.2) a1 a2 a3 a4 a5 a6 a7 a8 a9 a10) (fun f w => ht_R (ht_out ls n s C S f) w.1 w.2.1 w.2.2.1 w.2.2.2) 3 0 (-1, bb, bt, bm) (by omega) rfl
    (fun u w h => pk_le 3 3 (fun _ => H _ _ _ _ h) (fun z => absurd z (by omega)))
    (fun u f w hf h hw => pk_le 3 f (fun z => absurd z (by omega)) (fun _ => ht_f23 hk hf h (fun v hv => hC f v hf hv) (fun v hv => hS f v hf hv) (fun bf' bb' bt' bm' h' => hw (bf', bb', bt', bm') h')))
theorem ht_makeLeaf {q : Nat} {n s : Int32} (hq : q < 28) (H : post (ls, ct, tr, bf, bb, bt, bm, a1, a2, upd a3 q (-6), a4, upd a5 q (ht_av n s), a6, a7, a8, a9, a10)) : wpX_makeLeaf post (ls, ct, tr, bf, bb, bt, bm, a1, a2, a3, a4, a5, a6, a7, a8, a9, a10) (nI q) n s := by
  have hc : (nI q).toNatClampNeg = q := nI_clamp (by omega)
  refine ⟨pk_in q 28 hq, nm_r (e' := upd a3 q (-6)) (by rw [hc]) (br_c (fun h => ?_) (fun h => ?_))⟩
  · refine ⟨pk_in q 28 hq, nm_r (e' := upd a5 q (ht_av n s)) ?_ H⟩
    rw [hc]
    unfold ht_av
    rw [if_pos h]
  · refine ⟨fun z => h (by rw [z]; decide), pk_in q 28 hq, nm_r (e' := upd a5 q (ht_av n s)) ?_ H⟩
    rw [hc]
    unfold ht_av
    rw [if_neg h]
theorem ht_s48 {q : Nat} {n s : Int32} {o : ht_O} (hq : q < 28) (hR : ht_R o bf bb bt bm)
    (Hn : ht_pick n s o = none → rost 0 (ls, ct, tr, bf, bb, bt, bm, a1, a2, upd a3 q (-6), a4, upd a5 q (ht_av n s), a6, a7, a8, a9, a10))
    (Hs : ∀ f b, ht_pick n s o = some (f, b) → f < 3 → b < 7 → rost 1 (ls, ct, tr, bf, bb, bt, bm, a1, a2, upd a3 q (nI f), upd a4 q (nI b), upd a5 q 0, a6, a7, a8, a9, a10)) :
    wX_splitNode_48 rost (nI q) n s ls ct tr bf bb bt bm a1 a2 a3 a4 a5 a6 a7 a8 a9 a10 := by
  have hc : (nI q).toNatClampNeg = q := nI_clamp (by omega)
  have Z : ht_pick n s o = none → wX_splitNode_83 rost (nI q) n s ls ct tr bf bb bt bm a1 a2 a3 a4 a5 a6 a7 a8 a9 a10 := fun h => ht_makeLeaf hq (Hn h)
  cases o with
  | none =>
    have e : bf = -1 := hR
    exact nm_e (br_t (by rw [e]; decide) (Z rfl))
  | some w =>
    obtain ⟨f0, b0, t0, q0⟩ := w
    obtain ⟨g1, g2, g3, g4, g5, g6⟩ := hR
    refine nm_e (br_f (by rw [g3]; exact nI_pos (by omega)) (br_c (fun h3 => ?_) (fun h3 => Z ?_)))
    · rw [g5, g6] at h3
      have e : ht_pick n s (some (f0, b0, t0, q0)) = some (f0, b0) := if_pos h3
      exact ⟨pk_in q 28 hq, nm_r (e' := upd a3 q (nI f0)) (by rw [hc, g3]) ⟨pk_in q 28 hq, nm_r (e' := upd a4 q (nI b0)) (by rw [hc, g4]) ⟨pk_in q 28 hq, nm_r (e' := upd a5 q 0) (by rw [hc]) (Hs f0 b0 e g1 g2)⟩⟩⟩
    · rw [g5, g6] at h3
      exact if_neg h3
theorem ht_splitNode {t k : Nat} {C S : Nat → Nat → Int32} (hk : k < 7) (ht : t < 4)
    (hC : ∀ f v, f < 3 → v < 8 → a9 (k * 24 + f * 8 + v) = C f v) (hS : ∀ f v, f < 3 → v < 8 → a10 (k * 24 + f * 8 + v) = S f v)
    (Hn : ∀ (bf' bb' : Int32) (bt' bm' : Int64), ht_dc ls C S k = none → rost 0 (ls, ct, tr, bf', bb', bt', bm', a1, a2, upd a3 (t * 7 + k) (-6), a4, upd a5 (t * 7 + k) (ht_av (bx_sum (C 0) 8) (bx_sum (S 0) 8)), upd a6 (t * 7 + k) (bx_sum (C 0) 8), a7, a8, a9, a10))
    (Hs : ∀ (bf' bb' : Int32) (bt' bm' : Int64) (f b : Nat), ht_dc ls C S k = some (f, b) → k < 3 → f < 3 → b < 7 → rost 1 (ls, ct, tr, bf', bb', bt', bm', a1, a2, upd a3 (t * 7 + k) (nI f), upd a4 (t * 7 + k) (nI b), upd a5 (t * 7 + k) 0, upd a6 (t * 7 + k) (bx_sum (C 0) 8), a7, a8, a9, a10)) :
    wpX_splitNode rost (ls, ct, tr, bf, bb, bt, bm, a1, a2, a3, a4, a5, a6, a7, a8, a9, a10) (nI t) (nI k) := by
  have hq : t * 7 + k < 28 := by omega
  have hc : (nI (t * 7 + k)).toNatClampNeg = t * 7 + k := nI_clamp (by omega)
  refine nm_r (ht_ix7 t k) (ht_rowsIn hk (fun v hv => hC 0 v (by omega) hv) (ht_sumIn hk (fun v hv => hS 0 v (by omega) hv) ⟨pk_in (t * 7 + k) 28 hq, nm_r (e' := upd a6 (t * 7 + k) (bx_sum (C 0) 8)) (by rw [hc]) (pk_le 3 k (fun z => ?_) (fun z => ?_))⟩))
  · have e : ht_dc ls C S k = none := if_neg (by omega)
    exact ht_s48 (o := none) hq rfl (fun _ => Hn _ _ _ _ e) (fun f b h => absurd h (by intro z; cases z))
  · have e : ht_dc ls C S k = ht_pick (bx_sum (C 0) 8) (bx_sum (S 0) 8) (ht_out ls (bx_sum (C 0) 8) (bx_sum (S 0) 8) C S 3) := if_pos z
    exact ht_findSplit hk hC hS (fun bf' bb' bt' bm' h => ht_s48 hq h (fun g => Hn _ _ _ _ (e.trans g)) (fun f b g hf hb => Hs _ _ _ _ f b (e.trans g) z hf hb))
end
end
section
section
variable {post : St2 → Prop} {rost : Int32 → St2 → Prop} {ls ct tr bf bb : Int32} {bt bm : Int64} {a1 a2 a3 a4 a5 a6 a7 a8 a9 a10 : Nat → Int32}
def ht_K2 (k l : Nat) (a a' : Nat → Int32) : Prop := ∀ j f v, j ≠ k → j ≠ l → f < 3 → v < 8 → a' (j * 24 + f * 8 + v) = a (j * 24 + f * 8 + v)
theorem ht_mv_y {x : Nat → Int32} {nd : Nat → Nat} {k f b i : Nat} (h : nd i = k) (g : b < ht_ft (x i) f) : ht_mv x nd k (some (f, b)) i = 2 * k + 2 := by
  show (if nd i = k then (if b < ht_ft (x i) f then 2 * k + 2 else 2 * k + 1) else nd i) = _
  rw [if_pos h, if_pos g]
theorem ht_mv_x {x : Nat → Int32} {nd : Nat → Nat} {k f b i : Nat} (h : nd i = k) (g : ¬ b < ht_ft (x i) f) : ht_mv x nd k (some (f, b)) i = 2 * k + 1 := by
  show (if nd i = k then (if b < ht_ft (x i) f then 2 * k + 2 else 2 * k + 1) else nd i) = _
  rw [if_pos h, if_neg g]
theorem ht_mv_n {x : Nat → Int32} {nd : Nat → Nat} {k i : Nat} {o : Option (Nat × Nat)} (h : nd i ≠ k) : ht_mv x nd k o i = nd i := by
  cases o with
  | none => rfl
  | some w =>
    obtain ⟨f, b⟩ := w
    show (if nd i = k then (if b < ht_ft (x i) f then 2 * k + 2 else 2 * k + 1) else nd i) = _
    rw [if_neg h]
theorem ht_mv_C {x w : Nat → Int32} {nd : Nat → Nat} {N k f0 b0 : Nat} (h : ∀ i, i < N → nd i ≤ 2 * k) (f v : Nat) : ht_C N x w nd k f v = ht_C N x w (ht_mv x nd k (some (f0, b0))) (2 * k + 1) f v + ht_C N x w (ht_mv x nd k (some (f0, b0))) (2 * k + 2) f v := by
  refine ht_sum_split (fun i hi => ?_)
  have hn := h i hi
  by_cases e : nd i = k
  · by_cases g : b0 < ht_ft (x i) f0
    · rw [ht_mv_y e g]
      simp [e]
    · rw [ht_mv_x e g]
      simp [e]
  · rw [ht_mv_n e]
    have e1 : nd i ≠ 2 * k + 1 := by omega
    have e2 : nd i ≠ 2 * k + 2 := by omega
    simp [e, e1, e2]
theorem ht_p146 {k sm lg N : Nat} {nd nd' : Nat → Nat} {r : Nat → Int32} {zs zl : Int32} (es : zs = nI sm) (el : zl = nI lg) (hk : k < 7) (hs : sm < 7) (hl : lg < 7) (h1 : k ≠ sm) (h2 : k ≠ lg) (h3 : sm ≠ lg) (hN : N ≤ 24)
    (h7 : ∀ i, i < N → a7 i = r i) (h8 : ∀ i, i < N → a8 i = nI (nd' i) ∧ nd' i < 100)
    (hC : ht_M N a1 ht_one nd k a9) (hS : ht_M N a1 r nd k a10)
    (hw : ∀ w f v, ht_C N a1 w nd k f v = ht_C N a1 w nd' sm f v + ht_C N a1 w nd' lg f v)
    (H : ∀ p q : Nat → Int32, ht_M N a1 ht_one nd' sm p → ht_M N a1 ht_one nd' lg p → ht_M N a1 r nd' sm q → ht_M N a1 r nd' lg q → ht_K2 sm lg a9 p → ht_K2 sm lg a10 q → post (ls, nI N, tr, bf, bb, bt, bm, a1, a2, a3, a4, a5, a6, a7, a8, p, q)) :
    wX_part_146 post (nI k) zs zl ls (nI N) tr bf bb bt bm a1 a2 a3 a4 a5 a6 a7 a8 a9 a10 := by
  subst es el
  refine ht_fromRows hs hN h7 h8 (fun p q hp hq kp kq => ht_fromParent hl hk hs h2 h3 (fun y z hy hz ky kz => H y z ?_ ?_ ?_ ?_ ?_ ?_))
  · exact fun f v hf hv => (ky sm f v h3 hf hv).trans (hp f v hf hv)
  · intro f v hf hv
    rw [hy f v hf hv (by omega)]
    show p (k * 24 + f * 8 + v) - p (sm * 24 + f * 8 + v) = _
    rw [kp k f v h1 hf hv, hC f v hf hv, hp f v hf hv, hw]
    grind
  · exact fun f v hf hv => (kz sm f v h3 hf hv).trans (hq f v hf hv)
  · intro f v hf hv
    rw [hz f v hf hv (by omega)]
    show q (k * 24 + f * 8 + v) - q (sm * 24 + f * 8 + v) = _
    rw [kq k f v h1 hf hv, hS f v hf hv, hq f v hf hv, hw]
    grind
  · exact fun j f v g1 g2 hf hv => (ky j f v g2 hf hv).trans (kp j f v g1 hf hv)
  · exact fun j f v g1 g2 hf hv => (kz j f v g2 hf hv).trans (kq j f v g1 hf hv)
theorem ht_p128 {k N f0 b0 : Nat} {nd : Nat → Nat} {r : Nat → Int32} {z : Int32} (hz : z = nI (2 * k + 1) ∨ z = nI (2 * k + 2)) (hk : k < 3) (hN : N ≤ 24) (hn : ∀ i, i < N → nd i ≤ 2 * k)
    (h7 : ∀ i, i < N → a7 i = r i) (h8 : ∀ i, i < N → a8 i = nI (ht_mv a1 nd k (some (f0, b0)) i) ∧ ht_mv a1 nd k (some (f0, b0)) i < 100)
    (hC : ht_M N a1 ht_one nd k a9) (hS : ht_M N a1 r nd k a10)
    (H : ∀ p q : Nat → Int32, (∀ j, j = 2 * k + 1 ∨ j = 2 * k + 2 → ht_M N a1 ht_one (ht_mv a1 nd k (some (f0, b0))) j p ∧ ht_M N a1 r (ht_mv a1 nd k (some (f0, b0))) j q) → ht_K2 (2 * k + 1) (2 * k + 2) a9 p → ht_K2 (2 * k + 1) (2 * k + 2) a10 q → post (ls, nI N, tr, bf, bb, bt, bm, a1, a2, a3, a4, a5, a6, a7, a8, p, q)) :
    wX_part_128 post (nI k) (nI (2 * k + 1)) z ls (nI N) tr bf bb bt bm a1 a2 a3 a4 a5 a6 a7 a8 a9 a10 := by
  rcases hz with e | e
  · refine br_t e (ht_p146 e (nI_1 (2 * k + 1)) (by omega) (by omega) (by omega) (by omega) (by omega) (by omega) hN h7 h8 hC hS (fun w f v => ht_mv_C hn f v) (fun p q m1 m2 m3 m4 k1 k2 => H p q ?_ k1 k2))
    intro j hj
    rcases hj with rfl | rfl
    · exact ⟨m1, m3⟩
    · exact ⟨m2, m4⟩
  · refine br_f (by rw [e, nI_eq (by omega) (by omega)]; omega) (ht_p146 e rfl (by omega) (by omega) (by omega) (by omega) (by omega) (by omega) hN h7 h8 hC hS (fun w f v => (ht_mv_C hn f v).trans (Int32.add_comm _ _)) (fun p q m1 m2 m3 m4 k1 k2 => H p q ?_ (fun j f v g1 g2 hf hv => k1 j f v g2 g1 hf hv) (fun j f v g1 g2 hf hv => k2 j f v g2 g1 hf hv)))
    intro j hj
    rcases hj with rfl | rfl
    · exact ⟨m2, m4⟩
    · exact ⟨m1, m3⟩
theorem ht_p84 {J : Int32 → Int32 → (Nat → Int32) → (Nat → Int32) → (Nat → Int32) → (Nat → Int32) → (Nat → Int32) → (Nat → Int32) → (Nat → Int32) → (Nat → Int32) → (Nat → Int32) → (Nat → Int32) → Prop} {i : Nat} {x2 x3 x4 x5 z z' : Int32} (hi : i < 24) (ez : z = z') (H : ∀ y : Int32, J y (nI (i + 1)) a1 a2 a3 a4 a5 a6 a7 ((upd a8 i z')) a9 a10) : wX_part_84 post J x2 x3 x4 x5 (nI i) z (nI i) ls ct tr bf bb bt bm a1 a2 a3 a4 a5 a6 a7 a8 a9 a10 :=
  ⟨pk_in i 24 hi, nm_r (e' := upd a8 i z') (by rw [nI_clamp (by omega), ez]) ⟨pk_in i 24 hi, br_c (fun _ => nm_e (nm_r (nI_1 i) (H _))) (fun _ => nm_r (nI_1 i) (H _))⟩⟩
theorem ht_part {t k N f0 b0 : Nat} {nd : Nat → Nat} {r : Nat → Int32} (hk : k < 3) (ht : t < 4) (hN : N ≤ 24) (h3 : a3 (t * 7 + k) = nI f0) (h4 : a4 (t * 7 + k) = nI b0) (hf0 : f0 < 3) (hb0 : b0 < 7)
    (h7 : ∀ i, i < N → a7 i = r i) (h8 : ∀ i, i < N → a8 i = nI (nd i) ∧ nd i ≤ 2 * k)
    (hC : ht_M N a1 ht_one nd k a9) (hS : ht_M N a1 r nd k a10)
    (H : ∀ c p q : Nat → Int32, (∀ i, i < N → c i = nI (ht_mv a1 nd k (some (f0, b0)) i)) → (∀ j, j = 2 * k + 1 ∨ j = 2 * k + 2 → ht_M N a1 ht_one (ht_mv a1 nd k (some (f0, b0))) j p ∧ ht_M N a1 r (ht_mv a1 nd k (some (f0, b0))) j q) → ht_K2 (2 * k + 1) (2 * k + 2) a9 p → ht_K2 (2 * k + 1) (2 * k + 2) a10 q → post (ls, nI N, tr, bf, bb, bt, bm, a1, a2, a3, a4, a5, a6, a7, c, p, q)) :
    wpX_part post (ls, nI N, tr, bf, bb, bt, bm, a1, a2, a3, a4, a5, a6, a7, a8, a9, a10) (nI t) (nI k) := by
  have e1 : (2 : Int32) * nI k + 1 = nI (2 * k + 1) := by
    show nI 2 * nI k + 1 = _
    rw [pk_mul, nI_1]
  have hq : t * 7 + k < 28 := by omega
  have hcq : (nI (t * 7 + k)).toNatClampNeg = t * 7 + k := nI_clamp (by omega)
  have hmv : ∀ i, i < N → ht_mv a1 nd k (some (f0, b0)) i < 100 := by
    intro i hi
    have hn := (h8 i hi).2
    by_cases e : nd i = k
    · by_cases g : b0 < ht_ft (a1 i) f0
      · rw [ht_mv_y e g]; omega
      · rw [ht_mv_x e g]; omega
    · rw [ht_mv_n e]; omega
  refine nm_r (ht_ix7 t k) (nm_r e1 ?_)
  refine pk_loop (σ := Int32 × (Nat → Int32)) (fun u i s => wX_part_20 post (nI k) (nI (t * 7 + k)) (nI (2 * k + 1)) ls (nI N) tr bf bb bt bm u s.1 (nI i) a1 a2 a3 a4 a5 a6 a7 (s.2) a9 a10) (fun i s => (∀ j, j < i → s.2 j = nI (ht_mv a1 nd k (some (f0, b0)) j)) ∧ (∀ j, i ≤ j → j < N → s.2 j = nI (nd j))) N 0 (0, a8) (by omega) ⟨fun j hj => absurd hj (by omega), fun j _ hj => (h8 j hj).1⟩ ?_ ?_
  · intro u s h
    have W : ∀ z : Int32, (z = nI (2 * k + 1) ∨ z = nI (2 * k + 2)) → wX_part_128 post (nI k) (nI (2 * k + 1)) z ls (nI N) tr bf bb bt bm a1 a2 a3 a4 a5 a6 a7 (s.2) a9 a10 := fun z hz =>
      ht_p128 hz hk hN (fun i hi => (h8 i hi).2) h7 (fun i hi => ⟨h.1 i hi, hmv i hi⟩) hC hS (fun p q hm k1 k2 => H s.2 p q h.1 hm k1 k2)
    exact pk_le N N (fun _ => ⟨pk_in (t * 7 + k) 28 hq, br_c (fun _ => W _ (Or.inr (nI_1 (2 * k + 1)))) (fun _ => W _ (Or.inl rfl))⟩) (fun z => absurd z (by omega))
  · intro u i s hi h hw
    have hzi : (nI i).toNatClampNeg = i := nI_clamp (by omega)
    have hz : s.2 (nI i).toNatClampNeg = nI (nd i) := by
      rw [hzi]
      exact h.2 i (by omega) hi
    have hnd := (h8 i hi).2
    have hft := ht_ft_lt (a1 i) f0
    have hfe : ht_fe (a1 (nI i).toNatClampNeg) (a3 (nI (t * 7 + k)).toNatClampNeg) = nI (ht_ft (a1 i) f0) := by
      rw [hzi, hcq, h3, ht_ft_eq]
    have hbd : a4 (nI (t * 7 + k)).toNatClampNeg = nI b0 := by rw [hcq, h4]
    have X : ∀ y : Int32, y = nI (ht_mv a1 nd k (some (f0, b0)) i) → (∀ j, j < i + 1 → upd s.2 i y j = nI (ht_mv a1 nd k (some (f0, b0)) j)) ∧ (∀ j, i + 1 ≤ j → j < N → upd s.2 i y j = nI (nd j)) := by
      intro y hy
      refine ⟨fun j hj => ?_, fun j hj hj' => ?_⟩
      · by_cases e : j = i
        · rw [e, pk_us, hy]
        · rw [pk_un e]
          exact h.1 j (by omega)
      · rw [pk_un (by omega)]
        exact h.2 j (by omega) hj'
    refine pk_le N i (fun z => absurd z (by omega)) (fun _ => ⟨pk_in i 24 (by omega), pk_eq (nd i) k (fun e => ⟨pk_in i 24 (by omega), pk_in (t * 7 + k) 28 hq, ht_fo ⟨pk_in (t * 7 + k) 28 hq, pk_lt b0 (ht_ft (a1 i) f0) (fun g => ?_) (fun g => ?_) hbd hfe⟩⟩) (fun e => ?_) hz⟩)
    · exact ht_p84 (by omega) (nI_1 (2 * k + 1)) (fun y => hw (y, _) (X _ (by rw [ht_mv_y e g])))
    · exact ht_p84 (by omega) rfl (fun y => hw (y, _) (X _ (by rw [ht_mv_x e (by omega)])))
    · refine nm_r (nI_1 i) (hw s ⟨fun j hj => ?_, fun j hj hj' => h.2 j (by omega) hj'⟩)
      by_cases ej : j = i
      · rw [ej, h.2 i (by omega) hi, ht_mv_n e]
      · exact h.1 j (by omega)
theorem ht_grow {t k N : Nat} {nd : Nat → Nat} {r : Nat → Int32} (hk : k < 7) (ht : t < 4) (hN : N ≤ 24)
    (h7 : ∀ i, i < N → a7 i = r i) (h8 : ∀ i, i < N → a8 i = nI (nd i) ∧ nd i ≤ 2 * k)
    (hC : ht_M N a1 ht_one nd k a9) (hS : ht_M N a1 r nd k a10)
    (Hn : ∀ (bf' bb' : Int32) (bt' bm' : Int64), ht_dec ls N a1 r nd k = none → rost 1 (ls, nI N, tr, bf', bb', bt', bm', a1, a2, upd a3 (t * 7 + k) (-6), a4, upd a5 (t * 7 + k) (ht_av (bx_sum (ht_C N a1 ht_one nd k 0) 8) (bx_sum (ht_C N a1 r nd k 0) 8)), upd a6 (t * 7 + k) (bx_sum (ht_C N a1 ht_one nd k 0) 8), a7, a8, a9, a10))
    (Hs : ∀ (bf' bb' : Int32) (bt' bm' : Int64) (f b : Nat) (c p q : Nat → Int32), ht_dec ls N a1 r nd k = some (f, b) → k < 3 → f < 3 → b < 7 → (∀ i, i < N → c i = nI (ht_mv a1 nd k (some (f, b)) i)) → (∀ j, j = 2 * k + 1 ∨ j = 2 * k + 2 → ht_M N a1 ht_one (ht_mv a1 nd k (some (f, b))) j p ∧ ht_M N a1 r (ht_mv a1 nd k (some (f, b))) j q) → ht_K2 (2 * k + 1) (2 * k + 2) a9 p → ht_K2 (2 * k + 1) (2 * k + 2) a10 q → rost 0 (ls, nI N, tr, bf', bb', bt', bm', a1, a2, upd a3 (t * 7 + k) (nI f), upd a4 (t * 7 + k) (nI b), upd a5 (t * 7 + k) 0, upd a6 (t * 7 + k) (bx_sum (ht_C N a1 ht_one nd k 0) 8), a7, c, p, q)) :
    wpX_grow rost (ls, nI N, tr, bf, bb, bt, bm, a1, a2, a3, a4, a5, a6, a7, a8, a9, a10) (nI t) (nI k) := by
  refine ht_splitNode (C := ht_C N a1 ht_one nd k) (S := ht_C N a1 r nd k) hk ht hC hS (fun bf' bb' bt' bm' e => br_t rfl (br_t rfl (Hn bf' bb' bt' bm' e))) (fun bf' bb' bt' bm' f b e hk3 hf hb => br_f (by decide) ?_)
  exact ht_part hk3 ht hN pk_us pk_us hf hb h7 h8 hC hS (fun c p q hc hm k1 k2 => br_f (by decide) (Hs bf' bb' bt' bm' f b c p q e hk3 hf hb hc hm k1 k2))
end
end
section
section
variable {qost : Int32 → Prop} {rost : Int32 → St2 → Prop} {ls ct tr bf bb : Int32} {bt bm : Int64} {a1 a2 a3 a4 a5 a6 a7 a8 a9 a10 : Nat → Int32}
/-- one step down tree t -/
def ht_nx (a3 a4 : Nat → Int32) (t : Nat) (x : Int32) (q : Nat) : Nat := if a3 (t * 7 + q) < 0 then q else (if a4 (t * 7 + q) < ht_fe x (a3 (t * 7 + q)) then 2 * q + 2 else 2 * q + 1)
def ht_pn (a3 a4 : Nat → Int32) (t : Nat) (x : Int32) : Nat := ht_nx a3 a4 t x (ht_nx a3 a4 t x 0)
def ht_pa (a3 a4 a5 : Nat → Int32) (t : Nat) (x : Int32) : Int32 := bx_sum (fun j => a5 (j * 7 + ht_pn a3 a4 j x)) t
theorem ht_nx_l {t q : Nat} {x : Int32} (h : a3 (t * 7 + q) < 0) : ht_nx a3 a4 t x q = q := if_pos h
theorem ht_nx_y {t q : Nat} {x : Int32} (h : ¬ a3 (t * 7 + q) < 0) (g : a4 (t * 7 + q) < ht_fe x (a3 (t * 7 + q))) : ht_nx a3 a4 t x q = 2 * q + 2 := by
  unfold ht_nx
  rw [if_neg h, if_pos g]
theorem ht_nx_n {t q : Nat} {x : Int32} (h : ¬ a3 (t * 7 + q) < 0) (g : ¬ a4 (t * 7 + q) < ht_fe x (a3 (t * 7 + q))) : ht_nx a3 a4 t x q = 2 * q + 1 := by
  unfold ht_nx
  rw [if_neg h, if_neg g]
theorem ht_nx_le (t q : Nat) (x : Int32) : ht_nx a3 a4 t x q ≤ 2 * q + 2 := by
  unfold ht_nx
  split
  · omega
  · split <;> omega
theorem ht_pn_lt (t : Nat) (x : Int32) : ht_pn a3 a4 t x < 7 := by
  have h1 := ht_nx_le (a3 := a3) (a4 := a4) t 0 x
  have h2 := ht_nx_le (a3 := a3) (a4 := a4) t (ht_nx a3 a4 t x 0) x
  unfold ht_pn
  omega
theorem ht_2q1 (q : Nat) : (2 : Int32) * nI q + 1 = nI (2 * q + 1) := by
  show nI 2 * nI q + 1 = _
  rw [pk_mul, nI_1]
theorem ht_2q2 (q : Nat) : (2 : Int32) * nI q + 2 = nI (2 * q + 2) := by
  show nI 2 * nI q + nI 2 = _
  rw [pk_mul, nI_add]
theorem ht_pb78 {t q : Nat} (ht : t < 4) (hq : q < 7) (H : qost (a5 (t * 7 + q))) : wX_predictBy_78 qost (nI t) (nI q) ls ct tr bf bb bt bm a1 a2 a3 a4 a5 a6 a7 a8 a9 a10 := by
  have hc : (nI t * 7 + nI q).toNatClampNeg = t * 7 + q := by rw [ht_ix7, nI_clamp (by omega)]
  refine ⟨pk_in (t * 7 + q) 28 (by omega) (ht_ix7 t q), ?_⟩
  rw [hc]
  exact H
theorem ht_pb5 {t q i n : Nat} {x : Int32} (ht : t < 4) (hq : q < 7) (hi : i < 2) (H0 : a3 (t * 7 + q) < 0 → qost (a5 (t * 7 + q))) (H1 : ¬ a3 (t * 7 + q) < 0 → wX_predictBy_5 qost (nI t) x ls ct tr bf bb bt bm a1 a2 a3 a4 a5 a6 a7 a8 a9 a10 n (nI (ht_nx a3 a4 t x q)) (nI (i + 1))) : wX_predictBy_5 qost (nI t) x ls ct tr bf bb bt bm a1 a2 a3 a4 a5 a6 a7 a8 a9 a10 (n + 1) (nI q) (nI i) := by
  have hc : (nI t * 7 + nI q).toNatClampNeg = t * 7 + q := by rw [ht_ix7, nI_clamp (by omega)]
  have hd : (nI (t * 7 + q)).toNatClampNeg = t * 7 + q := nI_clamp (by omega)
  refine pk_le 2 i (fun z => absurd z (by omega)) (fun _ => ⟨pk_in (t * 7 + q) 28 (by omega) (ht_ix7 t q), ?_⟩)
  rw [hc]
  refine br_c (fun h => ht_pb78 ht hq (H0 h)) (fun h => nm_r (ht_ix7 t q) ⟨pk_in (t * 7 + q) 28 (by omega), ht_fo ⟨pk_in (t * 7 + q) 28 (by omega), ?_⟩⟩)
  rw [hd]
  refine br_c (fun g => nm_r (e' := nI (ht_nx a3 a4 t x q)) ?_ (nm_r (nI_1 i) (H1 h))) (fun g => nm_r (e' := nI (ht_nx a3 a4 t x q)) ?_ (nm_r (nI_1 i) (H1 h)))
  · rw [ht_nx_y h g, ht_2q2]
  · rw [ht_nx_n h g, ht_2q1]
theorem ht_predictBy {t : Nat} {x : Int32} (ht : t < 4) (H : qost (a5 (t * 7 + ht_pn a3 a4 t x))) : wpX_predictBy qost (ls, ct, tr, bf, bb, bt, bm, a1, a2, a3, a4, a5, a6, a7, a8, a9, a10) (nI t) x := by
  refine ⟨3, ?_⟩
  have h1 := ht_nx_le (a3 := a3) (a4 := a4) t 0 x
  have h2 := ht_pn_lt (a3 := a3) (a4 := a4) t x
  refine ht_pb5 (q := 0) (i := 0) ht (by omega) (by omega) (fun h => ?_) (fun h => ?_)
  · have e : ht_pn a3 a4 t x = 0 := by
      unfold ht_pn
      rw [ht_nx_l h, ht_nx_l h]
    rw [e] at H
    exact H
  · refine ht_pb5 (i := 1) ht (by omega) (by omega) (fun g => ?_) (fun g => ?_)
    · have e : ht_pn a3 a4 t x = ht_nx a3 a4 t x 0 := by
        unfold ht_pn
        rw [ht_nx_l g]
      rw [e] at H
      exact H
    · exact pk_le 2 2 (fun _ => ht_pb78 ht h2 H) (fun z => absurd z (by omega))
theorem ht_predictAll {t : Nat} {x : Int32} (ht : t ≤ 4) (H : qost (ht_pa a3 a4 a5 t x)) : wpX_predictAll qost (ls, ct, nI t, bf, bb, bt, bm, a1, a2, a3, a4, a5, a6, a7, a8, a9, a10) x :=
  pk_loop (σ := Unit) (fun n j _ => wX_predictAll_4 qost x ls ct (nI t) bf bb bt bm a1 a2 a3 a4 a5 a6 a7 a8 a9 a10 n (ht_pa a3 a4 a5 j x) (nI j)) (fun _ _ => True) t 0 () (by omega) trivial
    (fun n _ _ => pk_le t t (fun _ => H) (fun z => absurd z (by omega)))
    (fun n j _ hj _ hw => pk_le t j (fun z => absurd z (by omega)) (fun _ => ht_predictBy (by omega) (nm_r (e' := ht_pa a3 a4 a5 (j + 1) x) rfl (nm_r (nI_1 j) (hw () trivial)))))
theorem ht_restOf {t i : Nat} (ht : t ≤ 4) (hi : i < 24) (H : qost (a2 i - ht_pa a3 a4 a5 t (a1 i))) : wpX_restOf qost (ls, ct, nI t, bf, bb, bt, bm, a1, a2, a3, a4, a5, a6, a7, a8, a9, a10) (nI i) := by
  have hc : (nI i).toNatClampNeg = i := nI_clamp (by omega)
  refine ⟨pk_in i 24 hi, ht_predictAll ht ⟨pk_in i 24 hi, ?_⟩⟩
  rw [hc]
  exact H
theorem ht_rest {t i N : Nat} (ht : t ≤ 4) (hi : i < N) (hN : N ≤ 24) (H : qost (a2 i - ht_pa a3 a4 a5 t (a1 i))) : wpX_rest qost (ls, nI N, nI t, bf, bb, bt, bm, a1, a2, a3, a4, a5, a6, a7, a8, a9, a10) (nI i) :=
  br_f (nI_pos (by omega)) (pk_lt i N (fun _ => ht_restOf ht (by omega) H) (fun z => absurd z (by omega)))
theorem ht_noNode {t q T : Nat} (h : t < T) (hT : T ≤ 4) (hq : q < 7) (H : qost 0) : wpX_noNode qost (ls, ct, nI T, bf, bb, bt, bm, a1, a2, a3, a4, a5, a6, a7, a8, a9, a10) (nI t) (nI q) :=
  br_f (nI_pos (by omega)) (pk_le T t (fun z => absurd z (by omega)) (fun _ => br_f (nI_pos (by omega)) (pk_lt q 7 (fun _ => H) (fun z => absurd z (by omega)))))
theorem ht_feature {t q T : Nat} (h : t < T) (hT : T ≤ 4) (hq : q < 7) (H : qost (a3 (t * 7 + q))) : wpX_feature qost (ls, ct, nI T, bf, bb, bt, bm, a1, a2, a3, a4, a5, a6, a7, a8, a9, a10) (nI t) (nI q) := by
  have hc : (nI t * 7 + nI q).toNatClampNeg = t * 7 + q := by rw [ht_ix7, nI_clamp (by omega)]
  unfold wpX_feature
  refine ht_noNode h hT hq (br_t rfl ⟨pk_in (t * 7 + q) 28 (by omega) (ht_ix7 t q), ?_⟩)
  rw [hc]
  exact H
theorem ht_rows {t q T : Nat} (h : t < T) (hT : T ≤ 4) (hq : q < 7) (H : qost (a6 (t * 7 + q))) : wpX_rows qost (ls, ct, nI T, bf, bb, bt, bm, a1, a2, a3, a4, a5, a6, a7, a8, a9, a10) (nI t) (nI q) := by
  have hc : (nI t * 7 + nI q).toNatClampNeg = t * 7 + q := by rw [ht_ix7, nI_clamp (by omega)]
  unfold wpX_rows
  refine ht_noNode h hT hq (br_t rfl ⟨pk_in (t * 7 + q) 28 (by omega) (ht_ix7 t q), ?_⟩)
  rw [hc]
  exact H
theorem ht_value {t q T : Nat} (h : t < T) (hT : T ≤ 4) (hq : q < 7) (h6 : a3 (t * 7 + q) = -6) (H : qost (a5 (t * 7 + q))) : wpX_value qost (ls, ct, nI T, bf, bb, bt, bm, a1, a2, a3, a4, a5, a6, a7, a8, a9, a10) (nI t) (nI q) := by
  have hc : (nI t * 7 + nI q).toNatClampNeg = t * 7 + q := by rw [ht_ix7, nI_clamp (by omega)]
  unfold wpX_value
  refine ht_noNode h hT hq (br_t rfl ⟨pk_in (t * 7 + q) 28 (by omega) (ht_ix7 t q), ?_⟩)
  rw [hc]
  exact br_t h6 ⟨pk_in (t * 7 + q) 28 (by omega) (ht_ix7 t q), H⟩
theorem ht_bound {t q T : Nat} (h : t < T) (hT : T ≤ 4) (hq : q < 7) (h6 : ¬ a3 (t * 7 + q) < 0) (H : qost (a4 (t * 7 + q))) : wpX_bound qost (ls, ct, nI T, bf, bb, bt, bm, a1, a2, a3, a4, a5, a6, a7, a8, a9, a10) (nI t) (nI q) := by
  have hc : (nI t * 7 + nI q).toNatClampNeg = t * 7 + q := by rw [ht_ix7, nI_clamp (by omega)]
  unfold wpX_bound
  refine ht_noNode h hT hq (br_t rfl ⟨pk_in (t * 7 + q) 28 (by omega) (ht_ix7 t q), ?_⟩)
  rw [hc]
  exact nm_e (br_t (Int32.not_lt.mp h6) ⟨pk_in (t * 7 + q) 28 (by omega) (ht_ix7 t q), H⟩)
/-- the law's own walk down a tree -/
theorem ht_lf5 {t q i n T : Nat} {x : Int32} (h : t < T) (hT : T ≤ 4) (hq : q < 7) (hi : i < 2) (H : wL_leaf_5 qost (nI t) x ls ct (nI T) bf bb bt bm a1 a2 a3 a4 a5 a6 a7 a8 a9 a10 n (nI (ht_nx a3 a4 t x q)) (nI (i + 1))) : wL_leaf_5 qost (nI t) x ls ct (nI T) bf bb bt bm a1 a2 a3 a4 a5 a6 a7 a8 a9 a10 (n + 1) (nI q) (nI i) := by
  refine pk_le 2 i (fun z => absurd z (by omega)) (fun _ => ht_feature h hT hq (br_c (fun g => nm_r (nI_1 i) ?_) (fun g => ht_bound h hT hq g (br_c (fun g2 => nm_r (e' := nI (ht_nx a3 a4 t x q)) ?_ (nm_r (nI_1 i) H)) (fun g2 => nm_r (e' := nI (ht_nx a3 a4 t x q)) ?_ (nm_r (nI_1 i) H))))))
  · rw [ht_nx_l g] at H
    exact H
  · rw [ht_nx_y g g2, ht_2q2]
  · rw [ht_nx_n g g2, ht_2q1]
theorem ht_leaf {t T : Nat} {x : Int32} (h : t < T) (hT : T ≤ 4) (H : qost (nI (ht_pn a3 a4 t x))) : wpL_leaf qost (ls, ct, nI T, bf, bb, bt, bm, a1, a2, a3, a4, a5, a6, a7, a8, a9, a10) (nI t) x := by
  have h1 := ht_nx_le (a3 := a3) (a4 := a4) t 0 x
  exact ⟨3, ht_lf5 (q := 0) (i := 0) h hT (by omega) (by omega) (ht_lf5 (i := 1) h hT (by omega) (by omega) (pk_le 2 2 (fun _ => H) (fun z => absurd z (by omega))))⟩
theorem ht_row {N : Nat} {p0 p1 : Int32} (hN : N < 24) (h1 : ¬ p1 < -50) (h2 : p1 ≤ 50) (H : rost (nI (N + 1)) (ls, nI (N + 1), tr, bf, bb, bt, bm, upd a1 N (p0 &&& 511), upd a2 N p1, a3, a4, a5, a6, a7, a8, a9, a10)) : wpX_row rost (ls, nI N, tr, bf, bb, bt, bm, a1, a2, a3, a4, a5, a6, a7, a8, a9, a10) p0 p1 := by
  have hc : (nI N).toNatClampNeg = N := nI_clamp (by omega)
  exact br_f h1 (br_t h2 (pk_lt N 24 (fun _ => ⟨pk_in N 24 hN, nm_r (e' := upd a1 N (p0 &&& 511)) (by rw [hc]) ⟨pk_in N 24 hN, nm_r (e' := upd a2 N p1) (by rw [hc]) (nm_r (nI_1 N) H)⟩⟩) (fun z => absurd z (by omega))))
end
end
section
section
variable {rost : Int32 → St2 → Prop} {ls ct tr bf bb : Int32} {bt bm : Int64} {a1 a2 a3 a4 a5 a6 a7 a8 a9 a10 : Nat → Int32} {b3 b4 b5 b6 b8 b9 b10 c3 c4 c5 : Nat → Int32} {m : Int32} {n : Nat} {x r : Nat → Int32}
theorem ht_D3 {k : Nat} (h : 3 ≤ k) : ht_D m n x r k = none := if_neg (by omega)
theorem ht_D_lt {k : Nat} {w : Nat × Nat} (h : ht_D m n x r k = some w) : k < 3 := by
  by_cases e : k < 3
  · exact e
  · rw [ht_D3 (by omega)] at h
    cases h
theorem ht_nd_n {k : Nat} (h : ht_D m n x r k = none) : ht_nd m n x r (k + 1) = ht_nd m n x r k := by
  show ht_mv x (ht_nd m n x r k) k (ht_D m n x r k) = _
  rw [h]
  rfl
theorem ht_nd_s {k : Nat} {w : Nat × Nat} (h : ht_D m n x r k = some w) : ht_nd m n x r (k + 1) = ht_mv x (ht_nd m n x r k) k (some w) := by
  show ht_mv x (ht_nd m n x r k) k (ht_D m n x r k) = _
  rw [h]
/-- what one decision does to a row -/
theorem ht_nd_c (k i : Nat) : ht_nd m n x r (k + 1) i = ht_nd m n x r k i ∨ (ht_nd m n x r k i = k ∧ (ht_D m n x r k).isSome = true ∧ (ht_nd m n x r (k + 1) i = 2 * k + 1 ∨ ht_nd m n x r (k + 1) i = 2 * k + 2)) := by
  cases h : ht_D m n x r k with
  | none =>
    rw [ht_nd_n h]
    exact Or.inl rfl
  | some w =>
    obtain ⟨f, b⟩ := w
    rw [ht_nd_s h]
    by_cases e : ht_nd m n x r k i = k
    · refine Or.inr ⟨e, rfl, ?_⟩
      by_cases g : b < ht_ft (x i) f
      · exact Or.inr (ht_mv_y e g)
      · exact Or.inl (ht_mv_x e g)
    · exact Or.inl (ht_mv_n e)
theorem ht_nd_le (k i : Nat) : ht_nd m n x r k i ≤ 2 * k := by
  induction k with
  | zero => exact Nat.le_refl 0
  | succ k ih =>
    rcases ht_nd_c (m := m) (n := n) (x := x) (r := r) k i with h | ⟨_, _, h | h⟩ <;> omega
theorem ht_T0 : ht_T m n x r 0 = true := rfl
theorem ht_T_p {k : Nat} (h0 : k ≠ 0) (h7 : k < 7) : ht_T m n x r k = (ht_T m n x r ((k - 1) / 2) && (ht_D m n x r ((k - 1) / 2)).isSome) := by
  have h : k = 1 ∨ k = 2 ∨ k = 3 ∨ k = 4 ∨ k = 5 ∨ k = 6 := by omega
  rcases h with rfl | rfl | rfl | rfl | rfl | rfl <;> simp [ht_T]
theorem ht_T_nd (k i : Nat) : ht_T m n x r (ht_nd m n x r k i) = true := by
  induction k with
  | zero => rfl
  | succ k ih =>
    rcases ht_nd_c (m := m) (n := n) (x := x) (r := r) k i with h | ⟨h1, h2, h⟩
    · rw [h]
      exact ih
    · have hk : k < 3 := by
        obtain ⟨w, hw⟩ := Option.isSome_iff_exists.mp h2
        exact ht_D_lt hw
      rw [h1] at ih
      rcases h with h | h
      · rw [h, ht_T_p (by omega) (by omega), show (2 * k + 1 - 1) / 2 = k by omega, ih, h2]
        rfl
      · rw [h, ht_T_p (by omega) (by omega), show (2 * k + 2 - 1) / 2 = k by omega, ih, h2]
        rfl
theorem ht_nd_skip {k : Nat} (h : ht_T m n x r k = false) : ht_nd m n x r (k + 1) = ht_nd m n x r k := by
  funext i
  rcases ht_nd_c (m := m) (n := n) (x := x) (r := r) k i with g | ⟨g, _, _⟩
  · exact g
  · have := ht_T_nd (m := m) (n := n) (x := x) (r := r) k i
    rw [g, h] at this
    cases this
theorem ht_N_c {t j : Nat} (h : ht_N m n x r t j a3 a4 a5 a6) (e3 : b3 (t * 7 + j) = a3 (t * 7 + j)) (e4 : b4 (t * 7 + j) = a4 (t * 7 + j)) (e5 : b5 (t * 7 + j) = a5 (t * 7 + j)) (e6 : b6 (t * 7 + j) = a6 (t * 7 + j)) : ht_N m n x r t j b3 b4 b5 b6 := by
  unfold ht_N
  rw [e3, e4, e5, e6]
  exact h
/-- ahead of node k: the nodes below are made, the others empty, the rows lie in their nodes, the cells of those that are there hold -/
def ht_J (m : Int32) (n t : Nat) (x r c3 c4 c5 : Nat → Int32) (k : Nat) (a3 a4 a5 a6 a8 a9 a10 : Nat → Int32) : Prop :=
  (∀ j, j < t * 7 → a3 j = c3 j ∧ a4 j = c4 j ∧ a5 j = c5 j) ∧
  (∀ j, j < k → ht_N m n x r t j a3 a4 a5 a6) ∧
  (∀ j, k ≤ j → j < 7 → a3 (t * 7 + j) = -7) ∧
  (∀ i, i < n → a8 i = nI (ht_nd m n x r k i)) ∧
  (∀ j, k ≤ j → j < 7 → ht_T m n x r j = true → ((j - 1) / 2 < k ∨ j = 0) → ht_M n x ht_one (ht_nd m n x r k) j a9 ∧ ht_M n x r (ht_nd m n x r k) j a10)
theorem ht_J_skip {t k : Nat} (hk : k < 7) (hT : ht_T m n x r k = false) (h : ht_J m n t x r c3 c4 c5 k a3 a4 a5 a6 a8 a9 a10) : ht_J m n t x r c3 c4 c5 (k + 1) a3 a4 a5 a6 a8 a9 a10 := by
  obtain ⟨h1, h2, h3, h4, h5⟩ := h
  have e := ht_nd_skip hT
  refine ⟨h1, fun j hj => ?_, fun j hj hj' => h3 j (by omega) hj', ?_, ?_⟩
  · by_cases ej : j = k
    · subst ej
      refine ⟨fun _ => h3 j (by omega) hk, fun z => ?_, fun z => ?_, fun f b z => ?_⟩ <;> (rw [hT] at z; cases z)
    · exact h2 j (by omega)
  · rw [e]
    exact h4
  · rw [e]
    intro j hj hj' hTj hp
    refine h5 j (by omega) hj' hTj ?_
    have hne : (j - 1) / 2 ≠ k := by
      intro z
      rw [ht_T_p (by omega) hj', z, hT] at hTj
      cases hTj
    omega
theorem ht_J_leaf {t k : Nat} (hk : k < 7) (hT : ht_T m n x r k = true) (hD : ht_D m n x r k = none) (h : ht_J m n t x r c3 c4 c5 k a3 a4 a5 a6 a8 a9 a10) :
    ht_J m n t x r c3 c4 c5 (k + 1) (upd a3 (t * 7 + k) (-6)) a4 (upd a5 (t * 7 + k) (ht_av (ht_cn m n x r k) (ht_cs m n x r k))) (upd a6 (t * 7 + k) (ht_cn m n x r k)) a8 a9 a10 := by
  obtain ⟨h1, h2, h3, h4, h5⟩ := h
  have e := ht_nd_n hD
  refine ⟨fun j hj => ?_, fun j hj => ?_, fun j hj hj' => ?_, ?_, ?_⟩
  · rw [pk_un (by omega), pk_un (by omega)]
    exact h1 j hj
  · by_cases ej : j = k
    · subst ej
      refine ⟨fun z => ?_, fun _ => pk_us, fun _ _ => ⟨pk_us, pk_us⟩, fun f b _ z => ?_⟩
      · rw [hT] at z
        cases z
      · rw [hD] at z
        cases z
    · exact ht_N_c (h2 j (by omega)) (pk_un (by omega)) rfl (pk_un (by omega)) (pk_un (by omega))
  · rw [pk_un (by omega)]
    exact h3 j (by omega) hj'
  · rw [e]
    exact h4
  · rw [e]
    intro j hj hj' hTj hp
    refine h5 j (by omega) hj' hTj ?_
    have hne : (j - 1) / 2 ≠ k := by
      intro z
      rw [ht_T_p (by omega) hj', z, hT, hD] at hTj
      cases hTj
    omega
theorem ht_J_split {t k f b : Nat} {c p q : Nat → Int32} (hk : k < 7) (hT : ht_T m n x r k = true) (hD : ht_D m n x r k = some (f, b)) (hf : f < 3) (hb : b < 7) (h : ht_J m n t x r c3 c4 c5 k a3 a4 a5 a6 a8 a9 a10)
    (hc : ∀ i, i < n → c i = nI (ht_mv x (ht_nd m n x r k) k (some (f, b)) i)) (hM : ∀ j, j = 2 * k + 1 ∨ j = 2 * k + 2 → ht_M n x ht_one (ht_mv x (ht_nd m n x r k) k (some (f, b))) j p ∧ ht_M n x r (ht_mv x (ht_nd m n x r k) k (some (f, b))) j q) (k1 : ht_K2 (2 * k + 1) (2 * k + 2) a9 p) (k2 : ht_K2 (2 * k + 1) (2 * k + 2) a10 q) :
    ht_J m n t x r c3 c4 c5 (k + 1) (upd a3 (t * 7 + k) (nI f)) (upd a4 (t * 7 + k) (nI b)) (upd a5 (t * 7 + k) 0) (upd a6 (t * 7 + k) (ht_cn m n x r k)) c p q := by
  obtain ⟨h1, h2, h3, h4, h5⟩ := h
  have e := ht_nd_s hD
  refine ⟨fun j hj => ?_, fun j hj => ?_, fun j hj hj' => ?_, ?_, ?_⟩
  · rw [pk_un (by omega), pk_un (by omega), pk_un (by omega)]
    exact h1 j hj
  · by_cases ej : j = k
    · subst ej
      refine ⟨fun z => ?_, fun _ => pk_us, fun _ z => ?_, fun f' b' _ z => ?_⟩
      · rw [hT] at z
        cases z
      · rw [hD] at z
        cases z
      · rw [hD] at z
        cases z
        exact ⟨hf, hb, pk_us, pk_us⟩
    · exact ht_N_c (h2 j (by omega)) (pk_un (by omega)) (pk_un (by omega)) (pk_un (by omega)) (pk_un (by omega))
  · rw [pk_un (by omega)]
    exact h3 j (by omega) hj'
  · rw [e]
    exact hc
  · rw [e]
    intro j hj hj' hTj hp
    by_cases ej : j = 2 * k + 1 ∨ j = 2 * k + 2
    · exact hM j ej
    · have g := h5 j (by omega) hj' hTj (by omega)
      have X : ∀ w f' v, ht_C n x w (ht_mv x (ht_nd m n x r k) k (some (f, b))) j f' v = ht_C n x w (ht_nd m n x r k) j f' v := by
        intro w f' v
        refine ht_sum_congr (fun _ _ => rfl) (fun i hi => ?_)
        by_cases e1 : ht_nd m n x r k i = k
        · have e2 : ht_nd m n x r k i ≠ j := by omega
          have e3 : ht_mv x (ht_nd m n x r k) k (some (f, b)) i ≠ j := by
            by_cases g : b < ht_ft (x i) f
            · rw [ht_mv_y e1 g]; omega
            · rw [ht_mv_x e1 g]; omega
          simp [e2, e3]
        · rw [ht_mv_n e1]
      exact ⟨fun f' v hf' hv => by rw [k1 j f' v (by omega) (by omega) hf' hv, X]; exact g.1 f' v hf' hv, fun f' v hf' hv => by rw [k2 j f' v (by omega) (by omega) hf' hv, X]; exact g.2 f' v hf' hv⟩
theorem ht_lv_0 {k : Nat} (h : ¬ (ht_T m n x r k = true ∧ ht_D m n x r k = none)) : ht_lv m n x r (k + 1) = ht_lv m n x r k := by
  show ht_lv m n x r k + _ = _
  rw [if_neg h]
  rfl
theorem ht_lv_1 {k : Nat} (h : ht_T m n x r k = true ∧ ht_D m n x r k = none) : ht_lv m n x r (k + 1) = ht_lv m n x r k + 1 := by
  show ht_lv m n x r k + _ = _
  rw [if_pos h]
theorem ht_t110s {t k N u : Nat} (hk : k < 7) (ht : t < 4) (hN : N ≤ 24) (h7 : ∀ i, i < N → a7 i = r i) (h : ht_J ls N t a1 r c3 c4 c5 k a3 a4 a5 a6 a8 a9 a10)
    (hw : ∀ (bf' bb' : Int32) (bt' bm' : Int64) (b3 b4 b5 b6 b8 b9 b10 : Nat → Int32), ht_J ls N t a1 r c3 c4 c5 (k + 1) b3 b4 b5 b6 b8 b9 b10 → wX_train_110 rost (nI t) u (nI (ht_lv ls N a1 r (k + 1))) (nI (k + 1)) ls (nI N) (nI t) (bf') (bb') (bt') (bm') a1 a2 (b3) (b4) (b5) (b6) a7 (b8) (b9) (b10)) :
    wX_train_110 rost (nI t) (u + 1) (nI (ht_lv ls N a1 r k)) (nI k) ls (nI N) (nI t) bf bb bt bm a1 a2 a3 a4 a5 a6 a7 a8 a9 a10 := by
  have hJ := h
  obtain ⟨h1, h2, h3, h4, h5⟩ := h
  have G : ht_T ls N a1 r k = true → wX_train_143 rost (wX_train_110 rost (nI t) u) (nI t) (nI (ht_lv ls N a1 r k)) (nI k) 1 ls (nI N) (nI t) bf bb bt bm a1 a2 a3 a4 a5 a6 a7 a8 a9 a10 := by
    intro hT
    have hm := h5 k (Nat.le_refl k) hk hT (by omega)
    refine br_f (by decide) (ht_grow hk ht hN h7 (fun i hi => ⟨h4 i hi, ht_nd_le k i⟩) hm.1 hm.2 (fun bf' bb' bt' bm' hD => ?_) (fun bf' bb' bt' bm' f b c p q hD hk3 hf hb hc hM k1 k2 => ?_))
    · exact nm_r (e' := nI (ht_lv ls N a1 r (k + 1))) (by rw [ht_lv_1 ⟨hT, hD⟩, nI_1]) (nm_r (nI_1 k) (hw bf' bb' bt' bm' _ _ _ _ _ _ _ (ht_J_leaf hk hT hD hJ)))
    · refine nm_r (e' := nI (ht_lv ls N a1 r (k + 1))) ?_ (nm_r (nI_1 k) (hw bf' bb' bt' bm' _ _ _ _ _ _ _ (ht_J_split hk hT hD hf hb hJ hc hM k1 k2)))
      rw [ht_lv_0 (fun z => by rw [show ht_D ls N a1 r k = some (f, b) from hD] at z; cases z.2)]
      exact Int32.add_zero _
  refine pk_le 7 k (fun z => absurd z (by omega)) (fun _ => pk_eq k 0 (fun e => G (by rw [e]; rfl)) (fun e => ?_))
  have hix : nI t * 7 + (nI k - 1) / 2 = nI (t * 7 + (k - 1) / 2) := by
    show nI t * 7 + (nI k - nI 1) / nI 2 = _
    rw [pk_sub (by omega), pk_div (by omega) (by omega) (by omega), ht_ix7]
  have hc : (nI t * 7 + (nI k - 1) / 2).toNatClampNeg = t * 7 + (k - 1) / 2 := by rw [hix, nI_clamp (by omega)]
  refine ⟨by decide, pk_in (t * 7 + (k - 1) / 2) 28 (by omega) hix, ?_⟩
  rw [hc]
  obtain ⟨g1, g2, g3, g4⟩ := h2 ((k - 1) / 2) (by omega)
  have hp := ht_T_p (m := ls) (n := N) (x := a1) (r := r) e hk
  cases hT : ht_T ls N a1 r k with
  | true =>
    rw [hT] at hp
    have hp' := (Bool.and_eq_true _ _ ▸ hp.symm : _ ∧ _)
    obtain ⟨w, hw'⟩ := Option.isSome_iff_exists.mp hp'.2
    obtain ⟨q1, q2, q3, q4⟩ := g4 w.1 w.2 hp'.1 hw'
    exact br_f (by rw [q3]; exact nI_pos (by omega)) (G hT)
  | false =>
    have hneg : a3 (t * 7 + (k - 1) / 2) < 0 := by
      cases hTp : ht_T ls N a1 r ((k - 1) / 2) with
      | false =>
        rw [g1 hTp]
        decide
      | true =>
        cases hDp : ht_D ls N a1 r ((k - 1) / 2) with
        | none =>
          rw [(g3 hTp hDp).1]
          decide
        | some w =>
          rw [hT, hTp, hDp] at hp
          cases hp
    refine br_t hneg (br_t rfl (nm_r (nI_1 k) ?_))
    have hh := hw bf bb bt bm _ _ _ _ _ _ _ (ht_J_skip hk hT hJ)
    rw [ht_lv_0 (fun z => by rw [hT] at z; cases z.1)] at hh
    exact hh
theorem ht_t110 {t N : Nat} (ht : t < 4) (hN : N ≤ 24) (h7 : ∀ i, i < N → a7 i = r i) (h : ht_J ls N t a1 r c3 c4 c5 0 a3 a4 a5 a6 a8 a9 a10)
    (H : ∀ (bf' bb' : Int32) (bt' bm' : Int64) (b3 b4 b5 b6 b8 b9 b10 : Nat → Int32), ht_J ls N t a1 r c3 c4 c5 7 b3 b4 b5 b6 b8 b9 b10 → rost (nI (ht_lv ls N a1 r 7)) (ls, nI N, nI (t + 1), bf', bb', bt', bm', a1, a2, b3, b4, b5, b6, a7, b8, b9, b10)) :
    ∃ fu, wX_train_110 rost (nI t) fu 0 0 ls (nI N) (nI t) bf bb bt bm a1 a2 a3 a4 a5 a6 a7 a8 a9 a10 :=
  pk_loop (σ := Int32 × Int32 × Int64 × Int64 × (Nat → Int32) × (Nat → Int32) × (Nat → Int32) × (Nat → Int32) × (Nat → Int32) × (Nat → Int32) × (Nat → Int32))
    (fun u k s => wX_train_110 rost (nI t) u (nI (ht_lv ls N a1 r k)) (nI k) ls (nI N) (nI t) (s.1) (s.2.1) (s.2.2.1) (s.2.2.2.1) a1 a2 (s.2.2.2.2.1) (s.2.2.2.2.2.1) (s.2.2.2.2.2.2.1) (s.2.2.2.2.2.2.2.1) a7 (s.2.2.2.2.2.2.2.2.1) (s.2.2.2.2.2.2.2.2.2.1) (s.2.2.2.2.2.2.2.2.2.2))
    (fun k s => ht_J ls N t a1 r c3 c4 c5 k s.2.2.2.2.1 s.2.2.2.2.2.1 s.2.2.2.2.2.2.1 s.2.2.2.2.2.2.2.1 s.2.2.2.2.2.2.2.2.1 s.2.2.2.2.2.2.2.2.2.1 s.2.2.2.2.2.2.2.2.2.2) 7 0 (bf, bb, bt, bm, a3, a4, a5, a6, a8, a9, a10) (by omega) h
    (fun u s hs => pk_le 7 7 (fun _ => nm_r (nI_1 t) (H _ _ _ _ _ _ _ _ _ _ _ hs)) (fun z => absurd z (by omega)))
    (fun u k s hk hs hw => ht_t110s hk ht hN h7 hs (fun bf' bb' bt' bm' b3 b4 b5 b6 b8 b9 b10 hh => hw (bf', bb', bt', bm', b3, b4, b5, b6, b8, b9, b10) hh))
theorem ht_t52 {t N : Nat} (ht : t < 4) (hN : N ≤ 24) (h7 : ∀ i, i < N → a7 i = r i) (h8 : ∀ i, i < N → a8 i = 0)
    (H : ∀ (bf' bb' : Int32) (bt' bm' : Int64) (b3 b4 b5 b6 b8 b9 b10 : Nat → Int32), ht_J ls N t a1 r a3 a4 a5 7 b3 b4 b5 b6 b8 b9 b10 → rost (nI (ht_lv ls N a1 r 7)) (ls, nI N, nI (t + 1), bf', bb', bt', bm', a1, a2, b3, b4, b5, b6, a7, b8, b9, b10)) :
    ∃ fu, wX_train_52 rost (nI t) ls (nI N) (nI t) bf bb bt bm fu 0 a1 a2 a3 a4 a5 a6 a7 a8 a9 a10 := by
  refine pk_loop (σ := (Nat → Int32) × (Nat → Int32) × (Nat → Int32)) (fun u k s => wX_train_52 rost (nI t) ls (nI N) (nI t) bf bb bt bm u (nI k) a1 a2 (s.1) a4 (s.2.1) (s.2.2) a7 a8 a9 a10) (fun k s => (∀ j, j < t * 7 → s.1 j = a3 j ∧ s.2.1 j = a5 j) ∧ (∀ j, j < k → s.1 (t * 7 + j) = -7)) 7 0 (a3, a5, a6) (by omega) ⟨fun _ _ => ⟨rfl, rfl⟩, fun j hj => absurd hj (by omega)⟩ ?_ ?_
  · intro u s h
    refine pk_le 7 7 (fun _ => ?_) (fun z => absurd z (by omega))
    refine ht_fromRows (k := 0) (nd := fun _ => 0) (by omega) hN h7 (fun i hi => ⟨h8 i hi, by omega⟩) (fun p q hp hq _ _ => ?_)
    refine ht_t110 ht hN h7 ⟨fun j hj => ⟨(h.1 j hj).1, rfl, (h.1 j hj).2⟩, fun j hj => absurd hj (by omega), fun j _ hj => h.2 j hj, h8, fun j _ hj _ hz => ?_⟩ H
    have e : j = 0 := by omega
    subst e
    exact ⟨hp, hq⟩
  · intro u k s hk h hw
    have hc : (nI t * 7 + nI k).toNatClampNeg = t * 7 + k := by rw [ht_ix7, nI_clamp (by omega)]
    have hi : vp_in (nI t * 7 + nI k) 28 := pk_in (t * 7 + k) 28 (by omega) (ht_ix7 t k)
    refine pk_le 7 k (fun z => absurd z (by omega)) (fun _ => ⟨hi, nm_r (e' := upd s.1 (t * 7 + k) (-7)) (by rw [hc]) ⟨hi, nm_r (e' := upd s.2.1 (t * 7 + k) 0) (by rw [hc]) ⟨hi, nm_r (e' := upd s.2.2 (t * 7 + k) 0) (by rw [hc]) (nm_r (nI_1 k) (hw (_, _, _) ⟨fun j hj => ?_, fun j hj => ?_⟩))⟩⟩⟩)
    · exact ⟨(pk_un (by omega)).trans (h.1 j hj).1, (pk_un (by omega)).trans (h.1 j hj).2⟩
    · by_cases e : j = k
      · rw [e]
        exact pk_us
      · exact (pk_un (by omega)).trans (h.2 j (by omega))
theorem ht_train {t N : Nat} (ht : t < 4) (hN : N ≤ 24) (hr : r = fun i => a2 i - ht_pa a3 a4 a5 t (a1 i))
    (H : ∀ (bf' bb' : Int32) (bt' bm' : Int64) (b3 b4 b5 b6 b7 b8 b9 b10 : Nat → Int32), (∀ j, j < t * 7 → b3 j = a3 j ∧ b4 j = a4 j ∧ b5 j = a5 j) → (∀ j, j < 7 → ht_N ls N a1 r t j b3 b4 b5 b6) → rost (nI (ht_lv ls N a1 r 7)) (ls, nI N, nI (t + 1), bf', bb', bt', bm', a1, a2, b3, b4, b5, b6, b7, b8, b9, b10)) :
    wpX_train rost (ls, nI N, nI t, bf, bb, bt, bm, a1, a2, a3, a4, a5, a6, a7, a8, a9, a10) := by
  refine pk_lt t 4 (fun _ => ?_) (fun z => absurd z (by omega))
  refine pk_loop (σ := (Nat → Int32) × (Nat → Int32)) (fun u i s => wX_train_18 rost (nI t) ls (nI N) (nI t) bf bb bt bm u (nI i) a1 a2 a3 a4 a5 a6 (s.1) (s.2) a9 a10) (fun i s => ∀ j, j < i → s.1 j = r j ∧ s.2 j = 0) N 0 (a7, a8) (by omega) (fun j hj => absurd hj (by omega)) ?_ ?_
  · intro u s h
    exact pk_le N N (fun _ => ht_t52 ht hN (fun i hi => (h i hi).1) (fun i hi => (h i hi).2) (fun bf' bb' bt' bm' b3 b4 b5 b6 b8 b9 b10 hh => H bf' bb' bt' bm' b3 b4 b5 b6 _ b8 b9 b10 hh.1 hh.2.1)) (fun z => absurd z (by omega))
  · intro u i s hi h hw
    have hc : (nI i).toNatClampNeg = i := nI_clamp (by omega)
    refine pk_le N i (fun z => absurd z (by omega)) (fun _ => ht_restOf (by omega) (by omega) ⟨pk_in i 24 (by omega), nm_r (e' := upd s.1 i (r i)) (by rw [hc, hr]) ⟨pk_in i 24 (by omega), nm_r (e' := upd s.2 i 0) (by rw [hc]) (nm_r (nI_1 i) (hw (_, _) (fun j hj => ?_)))⟩⟩)
    by_cases e : j = i
    · rw [e]
      exact ⟨pk_us, pk_us⟩
    · have hh := h j (by omega)
      exact ⟨(pk_un e).trans hh.1, (pk_un e).trans hh.2⟩
end
end
section
section
variable {m : Int32} {n : Nat} {x r : Nat → Int32} {a3 a4 a5 a6 : Nat → Int32}
theorem ht_lv_in : 1 ≤ ht_lv m n x r 7 ∧ ht_lv m n x r 7 ≤ 4 := by
  have d3 : ht_D m n x r 3 = none := ht_D3 (by omega)
  have d4 : ht_D m n x r 4 = none := ht_D3 (by omega)
  have d5 : ht_D m n x r 5 = none := ht_D3 (by omega)
  have d6 : ht_D m n x r 6 = none := ht_D3 (by omega)
  cases h0 : ht_D m n x r 0 <;> cases h1 : ht_D m n x r 1 <;> cases h2 : ht_D m n x r 2 <;> simp [ht_lv, ht_T, h0, h1, h2, d3, d4, d5, d6]
theorem ht_nx_c {t q : Nat} {y : Int32} (h : ¬ a3 (t * 7 + q) < 0) : ht_nx a3 a4 t y q = 2 * q + 1 ∨ ht_nx a3 a4 t y q = 2 * q + 2 := by
  by_cases g : a4 (t * 7 + q) < ht_fe y (a3 (t * 7 + q))
  · exact Or.inr (ht_nx_y h g)
  · exact Or.inl (ht_nx_n h g)
theorem ht_T_c {k j : Nat} (h : j = 2 * k + 1 ∨ j = 2 * k + 2) (hT : ht_T m n x r k = true) {w : Nat × Nat} (hD : ht_D m n x r k = some w) : ht_T m n x r j = true := by
  have hk := ht_D_lt hD
  rw [ht_T_p (by omega) (by omega), show (j - 1) / 2 = k by omega, hT, hD]
  rfl
/-- every walk down the new tree ends in a leaf -/
theorem ht_walk {t : Nat} (h : ∀ j, j < 7 → ht_N m n x r t j a3 a4 a5 a6) (y : Int32) : a3 (t * 7 + ht_pn a3 a4 t y) = -6 := by
  have step : ∀ q, q < 3 → ht_T m n x r q = true → (a3 (t * 7 + q) = -6 ∧ ht_nx a3 a4 t y q = q) ∨ (ht_T m n x r (ht_nx a3 a4 t y q) = true ∧ (ht_nx a3 a4 t y q = 2 * q + 1 ∨ ht_nx a3 a4 t y q = 2 * q + 2)) := by
    intro q hq hT
    obtain ⟨g1, g2, g3, g4⟩ := h q (by omega)
    cases hD : ht_D m n x r q with
    | none =>
      have e := (g3 hT hD).1
      exact Or.inl ⟨e, ht_nx_l (by rw [e]; decide)⟩
    | some w =>
      obtain ⟨p1, p2, p3, p4⟩ := g4 w.1 w.2 hT hD
      have hc := ht_nx_c (a4 := a4) (y := y) (show ¬ a3 (t * 7 + q) < 0 by rw [p3]; exact nI_pos (by omega))
      exact Or.inr ⟨ht_T_c hc hT hD, hc⟩
  unfold ht_pn
  rcases step 0 (by omega) ht_T0 with ⟨e, e'⟩ | ⟨hT, hc⟩
  · rw [e', e']
    exact e
  · rcases step (ht_nx a3 a4 t y 0) (by omega) hT with ⟨e, e'⟩ | ⟨hT', hc'⟩
    · rw [e']
      exact e
    · exact ((h _ (by omega)).2.2.1 hT' (ht_D3 (by omega))).1
/-- counts as naturals -/
def ht_ct (P : Nat → Bool) : Nat → Nat
  | 0 => 0
  | n + 1 => ht_ct P n + (if P n = true then 1 else 0)
theorem ht_ct_le (P : Nat → Bool) (n : Nat) : ht_ct P n ≤ n := by
  induction n with
  | zero => exact Nat.le_refl 0
  | succ n ih =>
    show ht_ct P n + (if P n = true then 1 else 0) ≤ n + 1
    split <;> omega
theorem ht_ct_sum (P : Nat → Bool) (n : Nat) : ht_sum ht_one P n = nI (ht_ct P n) := by
  induction n with
  | zero => rfl
  | succ n ih =>
    show ht_sum ht_one P n + (if P n = true then ht_one n else 0) = nI (ht_ct P n + (if P n = true then 1 else 0))
    rw [ih]
    split
    · exact nI_1 _
    · exact Int32.add_zero _
theorem ht_ct_split {P Q R : Nat → Bool} {n : Nat} (h : ∀ i, i < n → P i = (Q i || R i) ∧ (Q i && R i) = false) : ht_ct P n = ht_ct Q n + ht_ct R n := by
  induction n with
  | zero => rfl
  | succ n ih =>
    show ht_ct P n + (if P n = true then 1 else 0) = (ht_ct Q n + (if Q n = true then 1 else 0)) + (ht_ct R n + (if R n = true then 1 else 0))
    rw [ih (fun i hi => h i (by omega))]
    obtain ⟨h1, h2⟩ := h n (by omega)
    rw [h1]
    cases hq : Q n <;> cases hr : R n <;> simp [hq, hr] at h2 ⊢ <;> omega
/-- running sums over a feature's values -/
theorem ht_pre (w : Nat → Int32) (nd : Nat → Nat) (k f b : Nat) : bx_sum (ht_C n x w nd k f) b = ht_sum w (fun i => decide (nd i = k ∧ ht_ft (x i) f < b)) n := by
  induction b with
  | zero =>
    refine (ht_sum_none (fun i _ => ?_)).symm
    simp
  | succ b ih =>
    show bx_sum (ht_C n x w nd k f) b + ht_C n x w nd k f b = _
    rw [ih]
    refine (ht_sum_split (fun i _ => ?_)).symm
    by_cases e : nd i = k
    · simp only [e, true_and]
      refine ⟨?_, ?_⟩
      · rw [← Bool.decide_or]
        exact decide_eq_decide.mpr (by omega)
      · rw [← Bool.decide_and]
        exact decide_eq_false (by omega)
    · simp [e]
theorem ht_pre8 (w : Nat → Int32) (nd : Nat → Nat) (k f : Nat) : bx_sum (ht_C n x w nd k f) 8 = ht_sum w (fun i => decide (nd i = k)) n := by
  rw [ht_pre]
  refine ht_sum_congr (fun _ _ => rfl) (fun i _ => decide_eq_decide.mpr ?_)
  have := ht_ft_lt (x i) f
  constructor
  · exact fun h => h.1
  · exact fun h => ⟨h, this⟩
/-- what the best split found holds -/
def ht_ok (m n s : Int32) (C S : Nat → Nat → Int32) (o : ht_O) : Prop := ∀ f b t q, o = some (f, b, t, q) → ht_big m n (bx_sum (C f) (b + 1)) ∧ t = ht_top n s (bx_sum (C f) (b + 1)) (bx_sum (S f) (b + 1)) ∧ q = ht_bot n (bx_sum (C f) (b + 1))
theorem ht_ok_in {m n s : Int32} {C S : Nat → Nat → Int32} {o : ht_O} {f : Nat} (h : ht_ok m n s C S o) (b : Nat) : ht_ok m n s C S (ht_in m n s (C f) (S f) f o b) := by
  induction b with
  | zero => exact h
  | succ b ih =>
    show ht_ok m n s C S (ht_try m n s f b (bx_sum (C f) (b + 1)) (bx_sum (S f) (b + 1)) (ht_in m n s (C f) (S f) f o b))
    by_cases e : ht_big m n (bx_sum (C f) (b + 1)) ∧ ht_won n s (bx_sum (C f) (b + 1)) (bx_sum (S f) (b + 1)) (ht_in m n s (C f) (S f) f o b)
    · rw [ht_try_t e]
      intro f' b' t q z
      cases z
      exact ⟨e.1, rfl, rfl⟩
    · rw [ht_try_f e]
      exact ih
theorem ht_ok_out {m n s : Int32} {C S : Nat → Nat → Int32} (f : Nat) : ht_ok m n s C S (ht_out m n s C S f) := by
  induction f with
  | zero => exact fun f b t q z => by cases z
  | succ f ih => exact ht_ok_in ih 7
theorem ht_pick_ok {m : Int32} {C S : Nat → Nat → Int32} {k f b : Nat} (h : ht_dc m C S k = some (f, b)) : ht_big m (bx_sum (C 0) 8) (bx_sum (C f) (b + 1)) ∧ ((bx_sum (S 0) 8).toInt64 * (bx_sum (S 0) 8).toInt64) * ht_bot (bx_sum (C 0) 8) (bx_sum (C f) (b + 1)) < ht_top (bx_sum (C 0) 8) (bx_sum (S 0) 8) (bx_sum (C f) (b + 1)) (bx_sum (S f) (b + 1)) * (bx_sum (C 0) 8).toInt64 := by
  unfold ht_dc at h
  split at h
  · have hk := ht_ok_out (m := m) (n := bx_sum (C 0) 8) (s := bx_sum (S 0) 8) (C := C) (S := S) 3
    cases ho : ht_out m (bx_sum (C 0) 8) (bx_sum (S 0) 8) C S 3 with
    | none =>
      rw [ho] at h
      cases h
    | some w =>
      obtain ⟨f', b', t, q⟩ := w
      rw [ho] at h
      unfold ht_pick at h
      dsimp only at h
      split at h
      · rename_i g
        cases h
        obtain ⟨h1, h2, h3⟩ := hk f b t q ho
        rw [h2, h3] at g
        exact ⟨h1, g⟩
      · cases h
  · cases h
theorem ht_keep {k j i : Nat} (hj : j = 2 * k + 1 ∨ j = 2 * k + 2) (d : Nat) (hd : k + 1 + d ≤ j) : ht_nd m n x r (k + 1 + d) i = j ↔ ht_nd m n x r (k + 1) i = j := by
  induction d with
  | zero => exact Iff.rfl
  | succ d ih =>
    rw [← ih (by omega)]
    show ht_nd m n x r ((k + 1 + d) + 1) i = j ↔ _
    rcases ht_nd_c (m := m) (n := n) (x := x) (r := r) (k + 1 + d) i with h | ⟨h1, _, h | h⟩
    · rw [h]
    · rw [h, h1]
      omega
    · rw [h, h1]
      omega
theorem ht_keep' {k j i : Nat} (hj : j = 2 * k + 1 ∨ j = 2 * k + 2) : ht_nd m n x r j i = j ↔ ht_nd m n x r (k + 1) i = j := by
  have h := ht_keep (m := m) (n := n) (x := x) (r := r) (i := i) hj (j - (k + 1)) (by omega)
  rw [show k + 1 + (j - (k + 1)) = j by omega] at h
  exact h
theorem ht_parts_ok {M k f b : Nat} (hM : M ≤ 12) (hn : n ≤ 24) (hD : ht_D (nI M) n x r k = some (f, b)) : ∃ A B : Nat, ht_cn (nI M) n x r (2 * k + 1) = nI A ∧ ht_cn (nI M) n x r (2 * k + 2) = nI B ∧ ht_cn (nI M) n x r k = nI (A + B) ∧ M ≤ A ∧ M ≤ B ∧ A + B ≤ 24 := by
  have hnd := ht_nd_s hD
  have eL : ht_cn (nI M) n x r (2 * k + 1) = nI (ht_ct (fun i => decide (ht_nd (nI M) n x r k i = k ∧ ht_ft (x i) f < b + 1)) n) := by
    unfold ht_cn
    rw [ht_pre8, ← ht_ct_sum]
    refine ht_sum_congr (fun _ _ => rfl) (fun i _ => decide_eq_decide.mpr ?_)
    rw [ht_keep' (Or.inl rfl), hnd]
    have hle := ht_nd_le (m := nI M) (n := n) (x := x) (r := r) k i
    by_cases e : ht_nd (nI M) n x r k i = k
    · by_cases g : b < ht_ft (x i) f
      · rw [ht_mv_y e g]; omega
      · rw [ht_mv_x e g]; omega
    · rw [ht_mv_n e]; omega
  have eR : ht_cn (nI M) n x r (2 * k + 2) = nI (ht_ct (fun i => decide (ht_nd (nI M) n x r k i = k ∧ ¬ ht_ft (x i) f < b + 1)) n) := by
    unfold ht_cn
    rw [ht_pre8, ← ht_ct_sum]
    refine ht_sum_congr (fun _ _ => rfl) (fun i _ => decide_eq_decide.mpr ?_)
    rw [ht_keep' (Or.inr rfl), hnd]
    have hle := ht_nd_le (m := nI M) (n := n) (x := x) (r := r) k i
    by_cases e : ht_nd (nI M) n x r k i = k
    · by_cases g : b < ht_ft (x i) f
      · rw [ht_mv_y e g]; omega
      · rw [ht_mv_x e g]; omega
    · rw [ht_mv_n e]; omega
  have eK : ht_cn (nI M) n x r k = nI (ht_ct (fun i => decide (ht_nd (nI M) n x r k i = k)) n) := by
    unfold ht_cn
    rw [ht_pre8, ← ht_ct_sum]
  have eS : ht_ct (fun i => decide (ht_nd (nI M) n x r k i = k)) n = ht_ct (fun i => decide (ht_nd (nI M) n x r k i = k ∧ ht_ft (x i) f < b + 1)) n + ht_ct (fun i => decide (ht_nd (nI M) n x r k i = k ∧ ¬ ht_ft (x i) f < b + 1)) n := by
    refine ht_ct_split (fun i _ => ?_)
    by_cases e : ht_nd (nI M) n x r k i = k <;> by_cases g : ht_ft (x i) f < b + 1 <;> simp [e, g]
  have hle := ht_ct_le (fun i => decide (ht_nd (nI M) n x r k i = k)) n
  have hb := (ht_pick_ok hD).1
  have e0 : bx_sum (ht_C n x ht_one (ht_nd (nI M) n x r k) k 0) 8 = nI (ht_ct (fun i => decide (ht_nd (nI M) n x r k i = k)) n) := eK
  have e1 : bx_sum (ht_C n x ht_one (ht_nd (nI M) n x r k) k f) (b + 1) = nI (ht_ct (fun i => decide (ht_nd (nI M) n x r k i = k ∧ ht_ft (x i) f < b + 1)) n) := by rw [ht_pre, ht_ct_sum]
  rw [e0, e1] at hb
  rw [eL, eR, eK]
  rw [eS] at hb hle ⊢
  generalize ht_ct (fun i => decide (ht_nd (nI M) n x r k i = k ∧ ht_ft (x i) f < b + 1)) n = A at *
  generalize ht_ct (fun i => decide (ht_nd (nI M) n x r k i = k ∧ ¬ ht_ft (x i) f < b + 1)) n = B at *
  refine ⟨A, B, rfl, rfl, rfl, ?_, ?_, by omega⟩
  · have h1 := hb.1
    rw [nI_l (by omega), nI_l (by omega), lN_lt (by omega) (by omega)] at h1
    omega
  · have h2 := hb.2
    rw [nI_l (by omega), nI_l (by omega), nI_l (by omega), lN_sub (by omega), lN_le (by omega) (by omega)] at h2
    omega
/-! equal rests -/
theorem ht_bm {z : Int} (h : -2000 ≤ z) (h' : z ≤ 2000) : z.bmod (2 ^ 32) = z := by
  rw [Int.bmod_def]
  omega
theorem ht_bm64 {z : Int} (h : -2000 ≤ z) (h' : z ≤ 2000) : z.bmod (2 ^ 64) = z := by
  rw [Int.bmod_def]
  omega
theorem ht_mulI {a : Int32} {A : Nat} (h : -50 ≤ a.toInt) (h' : a.toInt ≤ 50) (hA : A ≤ 24) : -2000 ≤ a.toInt * (A : Int) ∧ a.toInt * (A : Int) ≤ 2000 := by
  have h1 := Int.mul_le_mul_of_nonneg_right h (show (0 : Int) ≤ (A : Int) by omega)
  have h2 := Int.mul_le_mul_of_nonneg_right h' (show (0 : Int) ≤ (A : Int) by omega)
  omega
theorem ht_mul32 {a : Int32} {A : Nat} (h : -50 ≤ a.toInt) (h' : a.toInt ≤ 50) (hA : A ≤ 24) : (a * nI A).toInt = a.toInt * (A : Int) := by
  have hb := ht_mulI h h' hA
  rw [Int32.toInt_mul, nI_toInt (by omega)]
  exact ht_bm hb.1 hb.2
theorem ht_mul64 {a : Int32} {A : Nat} (h : -50 ≤ a.toInt) (h' : a.toInt ≤ 50) (hA : A ≤ 24) : (a * nI A).toInt64 = a.toInt64 * (nI A).toInt64 := by
  have hb := ht_mulI h h' hA
  apply Int64.toInt_inj.mp
  rw [Int32.toInt_toInt64, ht_mul32 h h' hA, Int64.toInt_mul, Int32.toInt_toInt64, Int32.toInt_toInt64, nI_toInt (by omega)]
  exact (ht_bm64 hb.1 hb.2).symm
theorem ht_sum_all {a : Int32} {P : Nat → Bool} (h : ∀ i, i < n → r i = a) : ht_sum r P n = a * ht_sum ht_one P n := by
  induction n with
  | zero => exact (Int32.mul_zero).symm
  | succ n ih =>
    show ht_sum r P n + (if P n = true then r n else 0) = a * (ht_sum ht_one P n + (if P n = true then ht_one n else 0))
    rw [ih (fun i hi => h i (by omega)), h n (by omega)]
    split
    · show _ + a = a * (_ + 1)
      grind
    · grind
theorem ht_all_D {a : Int32} (hn : n ≤ 24) (h1 : -50 ≤ a.toInt) (h2 : a.toInt ≤ 50) (h : ∀ i, i < n → r i = a) : ht_D m n x r 0 = none := by
  cases hD : ht_D m n x r 0 with
  | none => rfl
  | some w =>
    obtain ⟨f, b⟩ := w
    have hD' : ht_dc m (ht_C n x ht_one (ht_nd m n x r 0) 0) (ht_C n x r (ht_nd m n x r 0) 0) 0 = some (f, b) := hD
    have hb := (ht_pick_ok hD').2
    rw [ht_pre, ht_pre, ht_pre, ht_pre, ht_sum_all h, ht_sum_all h, ht_ct_sum, ht_ct_sum] at hb
    have l1 := ht_ct_le (fun i => decide (ht_nd m n x r 0 i = 0 ∧ ht_ft (x i) 0 < 8)) n
    have l2 := ht_ct_le (fun i => decide (ht_nd m n x r 0 i = 0 ∧ ht_ft (x i) f < b + 1)) n
    generalize ht_ct (fun i => decide (ht_nd m n x r 0 i = 0 ∧ ht_ft (x i) 0 < 8)) n = A at *
    generalize ht_ct (fun i => decide (ht_nd m n x r 0 i = 0 ∧ ht_ft (x i) f < b + 1)) n = B at *
    unfold ht_top ht_bot at hb
    rw [ht_mul64 h1 h2 (by omega), ht_mul64 h1 h2 (by omega)] at hb
    generalize (nI A).toInt64 = p at *
    generalize (nI B).toInt64 = q at *
    generalize a.toInt64 = c at *
    have e : c * p * (c * p) * (q * (p - q)) = (c * q * (c * q) * (p - q) + (c * p - c * q) * (c * p - c * q) * q) * p := by grind
    rw [e] at hb
    exact absurd hb (Int64.lt_irrefl)
theorem ht_all_lv (h : ht_D m n x r 0 = none) : ht_lv m n x r 7 = 1 := by
  simp [ht_lv, ht_T, h]
theorem ht_all_v {a : Int32} (hn : n ≤ 24) (h1 : -50 ≤ a.toInt) (h2 : a.toInt ≤ 50) (h : ∀ i, i < n → r i = a) : ht_av (ht_cn m n x r 0) (ht_cs m n x r 0) = if n = 0 then 0 else a := by
  have hct : ht_ct (fun i => decide (ht_nd m n x r 0 i = 0)) n = n := by
    show ht_ct (fun _ => true) n = n
    clear hn h
    induction n with
    | zero => rfl
    | succ n ih =>
      show ht_ct (fun _ => true) n + 1 = n + 1
      rw [ih]
  have e0 : ht_cn m n x r 0 = nI n := by
    unfold ht_cn
    rw [ht_pre8, ht_ct_sum, hct]
  have e1 : ht_cs m n x r 0 = a * nI n := by
    unfold ht_cs
    rw [ht_pre8, ht_sum_all h, ht_ct_sum, hct]
  rw [e0, e1]
  unfold ht_av
  by_cases hz : n = 0
  · subst hz
    rfl
  · rw [if_neg (nI_nle (by omega) (by omega)), if_neg hz]
    apply Int32.toInt_inj.mp
    rw [Int32.toInt_div, ht_mul32 h1 h2 hn, nI_toInt (by omega), Int.mul_tdiv_cancel _ (by omega)]
    exact ht_bm (by omega) (by omega)
end
end
section
section
variable {qost : Int32 → Prop} {L : Nat} {xs : Nat → Int32} {x1 x4 x5 x7 x8 : Int32} {kc ks : Nat} {ls ct tr bf bb : Int32} {bt bm : Int64} {a1 a2 a3 a4 a5 a6 a7 a8 a9 a10 : Nat → Int32} {dl dc dt df db : Int32} {dp dq : Int64} {d1 d2 d3 d4 d5 d6 d7 d8 d9 d10 : Nat → Int32} {r : Nat → Int32} {t N M : Nat}
abbrev ht_JT : Type := Int32 → Int32 → Int32 → Int32 → Int32 → Int32 → Int64 → Int64 → (Nat → Int32) → (Nat → Int32) → (Nat → Int32) → (Nat → Int32) → (Nat → Int32) → (Nat → Int32) → (Nat → Int32) → (Nat → Int32) → (Nat → Int32) → (Nat → Int32) → Int32 → Int32 → Int32 → Int32 → Int32 → Int64 → Int64 → (Nat → Int32) → (Nat → Int32) → (Nat → Int32) → (Nat → Int32) → (Nat → Int32) → (Nat → Int32) → (Nat → Int32) → (Nat → Int32) → (Nat → Int32) → (Nat → Int32) → Prop
/-- the law's number of rows, which may lie below 0 -/
def ht_Z (x4 : Int32) (N : Nat) : Prop := ∀ i, i ≤ 24 → (x4 ≤ nI i ↔ N ≤ i)
def ht_hs (g : Nat → Int32) : Nat → Int32
  | 0 => 0
  | n + 1 => ht_hs g n * 31 + g n
theorem ht_rows' {q T : Nat} {y : Int32} (e : y = nI q) (h : t < T) (hT : T ≤ 4) (hq : q < 7) (H : qost (a6 (t * 7 + q))) : wpX_rows qost (ls, ct, nI T, bf, bb, bt, bm, a1, a2, a3, a4, a5, a6, a7, a8, a9, a10) (nI t) y := by
  subst e
  exact ht_rows h hT hq H
theorem ht_parts {n T : Nat} {x : Nat → Int32} (h : t < T) (hT : T ≤ 4) (hM : M ≤ 12) (hn : n ≤ 24) (hN : ∀ j, j < 7 → ht_N (nI M) n x r t j a3 a4 a5 a6) (H : qost 1) : wpL_parts qost (ls, ct, nI T, bf, bb, bt, bm, a1, a2, a3, a4, a5, a6, a7, a8, a9, a10) (nI t) (nI M) := by
  refine pk_loop (σ := Unit) (fun u k _ => wL_parts_2 qost (nI t) (nI M) ls ct (nI T) bf bb bt bm a1 a2 a3 a4 a5 a6 a7 a8 a9 a10 u (nI k)) (fun _ _ => True) 3 0 () (by omega) trivial (fun u _ _ => pk_le 3 3 (fun _ => H) (fun z => absurd z (by omega))) ?_
  intro u k _ hk _ hw
  have hw' := hw () trivial
  obtain ⟨g1, g2, g3, g4⟩ := hN k (by omega)
  refine pk_le 3 k (fun z => absurd z (by omega)) (fun _ => ht_feature h hT (by omega) (br_c (fun _ => nm_r (nI_1 k) hw') (fun g => ?_)))
  cases hTk : ht_T (nI M) n x r k with
  | false =>
    rw [g1 hTk] at g
    exact absurd (by decide) g
  | true =>
    cases hD : ht_D (nI M) n x r k with
    | none =>
      rw [(g3 hTk hD).1] at g
      exact absurd (by decide) g
    | some w =>
      obtain ⟨A, B, eA, eB, eK, mA, mB, hAB⟩ := ht_parts_ok hM hn (show ht_D (nI M) n x r k = some (w.1, w.2) from hD)
      have r1 : a6 (t * 7 + (2 * k + 1)) = nI A := ((hN (2 * k + 1) (by omega)).2.1 (ht_T_c (Or.inl rfl) hTk hD)).trans eA
      have r2 : a6 (t * 7 + (2 * k + 2)) = nI B := ((hN (2 * k + 2) (by omega)).2.1 (ht_T_c (Or.inr rfl) hTk hD)).trans eB
      have r0 : a6 (t * 7 + k) = nI (A + B) := (g2 hTk).trans eK
      refine ht_rows' (ht_2q1 k) h hT (by omega) (ht_rows' (ht_2q2 k) h hT (by omega) (pk_lt A M (fun z => absurd z (by omega)) (fun _ => pk_lt B M (fun z => absurd z (by omega)) (fun _ => ht_rows h hT (by omega) (br_t ?_ (nm_r (nI_1 k) hw'))) r2) r1))
      rw [r0, r1, r2, nI_add]
theorem ht_l323 {J : ht_JT} (hZ : ht_Z x4 N) (hN : N ≤ 24) (ht : t < 4) (h7 : x7 = ht_hs r N) (h8 : x8 = nI (ht_lv ls N a1 r 7)) (hr : r = fun i => a2 i - ht_pa a3 a4 a5 t (a1 i))
    (H : ∀ (bf' bb' : Int32) (bt' bm' : Int64) (b3 b4 b5 b6 b7 b8 b9 b10 : Nat → Int32), J (nI (t + 1)) ls (nI N) (nI (t + 1)) (bf') (bb') (bt') (bm') a1 a2 (b3) (b4) (b5) (b6) (b7) (b8) (b9) (b10) dl dc dt df db dp dq d1 d2 d3 d4 d5 d6 d7 d8 d9 d10) :
    ∃ fu, wL_law_323 qost L xs J x1 x4 x5 (nI t) x7 x8 kc ks ls (nI N) (nI t) bf bb bt bm a1 a2 a3 a4 a5 a6 a7 a8 a9 a10 dl dc dt df db dp dq d1 d2 d3 d4 d5 d6 d7 d8 d9 d10 fu 0 0 := by
  refine pk_loop (σ := Unit) (fun u i _ => wL_law_323 qost L xs J x1 x4 x5 (nI t) x7 x8 kc ks ls (nI N) (nI t) bf bb bt bm a1 a2 a3 a4 a5 a6 a7 a8 a9 a10 dl dc dt df db dp dq d1 d2 d3 d4 d5 d6 d7 d8 d9 d10 u (ht_hs r i) (nI i)) (fun _ _ => True) N 0 () (by omega) trivial ?_ ?_
  · intro u _ _
    refine br_t ((hZ N hN).mpr (Nat.le_refl N)) (br_t h7.symm (ht_train ht hN hr (fun bf' bb' bt' bm' b3 b4 b5 b6 b7 b8 b9 b10 _ _ => br_t h8.symm (nm_r (nI_1 t) (H bf' bb' bt' bm' b3 b4 b5 b6 b7 b8 b9 b10)))))
  · intro u i _ hi _ hw
    refine br_f (fun z => absurd ((hZ i (by omega)).mp z) (by omega)) (ht_rest (by omega) hi hN (nm_r (e' := ht_hs r (i + 1)) ?_ (nm_r (nI_1 i) (hw () trivial))))
    show _ = ht_hs r i * 31 + r i
    rw [hr]
theorem ht_l222 {J : ht_JT} (hZ : ht_Z x4 N) (hN : N ≤ 24) (ht : t < 4) (hL : L ≤ 260) (hNL : ∀ i, i < N → i + 2 < L) (hx : ∀ i, i < N → a1 i = xs (i + 2) &&& 511) (h7 : x7 = ht_hs r N) (h8 : x8 = nI (ht_lv ls N a1 r 7)) (hr : r = fun i => a2 i - ht_pa a3 a4 a5 t (a1 i)) (hw6 : ∀ y, a3 (t * 7 + ht_pn a3 a4 t y) = -6)
    (H : ∀ (bf' bb' : Int32) (bt' bm' : Int64) (b3 b4 b5 b6 b7 b8 b9 b10 : Nat → Int32), J (nI (t + 1)) ls (nI N) (nI (t + 1)) (bf') (bb') (bt') (bm') a1 a2 (b3) (b4) (b5) (b6) (b7) (b8) (b9) (b10) dl dc dt df db dp dq d1 d2 d3 d4 d5 d6 d7 d8 d9 d10) :
    ∃ fu, wL_law_222 qost L xs J x1 x4 x5 (nI t) x7 x8 kc ks ls (nI N) (nI (t + 1)) bf bb bt bm a1 a2 a3 a4 a5 a6 a7 a8 a9 a10 dl dc dt df db dp dq d1 d2 d3 d4 d5 d6 d7 d8 d9 d10 fu 0 0 := by
  refine pk_loop (σ := Unit) (fun u i _ => wL_law_222 qost L xs J x1 x4 x5 (nI t) x7 x8 kc ks ls (nI N) (nI (t + 1)) bf bb bt bm a1 a2 a3 a4 a5 a6 a7 a8 a9 a10 dl dc dt df db dp dq d1 d2 d3 d4 d5 d6 d7 d8 d9 d10 u (ht_hs r i) (nI i)) (fun _ _ => True) N 0 () (by omega) trivial ?_ ?_
  · intro u _ _
    have e1 : nI (t + 1) - 1 = nI t := nI_pred t
    exact br_t ((hZ N hN).mpr (Nat.le_refl N)) (br_t h7.symm (br_f (nI_ne0 (by omega) (by omega)) (nm_r e1 (br_t rfl (ht_l323 hZ hN ht h7 h8 hr H)))))
  · intro u i _ hi _ hw
    have e2 : nI i + 2 = nI (i + 2) := nI_add i 2
    have hli := hNL i hi
    have hc : (nI i + 2).toNatClampNeg = i + 2 := by rw [e2, nI_clamp (by omega)]
    refine br_f (fun z => absurd ((hZ i (by omega)).mp z) (by omega)) ⟨pk_in (i + 2) L hli e2, nm_r (e' := a1 i) (by rw [hc, hx i hi]) (ht_leaf (T := t + 1) (by omega) (by omega) (ht_feature (T := t + 1) (by omega) (by omega) (ht_pn_lt t (a1 i)) (br_t (hw6 (a1 i)) (ht_rest (t := t + 1) (by omega) hi hN (ht_value (T := t + 1) (by omega) (by omega) (ht_pn_lt t (a1 i)) (hw6 (a1 i)) (nm_r (e' := r i) ?_ (nm_r (e' := ht_hs r (i + 1)) rfl (nm_r (nI_1 i) (hw () trivial)))))))))⟩
    rw [hr]
    show a2 i - (ht_pa a3 a4 a5 t (a1 i) + a5 (t * 7 + ht_pn a3 a4 t (a1 i))) + a5 (t * 7 + ht_pn a3 a4 t (a1 i)) = a2 i - ht_pa a3 a4 a5 t (a1 i)
    grind
theorem ht_nx_e {b3 b4 : Nat → Int32} {j q : Nat} {y : Int32} (h3 : b3 (j * 7 + q) = a3 (j * 7 + q)) (h4 : b4 (j * 7 + q) = a4 (j * 7 + q)) : ht_nx b3 b4 j y q = ht_nx a3 a4 j y q := by
  unfold ht_nx
  rw [h3, h4]
/-- predictions by the trees below t rest on their own nodes alone -/
theorem ht_pa_e {b3 b4 b5 : Nat → Int32} {y : Int32} (h : ∀ j, j < t * 7 → b3 j = a3 j ∧ b4 j = a4 j ∧ b5 j = a5 j) : ht_pa b3 b4 b5 t y = ht_pa a3 a4 a5 t y := by
  induction t with
  | zero => rfl
  | succ t ih =>
    have e0 : ht_nx b3 b4 t y 0 = ht_nx a3 a4 t y 0 := ht_nx_e (h _ (by omega)).1 (h _ (by omega)).2.1
    have hl := ht_nx_le (a3 := a3) (a4 := a4) t 0 y
    have e1 : ht_pn b3 b4 t y = ht_pn a3 a4 t y := by
      unfold ht_pn
      rw [e0]
      exact ht_nx_e (h _ (by omega)).1 (h _ (by omega)).2.1
    have hp := ht_pn_lt (a3 := a3) (a4 := a4) t y
    show ht_pa b3 b4 b5 t y + b5 (t * 7 + ht_pn b3 b4 t y) = ht_pa a3 a4 a5 t y + a5 (t * 7 + ht_pn a3 a4 t y)
    rw [ih (fun j hj => h j (by omega)), e1, (h _ (by omega)).2.2]
theorem ht_l159 {J : ht_JT} (hZ : ht_Z x4 N) (hN : N ≤ 24) (ht : t < 4) (hM : M ≤ 12) (hL : L ≤ 260) (hNL : ∀ i, i < N → i + 2 < L) (hx : ∀ i, i < N → a1 i = xs (i + 2) &&& 511)
    (H : ∀ (bf' bb' : Int32) (bt' bm' : Int64) (b3 b4 b5 b6 b7 b8 b9 b10 : Nat → Int32), J (nI (t + 1)) (nI M) (nI N) (nI (t + 1)) (bf') (bb') (bt') (bm') a1 a2 (b3) (b4) (b5) (b6) (b7) (b8) (b9) (b10) dl dc dt df db dp dq d1 d2 d3 d4 d5 d6 d7 d8 d9 d10) :
    ∃ fu, wL_law_159 qost L xs J (nI M) x4 x5 (nI t) kc ks (nI M) (nI N) (nI t) bf bb bt bm a1 a2 a3 a4 a5 a6 a7 a8 a9 a10 dl dc dt df db dp dq d1 d2 d3 d4 d5 d6 d7 d8 d9 d10 fu 0 0 := by
  refine pk_loop (σ := Unit) (fun u i _ => wL_law_159 qost L xs J (nI M) x4 x5 (nI t) kc ks (nI M) (nI N) (nI t) bf bb bt bm a1 a2 a3 a4 a5 a6 a7 a8 a9 a10 dl dc dt df db dp dq d1 d2 d3 d4 d5 d6 d7 d8 d9 d10 u (ht_hs (fun i => a2 i - ht_pa a3 a4 a5 t (a1 i)) i) (nI i)) (fun _ _ => True) N 0 () (by omega) trivial ?_ ?_
  · intro u _ _
    refine br_t ((hZ N hN).mpr (Nat.le_refl N)) (ht_train (r := fun i => a2 i - ht_pa a3 a4 a5 t (a1 i)) ht hN rfl (fun bf' bb' bt' bm' b3 b4 b5 b6 b7 b8 b9 b10 hk hn => ?_))
    have hlv := ht_lv_in (m := nI M) (n := N) (x := a1) (r := fun i => a2 i - ht_pa a3 a4 a5 t (a1 i))
    refine pk_lt (ht_lv (nI M) N a1 (fun i => a2 i - ht_pa a3 a4 a5 t (a1 i)) 7) 1 (fun z => absurd z (by omega)) (fun _ => pk_lt 4 (ht_lv (nI M) N a1 (fun i => a2 i - ht_pa a3 a4 a5 t (a1 i)) 7) (fun z => absurd z (by omega)) (fun _ => ?_))
    refine ht_parts (T := t + 1) (by omega) (by omega) hM hN hn (br_f (by decide) ?_)
    refine ht_l222 hZ hN ht hL hNL hx rfl rfl ?_ (ht_walk hn) H
    funext i
    rw [ht_pa_e hk]
  · intro u i _ hi _ hw
    exact br_f (fun z => absurd ((hZ i (by omega)).mp z) (by omega)) (ht_rest (by omega) hi hN (nm_r (e' := ht_hs (fun i => a2 i - ht_pa a3 a4 a5 t (a1 i)) (i + 1)) rfl (nm_r (nI_1 i) (hw () trivial))))
/-- the second object: one leaf -/
theorem ht_last {u : Nat} (hq : qost 1) (hZ : ht_Z x4 N) (hN : N ≤ 24) (h1 : -50 ≤ x5.toInt) (h2 : x5.toInt ≤ 50) (hd : ∀ i, i < N → d2 i = x5) :
    wL_law_147 qost L xs x1 x4 x5 kc ks (u + 1) (nI 4) ls ct tr bf bb bt bm a1 a2 a3 a4 a5 a6 a7 a8 a9 a10 dl (nI N) (nI 0) df db dp dq d1 d2 d3 d4 d5 d6 d7 d8 d9 d10 := by
  have hr : ∀ i, i < N → (fun i => d2 i - ht_pa d3 d4 d5 0 (d1 i)) i = x5 := by
    intro i hi
    show d2 i - 0 = x5
    rw [hd i hi]
    exact Int32.sub_zero _
  have hD := ht_all_D (m := dl) (x := d1) hN h1 h2 hr
  have hv := ht_all_v (m := dl) (x := d1) hN h1 h2 hr
  have hl := ht_all_lv hD
  refine pk_le 4 4 (fun _ => ht_train (t := 0) (by omega) hN rfl (fun bf' bb' bt' bm' b3 b4 b5 b6 b7 b8 b9 b10 hk hn => br_t (by rw [hl]; rfl) ?_)) (fun z => absurd z (by omega))
  have h0 := (hn 0 (by omega)).2.2.1 rfl hD
  refine ht_feature (t := 0) (q := 0) (T := 0 + 1) (by omega) (by omega) (by omega) (br_t h0.1 (ht_value (t := 0) (q := 0) (T := 0 + 1) (by omega) (by omega) (by omega) h0.1 (br_c (fun z => br_t ?_ hq) (fun z => br_t ?_ hq))))
  · rw [h0.2, hv]
    have := (hZ 0 (by omega)).mp z
    exact if_pos (by omega)
  · rw [h0.2, hv]
    exact if_neg (fun e => z ((hZ 0 (by omega)).mpr (by omega)))
theorem ht_l147 (hq : qost 1) (hZ : ht_Z x4 N) (hN : N ≤ 24) (hM : M ≤ 12) (hL : L ≤ 260) (hNL : ∀ i, i < N → i + 2 < L) (hx : ∀ i, i < N → a1 i = xs (i + 2) &&& 511) (h1 : -50 ≤ x5.toInt) (h2 : x5.toInt ≤ 50) (hd : ∀ i, i < N → d2 i = x5) :
    ∃ fu, wL_law_147 qost L xs (nI M) x4 x5 kc ks fu 0 (nI M) (nI N) (0) bf bb bt bm a1 a2 a3 a4 a5 a6 a7 a8 a9 a10 dl (nI N) (0) df db dp dq d1 d2 d3 d4 d5 d6 d7 d8 d9 d10 :=
  pk_loop (σ := Int32 × Int32 × Int64 × Int64 × (Nat → Int32) × (Nat → Int32) × (Nat → Int32) × (Nat → Int32) × (Nat → Int32) × (Nat → Int32) × (Nat → Int32) × (Nat → Int32))
    (fun u t s => wL_law_147 qost L xs (nI M) x4 x5 kc ks u (nI t) (nI M) (nI N) (nI t) (s.1) (s.2.1) (s.2.2.1) (s.2.2.2.1) a1 a2 (s.2.2.2.2.1) (s.2.2.2.2.2.1) (s.2.2.2.2.2.2.1) (s.2.2.2.2.2.2.2.1) (s.2.2.2.2.2.2.2.2.1) (s.2.2.2.2.2.2.2.2.2.1) (s.2.2.2.2.2.2.2.2.2.2.1) (s.2.2.2.2.2.2.2.2.2.2.2) dl (nI N) (nI 0) df db dp dq d1 d2 d3 d4 d5 d6 d7 d8 d9 d10)
    (fun _ _ => True) 4 0 (bf, bb, bt, bm, a3, a4, a5, a6, a7, a8, a9, a10) (by omega) trivial
    (fun u s _ => ht_last hq hZ hN h1 h2 hd)
    (fun u t s ht _ hw => pk_le 4 t (fun z => absurd z (by omega)) (fun _ => ht_l159 hZ hN ht hM hL hNL hx (fun bf' bb' bt' bm' b3 b4 b5 b6 b7 b8 b9 b10 => hw (bf', bb', bt', bm', b3, b4, b5, b6, b7, b8, b9, b10) trivial)))
theorem ht_tg (w : Nat) : -50 ≤ (nI (w % 101) - 50).toInt ∧ (nI (w % 101) - 50).toInt ≤ 50 := by
  have h : (nI (w % 101) - nI 50).toInt = ((w % 101 : Nat) : Int) - (50 : Nat) := pk_sub_toInt (by omega) (by omega)
  have e : (nI (w % 101) - 50).toInt = ((w % 101 : Nat) : Int) - (50 : Nat) := h
  rw [e]
  omega
theorem ht_tl {p : Int32} (h : -50 ≤ p.toInt) : ¬ p < -50 := by
  rw [Int32.lt_iff_toInt_lt]
  have : (-50 : Int32).toInt = -50 := by decide
  omega
theorem ht_tu {p : Int32} (h : p.toInt ≤ 50) : p ≤ 50 := by
  rw [Int32.le_iff_toInt_le]
  have : (50 : Int32).toInt = 50 := by decide
  omega
theorem ht_md (y m : Int32) (k : Nat) (hk : k ≤ 31) (hm : m.toBitVec.toNat = 2 ^ k - 1) : ∃ w : Nat, ((y &&& m) - (y &&& m) / 101 * 101) - 50 = nI (w % 101) - 50 := by
  obtain ⟨j, hj, e⟩ := pk_andE y k hm
  refine ⟨j, ?_⟩
  have hp : (2 : Nat) ^ k ≤ 2 ^ 31 := Nat.pow_le_pow_right (by decide) hk
  rw [e]
  show nI j - nI j / nI 101 * nI 101 - 50 = _
  rw [pk_rem (by omega) (by omega) (by omega)]
theorem ht_l92 (hq : qost 1) (hZ : ht_Z x4 N) (hN : N ≤ 24) (hM : M ≤ 12) (hL : L ≤ 260) (hNL : ∀ i, i < N → i + 2 < L) (h1 : -50 ≤ x5.toInt) (h2 : x5.toInt ≤ 50) :
    ∃ fu, wL_law_92 qost L xs (nI M) x4 x5 kc ks fu 0 (nI M) (0) (0) bf bb bt bm a1 a2 a3 a4 a5 a6 a7 a8 a9 a10 dl (0) (0) df db dp dq d1 d2 d3 d4 d5 d6 d7 d8 d9 d10 := by
  refine pk_loop (σ := (Nat → Int32) × (Nat → Int32) × (Nat → Int32) × (Nat → Int32)) (fun u i s => wL_law_92 qost L xs (nI M) x4 x5 kc ks u (nI i) (nI M) (nI i) (0) bf bb bt bm (s.1) (s.2.1) a3 a4 a5 a6 a7 a8 a9 a10 dl (nI i) (0) df db dp dq (s.2.2.1) (s.2.2.2) d3 d4 d5 d6 d7 d8 d9 d10) (fun i s => ∀ j, j < i → s.1 j = xs (j + 2) &&& 511 ∧ s.2.2.2 j = x5) N 0 (a1, a2, d1, d2) (by omega) (fun j hj => absurd hj (by omega)) ?_ ?_
  · intro u s h
    exact br_t ((hZ N hN).mpr (Nat.le_refl N)) (ht_l147 hq hZ hN hM hL hNL (fun i hi => (h i hi).1) h1 h2 (fun i hi => (h i hi).2))
  · intro u i s hi h hw
    have e2 : nI i + 2 = nI (i + 2) := nI_add i 2
    have hli := hNL i hi
    have hc : (nI i + 2).toNatClampNeg = i + 2 := by rw [e2, nI_clamp (by omega)]
    obtain ⟨w, ew⟩ := ht_md (xs (i + 2) >>> ((9 : Int32) &&& 31)) 32767 15 (by omega) (by decide)
    have hw2 := ht_tg w
    rw [← ew] at hw2
    refine br_f (fun z => absurd ((hZ i (by omega)).mp z) (by omega)) ⟨pk_in (i + 2) L hli e2, nm_r (e' := xs (i + 2)) (by rw [hc]) ⟨by decide, ht_row (by omega) (ht_tl hw2.1) (ht_tu hw2.2) (ht_row (by omega) (ht_tl h1) (ht_tu h2) (nm_r (nI_1 i) (hw (_, _, _, _) (fun j hj => ?_))))⟩⟩
    by_cases e : j = i
    · rw [e]
      exact ⟨pk_us, pk_us⟩
    · have hh := h j (by omega)
      exact ⟨(pk_un e).trans hh.1, (pk_un e).trans hh.2⟩
theorem ht_cell {k : Nat} (hk : k < 260) (hL : L ≤ 260) (H : ∀ y, qost y) : wpL_cell qost L xs () (nI k) :=
  pk_le L k (fun _ => H 0) (fun z => ⟨pk_in k L z, H _⟩)
theorem ht_l71 (hq : qost 1) (hZ : ht_Z x4 N) (hN : N ≤ 24) (hM : M ≤ 12) (hL : L ≤ 260) (hNL : ∀ i, i < N → i + 2 < L) :
    wL_law_71 qost L xs (nI M) x4 kc ks (nI M) (0) (0) bf bb bt bm a1 a2 a3 a4 a5 a6 a7 a8 a9 a10 dl (0) (0) df db dp dq d1 d2 d3 d4 d5 d6 d7 d8 d9 d10 := by
  refine ht_cell (k := 1) (by omega) hL (fun y => ⟨by decide, ?_⟩)
  obtain ⟨w, ew⟩ := ht_md y 2147483647 31 (by omega) (by decide)
  have hw := ht_tg w
  exact nm_r ew (ht_l92 hq hZ hN hM hL hNL hw.1 hw.2)
theorem ht_init {post : St2 → Prop} {mc ms : Nat} (h1 : 1 ≤ M) (hM : M ≤ 12) (hc : 10 ≤ mc) (hs : 544 ≤ ms) (H : post (nI M, 0, 0, 0, 0, 0, 0, fun _ => 0, fun _ => 0, fun _ => 0, fun _ => 0, fun _ => 0, fun _ => 0, fun _ => 0, fun _ => 0, fun _ => 0, fun _ => 0)) : wpX_init post mc ms (0, 0, 0, 0, 0, 0, 0) (nI M) :=
  ⟨by omega, by omega, by omega, by omega, by omega, by omega, by omega, by omega, by omega, by omega, by omega, by omega, by omega, by omega, by omega, by omega, by omega, by omega, by omega, by omega, pk_le 1 M (fun _ => pk_le M 12 (fun _ => H) (fun z => absurd z (by omega))) (fun z => absurd z (by omega))⟩
theorem ht_l34 {z : Int32} (ez : z = nI M) (hq : qost 1) (h1 : 1 ≤ M) (hM : M ≤ 12) (hL : L ≤ 260) : wL_law_34 qost L xs z 0 0 := by
  subst ez
  have eI : (Int32.ofNat L - 2).toInt = (L : Int) - (2 : Nat) := pk_sub_toInt (a := L) (b := 2) (by omega) (by omega)
  have e24 : (24 : Int32).toInt = 24 := by decide
  refine ⟨by omega, by omega, 10, 544, by omega, by omega, ht_init h1 hM (by omega) (by omega) ⟨by omega, by omega, 10, 544, by omega, by omega, ht_init (M := 1) (by omega) (by omega) (by omega) (by omega) (br_c (fun h => ?_) (fun h => ?_))⟩⟩
  · rw [Int32.le_iff_toInt_le, eI, e24] at h
    refine ht_l71 (N := 24) hq (fun i hi => ?_) (by omega) hM hL (fun i hi => by omega)
    exact nI_leI (a := (24 : Nat)) (b := i) (by decide) (by omega)
  · rw [Int32.le_iff_toInt_le, eI, e24] at h
    refine ht_l71 (N := L - 2) hq (fun i hi => ?_) (by omega) hM hL (fun i hi => by omega)
    rw [Int32.le_iff_toInt_le, eI, nI_toInt (by omega)]
    omega
theorem i_vc (xs : Nat → Int32) (L : Nat) (hL : L ≤ 260) : wpL_law (fun r => r = 1) L xs := by
  refine ht_cell (k := 0) (by omega) hL (fun y => ⟨by decide, ?_⟩)
  obtain ⟨j, hj, e⟩ := pk_andE y (m := 2147483647) 31 (by decide)
  have e1 : 1 + ((y &&& 2147483647) - (y &&& 2147483647) / 12 * 12) = nI (1 + j % 12) := by
    rw [e]
    show nI 1 + (nI j - nI j / nI 12 * nI 12) = _
    rw [pk_rem (by omega) (by omega) (by omega), nI_add]
  refine nm_r e1 (ht_cell (k := 0) (by omega) hL (fun y' => br_c (fun _ => ⟨by decide, ?_⟩) (fun _ => ht_l34 rfl rfl (by omega) (by omega) hL)))
  refine ht_l34 (M := 1 + (1 + j % 12) / 4) ?_ rfl (by omega) (by omega) hL
  show nI 1 + nI (1 + j % 12) / nI 4 = _
  rw [pk_div (by omega) (by omega) (by omega), nI_add]
end
end
