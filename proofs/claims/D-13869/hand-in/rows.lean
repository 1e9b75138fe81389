section
/-- the mirror of six bits -/
def pb_T (x : Nat) : Nat := (x % 2) * 32 + (x / 2 % 2) * 16 + (x / 4 % 2) * 8 + (x / 8 % 2) * 4 + (x / 16 % 2) * 2 + x / 32 % 2
/-- the number of points of a piece -/
def pb_P (x : Nat) : Nat := x % 2 + x / 2 % 2 + x / 4 % 2 + x / 8 % 2 + x / 16 % 2 + x / 32 % 2
/-- the side without the point p -/
def pb_S (x p : Nat) : Nat := x - (x / 2 ^ p % 2) * 2 ^ p
theorem pb_P_le (x : Nat) : pb_P x ≤ 6 := by
  unfold pb_P
  omega
theorem pb_T_lt : ∀ x, x < 64 → pb_T x < 64 := by decide +kernel
theorem pb_TT : ∀ x, x < 64 → pb_T (pb_T x) = x := by decide +kernel
theorem pb_T0 : ∀ x, x < 64 → (pb_T x = 0 ↔ x = 0) := by decide +kernel
theorem pb_PT : ∀ x, x < 64 → pb_P (pb_T x) = pb_P x := by decide +kernel
theorem pb_ST : ∀ x, x < 64 → ∀ p, p < 6 → pb_S (pb_T x) p = pb_T (pb_S x (5 - p)) := by decide +kernel
theorem pb_S_le : ∀ x, x < 64 → ∀ p, p < 6 → pb_S x p ≤ x := by decide +kernel
theorem pb_S_lt {x p : Nat} (hx : x < 64) (hp : p < 6) : pb_S x p < 64 := Nat.lt_of_le_of_lt (pb_S_le x hx p hp) hx
theorem pb_S_i : ∀ x, x < 64 → ∀ p, p < 6 → nI x &&& (((1 : Int32) <<< (nI p &&& 31)) ^^^ (-1)) = nI (pb_S x p) := by decide +kernel
theorem pb_inj {x y : Nat} (hx : x < 64) (hy : y < 64) : pb_T x = pb_T y ↔ x = y := by
  constructor
  · intro e
    rw [← pb_TT x hx, ← pb_TT y hy, e]
  · intro e
    rw [e]
/-- a piece -/
def pb_pc (x : Nat) : Prop := 1 ≤ x ∧ x < 64 ∧ pb_P x ≤ 4
theorem pb_pcT {x : Nat} (hx : x < 64) : pb_pc (pb_T x) ↔ pb_pc x := by
  unfold pb_pc
  rw [pb_PT x hx]
  have h1 := pb_T_lt x hx
  have h2 := pb_T0 x hx
  constructor
  · intro h
    refine ⟨?_, hx, h.2.2⟩
    rcases Nat.eq_zero_or_pos x with z | z
    · have := h2.mpr z
      have := h.1
      omega
    · exact z
  · intro h
    refine ⟨?_, h1, h.2.2⟩
    rcases Nat.eq_zero_or_pos (pb_T x) with z | z
    · have := h2.mp z
      have := h.1
      omega
    · exact z
/-- the part test -/
theorem pb_sub_i : ∀ s, s < 64 → ∀ y, y < 64 → (nI y &&& (nI s ^^^ (-1)) = 0 ↔ y &&& s = y) := by decide +kernel
theorem pb_sub_le : ∀ s, s < 64 → ∀ y, y < 64 → y &&& s = y → y ≤ s := by decide +kernel
theorem pb_sub_T : ∀ s, s < 64 → ∀ y, y < 64 → (pb_T y &&& pb_T s = pb_T y ↔ y &&& s = y) := by decide +kernel
theorem pb_sub_P : ∀ s, s < 64 → ∀ y, y < 64 → y &&& s = y → pb_P y ≤ pb_P s := by decide +kernel
theorem pb_sub_S : ∀ s, s < 64 → ∀ y, y < 64 → y &&& s = y → ∀ p, p < 6 → pb_S y p &&& s = pb_S y p := by decide +kernel
theorem pb_perm : List.Perm ((List.range 64).map pb_T) (List.range 64) := by decide +kernel
/-- how many of the parts 1..k of s are not there -/
def pb_c (s : Nat) (pl : Nat → Int32) (k : Nat) : Nat := (List.range (k + 1)).countP (fun y => decide (0 < y ∧ y &&& s = y ∧ pl y < 0))
theorem pb_c_0 (s : Nat) (pl : Nat → Int32) : pb_c s pl 0 = 0 := by
  unfold pb_c
  simp
theorem pb_c_s (s : Nat) (pl : Nat → Int32) (k : Nat) : pb_c s pl (k + 1) = pb_c s pl k + (if (k + 1) &&& s = k + 1 ∧ pl (k + 1) < 0 then 1 else 0) := by
  unfold pb_c
  rw [List.range_succ, List.countP_append, List.countP_singleton]
  congr 1
  by_cases h : (k + 1) &&& s = k + 1 ∧ pl (k + 1) < 0
  · rw [if_pos h, if_pos (decide_eq_true ⟨by omega, h⟩)]
  · rw [if_neg h, if_neg (by rw [decide_eq_false (fun t => h t.2)]; decide)]
theorem pb_c_y {s : Nat} {pl : Nat → Int32} {k : Nat} (h : (k + 1) &&& s = k + 1 ∧ pl (k + 1) < 0) : pb_c s pl (k + 1) = pb_c s pl k + 1 := by
  rw [pb_c_s, if_pos h]
theorem pb_c_n {s : Nat} {pl : Nat → Int32} {k : Nat} (h : ¬ ((k + 1) &&& s = k + 1 ∧ pl (k + 1) < 0)) : pb_c s pl (k + 1) = pb_c s pl k := by
  rw [pb_c_s, if_neg h]
  rfl
theorem pb_c_mono (s : Nat) (pl : Nat → Int32) (k : Nat) : ∀ j, pb_c s pl k ≤ pb_c s pl (k + j) := by
  intro j
  induction j with
  | zero => exact Nat.le_refl _
  | succ j ih =>
    rw [← Nat.add_assoc, pb_c_s]
    omega
theorem pb_c_up {s : Nat} (hs : s < 64) (pl : Nat → Int32) : ∀ j, s + j < 64 → pb_c s pl (s + j) = pb_c s pl s := by
  intro j
  induction j with
  | zero => exact fun _ => rfl
  | succ j ih =>
    intro h
    rw [← Nat.add_assoc, pb_c_n, ih (by omega)]
    intro t
    have := pb_sub_le s hs (s + j + 1) (by omega) t.1
    omega
theorem pb_c_63 {s : Nat} (hs : s < 64) (pl : Nat → Int32) : pb_c s pl 63 = pb_c s pl s := by
  have h := pb_c_up hs pl (63 - s) (by omega)
  rw [show s + (63 - s) = 63 by omega] at h
  exact h
theorem pb_c_T {s : Nat} (hs : s < 64) {pl pl' : Nat → Int32} (h : ∀ x, x < 64 → pl' (pb_T x) = pl x) : pb_c (pb_T s) pl' (pb_T s) = pb_c s pl s := by
  rw [← pb_c_63 (pb_T_lt s hs), ← pb_c_63 hs]
  unfold pb_c
  show List.countP _ (List.range 64) = List.countP _ (List.range 64)
  rw [← pb_perm.countP_eq, List.countP_map]
  apply List.countP_congr
  intro x hx
  have hx' : x < 64 := List.mem_range.mp hx
  have h0 := pb_T0 x hx'
  show decide (0 < pb_T x ∧ pb_T x &&& pb_T s = pb_T x ∧ pl' (pb_T x) < 0) = true ↔ decide (0 < x ∧ x &&& s = x ∧ pl x < 0) = true
  rw [decide_eq_true_iff, decide_eq_true_iff, h x hx', pb_sub_T s hs x hx']
  constructor
  · rintro ⟨a, b⟩
    exact ⟨by rcases Nat.eq_zero_or_pos x with z | z; exact absurd (h0.mpr z) (by omega); exact z, b⟩
  · rintro ⟨a, b⟩
    exact ⟨by rcases Nat.eq_zero_or_pos (pb_T x) with z | z; exact absurd (h0.mp z) (by omega); exact z, b⟩
end
section
def pb_ts (x0 x1 x2 : Int32) : Int32 := x1 ||| (((x0 >>> (x2 &&& 31)) &&& 1) <<< ((5 - x2) &&& 31))
theorem pb_tv : ∀ x, x < 64 → pb_ts (nI x) (pb_ts (nI x) (pb_ts (nI x) (pb_ts (nI x) (pb_ts (nI x) (pb_ts (nI x) 0 0) 1) 2) 3) 4) 5 = nI (pb_T x) := by decide +kernel
theorem pb_turned {post : Int32 → Prop} {x : Nat} (hx : x < 64) (H : post (nI (pb_T x))) : wpL_turned post () (nI x) := by
  rw [← pb_tv x hx] at H
  exact ⟨7, br_f (by decide) (nm_e (nm_r (e' := (1 : Int32)) (by decide) (br_f (by decide) (nm_e (nm_r (e' := (2 : Int32)) (by decide) (br_f (by decide) (nm_e (nm_r (e' := (3 : Int32)) (by decide) (br_f (by decide) (nm_e (nm_r (e' := (4 : Int32)) (by decide) (br_f (by decide) (nm_e (nm_r (e' := (5 : Int32)) (by decide) (br_f (by decide) (nm_e (nm_r (e' := (6 : Int32)) (by decide) (br_t (by decide) H))))))))))))))))))⟩
def pb_ps (x0 x1 x2 : Int32) : Int32 := x1 + ((x0 >>> (x2 &&& 31)) &&& 1)
theorem pb_pv : ∀ x, x < 64 → pb_ps (nI x) (pb_ps (nI x) (pb_ps (nI x) (pb_ps (nI x) (pb_ps (nI x) (pb_ps (nI x) 0 0) 1) 2) 3) 4) 5 = nI (pb_P x) := by decide +kernel
theorem pb_points {post : Int32 → Prop} {x : Nat} (hx : x < 64) (H : post (nI (pb_P x))) : wpX_points post () (nI x) := by
  rw [← pb_pv x hx] at H
  exact ⟨7, br_f (by decide) (nm_e (nm_r (e' := (1 : Int32)) (by decide) (br_f (by decide) (nm_e (nm_r (e' := (2 : Int32)) (by decide) (br_f (by decide) (nm_e (nm_r (e' := (3 : Int32)) (by decide) (br_f (by decide) (nm_e (nm_r (e' := (4 : Int32)) (by decide) (br_f (by decide) (nm_e (nm_r (e' := (5 : Int32)) (by decide) (br_f (by decide) (nm_e (nm_r (e' := (6 : Int32)) (by decide) (br_t (by decide) H))))))))))))))))))⟩
theorem pb_dim {post : Int32 → Prop} {c s : Int32} {l pl co pa cl : Nat → Int32} {i x : Nat} (hi : i < 26) (hx : x < 64) (hl : l i = nI x) (H : post (nI (pb_P x) - 1)) : wpX_dimension post (c, s, l, pl, co, pa, cl) (nI i) := by
  refine ⟨pk_in i 26 hi, ?_⟩
  rw [nI_clamp (show i < 2 ^ 31 by omega), hl]
  exact pb_points hx H
theorem pb_isPiece {post : Int32 → Prop} {x : Nat} (hx : x < 64) (H1 : pb_pc x → post 1) (H0 : ¬ pb_pc x → post 0) : wpX_isPiece post () (nI x) := by
  have hP := pb_P_le x
  refine pk_lt x 1 (fun z => H0 (fun t => absurd t.1 (by omega))) (fun z => pk_lt 63 x (fun z2 => absurd z2 (by omega)) (fun z2 => pb_points hx ?_))
  exact pk_lt 4 (pb_P x) (fun z3 => H0 (fun t => absurd t.2.2 (by omega))) (fun z3 => H1 ⟨z, hx, z3⟩)
/-- what one point gives to a column -/
def pb_t (pl : Nat → Int32) (x p : Nat) : Int32 := if pb_S x p = x ∨ pb_S x p = 0 then 0 else (1 : Int32) <<< (pl (pb_S x p) &&& 31)
/-- the column of a piece -/
def pb_w (pl : Nat → Int32) (x : Nat) : Int32 := (((((0 ||| pb_t pl x 0) ||| pb_t pl x 1) ||| pb_t pl x 2) ||| pb_t pl x 3) ||| pb_t pl x 4) ||| pb_t pl x 5
theorem pb_sides_st {post : Int32 → Prop} {c s : Int32} {l pl co pa cl : Nat → Int32} {i x n : Nat} (p : Nat) {z : Int32} (hi : i < 26) (hx : x < 64) (hp : p < 6) (hl : l i = nI x)
    (H : wX_sidesOf_4 post (nI i) c s l pl co pa cl n (z ||| pb_t pl x p) (nI (p + 1))) : wX_sidesOf_4 post (nI i) c s l pl co pa cl (n + 1) z (nI p) := by
  have hS := pb_S_lt hx hp
  refine pk_le 6 p (fun h => absurd h (by omega)) (fun _ => ⟨pk_in i 26 hi, ?_⟩)
  rw [nI_clamp (show i < 2 ^ 31 by omega), hl, pb_S_i x hx p hp]
  refine nm_e ⟨pk_in i 26 hi, ?_⟩
  refine pk_eq (pb_S x p) x (fun h => nm_r (nI_1 p) ?_) (fun h => pk_eq (pb_S x p) 0 (fun h0 => nm_r (nI_1 p) ?_) (fun h0 => ⟨pk_in (pb_S x p) 64 hS, ?_⟩))
  · rw [pb_t, if_pos (Or.inl h), Int32.or_zero] at H
    exact H
  · rw [pb_t, if_pos (Or.inr h0), Int32.or_zero] at H
    exact H
  · rw [pb_t, if_neg (fun t => t.elim h h0)] at H
    rw [nI_clamp (show pb_S x p < 2 ^ 31 by omega)]
    exact nm_e (nm_r (nI_1 p) H)
theorem pb_sides {post : Int32 → Prop} {c s : Int32} {l pl co pa cl : Nat → Int32} {i x : Nat} (hi : i < 26) (hx : x < 64) (hl : l i = nI x) (H : post (pb_w pl x)) : wpX_sidesOf post (c, s, l, pl, co, pa, cl) (nI i) :=
  ⟨7, pb_sides_st 0 hi hx (by decide) hl (pb_sides_st 1 hi hx (by decide) hl (pb_sides_st 2 hi hx (by decide) hl (pb_sides_st 3 hi hx (by decide) hl (pb_sides_st 4 hi hx (by decide) hl (pb_sides_st 5 hi hx (by decide) hl (br_t (by decide) H))))))⟩
theorem pb_t_T {pl pl' : Nat → Int32} (h : ∀ x, x < 64 → pl' (pb_T x) = pl x) {x p : Nat} (hx : x < 64) (hp : p < 6) : pb_t pl' (pb_T x) p = pb_t pl x (5 - p) := by
  have hS : pb_S x (5 - p) < 64 := pb_S_lt hx (by omega)
  unfold pb_t
  rw [pb_ST x hx p hp, h _ hS]
  by_cases e : pb_S x (5 - p) = x ∨ pb_S x (5 - p) = 0
  · rw [if_pos e, if_pos (e.elim (fun t => Or.inl (by rw [t])) (fun t => Or.inr (by rw [t]; rfl)))]
  · rw [if_neg e, if_neg]
    rintro (t | t)
    · exact e (Or.inl ((pb_inj hS hx).mp t))
    · exact e (Or.inr ((pb_T0 _ hS).mp t))
theorem pb_w_T {pl pl' : Nat → Int32} (h : ∀ x, x < 64 → pl' (pb_T x) = pl x) {x : Nat} (hx : x < 64) : pb_w pl' (pb_T x) = pb_w pl x := by
  unfold pb_w
  rw [pb_t_T h hx (show 0 < 6 by decide), pb_t_T h hx (show 1 < 6 by decide), pb_t_T h hx (show 2 < 6 by decide), pb_t_T h hx (show 3 < 6 by decide), pb_t_T h hx (show 4 < 6 by decide), pb_t_T h hx (show 5 < 6 by decide)]
  show (((((0 ||| pb_t pl x 5) ||| pb_t pl x 4) ||| pb_t pl x 3) ||| pb_t pl x 2) ||| pb_t pl x 1) ||| pb_t pl x 0 = _
  ac_rfl
/-- all sides are there -/
def pb_ok (pl : Nat → Int32) (x p : Nat) : Prop := pb_S x p = x ∨ pb_S x p = 0 ∨ 0 ≤ pl (pb_S x p)
def pb_hs (pl : Nat → Int32) (x : Nat) : Prop := ∀ p, p < 6 → pb_ok pl x p
theorem pb_ok_T {pl pl' : Nat → Int32} (h : ∀ x, x < 64 → pl' (pb_T x) = pl x) {x p : Nat} (hx : x < 64) (hp : p < 6) : pb_ok pl' (pb_T x) p ↔ pb_ok pl x (5 - p) := by
  have hS : pb_S x (5 - p) < 64 := pb_S_lt hx (by omega)
  unfold pb_ok
  rw [pb_ST x hx p hp, h _ hS, pb_inj hS hx, pb_T0 _ hS]
theorem pb_hs_T {pl pl' : Nat → Int32} (h : ∀ x, x < 64 → pl' (pb_T x) = pl x) {x : Nat} (hx : x < 64) : pb_hs pl' (pb_T x) ↔ pb_hs pl x := by
  constructor
  · intro t p hp
    have e := (pb_ok_T h hx (show 5 - p < 6 by omega)).mp (t (5 - p) (by omega))
    rw [show 5 - (5 - p) = p by omega] at e
    exact e
  · intro t p hp
    exact (pb_ok_T h hx hp).mpr (t (5 - p) (by omega))
theorem pb_hasSides {post : Int32 → Prop} {c s : Int32} {l pl co pa cl : Nat → Int32} {x : Nat} (hx : x < 64) (H1 : pb_hs pl x → post 1) (H0 : ¬ pb_hs pl x → post 0) : wpX_hasSides post (c, s, l, pl, co, pa, cl) (nI x) := by
  refine pk_loop (σ := Unit) (fun n i _ => wX_hasSides_2 post (nI x) c s l pl co pa cl n (nI i)) (fun i _ => ∀ p, p < i → pb_ok pl x p) 6 0 () (by omega) (fun p hp => absurd hp (by omega)) ?_ ?_
  · intro n _ h
    exact pk_le 6 6 (fun _ => H1 h) (fun z => absurd z (by omega))
  · intro n p _ hp h hw
    have hS := pb_S_lt hx hp
    have next : pb_ok pl x p → wX_hasSides_2 post (nI x) c s l pl co pa cl n (nI (p + 1)) := fun t => hw () (lt_s h t)
    show wX_hasSides_2 post (nI x) c s l pl co pa cl (n + 1) (nI p)
    refine pk_le 6 p (fun z => absurd z (by omega)) (fun _ => ?_)
    rw [pb_S_i x hx p hp]
    refine nm_e ?_
    refine pk_eq (pb_S x p) x (fun h => nm_r (nI_1 p) (next (Or.inl h))) (fun h => pk_eq (pb_S x p) 0 (fun h0 => nm_r (nI_1 p) (next (Or.inr (Or.inl h0)))) (fun h0 => ⟨pk_in (pb_S x p) 64 hS, ?_⟩))
    rw [nI_clamp (show pb_S x p < 2 ^ 31 by omega)]
    exact br_c (fun g => nm_r (nI_1 p) (next (Or.inr (Or.inr g)))) (fun g => H0 (fun t => (t p hp).elim h (fun r => r.elim h0 g)))
theorem pb_enter {post : St1 → Prop} {s : Int32} {l pl co pa cl : Nat → Int32} {n x : Nat} (hn : n < 26) (hx : x < 64) (H : post (nI (n + 1), s, upd l n (nI x), upd pl x (nI n), co, pa, cl)) : wpX_enter post (nI n, s, l, pl, co, pa, cl) (nI x) := by
  refine ⟨pk_in n 26 hn, ?_⟩
  rw [nI_clamp (show n < 2 ^ 31 by omega)]
  refine nm_e ⟨pk_in x 64 hx, ?_⟩
  rw [nI_clamp (show x < 2 ^ 31 by omega)]
  exact nm_e (nm_r (nI_1 n) H)
theorem pb_low (x : Int32) : ∀ j, j < 26 → ∃ k, k < 26 ∧ ∀ post : Int32 → Prop, post (nI k) → wX_lowest_3 post x (j + 1) (nI j) := by
  intro j
  induction j with
  | zero => exact fun _ => ⟨0, by omega, fun post h => br_t (by decide) h⟩
  | succ j ih =>
    intro hj
    obtain ⟨k, hk, hh⟩ := ih (by omega)
    by_cases c : (x >>> (nI (j + 1) &&& 31)) &&& 1 = 0
    · exact ⟨k, hk, fun post h => pk_le (j + 1) 0 (fun z => absurd z (by omega)) (fun _ => br_t c (nm_r (pk_m1 j) (hh post h)))⟩
    · exact ⟨j + 1, hj, fun post h => pk_le (j + 1) 0 (fun z => absurd z (by omega)) (fun _ => br_f c h)⟩
theorem pb_lowest (x : Int32) : ∃ k, k < 26 ∧ ∀ post : Int32 → Prop, post (nI k) → wpX_lowest post () x := by
  obtain ⟨k, hk, hh⟩ := pb_low x 25 (by omega)
  exact ⟨k, hk, fun post h => ⟨26, hh post h⟩⟩
end
section
/-- closer's values are places -/
def pb_R (cl : Nat → Int32) : Prop := ∀ j, j < 26 → (¬ 0 ≤ cl j) ∨ ∃ k, k < 26 ∧ cl j = nI k
theorem pb_R_n {cl : Nat → Int32} (h : pb_R cl) (i : Nat) : pb_R (upd cl i (-2)) := by
  intro j hj
  by_cases e : j = i
  · rw [e, pk_us]
    exact Or.inl (by decide)
  · rw [pk_un e]
    exact h j hj
theorem pb_R_p {cl : Nat → Int32} (h : pb_R cl) (i : Nat) {k : Nat} (hk : k < 26) : pb_R (upd cl i (nI k)) := by
  intro j hj
  by_cases e : j = i
  · rw [e, pk_us]
    exact Or.inr ⟨k, hk, rfl⟩
  · rw [pk_un e]
    exact h j hj
/-- the points of the pieces in the list -/
def pb_Q (n : Nat) (q : Nat → Nat) (l : Nat → Int32) : Prop := ∀ i, i < n → ∃ x, x < 64 ∧ l i = nI x ∧ pb_P x = q i
/-- the columns of the pieces in the list -/
def pb_W (n : Nat) (w : Nat → Int32) (l pl : Nat → Int32) : Prop := ∀ i, i < n → ∃ x, x < 64 ∧ l i = nI x ∧ pb_w pl x = w i
theorem pb_dimQ {post : Int32 → Prop} {c s : Int32} {l pl co pa cl : Nat → Int32} {n i : Nat} {q : Nat → Nat} (hn : n ≤ 26) (hi : i < n) (hQ : pb_Q n q l) (H : post (nI (q i) - 1)) : wpX_dimension post (c, s, l, pl, co, pa, cl) (nI i) := by
  obtain ⟨x, hx, hl, e⟩ := hQ i hi
  rw [← e] at H
  exact pb_dim (by omega) hx hl H
theorem pb_sidesW {post : Int32 → Prop} {c s : Int32} {l pl co pa cl : Nat → Int32} {n i : Nat} {w : Nat → Int32} (hn : n ≤ 26) (hi : i < n) (hW : pb_W n w l pl) (H : post (w i)) : wpX_sidesOf post (c, s, l, pl, co, pa, cl) (nI i) := by
  obtain ⟨x, hx, hl, e⟩ := hW i hi
  rw [← e] at H
  exact pb_sides (by omega) hx hl H
theorem pb_87 {i : Nat} (hi : i < 26) (y : Int32) {co pa cl : Nat → Int32} (hR : pb_R cl) : ∃ co' pa' cl' : Nat → Int32, pb_R cl' ∧ ∀ (post : St1 → Prop) (J5 : Int32 → (Nat → Int32) → (Nat → Int32) → (Nat → Int32) → (Nat → Int32) → (Nat → Int32) → Prop) (c s : Int32) (l pl : Nat → Int32), J5 (nI (i + 1)) l pl co' pa' cl' → wX_solve_87 post J5 (nI i) y c s l pl co pa cl := by
  by_cases hy : y = 0
  · refine ⟨upd co i y, pa, cl, hR, fun post J5 c s l pl h => ?_⟩
    unfold wX_solve_87
    rw [nI_clamp (show i < 2 ^ 31 by omega)]
    exact ⟨pk_in i 26 hi, nm_e (br_t hy (nm_r (nI_1 i) h))⟩
  · obtain ⟨k, hk, hlow⟩ := pb_lowest y
    refine ⟨upd co i y, upd (upd pa k (nI i)) i (nI k), upd cl k (nI i), pb_R_p hR k hi, fun post J5 c s l pl h => ?_⟩
    unfold wX_solve_87
    rw [nI_clamp (show i < 2 ^ 31 by omega)]
    refine ⟨pk_in i 26 hi, nm_e (br_f hy (hlow _ ?_))⟩
    rw [nI_clamp (show k < 2 ^ 31 by omega)]
    exact ⟨pk_in k 26 hk, nm_e ⟨pk_in k 26 hk, nm_e ⟨pk_in i 26 hi, nm_e (nm_r (nI_1 i) h)⟩⟩⟩
theorem pb_37 {i : Nat} {co cl : Nat → Int32} (hR : pb_R cl) : ∀ (j : Nat) (y : Int32) (k : Nat), j + k = 26 → ∃ z : Int32, ∀ (post : St1 → Prop) (J5 : Int32 → (Nat → Int32) → (Nat → Int32) → (Nat → Int32) → (Nat → Int32) → (Nat → Int32) → Prop) (c s : Int32) (l pl pa : Nat → Int32), wX_solve_87 post J5 (nI i) z c s l pl co pa cl → wX_solve_37 post J5 (nI i) c s l pl co pa cl (j + 1) y (nI k) := by
  intro j
  induction j with
  | zero => exact fun y k hk => ⟨y, fun post J5 c s l pl pa h => pk_le 26 k (fun _ => h) (fun z => absurd z (by omega))⟩
  | succ j ih =>
    intro y k hk
    by_cases hy : y = 0
    · exact ⟨y, fun post J5 c s l pl pa h => pk_le 26 k (fun z => absurd z (by omega)) (fun _ => br_t hy h)⟩
    · obtain ⟨t, ht, hlow⟩ := pb_lowest y
      rcases hR t ht with g | ⟨m, hm, g⟩
      · refine ⟨y, fun post J5 c s l pl pa h => pk_le 26 k (fun z => absurd z (by omega)) (fun _ => br_f hy (hlow _ ?_))⟩
        rw [nI_clamp (show t < 2 ^ 31 by omega)]
        exact ⟨pk_in t 26 ht, br_f g h⟩
      · obtain ⟨z, hz⟩ := ih (y ^^^ co m) (k + 1) (by omega)
        refine ⟨z, fun post J5 c s l pl pa h => pk_le 26 k (fun z => absurd z (by omega)) (fun _ => br_f hy (hlow _ ?_))⟩
        rw [nI_clamp (show t < 2 ^ 31 by omega), g, nI_clamp (show m < 2 ^ 31 by omega)]
        exact ⟨pk_in t 26 ht, br_t (nI_pos' (by omega)) ⟨pk_in t 26 ht, pk_in m 26 hm, nm_e (nm_r (nI_1 k) (hz post J5 c s l pl pa h))⟩⟩
theorem pb_solve5 {n : Nat} (hn : n ≤ 26) (w : Nat → Int32) : ∀ (j i : Nat) (co pa cl : Nat → Int32), i + j = n → pb_R cl → ∃ co' pa' cl' : Nat → Int32, pb_R cl' ∧ ∀ (l pl : Nat → Int32), pb_W n w l pl → ∀ (post : St1 → Prop) (s : Int32), post (nI n, nI n, l, pl, co', pa', cl') → wX_solve_5 post (nI n) s (j + 1) (nI i) l pl co pa cl := by
  intro j
  induction j with
  | zero => exact fun i co pa cl hi hR => ⟨co, pa, cl, hR, fun l pl hW post s h => pk_le n i (fun _ => h) (fun z => absurd z (by omega))⟩
  | succ j ih =>
    intro i co pa cl hi hR
    have hi' : i < 26 := by omega
    obtain ⟨z, hz⟩ := pb_37 (i := i) (co := co) (pb_R_n hR i) 26 (w i) 0 (by omega)
    obtain ⟨co1, pa1, cl1, hR1, h1⟩ := pb_87 hi' z (co := co) (pa := upd pa i (-2)) (pb_R_n hR i)
    obtain ⟨co2, pa2, cl2, hR2, h2⟩ := ih (i + 1) co1 pa1 cl1 (by omega) hR1
    refine ⟨co2, pa2, cl2, hR2, fun l pl hW post s h => pk_le n i (fun z => absurd z (by omega)) (fun _ => ⟨pk_in i 26 hi', ?_⟩)⟩
    rw [nI_clamp (show i < 2 ^ 31 by omega)]
    exact nm_e ⟨pk_in i 26 hi', nm_e (pb_sidesW hn (by omega) hW ⟨27, hz _ _ _ _ _ _ _ (h1 _ _ _ _ _ _ (h2 l pl hW post s h))⟩)⟩
theorem pb_solve {n m : Nat} (hn : n ≤ 26) (hm : m ≤ n) (w : Nat → Int32) (co pa cl : Nat → Int32) (hR : pb_R cl) : ∃ co' pa' cl' : Nat → Int32, pb_R cl' ∧ ∀ (l pl : Nat → Int32), pb_W n w l pl → ∀ (post : St1 → Prop), post (nI n, nI n, l, pl, co', pa', cl') → wpX_solve post (nI n, nI m, l, pl, co, pa, cl) := by
  obtain ⟨co', pa', cl', h1, h2⟩ := pb_solve5 hn w (n - m) m co pa cl (by omega) hR
  exact ⟨co', pa', cl', h1, fun l pl hW post h => ⟨n - m + 1, h2 l pl hW post (nI m) h⟩⟩
end
section
/-- a method that may solve: its answer and what it leaves depend on the view alone -/
def pb_M (n : Nat) (q : Nat → Nat) (w : Nat → Int32) (F : (Int32 → St1 → Prop) → St1 → Prop) : Prop :=
  ∀ (m : Nat) (co pa cl : Nat → Int32), m ≤ n → pb_R cl → ∃ (r : Int32) (m' : Nat) (co' pa' cl' : Nat → Int32), m' ≤ n ∧ pb_R cl' ∧ ∀ (l pl : Nat → Int32), pb_Q n q l → pb_W n w l pl → ∀ (post : Int32 → St1 → Prop), post r (nI n, nI m', l, pl, co', pa', cl') → F post (nI n, nI m, l, pl, co, pa, cl)
/-- a method that stores nothing -/
def pb_N (n : Nat) (q : Nat → Nat) (w : Nat → Int32) (F : (Int32 → Prop) → St1 → Prop) : Prop :=
  ∃ r : Int32, ∀ (s : Int32) (l pl co pa cl : Nat → Int32), pb_Q n q l → pb_W n w l pl → ∀ (post : Int32 → Prop), post r → F post (nI n, s, l, pl, co, pa, cl)
theorem pb_cnt {n : Nat} (hn : n ≤ 26) {p : Int32} (h0 : ¬ p < 0) (h1 : p ≤ nI n) : ∃ t : Nat, t ≤ n ∧ p = nI t := nI_of2 (nI_toInt (by omega)) h0 h1
theorem pb_euler20 {n t : Nat} {q : Nat → Nat} (hn : n ≤ 26) (ht : t ≤ n) : ∀ (j i : Nat) (z : Int32), i + j = t → ∃ r : Int32, ∀ (c s : Int32) (l pl co pa cl : Nat → Int32), pb_Q n q l → ∀ (post : Int32 → Prop), post r → wX_euler_20 post (nI t) c s l pl co pa cl (j + 1) z (nI i) := by
  intro j
  induction j with
  | zero => exact fun i z hi => ⟨z, fun c s l pl co pa cl hQ post h => pk_le t i (fun _ => h) (fun g => absurd g (by omega))⟩
  | succ j ih =>
    intro i z hi
    by_cases e : (nI (q i) - 1) &&& 1 = 0
    · obtain ⟨r, hr⟩ := ih (i + 1) (z + 1) (by omega)
      exact ⟨r, fun c s l pl co pa cl hQ post h => pk_le t i (fun g => absurd g (by omega)) (fun _ => pb_dimQ hn (by omega) hQ (br_t e (nm_e (nm_r (nI_1 i) (hr c s l pl co pa cl hQ post h)))))⟩
    · obtain ⟨r, hr⟩ := ih (i + 1) (z + (-1)) (by omega)
      exact ⟨r, fun c s l pl co pa cl hQ post h => pk_le t i (fun g => absurd g (by omega)) (fun _ => pb_dimQ hn (by omega) hQ (br_f e (nm_e (nm_r (nI_1 i) (hr c s l pl co pa cl hQ post h)))))⟩
theorem pb_euler {n : Nat} {q : Nat → Nat} {w : Nat → Int32} (hn : n ≤ 26) (p0 : Int32) : pb_N n q w (fun post u => wpX_euler post u p0) := by
  by_cases h0 : p0 < 0
  · exact ⟨-1000, fun s l pl co pa cl hQ hW post h => br_t h0 h⟩
  · by_cases h1 : p0 ≤ nI n
    · obtain ⟨t, ht, e⟩ := pb_cnt hn h0 h1
      obtain ⟨r, hr⟩ := pb_euler20 (q := q) hn ht t 0 0 (by omega)
      subst e
      exact ⟨r, fun s l pl co pa cl hQ hW post h => br_f h0 (br_t h1 ⟨t + 1, hr _ _ l pl co pa cl hQ post h⟩)⟩
    · exact ⟨-1000, fun s l pl co pa cl hQ hW post h => br_f h0 (br_f h1 h)⟩
theorem pb_pieces31 {n t : Nat} {q : Nat → Nat} (hn : n ≤ 26) (ht : t ≤ n) (x2 : Int32) : ∀ (j i : Nat) (z : Int32), i + j = t → ∃ r : Int32, ∀ (c s : Int32) (l pl co pa cl : Nat → Int32), pb_Q n q l → ∀ (post : Int32 → Prop), post r → wX_pieces_31 post (nI t) x2 c s l pl co pa cl (j + 1) z (nI i) := by
  intro j
  induction j with
  | zero => exact fun i z hi => ⟨z, fun c s l pl co pa cl hQ post h => pk_le t i (fun _ => h) (fun g => absurd g (by omega))⟩
  | succ j ih =>
    intro i z hi
    by_cases e : nI (q i) - 1 = x2
    · obtain ⟨r, hr⟩ := ih (i + 1) (z + 1) (by omega)
      exact ⟨r, fun c s l pl co pa cl hQ post h => pk_le t i (fun g => absurd g (by omega)) (fun _ => pb_dimQ hn (by omega) hQ (br_t e (nm_e (nm_r (nI_1 i) (hr c s l pl co pa cl hQ post h)))))⟩
    · obtain ⟨r, hr⟩ := ih (i + 1) (z + 0) (by omega)
      exact ⟨r, fun c s l pl co pa cl hQ post h => pk_le t i (fun g => absurd g (by omega)) (fun _ => pb_dimQ hn (by omega) hQ (br_f e (nm_e (nm_r (nI_1 i) (hr c s l pl co pa cl hQ post h)))))⟩
theorem pb_pieces {n : Nat} {q : Nat → Nat} {w : Nat → Int32} (hn : n ≤ 26) (p0 p1 : Int32) : pb_N n q w (fun post u => wpX_pieces post u p0 p1) := by
  by_cases h0 : p0 < 0
  · exact ⟨-1, fun s l pl co pa cl hQ hW post h => br_t h0 h⟩
  · by_cases h1 : p0 ≤ nI n
    · by_cases h2 : p1 < 0
      · exact ⟨-2, fun s l pl co pa cl hQ hW post h => br_f h0 (br_t h1 (br_t h2 h))⟩
      · by_cases h3 : p1 ≤ 3
        · obtain ⟨t, ht, e⟩ := pb_cnt hn h0 h1
          obtain ⟨r, hr⟩ := pb_pieces31 (q := q) hn ht p1 t 0 0 (by omega)
          subst e
          exact ⟨r, fun s l pl co pa cl hQ hW post h => br_f h0 (br_t h1 (br_f h2 (br_t h3 ⟨t + 1, hr _ _ l pl co pa cl hQ post h⟩)))⟩
        · exact ⟨-2, fun s l pl co pa cl hQ hW post h => br_f h0 (br_t h1 (br_f h2 (br_f h3 h)))⟩
    · exact ⟨-1, fun s l pl co pa cl hQ hW post h => br_f h0 (br_f h1 h)⟩
theorem pb_l42 {post : Int32 → St1 → Prop} {J : Int32 → Int32 → Prop} {x1 x2 x3 z z0 c s : Int32} {l pl co pa cl : Nat → Int32} {n i : Nat} {q : Nat → Nat} (hn : n ≤ 26) (hi : i < n) (hQ : pb_Q n q l)
    (H : J (if nI (q i) - 1 = x3 ∧ co i = 0 ∧ z0 = 0 then z + 1 else z + 0) (nI (i + 1))) : wX_living_42 post J x1 x2 x3 z (nI i) z0 c s l pl co pa cl := by
  unfold wX_living_42
  refine pb_dimQ hn hi hQ ?_
  rw [nI_clamp (show i < 2 ^ 31 by omega)]
  by_cases e1 : nI (q i) - 1 = x3
  · refine br_t e1 ⟨pk_in i 26 (by omega), ?_⟩
    by_cases e2 : co i = 0
    · refine br_t e2 ?_
      by_cases e3 : z0 = 0
      · rw [if_pos ⟨e1, e2, e3⟩] at H
        exact br_t e3 (nm_e (nm_r (nI_1 i) H))
      · rw [if_neg (fun t => e3 t.2.2)] at H
        exact br_f e3 (nm_e (nm_r (nI_1 i) H))
    · rw [if_neg (fun t => e2 t.2.1)] at H
      exact br_f e2 (nm_e (nm_r (nI_1 i) H))
  · rw [if_neg (fun t => e1 t.1)] at H
    exact br_f e1 (nm_e (nm_r (nI_1 i) H))
theorem pb_living10 {n t : Nat} {q : Nat → Nat} (hn : n ≤ 26) (ht : t ≤ n) (x2 x3 : Int32) (co pa : Nat → Int32) : ∀ (j i : Nat) (z : Int32), i + j = t → ∃ r : Int32, ∀ (c s : Int32) (l pl cl : Nat → Int32), pb_Q n q l → ∀ (post : Int32 → St1 → Prop), post r (c, s, l, pl, co, pa, cl) → wX_living_10 post (nI t) x2 x3 c s l pl co pa cl (j + 1) z (nI i) := by
  intro j
  induction j with
  | zero => exact fun i z hi => ⟨z, fun c s l pl cl hQ post h => pk_le t i (fun _ => h) (fun g => absurd g (by omega))⟩
  | succ j ih =>
    intro i z hi
    by_cases g1 : pa i < 0
    · obtain ⟨r, hr⟩ := ih (i + 1) (if nI (q i) - 1 = x3 ∧ co i = 0 ∧ (0 : Int32) = 0 then z + 1 else z + 0) (by omega)
      refine ⟨r, fun c s l pl cl hQ post h => pk_le t i (fun g => absurd g (by omega)) (fun _ => ⟨pk_in i 26 (by omega), ?_⟩)⟩
      rw [nI_clamp (show i < 2 ^ 31 by omega)]
      refine br_t g1 ?_
      unfold wX_living_41
      exact pb_l42 hn (by omega) hQ (hr c s l pl cl hQ post h)
    · by_cases g2 : x2 ≤ pa i
      · obtain ⟨r, hr⟩ := ih (i + 1) (if nI (q i) - 1 = x3 ∧ co i = 0 ∧ (0 : Int32) = 0 then z + 1 else z + 0) (by omega)
        refine ⟨r, fun c s l pl cl hQ post h => pk_le t i (fun g => absurd g (by omega)) (fun _ => ⟨pk_in i 26 (by omega), ?_⟩)⟩
        rw [nI_clamp (show i < 2 ^ 31 by omega)]
        refine br_f g1 ⟨pk_in i 26 (by omega), br_t g2 ?_⟩
        unfold wX_living_41
        exact pb_l42 hn (by omega) hQ (hr c s l pl cl hQ post h)
      · obtain ⟨r, hr⟩ := ih (i + 1) (if nI (q i) - 1 = x3 ∧ co i = 0 ∧ (1 : Int32) = 0 then z + 1 else z + 0) (by omega)
        refine ⟨r, fun c s l pl cl hQ post h => pk_le t i (fun g => absurd g (by omega)) (fun _ => ⟨pk_in i 26 (by omega), ?_⟩)⟩
        rw [nI_clamp (show i < 2 ^ 31 by omega)]
        exact br_f g1 ⟨pk_in i 26 (by omega), br_f g2 (pb_l42 hn (by omega) hQ (hr c s l pl cl hQ post h))⟩
theorem pb_living {n t : Nat} {q : Nat → Nat} {w : Nat → Int32} (hn : n ≤ 26) (ht : t ≤ n) (x2 x3 : Int32) : pb_M n q w (fun post u => wpX_living post u (nI t) x2 x3) := by
  intro m co pa cl hm hR
  obtain ⟨co', pa', cl', hR', hs⟩ := pb_solve hn hm w co pa cl hR
  obtain ⟨r, hr⟩ := pb_living10 (q := q) hn ht x2 x3 co' pa' t 0 0 (by omega)
  exact ⟨r, n, co', pa', cl', Nat.le_refl n, hR', fun l pl hQ hW post h => hs l pl hW _ ⟨t + 1, hr _ _ l pl cl' hQ post h⟩⟩
theorem pb_holes {n : Nat} {q : Nat → Nat} {w : Nat → Int32} (hn : n ≤ 26) (p0 p1 : Int32) : pb_M n q w (fun post u => wpX_holes post u p0 p1) := by
  intro m co pa cl hm hR
  by_cases h0 : p0 < 0
  · exact ⟨-1, m, co, pa, cl, hm, hR, fun l pl hQ hW post h => br_t h0 h⟩
  · by_cases h1 : p0 ≤ nI n
    · by_cases h2 : p1 < 0
      · exact ⟨-2, m, co, pa, cl, hm, hR, fun l pl hQ hW post h => br_f h0 (br_t h1 (br_t h2 h))⟩
      · by_cases h3 : p1 ≤ 3
        · obtain ⟨t, ht, e⟩ := pb_cnt hn h0 h1
          subst e
          obtain ⟨r, m', co', pa', cl', hm', hR', hh⟩ := pb_living (q := q) (w := w) hn ht (nI t) p1 m co pa cl hm hR
          exact ⟨r, m', co', pa', cl', hm', hR', fun l pl hQ hW post h => br_f h0 (br_t h1 (br_f h2 (br_t h3 (hh l pl hQ hW _ h))))⟩
        · exact ⟨-2, m, co, pa, cl, hm, hR, fun l pl hQ hW post h => br_f h0 (br_t h1 (br_f h2 (br_f h3 h)))⟩
    · exact ⟨-1, m, co, pa, cl, hm, hR, fun l pl hQ hW post h => br_f h0 (br_f h1 h)⟩
theorem pb_lasting {n : Nat} {q : Nat → Nat} {w : Nat → Int32} (hn : n ≤ 26) (p0 p1 p2 : Int32) : pb_M n q w (fun post u => wpX_lasting post u p0 p1 p2) := by
  intro m co pa cl hm hR
  by_cases h0 : p0 < 0
  · exact ⟨-1, m, co, pa, cl, hm, hR, fun l pl hQ hW post h => br_t h0 h⟩
  · by_cases h4 : p1 < p0
    · exact ⟨-1, m, co, pa, cl, hm, hR, fun l pl hQ hW post h => br_f h0 (br_t h4 h)⟩
    · by_cases h1 : p1 ≤ nI n
      · by_cases h2 : p2 < 0
        · exact ⟨-2, m, co, pa, cl, hm, hR, fun l pl hQ hW post h => br_f h0 (br_f h4 (br_t h1 (br_t h2 h)))⟩
        · by_cases h3 : p2 ≤ 3
          · obtain ⟨t, ht, e⟩ := pb_cnt hn h0 (Int32.le_trans (Int32.not_lt.mp h4) h1)
            subst e
            obtain ⟨r, m', co', pa', cl', hm', hR', hh⟩ := pb_living (q := q) (w := w) hn ht p1 p2 m co pa cl hm hR
            exact ⟨r, m', co', pa', cl', hm', hR', fun l pl hQ hW post h => br_f h0 (br_f h4 (br_t h1 (br_f h2 (br_t h3 (hh l pl hQ hW _ h)))))⟩
          · exact ⟨-2, m, co, pa, cl, hm, hR, fun l pl hQ hW post h => br_f h0 (br_f h4 (br_t h1 (br_f h2 (br_f h3 h))))⟩
      · exact ⟨-1, m, co, pa, cl, hm, hR, fun l pl hQ hW post h => br_f h0 (br_f h4 (br_f h1 h))⟩
theorem pb_forever {n : Nat} {q : Nat → Nat} {w : Nat → Int32} (hn : n ≤ 26) (p0 : Int32) : pb_M n q w (fun post u => wpX_forever post u p0) := by
  intro m co pa cl hm hR
  by_cases h0 : p0 < 0
  · exact ⟨-1, m, co, pa, cl, hm, hR, fun l pl hQ hW post h => br_t h0 h⟩
  · by_cases h1 : p0 ≤ 3
    · obtain ⟨r, m', co', pa', cl', hm', hR', hh⟩ := pb_living (q := q) (w := w) hn (Nat.le_refl n) (nI n) p0 m co pa cl hm hR
      exact ⟨r, m', co', pa', cl', hm', hR', fun l pl hQ hW post h => br_f h0 (br_t h1 (hh l pl hQ hW _ h))⟩
    · exact ⟨-1, m, co, pa, cl, hm, hR, fun l pl hQ hW post h => br_f h0 (br_f h1 h)⟩
theorem pb_longest19 {n : Nat} {q : Nat → Nat} (hn : n ≤ 26) (x1 : Int32) (pa : Nat → Int32) : ∀ (j i : Nat) (z : Int32), i + j = n → ∃ r : Int32, ∀ (s : Int32) (l pl co cl : Nat → Int32), pb_Q n q l → ∀ (post : Int32 → St1 → Prop), post r (nI n, s, l, pl, co, pa, cl) → wX_longest_19 post x1 (nI n) s l pl co pa cl (j + 1) z (nI i) := by
  intro j
  induction j with
  | zero => exact fun i z hi => ⟨z, fun s l pl co cl hQ post h => pk_le n i (fun _ => h) (fun g => absurd g (by omega))⟩
  | succ j ih =>
    intro i z hi
    obtain ⟨r0, hr0⟩ := ih (i + 1) z (by omega)
    by_cases e : nI (q i) - 1 = x1
    · by_cases g1 : pa i ≤ nI i
      · refine ⟨r0, fun s l pl co cl hQ post h => pk_le n i (fun g => absurd g (by omega)) (fun _ => pb_dimQ hn (by omega) hQ (br_t e ⟨pk_in i 26 (by omega), ?_⟩))⟩
        rw [nI_clamp (show i < 2 ^ 31 by omega)]
        exact br_t g1 (nm_r (nI_1 i) (hr0 s l pl co cl hQ post h))
      · by_cases g2 : pa i - nI i ≤ z
        · refine ⟨r0, fun s l pl co cl hQ post h => pk_le n i (fun g => absurd g (by omega)) (fun _ => pb_dimQ hn (by omega) hQ (br_t e ⟨pk_in i 26 (by omega), ?_⟩))⟩
          rw [nI_clamp (show i < 2 ^ 31 by omega)]
          exact br_f g1 ⟨pk_in i 26 (by omega), br_t g2 (nm_r (nI_1 i) (hr0 s l pl co cl hQ post h))⟩
        · obtain ⟨r, hr⟩ := ih (i + 1) (pa i - nI i) (by omega)
          refine ⟨r, fun s l pl co cl hQ post h => pk_le n i (fun g => absurd g (by omega)) (fun _ => pb_dimQ hn (by omega) hQ (br_t e ⟨pk_in i 26 (by omega), ?_⟩))⟩
          rw [nI_clamp (show i < 2 ^ 31 by omega)]
          exact br_f g1 ⟨pk_in i 26 (by omega), br_f g2 ⟨pk_in i 26 (by omega), nm_e (nm_r (nI_1 i) (hr s l pl co cl hQ post h))⟩⟩
    · exact ⟨r0, fun s l pl co cl hQ post h => pk_le n i (fun g => absurd g (by omega)) (fun _ => pb_dimQ hn (by omega) hQ (br_f e (nm_r (nI_1 i) (hr0 s l pl co cl hQ post h))))⟩
theorem pb_longest {n : Nat} {q : Nat → Nat} {w : Nat → Int32} (hn : n ≤ 26) (p0 : Int32) : pb_M n q w (fun post u => wpX_longest post u p0) := by
  intro m co pa cl hm hR
  by_cases h0 : p0 < 0
  · exact ⟨-1, m, co, pa, cl, hm, hR, fun l pl hQ hW post h => br_t h0 h⟩
  · by_cases h1 : p0 ≤ 3
    · obtain ⟨co', pa', cl', hR', hs⟩ := pb_solve hn hm w co pa cl hR
      obtain ⟨r, hr⟩ := pb_longest19 (q := q) hn p0 pa' n 0 0 (by omega)
      exact ⟨r, n, co', pa', cl', Nat.le_refl n, hR', fun l pl hQ hW post h => br_f h0 (br_t h1 (hs l pl hW _ ⟨n + 1, hr _ l pl co' cl' hQ post h⟩))⟩
    · exact ⟨-1, m, co, pa, cl, hm, hR, fun l pl hQ hW post h => br_f h0 (br_f h1 h)⟩
theorem pb_isChain {n : Nat} {q : Nat → Nat} {w : Nat → Int32} (p0 : Int32) : pb_N n q w (fun post u => wpX_isChain post u p0) := by
  by_cases h0 : p0 < 0
  · exact ⟨0, fun s l pl co pa cl hQ hW post h => br_t h0 h⟩
  · by_cases h1 : ((1 : Int32) <<< (nI n &&& 31)) ≤ p0
    · exact ⟨0, fun s l pl co pa cl hQ hW post h => br_f h0 (br_t h1 h)⟩
    · exact ⟨1, fun s l pl co pa cl hQ hW post h => br_f h0 (br_f h1 h)⟩
theorem pb_isEven5 {n : Nat} {q : Nat → Nat} (hn : n ≤ 26) (x1 : Int32) : ∀ (j i : Nat) (z : Int32), i + j = n → ∃ r : Int32, ∀ (s : Int32) (l pl co pa cl : Nat → Int32), pb_Q n q l → ∀ (post : Int32 → Prop), post r → wX_isEven_5 post x1 (nI n) s l pl co pa cl (j + 1) z (nI i) := by
  intro j
  induction j with
  | zero => exact fun i z hi => ⟨1, fun s l pl co pa cl hQ post h => pk_le n i (fun _ => h) (fun g => absurd g (by omega))⟩
  | succ j ih =>
    intro i z hi
    by_cases e : (x1 >>> (nI i &&& 31)) &&& 1 = 1
    · obtain ⟨r, hr⟩ := ih (i + 1) (nI (q i) - 1) (by omega)
      by_cases g1 : z = -2
      · exact ⟨r, fun s l pl co pa cl hQ post h => pk_le n i (fun g => absurd g (by omega)) (fun _ => br_t e (pb_dimQ hn (by omega) hQ (br_t g1 (nm_r (nI_1 i) (hr s l pl co pa cl hQ post h)))))⟩
      · by_cases g2 : z = nI (q i) - 1
        · exact ⟨r, fun s l pl co pa cl hQ post h => pk_le n i (fun g => absurd g (by omega)) (fun _ => br_t e (pb_dimQ hn (by omega) hQ (br_f g1 (br_t g2 (nm_r (nI_1 i) (hr s l pl co pa cl hQ post h))))))⟩
        · exact ⟨0, fun s l pl co pa cl hQ post h => pk_le n i (fun g => absurd g (by omega)) (fun _ => br_t e (pb_dimQ hn (by omega) hQ (br_f g1 (br_f g2 h))))⟩
    · obtain ⟨r, hr⟩ := ih (i + 1) z (by omega)
      exact ⟨r, fun s l pl co pa cl hQ post h => pk_le n i (fun g => absurd g (by omega)) (fun _ => br_f e (nm_r (nI_1 i) (hr s l pl co pa cl hQ post h)))⟩
theorem pb_isEven {n : Nat} {q : Nat → Nat} {w : Nat → Int32} (hn : n ≤ 26) (p0 : Int32) : pb_N n q w (fun post u => wpX_isEven post u p0) := by
  obtain ⟨r, hr⟩ := pb_isEven5 (q := q) hn p0 n 0 (-2) (by omega)
  exact ⟨r, fun s l pl co pa cl hQ hW post h => ⟨n + 1, hr s l pl co pa cl hQ post h⟩⟩
theorem pb_borderOf4 {n : Nat} {w : Nat → Int32} (hn : n ≤ 26) (x1 : Int32) : ∀ (j i : Nat) (z : Int32), i + j = n → ∃ r : Int32, ∀ (s : Int32) (l pl co pa cl : Nat → Int32), pb_W n w l pl → ∀ (post : Int32 → Prop), post r → wX_borderOf_4 post x1 (nI n) s l pl co pa cl (j + 1) z (nI i) := by
  intro j
  induction j with
  | zero => exact fun i z hi => ⟨z, fun s l pl co pa cl hW post h => pk_le n i (fun _ => h) (fun g => absurd g (by omega))⟩
  | succ j ih =>
    intro i z hi
    by_cases e : (x1 >>> (nI i &&& 31)) &&& 1 = 1
    · obtain ⟨r, hr⟩ := ih (i + 1) (z ^^^ w i) (by omega)
      exact ⟨r, fun s l pl co pa cl hW post h => pk_le n i (fun g => absurd g (by omega)) (fun _ => br_t e (pb_sidesW hn (by omega) hW (nm_e (nm_r (nI_1 i) (hr s l pl co pa cl hW post h)))))⟩
    · obtain ⟨r, hr⟩ := ih (i + 1) z (by omega)
      exact ⟨r, fun s l pl co pa cl hW post h => pk_le n i (fun g => absurd g (by omega)) (fun _ => br_f e (nm_r (nI_1 i) (hr s l pl co pa cl hW post h)))⟩
theorem pb_borderOf {n : Nat} {q : Nat → Nat} {w : Nat → Int32} (hn : n ≤ 26) (p0 : Int32) : pb_N n q w (fun post u => wpX_borderOf post u p0) := by
  obtain ⟨r, hr⟩ := pb_borderOf4 (w := w) hn p0 n 0 0 (by omega)
  exact ⟨r, fun s l pl co pa cl hQ hW post h => ⟨n + 1, hr s l pl co pa cl hW post h⟩⟩
theorem pb_border {n : Nat} {q : Nat → Nat} {w : Nat → Int32} (hn : n ≤ 26) (p0 : Int32) : pb_N n q w (fun post u => wpX_border post u p0) := by
  obtain ⟨r1, h1⟩ := pb_isChain (n := n) (q := q) (w := w) p0
  obtain ⟨r2, h2⟩ := pb_isEven (q := q) (w := w) hn p0
  obtain ⟨r3, h3⟩ := pb_borderOf (q := q) (w := w) hn p0
  by_cases e1 : r1 = 0
  · exact ⟨-1, fun s l pl co pa cl hQ hW post h => by show wpX_border post _ p0; unfold wpX_border; exact h1 s l pl co pa cl hQ hW _ (br_t e1 h)⟩
  · by_cases e2 : r2 = 0
    · exact ⟨-2, fun s l pl co pa cl hQ hW post h => by show wpX_border post _ p0; unfold wpX_border; exact h1 s l pl co pa cl hQ hW _ (br_f e1 (h2 s l pl co pa cl hQ hW _ (br_t e2 h)))⟩
    · exact ⟨r3, fun s l pl co pa cl hQ hW post h => by show wpX_border post _ p0; unfold wpX_border; exact h1 s l pl co pa cl hQ hW _ (br_f e1 (h2 s l pl co pa cl hQ hW _ (br_f e2 (h3 s l pl co pa cl hQ hW _ h))))⟩
theorem pb_bounds44 {co cl : Nat → Int32} (hR : pb_R cl) : ∀ (j : Nat) (y : Int32), j ≤ 26 → ∃ r : Int32, ∀ (c s : Int32) (l pl pa : Nat → Int32) (post : Int32 → St1 → Prop), post r (c, s, l, pl, co, pa, cl) → wX_bounds_44 post c s l pl co pa cl (j + 1) y (nI j - 1) := by
  intro j
  induction j with
  | zero => exact fun y hj => ⟨1, fun c s l pl pa post h => br_t (by decide) h⟩
  | succ j ih =>
    intro y hj
    have em : nI j + (-1) = nI j - 1 := (Int32.sub_eq_add_neg (nI j) 1).symm
    rw [nI_pred]
    by_cases e : (y >>> (nI j &&& 31)) &&& 1 = 1
    · rcases hR j (by omega) with g | ⟨k, hk, g⟩
      · refine ⟨0, fun c s l pl pa post h => br_f (nI_pos (by omega)) (br_t e ⟨pk_in j 26 (by omega), ?_⟩)⟩
        rw [nI_clamp (show j < 2 ^ 31 by omega)]
        exact br_f g h
      · obtain ⟨r, hr⟩ := ih (y ^^^ co k) (by omega)
        refine ⟨r, fun c s l pl pa post h => br_f (nI_pos (by omega)) (br_t e ⟨pk_in j 26 (by omega), ?_⟩)⟩
        rw [nI_clamp (show j < 2 ^ 31 by omega), g, nI_clamp (show k < 2 ^ 31 by omega)]
        exact br_t (nI_pos' (by omega)) ⟨pk_in j 26 (by omega), pk_in k 26 hk, nm_e (nm_r em (hr c s l pl pa post h))⟩
    · obtain ⟨r, hr⟩ := ih y (by omega)
      exact ⟨r, fun c s l pl pa post h => br_f (nI_pos (by omega)) (br_f e (nm_r em (hr c s l pl pa post h)))⟩
theorem pb_bounds {n : Nat} {q : Nat → Nat} {w : Nat → Int32} (hn : n ≤ 26) (p0 : Int32) : pb_M n q w (fun post u => wpX_bounds post u p0) := by
  intro m co pa cl hm hR
  obtain ⟨r1, h1⟩ := pb_isChain (n := n) (q := q) (w := w) p0
  obtain ⟨r2, h2⟩ := pb_isEven (q := q) (w := w) hn p0
  obtain ⟨r3, h3⟩ := pb_borderOf (q := q) (w := w) hn p0
  by_cases e1 : r1 = 0
  · exact ⟨-1, m, co, pa, cl, hm, hR, fun l pl hQ hW post h => by show wpX_bounds post _ p0; unfold wpX_bounds; exact h1 _ l pl co pa cl hQ hW _ (br_t e1 h)⟩
  · by_cases e2 : r2 = 0
    · exact ⟨-2, m, co, pa, cl, hm, hR, fun l pl hQ hW post h => by show wpX_bounds post _ p0; unfold wpX_bounds; exact h1 _ l pl co pa cl hQ hW _ (br_f e1 (h2 _ l pl co pa cl hQ hW _ (br_t e2 h)))⟩
    · by_cases e3 : r3 = 0
      · obtain ⟨co', pa', cl', hR', hs⟩ := pb_solve hn hm w co pa cl hR
        obtain ⟨r, hr⟩ := pb_bounds44 (co := co') hR' n p0 hn
        exact ⟨r, n, co', pa', cl', Nat.le_refl n, hR', fun l pl hQ hW post h => by show wpX_bounds post _ p0; unfold wpX_bounds; exact h1 _ l pl co pa cl hQ hW _ (br_f e1 (h2 _ l pl co pa cl hQ hW _ (br_f e2 (h3 _ l pl co pa cl hQ hW _ (br_t e3 (hs l pl hW _ (nm_e ⟨n + 1, hr _ _ l pl pa' post h⟩)))))))⟩
      · exact ⟨2, m, co, pa, cl, hm, hR, fun l pl hQ hW post h => by show wpX_bounds post _ p0; unfold wpX_bounds; exact h1 _ l pl co pa cl hQ hW _ (br_f e1 (h2 _ l pl co pa cl hQ hW _ (br_f e2 (h3 _ l pl co pa cl hQ hW _ (br_f e3 h)))))⟩
theorem pb_isGood {post : Int32 → Prop} {s : Int32} {l pl co pa cl : Nat → Int32} {n i : Nat} (hn : n ≤ 26) (hi : i < n) (H : post 1) : wpX_isGood post (nI n, s, l, pl, co, pa, cl) (nI i) :=
  br_f (nI_pos (by omega)) (br_f (nI_ge hi (by omega)) H)
theorem pb_piece {post : Int32 → Prop} {s : Int32} {l pl co pa cl : Nat → Int32} {n i : Nat} (hn : n ≤ 26) (hi : i < n) (H : post (l i)) : wpX_piece post (nI n, s, l, pl, co, pa, cl) (nI i) := by
  unfold wpX_piece
  refine pb_isGood hn hi (br_f (by decide) ⟨pk_in i 26 (by omega), ?_⟩)
  rw [nI_clamp (show i < 2 ^ 31 by omega)]
  exact H
theorem pb_opens {n i : Nat} {q : Nat → Nat} {w : Nat → Int32} (hn : n ≤ 26) (hi : i < n) : pb_M n q w (fun post u => wpX_opens post u (nI i)) := by
  intro m co pa cl hm hR
  obtain ⟨co', pa', cl', hR', hs⟩ := pb_solve hn hm w co pa cl hR
  by_cases e : co' i = 0
  · refine ⟨1, n, co', pa', cl', Nat.le_refl n, hR', fun l pl hQ hW post h => ?_⟩
    show wpX_opens post _ (nI i)
    unfold wpX_opens
    refine pb_isGood hn hi (br_f (by decide) (hs l pl hW _ ⟨pk_in i 26 (by omega), ?_⟩))
    rw [nI_clamp (show i < 2 ^ 31 by omega)]
    exact br_t e h
  · refine ⟨0, n, co', pa', cl', Nat.le_refl n, hR', fun l pl hQ hW post h => ?_⟩
    show wpX_opens post _ (nI i)
    unfold wpX_opens
    refine pb_isGood hn hi (br_f (by decide) (hs l pl hW _ ⟨pk_in i 26 (by omega), ?_⟩))
    rw [nI_clamp (show i < 2 ^ 31 by omega)]
    exact br_f e h
theorem pb_partner {n i : Nat} {q : Nat → Nat} {w : Nat → Int32} (hn : n ≤ 26) (hi : i < n) : pb_M n q w (fun post u => wpX_partner post u (nI i)) := by
  intro m co pa cl hm hR
  obtain ⟨co', pa', cl', hR', hs⟩ := pb_solve hn hm w co pa cl hR
  refine ⟨pa' i, n, co', pa', cl', Nat.le_refl n, hR', fun l pl hQ hW post h => ?_⟩
  show wpX_partner post _ (nI i)
  unfold wpX_partner
  refine pb_isGood hn hi (br_f (by decide) (hs l pl hW _ ⟨pk_in i 26 (by omega), ?_⟩))
  rw [nI_clamp (show i < 2 ^ 31 by omega)]
  exact h
end
section
theorem pb_a260 {post : Int32 → St3 → Prop} {J : Int32 → Int32 → Int32 → Prop} {x5 x6 x7 x8 x11 c s c' s' : Int32} {l pl co pa cl l' pl' co' pa' cl' : Nat → Int32} {i : Nat} (H : ∀ a b, J a b (nI (i + 1))) : wL_alike_260 post J x5 x6 x7 x8 (nI i) x11 c s l pl co pa cl c' s' l' pl' co' pa' cl' := by
  unfold wL_alike_260
  exact br_c (fun _ => nm_e (nm_r (nI_1 i) (H _ _))) (fun _ => nm_r (nI_1 i) (H _ _))
theorem pb_a215 {post : Int32 → St3 → Prop} {J : Int32 → Int32 → Int32 → Prop} {x5 x6 x7 x8 x10 c s c' s' : Int32} {l pl co pa cl l' pl' co' pa' cl' : Nat → Int32} {i : Nat} (H : ∀ a b, J a b (nI (i + 1))) : ∀ (j k : Nat) (z : Int32), k + j = 6 → wL_alike_215 post J x5 x6 x7 x8 (nI i) x10 c s l pl co pa cl c' s' l' pl' co' pa' cl' (j + 1) z (nI k) := by
  intro j
  induction j with
  | zero => exact fun k z hk => pk_le 6 k (fun _ => br_c (fun _ => pb_a260 H) (fun _ => br_c (fun _ => pb_a260 H) (fun _ => pb_a260 H))) (fun g => absurd g (by omega))
  | succ j ih => exact fun k z hk => pk_le 6 k (fun g => absurd g (by omega)) (fun _ => nm_e (nm_r (nI_1 k) (ih (k + 1) _ (by omega))))
theorem pb_a194 {post : Int32 → St3 → Prop} {n m : Nat} {q : Nat → Nat} {w l pl l' pl' co pa cl : Nat → Int32} (hn : n ≤ 26) (hm : m ≤ n) (hR : pb_R cl) (hQ : pb_Q n q l) (hW : pb_W n w l pl) (hQ' : pb_Q n q l') (hW' : pb_W n w l' pl') (x5 : Int32)
    (H : ∀ (m' : Nat) (co' pa' cl' : Nat → Int32), m' ≤ n → pb_R cl' → post 1 (nI n, nI m', l, pl, co', pa', cl', nI n, nI m', l', pl', co', pa', cl')) :
    ∀ (j i : Nat) (x7 x8 : Int32), i + j = n → wL_alike_194 post x5 (nI n) (nI n) (nI m) l pl co pa cl (nI n) (nI m) l' pl' co pa cl (j + 1) x7 x8 (nI i) := by
  intro j
  induction j with
  | zero =>
    intro i x7 x8 hi
    obtain ⟨r1, h1⟩ := pb_border (q := q) (w := w) hn x7
    obtain ⟨r2, h2⟩ := pb_border (q := q) (w := w) hn x5
    obtain ⟨r3, m', co', pa', cl', hm', hR', h3⟩ := pb_bounds (q := q) (w := w) hn x7 m co pa cl hm hR
    refine pk_le n i (fun _ => ?_) (fun g => absurd g (by omega))
    exact h1 _ l pl co pa cl hQ hW _ (h1 _ l' pl' co pa cl hQ' hW' _ (br_t rfl (h3 l pl hQ hW _ (h3 l' pl' hQ' hW' _ (br_t rfl (h2 _ l pl co' pa' cl' hQ hW _ (h2 _ l' pl' co' pa' cl' hQ' hW' _ (br_t rfl (H m' co' pa' cl' hm' hR')))))))))
  | succ j ih =>
    intro i x7 x8 hi
    exact pk_le n i (fun g => absurd g (by omega)) (fun _ => pb_piece hn (by omega) ⟨7, pb_a215 (fun a b => ih (i + 1) a b (by omega)) 6 0 0 (by omega)⟩)
theorem pb_a118 {post : Int32 → St3 → Prop} {n : Nat} {q : Nat → Nat} {w l pl l' pl' : Nat → Int32} (hn : n ≤ 26) (hQ : pb_Q n q l) (hW : pb_W n w l pl) (hQ' : pb_Q n q l') (hW' : pb_W n w l' pl') (hT : ∀ i, i < n → ∃ x, x < 64 ∧ l i = nI x ∧ l' i = nI (pb_T x)) (x5 : Int32)
    (H : ∀ (m' : Nat) (co' pa' cl' : Nat → Int32), m' ≤ n → pb_R cl' → post 1 (nI n, nI m', l, pl, co', pa', cl', nI n, nI m', l', pl', co', pa', cl')) :
    ∀ (j i m : Nat) (co pa cl : Nat → Int32), i + j = n → m ≤ n → pb_R cl → wL_alike_118 post x5 (nI n) (j + 1) (nI i) (nI n) (nI m) l pl co pa cl (nI n) (nI m) l' pl' co pa cl := by
  intro j
  induction j with
  | zero =>
    intro i m co pa cl hi hm hR
    exact pk_le n i (fun _ => ⟨n + 1, pb_a194 hn hm hR hQ hW hQ' hW' x5 H n 0 0 (-1) (by omega)⟩) (fun g => absurd g (by omega))
  | succ j ih =>
    intro i m co pa cl hi hm hR
    obtain ⟨x, hx, e, e'⟩ := hT i (by omega)
    obtain ⟨r1, m1, co1, pa1, cl1, hm1, hR1, h1⟩ := pb_opens (q := q) (w := w) hn (show i < n by omega) m co pa cl hm hR
    obtain ⟨r2, m2, co2, pa2, cl2, hm2, hR2, h2⟩ := pb_partner (q := q) (w := w) hn (show i < n by omega) m1 co1 pa1 cl1 hm1 hR1
    refine pk_le n i (fun g => absurd g (by omega)) (fun _ => pb_piece hn (by omega) (pb_piece hn (by omega) ?_))
    rw [e, e']
    exact pb_turned hx (br_t rfl (h1 l pl hQ hW _ (h1 l' pl' hQ' hW' _ (br_t rfl (h2 l pl hQ hW _ (h2 l' pl' hQ' hW' _ (br_t rfl (nm_r (nI_1 i) (ih (i + 1) m2 co2 pa2 cl2 (by omega) hm2 hR2)))))))))
theorem pb_size {post : Int32 → Prop} {c s : Int32} {l pl co pa cl : Nat → Int32} (H : post c) : wpX_size post (c, s, l, pl, co, pa, cl) := H
theorem pb_alike {post : Int32 → St3 → Prop} {n m : Nat} {q : Nat → Nat} {w l pl l' pl' co pa cl : Nat → Int32} (hn : n ≤ 26) (hm : m ≤ n) (hR : pb_R cl) (hQ : pb_Q n q l) (hW : pb_W n w l pl) (hQ' : pb_Q n q l') (hW' : pb_W n w l' pl') (hT : ∀ i, i < n → ∃ x, x < 64 ∧ l i = nI x ∧ l' i = nI (pb_T x)) (p2 p3 p4 p5 : Int32)
    (H : ∀ (m' : Nat) (co' pa' cl' : Nat → Int32), m' ≤ n → pb_R cl' → post 1 (nI n, nI m', l, pl, co', pa', cl', nI n, nI m', l', pl', co', pa', cl')) :
    wpL_alike post (nI n, nI m, l, pl, co, pa, cl, nI n, nI m, l', pl', co, pa, cl) p2 p3 p4 p5 := by
  obtain ⟨r1, h1⟩ := pb_euler (q := q) (w := w) hn p2
  obtain ⟨r2, m2, co2, pa2, cl2, hm2, hR2, h2⟩ := pb_holes (q := q) (w := w) hn p2 p4 m co pa cl hm hR
  obtain ⟨r3, h3⟩ := pb_pieces (q := q) (w := w) hn p3 p4
  obtain ⟨r4, m4, co4, pa4, cl4, hm4, hR4, h4⟩ := pb_lasting (q := q) (w := w) hn p2 p3 p4 m2 co2 pa2 cl2 hm2 hR2
  obtain ⟨r5, m5, co5, pa5, cl5, hm5, hR5, h5⟩ := pb_forever (q := q) (w := w) hn p4 m4 co4 pa4 cl4 hm4 hR4
  obtain ⟨r6, m6, co6, pa6, cl6, hm6, hR6, h6⟩ := pb_longest (q := q) (w := w) hn p4 m5 co5 pa5 cl5 hm5 hR5
  unfold wpL_alike
  refine pb_size (pb_size (br_t rfl ?_))
  refine h1 _ l pl co pa cl hQ hW _ (h1 _ l' pl' co pa cl hQ' hW' _ (br_t rfl ?_))
  refine h2 l pl hQ hW _ (h2 l' pl' hQ' hW' _ (br_t rfl ?_))
  refine h3 _ l pl co2 pa2 cl2 hQ hW _ (h3 _ l' pl' co2 pa2 cl2 hQ' hW' _ (br_t rfl ?_))
  refine h4 l pl hQ hW _ (h4 l' pl' hQ' hW' _ (br_t rfl ?_))
  refine h5 l pl hQ hW _ (h5 l' pl' hQ' hW' _ (br_t rfl ?_))
  refine h6 l pl hQ hW _ (h6 l' pl' hQ' hW' _ (br_t rfl ?_))
  exact ⟨n + 1, pb_a118 hn hQ hW hQ' hW' hT p5 H n 0 m6 co6 pa6 cl6 (by omega) hm6 hR6⟩
end
section
theorem pb_add {post : Int32 → St1 → Prop} {s : Int32} {l pl co pa cl : Nat → Int32} {n x : Nat} (hn : n ≤ 26) (hx : x < 64)
    (H1 : ¬ pb_pc x → post (-1) (nI n, s, l, pl, co, pa, cl))
    (H2 : pb_pc x → ¬ pl x < 0 → post (-2) (nI n, s, l, pl, co, pa, cl))
    (H3 : pb_pc x → pl x < 0 → ¬ pb_hs pl x → post (-3) (nI n, s, l, pl, co, pa, cl))
    (H4 : pb_pc x → pl x < 0 → pb_hs pl x → n = 26 → post (-4) (nI n, s, l, pl, co, pa, cl))
    (H5 : pb_pc x → pl x < 0 → pb_hs pl x → n < 26 → post (nI n) (nI (n + 1), s, upd l n (nI x), upd pl x (nI n), co, pa, cl)) :
    wpX_add post (nI n, s, l, pl, co, pa, cl) (nI x) := by
  unfold wpX_add
  refine pb_isPiece hx (fun h => br_f (by decide) ⟨pk_in x 64 hx, ?_⟩) (fun h => br_t rfl (H1 h))
  rw [nI_clamp (show x < 2 ^ 31 by omega)]
  refine br_c (fun g => pb_hasSides hx (fun hs => br_f (by decide) ?_) (fun hs => br_t rfl (H3 h g hs))) (fun g => H2 h g)
  refine pk_eq n 26 (fun e => H4 h g hs e) (fun e => pb_enter (by omega) hx ?_)
  show post (nI (n + 1) - 1) _
  rw [nI_pred]
  exact H5 h g hs (by omega)
/-- a piece entered -/
def pb_E (u : Nat × (Nat → Int32) × (Nat → Int32)) (x : Nat) : Nat × (Nat → Int32) × (Nat → Int32) := (u.1 + 1, upd u.2.1 u.1 (nI x), upd u.2.2 x (nI u.1))
/-- fill, after the parts 1..k -/
def pb_F (s : Nat) (u : Nat × (Nat → Int32) × (Nat → Int32)) : Nat → Nat × (Nat → Int32) × (Nat → Int32)
  | 0 => u
  | k + 1 => if (k + 1) &&& s = k + 1 ∧ (pb_F s u k).2.2 (k + 1) < 0 then pb_E (pb_F s u k) (k + 1) else pb_F s u k
theorem pb_F_y {s k : Nat} {u : Nat × (Nat → Int32) × (Nat → Int32)} (h : (k + 1) &&& s = k + 1 ∧ (pb_F s u k).2.2 (k + 1) < 0) : pb_F s u (k + 1) = pb_E (pb_F s u k) (k + 1) := by
  show (if _ then _ else _) = _
  rw [if_pos h]
theorem pb_F_n {s k : Nat} {u : Nat × (Nat → Int32) × (Nat → Int32)} (h : ¬ ((k + 1) &&& s = k + 1 ∧ (pb_F s u k).2.2 (k + 1) < 0)) : pb_F s u (k + 1) = pb_F s u k := by
  show (if _ then _ else _) = _
  rw [if_neg h]
theorem pb_F_pl (s : Nat) (u : Nat × (Nat → Int32) × (Nat → Int32)) : ∀ k y, k < y → (pb_F s u k).2.2 y = u.2.2 y := by
  intro k
  induction k with
  | zero => exact fun y _ => rfl
  | succ k ih =>
    intro y hy
    by_cases c : (k + 1) &&& s = k + 1 ∧ (pb_F s u k).2.2 (k + 1) < 0
    · rw [pb_F_y c]
      show upd (pb_F s u k).2.2 (k + 1) (nI (pb_F s u k).1) y = _
      rw [pk_un (by omega)]
      exact ih y (by omega)
    · rw [pb_F_n c]
      exact ih y (by omega)
theorem pb_F_c (s : Nat) (u : Nat × (Nat → Int32) × (Nat → Int32)) : ∀ k, (pb_F s u k).1 = u.1 + pb_c s u.2.2 k := by
  intro k
  induction k with
  | zero =>
    rw [pb_c_0]
    rfl
  | succ k ih =>
    have e := pb_F_pl s u k (k + 1) (by omega)
    by_cases c : (k + 1) &&& s = k + 1 ∧ (pb_F s u k).2.2 (k + 1) < 0
    · have c' : (k + 1) &&& s = k + 1 ∧ u.2.2 (k + 1) < 0 := by rw [← e]; exact c
      rw [pb_F_y c, pb_c_y c']
      show (pb_F s u k).1 + 1 = _
      omega
    · have c' : ¬ ((k + 1) &&& s = k + 1 ∧ u.2.2 (k + 1) < 0) := by rw [← e]; exact c
      rw [pb_F_n c, pb_c_n c']
      exact ih
theorem pb_F_up (s : Nat) (u : Nat × (Nat → Int32) × (Nat → Int32)) (k : Nat) : ∀ j, (pb_F s u k).1 ≤ (pb_F s u (k + j)).1 := by
  intro j
  rw [pb_F_c, pb_F_c]
  have := pb_c_mono s u.2.2 k j
  omega
theorem pb_F_l (s : Nat) (u : Nat × (Nat → Int32) × (Nat → Int32)) (k i : Nat) (hi : i < (pb_F s u k).1) : ∀ j, (pb_F s u (k + j)).2.1 i = (pb_F s u k).2.1 i := by
  intro j
  induction j with
  | zero => rfl
  | succ j ih =>
    rw [← Nat.add_assoc]
    by_cases c : (k + j + 1) &&& s = k + j + 1 ∧ (pb_F s u (k + j)).2.2 (k + j + 1) < 0
    · rw [pb_F_y c]
      show upd (pb_F s u (k + j)).2.1 (pb_F s u (k + j)).1 (nI (k + j + 1)) i = _
      have := pb_F_up s u k j
      rw [pk_un (by omega)]
      exact ih
    · rw [pb_F_n c]
      exact ih
theorem pb_F_in (s : Nat) (u : Nat × (Nat → Int32) × (Nat → Int32)) (hb : ∀ k, (pb_F s u k).1 < 2 ^ 31) : ∀ k y, 0 < y → y ≤ k → y &&& s = y → 0 ≤ (pb_F s u k).2.2 y := by
  intro k
  induction k with
  | zero => exact fun y h1 h2 => absurd h2 (by omega)
  | succ k ih =>
    intro y h1 h2 h3
    by_cases c : (k + 1) &&& s = k + 1 ∧ (pb_F s u k).2.2 (k + 1) < 0
    · rw [pb_F_y c]
      show 0 ≤ upd (pb_F s u k).2.2 (k + 1) (nI (pb_F s u k).1) y
      by_cases e : y = k + 1
      · rw [e, pk_us]
        exact nI_pos' (hb k)
      · rw [pk_un e]
        exact ih y h1 (by omega) h3
    · rw [pb_F_n c]
      by_cases e : y = k + 1
      · rw [e] at h3 ⊢
        exact Int32.not_lt.mp (fun t => c ⟨h3, t⟩)
      · exact ih y h1 (by omega) h3
theorem pb_c_le (s : Nat) (pl : Nat → Int32) (k : Nat) : pb_c s pl k ≤ k + 1 := by
  unfold pb_c
  have h := List.countP_le_length (p := fun y => decide (0 < y ∧ y &&& s = y ∧ pl y < 0)) (l := List.range (k + 1))
  rw [List.length_range] at h
  exact h
theorem pb_F_id {s : Nat} {u : Nat × (Nat → Int32) × (Nat → Int32)} (h : ∀ y, 0 < y → y < 64 → y &&& s = y → 0 ≤ u.2.2 y) : ∀ k, k < 64 → pb_F s u k = u ∧ pb_c s u.2.2 k = 0 := by
  intro k
  induction k with
  | zero => exact fun _ => ⟨rfl, pb_c_0 s u.2.2⟩
  | succ k ih =>
    intro hk
    obtain ⟨i1, i2⟩ := ih (by omega)
    have c : ¬ ((k + 1) &&& s = k + 1 ∧ u.2.2 (k + 1) < 0) := fun t => Int32.not_lt.mpr (h (k + 1) (by omega) hk t.1) t.2
    refine ⟨?_, ?_⟩
    · rw [pb_F_n (by rw [i1]; exact c), i1]
    · rw [pb_c_n c, i2]
theorem pb_fill65 {s : Nat} (hs : s < 64) {u : Nat × (Nat → Int32) × (Nat → Int32)} (hb : (pb_F s u s).1 ≤ 26) {post : Int32 → St1 → Prop} {sv : Int32} {co pa cl : Nat → Int32}
    (H : post (nI (pb_F s u s).1) (nI (pb_F s u s).1, sv, (pb_F s u s).2.1, (pb_F s u s).2.2, co, pa, cl)) :
    ∀ j k, k + j = s → wX_fill_65 post (nI s) (j + 1) (nI (k + 1)) (nI (pb_F s u k).1) sv (pb_F s u k).2.1 (pb_F s u k).2.2 co pa cl := by
  intro j
  induction j with
  | zero =>
    intro k hk
    have e : k = s := by omega
    subst e
    exact pk_lt k (k + 1) (fun _ => H) (fun g => absurd g (by omega))
  | succ j ih =>
    intro k hk
    have t := ih (k + 1) (by omega)
    refine pk_lt s (k + 1) (fun g => absurd g (by omega)) (fun _ => ek_if (pb_sub_i s hs (k + 1) (by omega)) (fun c => ⟨pk_in (k + 1) 64 (by omega), ?_⟩) (fun c => nm_r (nI_1 (k + 1)) ?_))
    · rw [nI_clamp (show k + 1 < 2 ^ 31 by omega)]
      refine br_c (fun g => nm_r (nI_1 (k + 1)) ?_) (fun g => ?_)
      · rw [pb_F_n (fun z => Int32.not_lt.mpr g z.2)] at t
        exact t
      · have cc : (k + 1) &&& s = k + 1 ∧ (pb_F s u k).2.2 (k + 1) < 0 := ⟨c, Int32.not_le.mp g⟩
        have up := pb_F_up s u (k + 1) (s - (k + 1))
        rw [show k + 1 + (s - (k + 1)) = s by omega, pb_F_y cc] at up
        have up' : (pb_F s u k).1 + 1 ≤ (pb_F s u s).1 := up
        rw [pb_F_y cc] at t
        exact pb_enter (by omega) (by omega) (nm_r (nI_1 (k + 1)) t)
    · rw [pb_F_n (fun z => c z.1)] at t
      exact t
theorem pb_fill13 {s n : Nat} (hs : s < 64) (hn : n ≤ 26) {post : Int32 → St1 → Prop} {sv : Int32} {l pl co pa cl : Nat → Int32}
    (H2 : 26 < n + pb_c s pl s → post (-2) (nI n, sv, l, pl, co, pa, cl))
    (H3 : n + pb_c s pl s ≤ 26 → ∃ fu, wX_fill_65 post (nI s) fu 1 (nI n) sv l pl co pa cl) :
    ∀ j k, k + j = s → wX_fill_13 post (nI s) (nI n) sv l pl co pa cl (j + 1) (nI (pb_c s pl k)) (nI (k + 1)) := by
  intro j
  induction j with
  | zero =>
    intro k hk
    have e : k = s := by omega
    subst e
    have hc := pb_c_le k pl k
    exact pk_lt k (k + 1) (fun _ => pk_le (n + pb_c k pl k) 26 (fun z => H3 z) (fun z => H2 z) (nI_add _ _)) (fun g => absurd g (by omega))
  | succ j ih =>
    intro k hk
    have t := ih (k + 1) (by omega)
    refine pk_lt s (k + 1) (fun g => absurd g (by omega)) (fun _ => ek_if (pb_sub_i s hs (k + 1) (by omega)) (fun c => ⟨pk_in (k + 1) 64 (by omega), ?_⟩) (fun c => ?_))
    · rw [nI_clamp (show k + 1 < 2 ^ 31 by omega)]
      refine br_c (fun g => ?_) (fun g => ?_)
      · rw [pb_c_n (fun z => Int32.not_lt.mpr g z.2)] at t
        exact nm_r (Int32.add_zero _) (nm_r (nI_1 (k + 1)) t)
      · rw [pb_c_y ⟨c, Int32.not_le.mp g⟩] at t
        exact nm_r (nI_1 _) (nm_r (nI_1 (k + 1)) t)
    · rw [pb_c_n (fun z => c z.1)] at t
      exact nm_r (Int32.add_zero _) (nm_r (nI_1 (k + 1)) t)
theorem pb_fill {s n : Nat} (hs : s < 64) (hn : n ≤ 26) {post : Int32 → St1 → Prop} {sv : Int32} {l pl co pa cl : Nat → Int32}
    (H1 : ¬ pb_pc s → post (-1) (nI n, sv, l, pl, co, pa, cl))
    (H2 : pb_pc s → 26 < n + pb_c s pl s → post (-2) (nI n, sv, l, pl, co, pa, cl))
    (H3 : pb_pc s → n + pb_c s pl s ≤ 26 → post (nI (pb_F s (n, l, pl) s).1) (nI (pb_F s (n, l, pl) s).1, sv, (pb_F s (n, l, pl) s).2.1, (pb_F s (n, l, pl) s).2.2, co, pa, cl)) :
    wpX_fill post (nI n, sv, l, pl, co, pa, cl) (nI s) := by
  unfold wpX_fill
  refine pb_isPiece hs (fun h => br_f (by decide) ⟨s + 1, ?_⟩) (fun h => br_t rfl (H1 h))
  have z := pb_fill13 hs hn (H2 h) (fun g => ⟨s + 1, pb_fill65 hs (u := (n, l, pl)) (by rw [pb_F_c]; exact g) (H3 h g) s 0 (by omega)⟩) s 0 (by omega)
  rw [pb_c_0] at z
  exact z
theorem pb_undo {post : Int32 → St1 → Prop} {n m : Nat} {l pl co pa cl : Nat → Int32} (hn : n ≤ 26) (hm : m ≤ n)
    (H0 : n = 0 → post (-1) (nI n, nI m, l, pl, co, pa, cl))
    (H1 : ∀ t, n = t + 1 → ∃ x, x < 64 ∧ l t = nI x ∧ post (nI x) (nI t, nI (if m ≤ t then m else 0), l, upd pl x (-2), co, pa, cl)) :
    wpX_undo post (nI n, nI m, l, pl, co, pa, cl) := by
  refine pk_eq n 0 (fun e => H0 e) (fun e => ?_)
  obtain ⟨t, ht⟩ : ∃ t, n = t + 1 := ⟨n - 1, by omega⟩
  obtain ⟨x, hx, hl, hp⟩ := H1 t ht
  refine nm_r (e' := nI t) (by rw [ht]; exact nI_pred t) ⟨pk_in t 26 (by omega), ?_⟩
  rw [nI_clamp (show t < 2 ^ 31 by omega), hl]
  refine ⟨pk_in x 64 hx, ?_⟩
  rw [nI_clamp (show x < 2 ^ 31 by omega)]
  refine nm_e (pk_le m t (fun g => ⟨pk_in t 26 (by omega), ?_⟩) (fun g => ⟨pk_in t 26 (by omega), ?_⟩))
  · rw [if_pos g] at hp
    exact hp
  · rw [if_neg (by omega)] at hp
    exact hp
theorem pb_init {post : St1 → Prop} {mc ms : Nat} (h1 : 5 ≤ mc) (h2 : 168 ≤ ms) (H : ∀ a : Nat → Int32, (∀ j, j < 64 → a j = -2) → post (0, 0, (fun _ => 0), a, (fun _ => 0), (fun _ => 0), (fun _ => 0))) : wpX_init post mc ms (0, 0) := by
  refine ⟨by omega, by omega, by omega, by omega, by omega, by omega, by omega, by omega, by omega, by omega, ?_⟩
  refine pk_loop (fun n i a => wX_init_46 post mc ms 5 168 0 0 n (nI i) (fun _ => 0) a (fun _ => 0) (fun _ => 0) (fun _ => 0)) (fun i a => ∀ j, j < i → a j = -2) 64 0 (fun _ => 0) (by omega) (fun j hj => absurd hj (by omega)) ?_ ?_
  · intro n a h
    exact pk_le 64 64 (fun _ => H a h) (fun z => absurd z (by omega))
  · intro n i a hi h hw
    refine pk_le 64 i (fun z => absurd z (by omega)) (fun _ => ⟨pk_in i 64 hi, ?_⟩)
    rw [nI_clamp (show i < 2 ^ 31 by omega)]
    refine nm_e (nm_r (nI_1 i) (hw _ (fun j hj => ?_)))
    by_cases e : j = i
    · rw [e, pk_us]
    · rw [pk_un e]
      exact h j (by omega)
end
section
/-- the two objects: b is a's mirror -/
def pb_RR (n m : Nat) (l pl l' pl' cl : Nat → Int32) : Prop := n ≤ 26 ∧ m ≤ n ∧ pb_R cl ∧ (∀ i, i < n → ∃ x, pb_pc x ∧ l i = nI x ∧ l' i = nI (pb_T x)) ∧ (∀ x, x < 64 → pl' (pb_T x) = pl x)
theorem pb_RR_up {n m x : Nat} {l pl l' pl' cl : Nat → Int32} (h : pb_RR n m l pl l' pl' cl) (hn : n < 26) (hx : pb_pc x) : pb_RR (n + 1) m (upd l n (nI x)) (upd pl x (nI n)) (upd l' n (nI (pb_T x))) (upd pl' (pb_T x) (nI n)) cl := by
  obtain ⟨_, h2, h3, h4, h5⟩ := h
  refine ⟨by omega, by omega, h3, fun i hi => ?_, fun y hy => ?_⟩
  · by_cases e : i = n
    · rw [e, pk_us, pk_us]
      exact ⟨x, hx, rfl, rfl⟩
    · rw [pk_un e, pk_un e]
      exact h4 i (by omega)
  · by_cases e : y = x
    · rw [e, pk_us, pk_us]
    · rw [pk_un e, pk_un (fun z => e ((pb_inj hy hx.2.1).mp z))]
      exact h5 y hy
theorem pb_RR_dn {t m m' x : Nat} {l pl l' pl' cl : Nat → Int32} (h : pb_RR (t + 1) m l pl l' pl' cl) (hm : m' ≤ t) (hx : x < 64) : pb_RR t m' l (upd pl x (-2)) l' (upd pl' (pb_T x) (-2)) cl := by
  obtain ⟨h1, _, h3, h4, h5⟩ := h
  refine ⟨by omega, hm, h3, fun i hi => h4 i (by omega), fun y hy => ?_⟩
  by_cases e : y = x
  · rw [e, pk_us, pk_us]
  · rw [pk_un e, pk_un (fun z => e ((pb_inj hy hx).mp z))]
    exact h5 y hy
theorem pb_view {n m : Nat} {l pl l' pl' cl : Nat → Int32} (h : pb_RR n m l pl l' pl' cl) : ∃ (q : Nat → Nat) (w : Nat → Int32), pb_Q n q l ∧ pb_W n w l pl ∧ pb_Q n q l' ∧ pb_W n w l' pl' ∧ ∀ i, i < n → ∃ x, x < 64 ∧ l i = nI x ∧ l' i = nI (pb_T x) := by
  obtain ⟨h1, h2, h3, h4, h5⟩ := h
  refine ⟨fun i => pb_P (l i).toNatClampNeg, fun i => pb_w pl (l i).toNatClampNeg, fun i hi => ?_, fun i hi => ?_, fun i hi => ?_, fun i hi => ?_, fun i hi => ?_⟩
  all_goals
    obtain ⟨x, hx, e, e'⟩ := h4 i hi
    have hx' := hx.2.1
  · exact ⟨x, hx', e, by dsimp only; rw [e, nI_clamp (by omega)]⟩
  · exact ⟨x, hx', e, by dsimp only; rw [e, nI_clamp (by omega)]⟩
  · exact ⟨pb_T x, pb_T_lt x hx', e', by dsimp only; rw [e, nI_clamp (by omega), pb_PT x hx']⟩
  · exact ⟨pb_T x, pb_T_lt x hx', e', by dsimp only; rw [e, nI_clamp (by omega), pb_w_T h5 hx']⟩
  · exact ⟨x, hx', e, e'⟩
theorem pb_254 {L k kc ks : Nat} {xs : Nat → Int32} {x5 : Int32} {J : Int32 → Int32 → Int32 → (Nat → Int32) → (Nat → Int32) → (Nat → Int32) → (Nat → Int32) → (Nat → Int32) → Int32 → Int32 → (Nat → Int32) → (Nat → Int32) → (Nat → Int32) → (Nat → Int32) → (Nat → Int32) → Prop} (hL : L ≤ 260) (hk : k + 1 < L)
    (HJ : ∀ (n m : Nat) (l pl l' pl' co pa cl : Nat → Int32), pb_RR n m l pl l' pl' cl → J (nI (k + 2)) (nI n) (nI m) l pl co pa cl (nI n) (nI m) l' pl' co pa cl)
    {n m : Nat} {l pl l' pl' co pa cl : Nat → Int32} (h : pb_RR n m l pl l' pl' cl) : wL_law_254 (fun r => r = 1) L xs J (nI k) x5 kc ks (nI n) (nI m) l pl co pa cl (nI n) (nI m) l' pl' co pa cl := by
  have e2 : nI k + 2 = nI (k + 2) := nI_add k 2
  obtain ⟨q, w, hQ, hW, hQ', hW', hT⟩ := pb_view h
  obtain ⟨h1, h2, h3, h4, h5⟩ := h
  unfold wL_law_254
  refine ⟨pk_in k L (by omega), nm_e ⟨pk_in k L (by omega), nm_e ⟨pk_in k L (by omega), br_c (fun _ => ⟨pk_in k L (by omega), ?_⟩) (fun _ => nm_r e2 (HJ n m l pl l' pl' co pa cl ⟨h1, h2, h3, h4, h5⟩))⟩⟩⟩
  exact pb_alike h1 h2 h3 hQ hW hQ' hW' hT _ _ _ _ (fun m' co' pa' cl' hm' hR' => br_f (by decide) (nm_r e2 (HJ n m' l pl l' pl' co' pa' cl' ⟨h1, hm', hR', h4, h5⟩)))
theorem pb_add2 {n m z : Nat} {l pl l' pl' co pa cl : Nat → Int32} (h : pb_RR n m l pl l' pl' cl) (hz : z < 64) : ∃ (r : Int32) (n1 : Nat) (l1 pl1 l2 pl2 : Nat → Int32), pb_RR n1 m l1 pl1 l2 pl2 cl ∧
    (∀ post : Int32 → St1 → Prop, post r (nI n1, nI m, l1, pl1, co, pa, cl) → wpX_add post (nI n, nI m, l, pl, co, pa, cl) (nI z)) ∧
    (∀ post : Int32 → St1 → Prop, post r (nI n1, nI m, l2, pl2, co, pa, cl) → wpX_add post (nI n, nI m, l', pl', co, pa, cl) (nI (pb_T z))) := by
  have hn := h.1
  have hp := h.2.2.2.2
  have a1 := pb_pcT hz
  have a2 : pl' (pb_T z) = pl z := hp z hz
  have a3 := pb_hs_T hp hz
  have hT := pb_T_lt z hz
  by_cases c1 : pb_pc z
  · by_cases c2 : pl z < 0
    · by_cases c3 : pb_hs pl z
      · by_cases c4 : n = 26
        · exact ⟨-4, n, l, pl, l', pl', h, fun post H => pb_add hn hz (fun g => absurd c1 g) (fun _ g => absurd c2 g) (fun _ _ g => absurd c3 g) (fun _ _ _ _ => H) (fun _ _ _ g => absurd g (by omega)),
            fun post H => pb_add hn hT (fun g => absurd (a1.mpr c1) g) (fun _ g => absurd c2 (by rw [← a2]; exact g)) (fun _ _ g => absurd (a3.mpr c3) g) (fun _ _ _ _ => H) (fun _ _ _ g => absurd g (by omega))⟩
        · exact ⟨nI n, n + 1, _, _, _, _, pb_RR_up h (by omega) c1, fun post H => pb_add hn hz (fun g => absurd c1 g) (fun _ g => absurd c2 g) (fun _ _ g => absurd c3 g) (fun _ _ _ g => absurd g c4) (fun _ _ _ _ => H),
            fun post H => pb_add hn hT (fun g => absurd (a1.mpr c1) g) (fun _ g => absurd c2 (by rw [← a2]; exact g)) (fun _ _ g => absurd (a3.mpr c3) g) (fun _ _ _ g => absurd g c4) (fun _ _ _ _ => H)⟩
      · exact ⟨-3, n, l, pl, l', pl', h, fun post H => pb_add hn hz (fun g => absurd c1 g) (fun _ g => absurd c2 g) (fun _ _ _ => H) (fun _ _ g => absurd g c3) (fun _ _ g => absurd g c3),
          fun post H => pb_add hn hT (fun g => absurd (a1.mpr c1) g) (fun _ g => absurd c2 (by rw [← a2]; exact g)) (fun _ _ _ => H) (fun _ _ g => absurd (a3.mp g) c3) (fun _ _ g => absurd (a3.mp g) c3)⟩
    · exact ⟨-2, n, l, pl, l', pl', h, fun post H => pb_add hn hz (fun g => absurd c1 g) (fun _ _ => H) (fun _ g => absurd g c2) (fun _ g => absurd g c2) (fun _ g => absurd g c2),
        fun post H => pb_add hn hT (fun g => absurd (a1.mpr c1) g) (fun _ _ => H) (fun _ g => absurd (by rw [← a2]; exact g) c2) (fun _ g => absurd (by rw [← a2]; exact g) c2) (fun _ g => absurd (by rw [← a2]; exact g) c2)⟩
  · exact ⟨-1, n, l, pl, l', pl', h, fun post H => pb_add hn hz (fun _ => H) (fun g => absurd g c1) (fun g => absurd g c1) (fun g => absurd g c1) (fun g => absurd g c1),
      fun post H => pb_add hn hT (fun _ => H) (fun g => absurd (a1.mp g) c1) (fun g => absurd (a1.mp g) c1) (fun g => absurd (a1.mp g) c1) (fun g => absurd (a1.mp g) c1)⟩
theorem pb_153 {L kc ks s m : Nat} {xs : Nat → Int32} {x3 x5 : Int32} {J : Int32 → Int32 → Int32 → (Nat → Int32) → (Nat → Int32) → (Nat → Int32) → (Nat → Int32) → (Nat → Int32) → Int32 → Int32 → (Nat → Int32) → (Nat → Int32) → (Nat → Int32) → (Nat → Int32) → (Nat → Int32) → Prop} {u : Nat × (Nat → Int32) × (Nat → Int32)} {co pa cl : Nat → Int32} (hs : s < 64) (hpc : pb_pc s) (hb : (pb_F s u s).1 ≤ 26)
    (hB : ∀ k, (pb_F s u k).1 < 2 ^ 31)
    (H : ∀ (l' pl' : Nat → Int32), pb_RR (pb_F s u s).1 m (pb_F s u s).2.1 (pb_F s u s).2.2 l' pl' cl → wL_law_254 (fun r => r = 1) L xs J x3 x5 kc ks (nI (pb_F s u s).1) (nI m) (pb_F s u s).2.1 (pb_F s u s).2.2 co pa cl (nI (pb_F s u s).1) (nI m) l' pl' co pa cl) :
    ∀ (j k f : Nat) (l' pl' : Nat → Int32), k + j = s → (pb_F s u s).1 < (pb_F s u k).1 + f → pb_RR (pb_F s u k).1 m (pb_F s u k).2.1 (pb_F s u k).2.2 l' pl' cl →
      wL_law_153 (fun r => r = 1) L xs J x3 x5 (nI s) (nI (pb_F s u s).1) kc ks f (nI (pb_F s u k).1) (nI (pb_F s u s).1) (nI m) (pb_F s u s).2.1 (pb_F s u s).2.2 co pa cl (nI (pb_F s u k).1) (nI m) l' pl' co pa cl := by
  intro j
  induction j with
  | zero =>
    intro k f l' pl' hk hf h
    have e : k = s := by omega
    subst e
    cases f with
    | zero => exact absurd hf (by omega)
    | succ f =>
      refine pk_le (pb_F k u k).1 (pb_F k u k).1 (fun _ => pb_turned hs ?_) (fun g => absurd g (by omega))
      have all : ∀ y, 0 < y → y < 64 → y &&& pb_T k = y → 0 ≤ pl' y := by
        intro y y0 y1 y2
        have ey := pb_TT y y1
        have ty := pb_T_lt y y1
        have q1 : pb_T y &&& k = pb_T y := by
          have := (pb_sub_T k hs (pb_T y) ty).mp (by rw [ey]; exact y2)
          exact this
        have q2 : 0 < pb_T y := by
          rcases Nat.eq_zero_or_pos (pb_T y) with z | z
          · exact absurd ((pb_T0 y y1).mp z) (by omega)
          · exact z
        have q3 := pb_F_in k u hB k (pb_T y) q2 (pb_sub_le k hs (pb_T y) ty q1) q1
        rw [← h.2.2.2.2 (pb_T y) ty, ey] at q3
        exact q3
      obtain ⟨i1, i2⟩ := pb_F_id (s := pb_T k) (u := ((pb_F k u k).1, l', pl')) all (pb_T k) (pb_T_lt k hs)
      refine pb_fill (pb_T_lt k hs) hb (fun g => absurd ((pb_pcT hs).mpr hpc) g) (fun _ g => ?_) (fun _ _ => ?_)
      · have i2' : pb_c (pb_T k) pl' (pb_T k) = 0 := i2
        exact absurd g (by omega)
      · rw [i1]
        exact br_t rfl (H l' pl' h)
  | succ j ih =>
    intro k f l' pl' hk hf h
    by_cases c : (k + 1) &&& s = k + 1 ∧ (pb_F s u k).2.2 (k + 1) < 0
    · have eF := pb_F_y c
      have up := pb_F_up s u (k + 1) (s - (k + 1))
      rw [show k + 1 + (s - (k + 1)) = s by omega, eF] at up
      have up' : (pb_F s u k).1 + 1 ≤ (pb_F s u s).1 := up
      have el := pb_F_l s u (k + 1) (pb_F s u k).1 (by rw [eF]; exact Nat.lt_succ_self _) (s - (k + 1))
      rw [show k + 1 + (s - (k + 1)) = s by omega, eF] at el
      have el' : (pb_F s u s).2.1 (pb_F s u k).1 = nI (k + 1) := by
        rw [el]
        exact pk_us
      have hk1 : k + 1 < 64 := by omega
      have hpk : pb_pc (k + 1) := ⟨by omega, hk1, Nat.le_trans (pb_sub_P s hs (k + 1) hk1 c.1) hpc.2.2⟩
      have hside : pb_hs (pb_F s u k).2.2 (k + 1) := by
        intro p hp
        have s1 := pb_S_le (k + 1) hk1 p hp
        by_cases d1 : pb_S (k + 1) p = k + 1
        · exact Or.inl d1
        · by_cases d2 : pb_S (k + 1) p = 0
          · exact Or.inr (Or.inl d2)
          · exact Or.inr (Or.inr (pb_F_in s u hB k _ (by omega) (by omega) (pb_sub_S s hs (k + 1) hk1 c.1 p hp)))
      have b1 : pl' (pb_T (k + 1)) < 0 := by
        rw [h.2.2.2.2 (k + 1) hk1]
        exact c.2
      cases f with
      | zero => exact absurd hf (by omega)
      | succ f =>
        refine pk_le (pb_F s u s).1 (pb_F s u k).1 (fun g => absurd g (by omega)) (fun _ => pb_piece hb (by omega) ?_)
        rw [el']
        refine pb_turned hk1 (pb_add h.1 (pb_T_lt _ hk1) (fun g => absurd ((pb_pcT hk1).mpr hpk) g) (fun _ g => absurd b1 g) (fun _ _ g => absurd ((pb_hs_T h.2.2.2.2 hk1).mpr hside) g) (fun _ _ _ g => absurd g (by omega)) (fun _ _ _ g => ?_))
        have t := ih (k + 1) f (upd l' (pb_F s u k).1 (nI (pb_T (k + 1)))) (upd pl' (pb_T (k + 1)) (nI (pb_F s u k).1)) (by omega)
        rw [eF] at t
        exact br_t rfl (nm_r (nI_1 _) (t (by show (pb_F s u s).1 < (pb_F s u k).1 + 1 + f; omega) (pb_RR_up h (by omega) hpk)))
    · have eF := pb_F_n c
      have t := ih (k + 1) f l' pl' (by omega)
      rw [eF] at t
      exact t hf h
end
section
theorem pb_F_end (s : Nat) (u : Nat × (Nat → Int32) × (Nat → Int32)) : ∀ j, (pb_F s u (s + j)).1 = (pb_F s u s).1 := by
  intro j
  induction j with
  | zero => rfl
  | succ j ih =>
    rw [← Nat.add_assoc, pb_F_n, ih]
    intro t
    have h : (s + j + 1) &&& s ≤ s := Nat.and_le_right
    rw [t.1] at h
    omega
theorem pb_F_max (s : Nat) (u : Nat × (Nat → Int32) × (Nat → Int32)) (k : Nat) : (pb_F s u k).1 ≤ (pb_F s u s).1 := by
  by_cases h : k ≤ s
  · have e := pb_F_up s u k (s - k)
    rw [show k + (s - k) = s by omega] at e
    exact e
  · have e := pb_F_end s u (k - s)
    rw [show s + (k - s) = k by omega] at e
    omega
theorem pb_zt : ∀ a, a < 8 → ∀ b, b < 8 → ((1 : Int32) <<< ((nI a - nI a / 6 * 6) &&& 31)) ||| ((1 : Int32) <<< ((nI b - nI b / 6 * 6) &&& 31)) = nI (2 ^ (a % 6) ||| 2 ^ (b % 6)) ∧ (2 ^ (a % 6) ||| 2 ^ (b % 6)) < 64 := by decide +kernel
theorem pb_z0 (x y : Int32) : ∃ z, z < 64 ∧ ((1 : Int32) <<< (((x &&& 7) - (x &&& 7) / 6 * 6) &&& 31)) ||| ((1 : Int32) <<< (((y &&& 7) - (y &&& 7) / 6 * 6) &&& 31)) = nI z := by
  obtain ⟨a, ha, ea⟩ := pk_andE x 3 (m := 7) (by decide)
  obtain ⟨b, hb, eb⟩ := pk_andE y 3 (m := 7) (by decide)
  rw [ea, eb]
  exact ⟨_, (pb_zt a ha b hb).2, (pb_zt a ha b hb).1⟩
theorem pb_m1le {n : Nat} (hn : n ≤ 26) : (-1 : Int32) ≤ nI n := Int32.le_trans (show (-1 : Int32) ≤ 0 by decide) (nI_pos' (by omega))
theorem pb_m2le {n : Nat} (hn : n ≤ 26) : (-2 : Int32) ≤ nI n := Int32.le_trans (show (-2 : Int32) ≤ 0 by decide) (nI_pos' (by omega))
theorem pb_79 {L k kc ks z : Nat} {xs : Nat → Int32} {x4 x5 : Int32} {J : Int32 → Int32 → Int32 → (Nat → Int32) → (Nat → Int32) → (Nat → Int32) → (Nat → Int32) → (Nat → Int32) → Int32 → Int32 → (Nat → Int32) → (Nat → Int32) → (Nat → Int32) → (Nat → Int32) → (Nat → Int32) → Prop} (hL : L ≤ 260) (hk : k + 1 < L)
    (HJ : ∀ (n m : Nat) (l pl l' pl' co pa cl : Nat → Int32), pb_RR n m l pl l' pl' cl → J (nI (k + 2)) (nI n) (nI m) l pl co pa cl (nI n) (nI m) l' pl' co pa cl)
    (hz : z < 64) {n m : Nat} {l pl l' pl' co pa cl : Nat → Int32} (h : pb_RR n m l pl l' pl' cl) : wL_law_79 (fun r => r = 1) L xs J (nI k) x4 x5 (nI z) kc ks (nI n) (nI m) l pl co pa cl (nI n) (nI m) l' pl' co pa cl := by
  have hn := h.1
  have hm := h.2.1
  have h4 := h.2.2.2.1
  unfold wL_law_79
  refine br_c (fun _ => br_c (fun _ => ?_) (fun _ => ?_)) (fun _ => ?_)
  · refine pb_undo hn hm (fun e => ?_) (fun t ht => ?_)
    · refine pb_undo hn hm (fun _ => ?_) (fun t ht => absurd ht (by omega))
      refine br_f (by decide) ?_
      unfold wL_law_243
      exact br_t rfl (pb_254 hL hk HJ h)
    · obtain ⟨x, hx, e, e'⟩ := h4 t (by omega)
      have hx' := hx.2.1
      refine ⟨x, hx', e, ?_⟩
      refine pb_undo hn hm (fun g => absurd g (by omega)) (fun t2 ht2 => ?_)
      have et : t2 = t := by omega
      subst et
      refine ⟨pb_T x, pb_T_lt x hx', e', ?_⟩
      refine br_t (nI_pos' (by omega)) (pb_turned hx' ?_)
      unfold wL_law_243
      subst ht
      exact br_t rfl (pb_254 hL hk HJ (pb_RR_dn h (by split <;> omega) hx'))
  · obtain ⟨s, hs, es⟩ := pk_andE (x5 &&& (x5 >>> ((6 : Int32) &&& 31))) 6 (m := 63) (by decide)
    have hs' : s < 64 := hs
    refine nm_r es (pb_size (pb_fill hs' hn (fun c => ?_) (fun c g => ?_) (fun c g => ?_)))
    · refine ⟨1, br_t (pb_m1le hn) (pb_turned hs' (pb_fill (pb_T_lt s hs') hn (fun _ => br_t rfl (pb_254 hL hk HJ h)) (fun c' => absurd ((pb_pcT hs').mp c') c) (fun c' => absurd ((pb_pcT hs').mp c') c)))⟩
    · have ec := pb_c_T hs' h.2.2.2.2
      refine ⟨1, br_t (pb_m2le hn) (pb_turned hs' (pb_fill (pb_T_lt s hs') hn (fun c' => absurd ((pb_pcT hs').mpr c) c') (fun _ _ => br_t rfl (pb_254 hL hk HJ h)) (fun _ g' => absurd g' (by omega))))⟩
    · have hb : (pb_F s (n, l, pl) s).1 ≤ 26 := by
        rw [pb_F_c]
        exact g
      have hB : ∀ k, (pb_F s (n, l, pl) k).1 < 2 ^ 31 := fun k => Nat.lt_of_le_of_lt (pb_F_max s (n, l, pl) k) (by omega)
      exact ⟨27, pb_153 hs' c hb hB (fun l2 pl2 h2 => pb_254 hL hk HJ h2) s 0 27 l' pl' (by omega) (by omega) h⟩
  · obtain ⟨r, n1, l1, pl1, l2, pl2, h1, ha, hb⟩ := pb_add2 (co := co) (pa := pa) h hz
    exact pb_turned hz (ha _ (hb _ (br_t rfl (pb_254 hL hk HJ h1))))
theorem pb_18 {L kc ks : Nat} {xs : Nat → Int32} (hL : L ≤ 260) : ∀ (f k n m : Nat) (l pl l' pl' co pa cl : Nat → Int32), k ≤ L + 1 → L + 2 ≤ k + 2 * f → pb_RR n m l pl l' pl' cl → wL_law_18 (fun r => r = 1) L xs kc ks f (nI k) (nI n) (nI m) l pl co pa cl (nI n) (nI m) l' pl' co pa cl := by
  intro f
  induction f with
  | zero => exact fun k n m l pl l' pl' co pa cl h1 h2 => absurd h2 (by omega)
  | succ f ih =>
    intro k n m l pl l' pl' co pa cl h1 h2 h
    refine pk_le L (k + 1) (fun _ => rfl) (fun g => ⟨pk_in k L (by omega), nm_e ⟨pk_in (k + 1) L g (nI_1 k), nm_e ?_⟩⟩) rfl (nI_1 k)
    have HJ : ∀ (n m : Nat) (l pl l' pl' co pa cl : Nat → Int32), pb_RR n m l pl l' pl' cl → wL_law_18 (fun r => r = 1) L xs kc ks f (nI (k + 2)) (nI n) (nI m) l pl co pa cl (nI n) (nI m) l' pl' co pa cl := fun n m l pl l' pl' co pa cl h => ih (k + 2) n m l pl l' pl' co pa cl (by omega) (by omega) h
    refine br_c (fun _ => ⟨by decide, by decide, ?_⟩) (fun _ => ?_)
    · obtain ⟨z, hz, ez⟩ := pb_z0 (xs (nI k + 1).toNatClampNeg) (xs (nI k + 1).toNatClampNeg >>> ((3 : Int32) &&& 31))
      rw [ez]
      exact pb_79 hL g HJ hz h
    · obtain ⟨z, hz, ez⟩ := pk_andE (xs (nI k + 1).toNatClampNeg) 6 (m := 63) (by decide)
      rw [ez]
      exact pb_79 hL g HJ hz h
theorem i_vc (xs : Nat → Int32) (L : Nat) (hL : L ≤ 260) : wpL_law (fun r => r = 1) L xs := by
  refine ⟨5, 168, by omega, by omega, pb_init (by omega) (by omega) (fun a ha => ⟨by omega, by omega, 5, 168, by omega, by omega, pb_init (by omega) (by omega) (fun b hb => ⟨L + 2, ?_⟩)⟩)⟩
  refine pb_18 hL (L + 2) 0 0 0 (fun _ => 0) a (fun _ => 0) b (fun _ => 0) (fun _ => 0) (fun _ => 0) (by omega) (by omega) ⟨by omega, by omega, fun j hj => Or.inr ⟨0, by omega, rfl⟩, fun i hi => absurd hi (by omega), fun x hx => ?_⟩
  rw [ha x hx, hb _ (pb_T_lt x hx)]
end
