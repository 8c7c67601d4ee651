section
/-- point p is in the matrix g -/
def zd_sat (g : Nat → Nat → Int) (p : Nat → Int) : Prop := ∀ i j, i < 4 → j < 4 → p i - p j ≤ g i j
/-- tight, the diagonal 0 -/
def zd_tri (g : Nat → Nat → Int) : Prop := (∀ i, i < 4 → g i i = 0) ∧ (∀ i j k, i < 4 → j < 4 → k < 4 → g i j ≤ g i k + g k j)
/-- a zone's matrix: tight and in the box -/
def zd_ok (g : Nat → Nat → Int) : Prop := zd_tri g ∧ (∀ i, i < 4 → g i 0 ≤ 9) ∧ (∀ i, i < 4 → g 0 i ≤ 0)
theorem zd_att {g : Nat → Nat → Int} (h : zd_tri g) {j : Nat} (hj : j < 4) : zd_sat g (fun k => g k j) := by
  intro a b ha hb
  have h2 := h.2 a j b ha hj hb
  show g a j - g b j ≤ g a b
  omega
theorem zd_le_of_sub {g h : Nat → Nat → Int} (hg : zd_tri g) (hs : ∀ p, zd_sat g p → zd_sat h p) {i j : Nat} (hi : i < 4) (hj : j < 4) : g i j ≤ h i j := by
  have h1 := hs _ (zd_att hg hj) i j hi hj
  have e := hg.1 j hj
  have h2 : g i j - g j j ≤ h i j := h1
  omega
theorem zd_sub_of_le {g h : Nat → Nat → Int} (hl : ∀ i j, i < 4 → j < 4 → g i j ≤ h i j) {p : Nat → Int} (hs : zd_sat g p) : zd_sat h p :=
  fun i j hi hj => Int.le_trans (hs i j hi hj) (hl i j hi hj)
theorem zd_eq_of_iff {g h : Nat → Nat → Int} (hg : zd_tri g) (hh : zd_tri h) (hs : ∀ p, zd_sat g p ↔ zd_sat h p) {i j : Nat} (hi : i < 4) (hj : j < 4) : g i j = h i j :=
  Int.le_antisymm (zd_le_of_sub hg (fun p => (hs p).mp) hi hj) (zd_le_of_sub hh (fun p => (hs p).mpr) hi hj)
theorem zd_ok_hi {g : Nat → Nat → Int} (h : zd_ok g) {i j : Nat} (hi : i < 4) (hj : j < 4) : g i j ≤ 9 := by
  have h1 := h.1.2 i j 0 hi hj (by omega)
  have h2 := h.2.1 i hi
  have h3 := h.2.2 j hj
  omega
theorem zd_ok_lo {g : Nat → Nat → Int} (h : zd_ok g) {i j : Nat} (hi : i < 4) (hj : j < 4) : -9 ≤ g i j := by
  have h1 := h.1.2 i i j hi hi hj
  have h2 := h.1.1 i hi
  have h3 := zd_ok_hi h hj hi
  omega
/-- what matters of a matrix are its 16 places -/
theorem zd_ok_congr {g h : Nat → Nat → Int} (e : ∀ i j, i < 4 → j < 4 → h i j = g i j) (hg : zd_ok g) : zd_ok h := by
  refine ⟨⟨fun i hi => ?_, fun i j k hi hj hk => ?_⟩, fun i hi => ?_, fun i hi => ?_⟩
  · rw [e i i hi hi]; exact hg.1.1 i hi
  · rw [e i j hi hj, e i k hi hk, e k j hk hj]; exact hg.1.2 i j k hi hj hk
  · rw [e i 0 hi (by omega)]; exact hg.2.1 i hi
  · rw [e 0 i (by omega) hi]; exact hg.2.2 i hi
theorem zd_sat_congr {g h : Nat → Nat → Int} (e : ∀ i j, i < 4 → j < 4 → h i j = g i j) (p : Nat → Int) : zd_sat h p ↔ zd_sat g p :=
  ⟨zd_sub_of_le (fun i j hi hj => by rw [e i j hi hj]; exact Int.le_refl _), zd_sub_of_le (fun i j hi hj => by rw [e i j hi hj]; exact Int.le_refl _)⟩
/-- one phase of the tightening, all places at once -/
def zd_P (k : Nat) (g : Nat → Nat → Int) (i j : Nat) : Int := if g i k + g k j < g i j then g i k + g k j else g i j
theorem zd_P_le (k : Nat) (g : Nat → Nat → Int) (i j : Nat) : zd_P k g i j ≤ g i j := by
  unfold zd_P
  split <;> omega
theorem zd_P_le2 (k : Nat) (g : Nat → Nat → Int) (i j : Nat) : zd_P k g i j ≤ g i k + g k j := by
  unfold zd_P
  split <;> omega
theorem zd_P_or (k : Nat) (g : Nat → Nat → Int) (i j : Nat) : zd_P k g i j = g i j ∨ zd_P k g i j = g i k + g k j := by
  unfold zd_P
  split
  · exact Or.inr rfl
  · exact Or.inl rfl
theorem zd_P_sat {k : Nat} {g : Nat → Nat → Int} (hk : k < 4) (p : Nat → Int) : zd_sat (zd_P k g) p ↔ zd_sat g p := by
  constructor
  · intro h
    exact zd_sub_of_le (fun i j _ _ => zd_P_le k g i j) h
  · intro h i j hi hj
    have h1 := h i j hi hj
    have h2 := h i k hi hk
    have h3 := h k j hk hj
    rcases zd_P_or k g i j with e | e <;> omega
theorem zd_P_row {k : Nat} {g : Nat → Nat → Int} (h0 : g k k = 0) (j : Nat) : zd_P k g k j = g k j := by
  unfold zd_P
  split <;> omega
theorem zd_P_col {k : Nat} {g : Nat → Nat → Int} (h0 : g k k = 0) (i : Nat) : zd_P k g i k = g i k := by
  unfold zd_P
  split <;> omega
theorem zd_P_trik {k : Nat} {g : Nat → Nat → Int} (h0 : g k k = 0) (i j : Nat) : zd_P k g i j ≤ zd_P k g i k + zd_P k g k j := by
  rw [zd_P_row h0, zd_P_col h0]
  exact zd_P_le2 k g i j
theorem zd_P_tril {k l : Nat} {g : Nat → Nat → Int} (hk : k < 4) (hl : l < 4) (h0 : g k k = 0) (h : ∀ i j, i < 4 → j < 4 → g i j ≤ g i l + g l j) {i j : Nat} (hi : i < 4) (hj : j < 4) : zd_P k g i j ≤ zd_P k g i l + zd_P k g l j := by
  have h1 := h i j hi hj
  have h2 := h k j hk hj
  have h3 := h i k hi hk
  have h4 := h k k hk hk
  have h5 := zd_P_le k g i j
  have h6 := zd_P_le2 k g i j
  rcases zd_P_or k g i l with e | e <;> rcases zd_P_or k g l j with e' | e' <;> omega
/-- sums of naturals below n -/
def zd_su (f : Nat → Nat) : Nat → Nat
  | 0 => 0
  | n + 1 => zd_su f n + f n
theorem zd_su_le {f g : Nat → Nat} : ∀ n, (∀ i, i < n → f i ≤ g i) → zd_su f n ≤ zd_su g n := by
  intro n
  induction n with
  | zero => intro _; exact Nat.le_refl 0
  | succ n ih =>
    intro h
    have h1 := ih (fun i hi => h i (by omega))
    have h2 := h n (by omega)
    show zd_su f n + f n ≤ zd_su g n + g n
    omega
theorem zd_su_lt {f g : Nat → Nat} {k : Nat} (hk : f k < g k) : ∀ n, k < n → (∀ i, i < n → f i ≤ g i) → zd_su f n < zd_su g n := by
  intro n
  induction n with
  | zero => intro h; exact absurd h (by omega)
  | succ n ih =>
    intro hn h
    show zd_su f n + f n < zd_su g n + g n
    by_cases e : k = n
    · have h1 := zd_su_le n (fun i hi => h i (by omega) : ∀ i, i < n → f i ≤ g i)
      rw [← e] at h1 ⊢
      omega
    · have h1 := ih (by omega) (fun i hi => h i (by omega))
      have h2 := h n (by omega)
      omega
theorem zd_su_congr {f g : Nat → Nat} (n : Nat) (h : ∀ i, i < n → f i = g i) : zd_su f n = zd_su g n :=
  Nat.le_antisymm (zd_su_le n (fun i hi => Nat.le_of_eq (h i hi))) (zd_su_le n (fun i hi => Nat.le_of_eq (h i hi).symm))
theorem zd_su_bd {f : Nat → Nat} {c : Nat} : ∀ n, (∀ i, i < n → f i ≤ c) → zd_su f n ≤ c * n := by
  intro n
  induction n with
  | zero => intro _; exact Nat.le_refl 0
  | succ n ih =>
    intro h
    have h1 := ih (fun i hi => h i (by omega))
    have h2 := h n (by omega)
    show zd_su f n + f n ≤ c * (n + 1)
    rw [Nat.mul_succ]
    omega
/-- the point of three numbers -/
def zd_pt (x y w : Nat) : Nat → Int
  | 0 => 0
  | 1 => (x : Int)
  | 2 => (y : Int)
  | _ => (w : Int)
/-- the three numbers x, y, w go together in g: one after the other -/
abbrev zd_A (g : Nat → Nat → Int) (x : Nat) : Prop := -(x : Int) ≤ g 0 1 ∧ (x : Int) ≤ g 1 0
abbrev zd_B (g : Nat → Nat → Int) (x y : Nat) : Prop := (-(y : Int) ≤ g 0 2 ∧ (x : Int) - y ≤ g 1 2) ∧ ((y : Int) ≤ g 2 0 ∧ (y : Int) - x ≤ g 2 1)
abbrev zd_C (g : Nat → Nat → Int) (x y w : Nat) : Prop := ((-(w : Int) ≤ g 0 3 ∧ (x : Int) - w ≤ g 1 3) ∧ (y : Int) - w ≤ g 2 3) ∧ (((w : Int) ≤ g 3 0 ∧ (w : Int) - x ≤ g 3 1) ∧ (w : Int) - y ≤ g 3 2)
abbrev zd_in (g : Nat → Nat → Int) (x y w : Nat) : Prop := zd_A g x ∧ zd_B g x y ∧ zd_C g x y w
theorem zd_in_of_sat {g : Nat → Nat → Int} {p : Nat → Int} {x y w : Nat} (h : zd_sat g p) (h1 : p 1 - p 0 = x) (h2 : p 2 - p 0 = y) (h3 : p 3 - p 0 = w) : zd_in g x y w := by
  have a01 := h 0 1 (by omega) (by omega)
  have a02 := h 0 2 (by omega) (by omega)
  have a03 := h 0 3 (by omega) (by omega)
  have a10 := h 1 0 (by omega) (by omega)
  have a12 := h 1 2 (by omega) (by omega)
  have a13 := h 1 3 (by omega) (by omega)
  have a20 := h 2 0 (by omega) (by omega)
  have a21 := h 2 1 (by omega) (by omega)
  have a23 := h 2 3 (by omega) (by omega)
  have a30 := h 3 0 (by omega) (by omega)
  have a31 := h 3 1 (by omega) (by omega)
  have a32 := h 3 2 (by omega) (by omega)
  refine ⟨⟨?_, ?_⟩, ⟨⟨?_, ?_⟩, ?_, ?_⟩, ⟨⟨?_, ?_⟩, ?_⟩, ⟨?_, ?_⟩, ?_⟩ <;> omega
theorem zd_co4 {P : Nat → Prop} (h0 : P 0) (h1 : P 1) (h2 : P 2) (h3 : P 3) (i : Nat) (hi : i < 4) : P i := by
  match i, hi with
  | 0, _ => exact h0
  | 1, _ => exact h1
  | 2, _ => exact h2
  | 3, _ => exact h3
theorem zd_sat_of_in {g : Nat → Nat → Int} (h0 : ∀ i, i < 4 → g i i = 0) {x y w : Nat} (h : zd_in g x y w) : zd_sat g (zd_pt x y w) := by
  obtain ⟨⟨a01, a10⟩, ⟨⟨a02, a12⟩, a20, a21⟩, ⟨⟨a03, a13⟩, a23⟩, ⟨a30, a31⟩, a32⟩ := h
  have d0 := h0 0 (by omega)
  have d1 := h0 1 (by omega)
  have d2 := h0 2 (by omega)
  have d3 := h0 3 (by omega)
  intro i j hi hj
  revert j
  refine zd_co4 (P := fun i => ∀ j, j < 4 → zd_pt x y w i - zd_pt x y w j ≤ g i j) ?_ ?_ ?_ ?_ i hi
  · exact zd_co4 (P := fun j => zd_pt x y w 0 - zd_pt x y w j ≤ g 0 j) (by show (0 : Int) - 0 ≤ g 0 0; omega) (by show (0 : Int) - x ≤ g 0 1; omega) (by show (0 : Int) - y ≤ g 0 2; omega) (by show (0 : Int) - w ≤ g 0 3; omega)
  · exact zd_co4 (P := fun j => zd_pt x y w 1 - zd_pt x y w j ≤ g 1 j) (by show (x : Int) - 0 ≤ g 1 0; omega) (by show (x : Int) - x ≤ g 1 1; omega) (by show (x : Int) - y ≤ g 1 2; omega) (by show (x : Int) - w ≤ g 1 3; omega)
  · exact zd_co4 (P := fun j => zd_pt x y w 2 - zd_pt x y w j ≤ g 2 j) (by show (y : Int) - 0 ≤ g 2 0; omega) (by show (y : Int) - x ≤ g 2 1; omega) (by show (y : Int) - y ≤ g 2 2; omega) (by show (y : Int) - w ≤ g 2 3; omega)
  · exact zd_co4 (P := fun j => zd_pt x y w 3 - zd_pt x y w j ≤ g 3 j) (by show (w : Int) - 0 ≤ g 3 0; omega) (by show (w : Int) - x ≤ g 3 1; omega) (by show (w : Int) - y ≤ g 3 2; omega) (by show (w : Int) - w ≤ g 3 3; omega)
/-- the number of points, as the loops count them -/
def zd_n3 (g : Nat → Nat → Int) (x y : Nat) : Nat := zd_su (fun w => if zd_C g x y w then 1 else 0) 10
def zd_n2 (g : Nat → Nat → Int) (x : Nat) : Nat := zd_su (fun y => if zd_B g x y then zd_n3 g x y else 0) 10
def zd_N (g : Nat → Nat → Int) : Nat := zd_su (fun x => if zd_A g x then zd_n2 g x else 0) 10
/-- the same, flat -/
def zd_f (g : Nat → Nat → Int) (x y w : Nat) : Nat := if zd_in g x y w then 1 else 0
theorem zd_su_0 {f : Nat → Nat} : ∀ n, (∀ i, i < n → f i = 0) → zd_su f n = 0 := by
  intro n
  induction n with
  | zero => intro _; rfl
  | succ n ih =>
    intro h
    show zd_su f n + f n = 0
    rw [ih (fun i hi => h i (by omega)), h n (by omega)]
theorem zd_su_ext {f : Nat → Nat} {n : Nat} : ∀ m, n ≤ m → (∀ i, n ≤ i → i < m → f i = 0) → zd_su f m = zd_su f n := by
  intro m
  induction m with
  | zero =>
    intro h _
    rw [show n = 0 by omega]
  | succ m ih =>
    intro h hz
    by_cases e : n = m + 1
    · rw [e]
    · show zd_su f m + f m = zd_su f n
      rw [ih (by omega) (fun i h1 h2 => hz i h1 (by omega)), hz m (by omega) (by omega)]
      rfl
theorem zd_N_flat (g : Nat → Nat → Int) : zd_N g = zd_su (fun x => zd_su (fun y => zd_su (fun w => zd_f g x y w) 10) 10) 10 := by
  unfold zd_N
  refine zd_su_congr 10 (fun x _ => ?_)
  by_cases hA : zd_A g x
  · rw [if_pos hA]
    unfold zd_n2
    refine zd_su_congr 10 (fun y _ => ?_)
    by_cases hB : zd_B g x y
    · rw [if_pos hB]
      unfold zd_n3
      refine zd_su_congr 10 (fun w _ => ?_)
      unfold zd_f
      by_cases hC : zd_C g x y w
      · rw [if_pos hC, if_pos ⟨hA, hB, hC⟩]
      · rw [if_neg hC, if_neg (fun z => hC z.2.2)]
    · rw [if_neg hB, zd_su_0 10 (fun w _ => ?_)]
      unfold zd_f
      rw [if_neg (fun z => hB z.2.1)]
  · rw [if_neg hA, zd_su_0 10 (fun y _ => ?_)]
    refine zd_su_0 10 (fun w _ => ?_)
    unfold zd_f
    rw [if_neg (fun z => hA z.1)]
theorem zd_f_le {g h : Nat → Nat → Int} {x y w : Nat} (e : zd_in g x y w → zd_in h x y w) : zd_f g x y w ≤ zd_f h x y w := by
  unfold zd_f
  by_cases hg : zd_in g x y w
  · rw [if_pos hg, if_pos (e hg)]
    exact Nat.le_refl 1
  · rw [if_neg hg]
    exact Nat.zero_le _
theorem zd_f_lt {g h : Nat → Nat → Int} {x y w : Nat} (e : ¬ zd_in g x y w) (e' : zd_in h x y w) : zd_f g x y w < zd_f h x y w := by
  unfold zd_f
  rw [if_neg e, if_pos e']
  exact Nat.zero_lt_one
theorem zd_N_lt {g h : Nat → Nat → Int} (hs : ∀ x y w, zd_in g x y w → zd_in h x y w) {x y w : Nat} (hx : x < 10) (hy : y < 10) (hw : w < 10) (e : ¬ zd_in g x y w) (e' : zd_in h x y w) : zd_N g < zd_N h := by
  rw [zd_N_flat, zd_N_flat]
  refine zd_su_lt (k := x) ?_ 10 hx (fun i _ => zd_su_le 10 (fun j _ => zd_su_le 10 (fun l _ => zd_f_le (hs i j l))))
  refine zd_su_lt (k := y) ?_ 10 hy (fun j _ => zd_su_le 10 (fun l _ => zd_f_le (hs x j l)))
  exact zd_su_lt (k := w) (zd_f_lt e e') 10 hw (fun l _ => zd_f_le (hs x y l))
theorem zd_f_1 (g : Nat → Nat → Int) (x y w : Nat) : zd_f g x y w ≤ 1 := by
  unfold zd_f
  by_cases hg : zd_in g x y w
  · rw [if_pos hg]
    exact Nat.le_refl 1
  · rw [if_neg hg]
    exact Nat.zero_le _
theorem zd_n3_le (g : Nat → Nat → Int) (x y : Nat) : zd_n3 g x y ≤ 10 := by
  refine zd_su_bd (c := 1) 10 (fun w _ => ?_)
  by_cases hg : zd_C g x y w
  · rw [if_pos hg]
    exact Nat.le_refl 1
  · rw [if_neg hg]
    exact Nat.zero_le _
theorem zd_n2_le (g : Nat → Nat → Int) (x : Nat) : zd_n2 g x ≤ 100 := by
  refine zd_su_bd (c := 10) 10 (fun y _ => ?_)
  by_cases hg : zd_B g x y
  · rw [if_pos hg]
    exact zd_n3_le g x y
  · rw [if_neg hg]
    exact Nat.zero_le _
/-- an empty matrix, to compare with -/
theorem zd_N_pos {h : Nat → Nat → Int} {x y w : Nat} (hx : x < 10) (hy : y < 10) (hw : w < 10) (e' : zd_in h x y w) : 0 < zd_N h := by
  have t : ∀ x y w, ¬ zd_in (fun _ _ => -100) x y w := fun x y w z => by
    have z1 : (x : Int) ≤ -100 := z.1.2
    omega
  exact Nat.lt_of_le_of_lt (Nat.zero_le _) (zd_N_lt (g := fun _ _ => -100) (h := h) (fun x y w z => absurd z (t x y w)) hx hy hw (t x y w) e')
theorem zd_pos_of_ok {g : Nat → Nat → Int} (h : zd_ok g) {i : Nat} (hi : i < 4) : 0 ≤ g i 0 := by
  have h1 := h.1.2 0 0 i (by omega) (by omega) hi
  have h2 := h.1.1 0 (by omega)
  have h3 := h.2.2 i hi
  omega
theorem zd_box {g : Nat → Nat → Int} (h : zd_ok g) {p : Nat → Int} (hs : zd_sat g p) {i : Nat} (hi : i < 4) : ∃ x : Nat, x < 10 ∧ p i - p 0 = x := by
  have h1 := hs i 0 hi (by omega)
  have h2 := hs 0 i (by omega) hi
  have h3 := h.2.1 i hi
  have h4 := h.2.2 i hi
  exact ⟨(p i - p 0).toNat, by omega, by omega⟩
theorem zd_sat_shift {g : Nat → Nat → Int} {p q : Nat → Int} (e : ∀ i, i < 4 → p i - p 0 = q i) (hq : zd_sat g q) : zd_sat g p := by
  intro i j hi hj
  have h1 := hq i j hi hj
  have h2 := e i hi
  have h3 := e j hj
  omega
theorem zd_Npos {g : Nat → Nat → Int} (h : zd_ok g) : 0 < zd_N g := by
  have hs := zd_att h.1 (show 0 < 4 by omega)
  obtain ⟨x, hx, ex⟩ := zd_box h hs (show 1 < 4 by omega)
  obtain ⟨y, hy, ey⟩ := zd_box h hs (show 2 < 4 by omega)
  obtain ⟨w, hw, ew⟩ := zd_box h hs (show 3 < 4 by omega)
  exact zd_N_pos hx hy hw (zd_in_of_sat hs ex ey ew)
theorem zd_Nlt {g h : Nat → Nat → Int} (hg : zd_ok g) (hh : zd_ok h) (hs : ∀ p, zd_sat g p → zd_sat h p) {p : Nat → Int} (n : ¬ zd_sat g p) (s : zd_sat h p) : zd_N g < zd_N h := by
  obtain ⟨x, hx, ex⟩ := zd_box hh s (show 1 < 4 by omega)
  obtain ⟨y, hy, ey⟩ := zd_box hh s (show 2 < 4 by omega)
  obtain ⟨w, hw, ew⟩ := zd_box hh s (show 3 < 4 by omega)
  refine zd_N_lt (x := x) (y := y) (w := w) (fun x y w z => ?_) hx hy hw (fun z => n ?_) (zd_in_of_sat s ex ey ew)
  · exact zd_in_of_sat (hs _ (zd_sat_of_in hg.1.1 z)) (by show (x : Int) - 0 = x; omega) (by show (y : Int) - 0 = y; omega) (by show (w : Int) - 0 = w; omega)
  · exact zd_sat_shift (zd_co4 (P := fun i => p i - p 0 = zd_pt x y w i) (by show p 0 - p 0 = 0; omega) ex ey ew) (zd_sat_of_in hg.1.1 z)
theorem zd_N_congr {g h : Nat → Nat → Int} (e : ∀ i j, i < 4 → j < 4 → h i j = g i j) : zd_N h = zd_N g := by
  have t : ∀ x y w, zd_in h x y w ↔ zd_in g x y w := fun x y w => by
    unfold zd_in zd_A zd_B zd_C
    rw [e 0 1 (by omega) (by omega), e 0 2 (by omega) (by omega), e 0 3 (by omega) (by omega), e 1 0 (by omega) (by omega), e 1 2 (by omega) (by omega), e 1 3 (by omega) (by omega), e 2 0 (by omega) (by omega), e 2 1 (by omega) (by omega), e 2 3 (by omega) (by omega), e 3 0 (by omega) (by omega), e 3 1 (by omega) (by omega), e 3 2 (by omega) (by omega)]
  rw [zd_N_flat, zd_N_flat]
  exact zd_su_congr 10 (fun i _ => zd_su_congr 10 (fun j _ => zd_su_congr 10 (fun l _ => Nat.le_antisymm (zd_f_le (t i j l).mp) (zd_f_le (t i j l).mpr))))
/-- how many numbers lie between two bounds -/
theorem zd_iv (lo hi : Int) (h0 : 0 ≤ lo) : ∀ n : Nat, ((zd_su (fun w => if lo ≤ (w : Int) ∧ (w : Int) ≤ hi then 1 else 0) n : Nat) : Int) = if hi + 1 ≤ (n : Int) then (if hi < lo then 0 else hi - lo + 1) else (if (n : Int) ≤ lo then 0 else (n : Int) - lo) := by
  intro n
  induction n with
  | zero =>
    show (0 : Int) = _
    split
    · rw [if_pos (by omega)]
    · rw [if_pos (by omega)]
  | succ n ih =>
    have e : ((zd_su (fun w => if lo ≤ (w : Int) ∧ (w : Int) ≤ hi then 1 else 0) (n + 1) : Nat) : Int) = ((zd_su (fun w => if lo ≤ (w : Int) ∧ (w : Int) ≤ hi then 1 else 0) n : Nat) : Int) + ((if lo ≤ (n : Int) ∧ (n : Int) ≤ hi then 1 else 0 : Nat) : Int) := Int.natCast_add _ _
    rw [e, ih, Int.natCast_succ]
    by_cases c : lo ≤ (n : Int) ∧ (n : Int) ≤ hi
    · rw [if_pos c]
      obtain ⟨c1, c2⟩ := c
      split <;> split <;> (try split) <;> (try split) <;> omega
    · rw [if_neg c]
      split <;> split <;> (try split) <;> (try split) <;> omega
theorem zd_n3_eq {g : Nat → Nat → Int} {x y : Nat} {lo hi : Int} (h0 : 0 ≤ lo) (h9 : hi ≤ 9) (hc : ∀ w : Nat, zd_C g x y w ↔ lo ≤ (w : Int) ∧ (w : Int) ≤ hi) : ((zd_n3 g x y : Nat) : Int) = if hi < lo then 0 else hi - lo + 1 := by
  have e : zd_n3 g x y = zd_su (fun w => if lo ≤ (w : Int) ∧ (w : Int) ≤ hi then 1 else 0) 10 := by
    refine zd_su_congr 10 (fun w _ => ?_)
    by_cases c : zd_C g x y w
    · rw [if_pos c, if_pos ((hc w).mp c)]
    · rw [if_neg c, if_neg (fun z => c ((hc w).mpr z))]
  rw [e, zd_iv lo hi h0 10]
  rw [if_pos (show hi + 1 ≤ ((10 : Nat) : Int) by omega)]
end
section
/-- 16 cells as a matrix -/
def zd_M (m : Nat → Int32) (i j : Nat) : Int := (m (4 * i + j)).toInt
/-- one turn of the tightening's inner loop -/
def zd_st (k p : Nat) (m : Nat → Int32) : Nat → Int32 := if m p ≤ m (4 * (p / 4) + k) + m (4 * k + p % 4) then m else upd m p (m (4 * (p / 4) + k) + m (4 * k + p % 4))
def zd_ph (k : Nat) : Nat → (Nat → Int32) → (Nat → Int32)
  | 0, m => m
  | p + 1, m => zd_st k p (zd_ph k p m)
def zd_T : Nat → (Nat → Int32) → (Nat → Int32)
  | 0, m => m
  | k + 1, m => zd_ph k 16 (zd_T k m)
theorem zd_st_t {k p : Nat} {m : Nat → Int32} (c : m p ≤ m (4 * (p / 4) + k) + m (4 * k + p % 4)) : zd_st k p m = m := if_pos c
theorem zd_st_f {k p : Nat} {m : Nat → Int32} (c : ¬ m p ≤ m (4 * (p / 4) + k) + m (4 * k + p % 4)) : zd_st k p m = upd m p (m (4 * (p / 4) + k) + m (4 * k + p % 4)) := if_neg c
theorem zd_st_le (k p : Nat) (m : Nat → Int32) (q : Nat) : (zd_st k p m q).toInt ≤ (m q).toInt := by
  by_cases c : m p ≤ m (4 * (p / 4) + k) + m (4 * k + p % 4)
  · rw [zd_st_t c]
    exact Int.le_refl _
  · rw [zd_st_f c]
    by_cases e : q = p
    · rw [e, pk_us]
      rw [Int32.le_iff_toInt_le] at c
      omega
    · rw [pk_un e]
      exact Int.le_refl _
theorem zd_ph_le (k : Nat) (m : Nat → Int32) (q : Nat) : ∀ n, (zd_ph k n m q).toInt ≤ (m q).toInt := by
  intro n
  induction n with
  | zero => exact Int.le_refl _
  | succ n ih => exact Int.le_trans (zd_st_le k n (zd_ph k n m) q) ih
theorem zd_T_le (m : Nat → Int32) (q : Nat) : ∀ n, (zd_T n m q).toInt ≤ (m q).toInt := by
  intro n
  induction n with
  | zero => exact Int.le_refl _
  | succ n ih => exact Int.le_trans (zd_ph_le n (zd_T n m) q 16) ih
theorem zd_ph_ex {k : Nat} {C : Int} {m : Nat → Int32} (hk : k < 4) (hC : C ≤ 2 ^ 29) (h0 : zd_M m k k = 0) (hb : ∀ i j, i < 4 → j < 4 → -C ≤ zd_M m i j ∧ zd_M m i j ≤ C) : ∀ n, n ≤ 16 → ∀ i j, i < 4 → j < 4 → zd_M (zd_ph k n m) i j = if 4 * i + j < n then zd_P k (zd_M m) i j else zd_M m i j := by
  intro n
  induction n with
  | zero =>
    intro _ i j _ _
    rw [if_neg (by omega)]
    rfl
  | succ n ih =>
    intro hn i j hi hj
    have ih' := ih (by omega)
    have hi' : n / 4 < 4 := by omega
    have hj' : n % 4 < 4 := by omega
    have a1 : zd_M (zd_ph k n m) (n / 4) k = zd_M m (n / 4) k := by
      rw [ih' _ _ hi' hk]
      by_cases c : 4 * (n / 4) + k < n
      · rw [if_pos c]; exact zd_P_col h0 _
      · rw [if_neg c]
    have a2 : zd_M (zd_ph k n m) k (n % 4) = zd_M m k (n % 4) := by
      rw [ih' _ _ hk hj']
      by_cases c : 4 * k + n % 4 < n
      · rw [if_pos c]; exact zd_P_row h0 _
      · rw [if_neg c]
    have a3 : zd_M (zd_ph k n m) (n / 4) (n % 4) = zd_M m (n / 4) (n % 4) := by
      rw [ih' _ _ hi' hj', if_neg (by omega)]
    have en : 4 * (n / 4) + n % 4 = n := by omega
    have b1 := hb _ _ hi' hk
    have b2 := hb _ _ hk hj'
    show (zd_st k n (zd_ph k n m) (4 * i + j)).toInt = _
    have t := ih' i j hi hj
    revert a1 a2 a3 t
    generalize zd_ph k n m = m'
    intro a1 a2 a3 t
    have e1 : (m' (4 * (n / 4) + k)).toInt = zd_M m (n / 4) k := a1
    have e2 : (m' (4 * k + n % 4)).toInt = zd_M m k (n % 4) := a2
    have e3 : (m' n).toInt = zd_M m (n / 4) (n % 4) := by
      rw [← a3]
      show _ = (m' (4 * (n / 4) + n % 4)).toInt
      rw [en]
    have s : (m' (4 * (n / 4) + k) + m' (4 * k + n % 4)).toInt = zd_M m (n / 4) k + zd_M m k (n % 4) := by
      rw [Jvm.Kit.i32_add (by rw [e1, e2]; omega) (by rw [e1, e2]; omega), e1, e2]
    by_cases e : 4 * i + j = n
    · have ei : i = n / 4 := by omega
      have ej : j = n % 4 := by omega
      rw [if_pos (show 4 * i + j < n + 1 by omega), e]
      unfold zd_P
      rw [ei, ej]
      by_cases c : m' n ≤ m' (4 * (n / 4) + k) + m' (4 * k + n % 4)
      · rw [zd_st_t c, e3]
        rw [Int32.le_iff_toInt_le, e3, s] at c
        rw [if_neg (by omega)]
      · rw [zd_st_f c, pk_us, s]
        rw [Int32.le_iff_toInt_le, e3, s] at c
        rw [if_pos (by omega)]
    · have t2 : zd_st k n m' (4 * i + j) = m' (4 * i + j) := by
        by_cases c : m' n ≤ m' (4 * (n / 4) + k) + m' (4 * k + n % 4)
        · rw [zd_st_t c]
        · rw [zd_st_f c, pk_un e]
      rw [t2]
      show zd_M m' i j = _
      rw [t]
      by_cases l : 4 * i + j < n
      · rw [if_pos l, if_pos (by omega)]
      · rw [if_neg l, if_neg (by omega)]
/-- k phases have gone well: m0 was tightened to m -/
def zd_G (m0 m : Nat → Int32) (k : Nat) (B : Int) : Prop := (∀ i, i < 4 → zd_M m i i = 0) ∧ (∀ i j, i < 4 → j < 4 → -B ≤ zd_M m i j ∧ zd_M m i j ≤ B) ∧ (∀ p, zd_sat (zd_M m) p ↔ zd_sat (zd_M m0) p) ∧ (∀ l, l < k → ∀ i j, i < 4 → j < 4 → zd_M m i j ≤ zd_M m i l + zd_M m l j)
/-- there is no point, and it shows -/
def zd_Bd (m0 m : Nat → Int32) : Prop := (∃ i, i < 4 ∧ zd_M m i i < 0) ∧ ∀ p, ¬ zd_sat (zd_M m0) p
theorem zd_T_step {m0 m : Nat → Int32} {k : Nat} {B : Int} (hk : k < 4) (hB : B ≤ 2 ^ 28) (h : zd_G m0 m k B ∨ zd_Bd m0 m) : zd_G m0 (zd_ph k 16 m) (k + 1) (2 * B) ∨ zd_Bd m0 (zd_ph k 16 m) := by
  rcases h with ⟨d, b, s, t⟩ | ⟨⟨i, hi, n⟩, s⟩
  · have ex : ∀ i j, i < 4 → j < 4 → zd_M (zd_ph k 16 m) i j = zd_P k (zd_M m) i j := by
      intro i j hi hj
      rw [zd_ph_ex hk (C := B) (by omega) (d k hk) b 16 (by omega) i j hi hj, if_pos (by omega)]
    have sat' : ∀ p, zd_sat (zd_M (zd_ph k 16 m)) p ↔ zd_sat (zd_M m0) p := fun p => (zd_sat_congr ex p).trans ((zd_P_sat hk p).trans (s p))
    have b00 := b 0 0 (by omega) (by omega)
    by_cases neg : ∃ i, i < 4 ∧ zd_M (zd_ph k 16 m) i i < 0
    · refine Or.inr ⟨neg, fun p hp => ?_⟩
      obtain ⟨i, hi, n⟩ := neg
      have h1 := (sat' p).mpr hp i i hi hi
      omega
    · refine Or.inl ⟨fun i hi => ?_, fun i j hi hj => ?_, sat', fun l hl i j hi hj => ?_⟩
      · have h1 := zd_P_le k (zd_M m) i i
        rw [d i hi, ← ex i i hi hi] at h1
        have h2 : ¬ zd_M (zd_ph k 16 m) i i < 0 := fun z => neg ⟨i, hi, z⟩
        omega
      · rw [ex i j hi hj]
        have b1 := b i j hi hj
        have b2 := b i k hi hk
        have b3 := b k j hk hj
        have h1 := zd_P_le k (zd_M m) i j
        rcases zd_P_or k (zd_M m) i j with e | e <;> constructor <;> omega
      · rw [ex i j hi hj, ex i l hi (by omega), ex l j (by omega) hj]
        by_cases e : l = k
        · rw [e]
          exact zd_P_trik (d k hk) i j
        · exact zd_P_tril hk (by omega) (d k hk) (t l (by omega)) hi hj
  · refine Or.inr ⟨⟨i, hi, ?_⟩, s⟩
    have h1 := zd_ph_le k m (4 * i + i) 16
    have h2 : zd_M (zd_ph k 16 m) i i ≤ zd_M m i i := h1
    omega
theorem zd_T_sem {m : Nat → Int32} (d : ∀ i, i < 4 → zd_M m i i = 0) (b : ∀ i j, i < 4 → j < 4 → -100 ≤ zd_M m i j ∧ zd_M m i j ≤ 100) :
    (zd_tri (zd_M (zd_T 4 m)) ∧ ∀ p, zd_sat (zd_M (zd_T 4 m)) p ↔ zd_sat (zd_M m) p) ∨ zd_Bd m (zd_T 4 m) := by
  have h0 : zd_G m (zd_T 0 m) 0 100 ∨ zd_Bd m (zd_T 0 m) := Or.inl ⟨d, b, fun p => Iff.rfl, fun l hl => absurd hl (by omega)⟩
  have h1 : zd_G m (zd_T 1 m) 1 (2 * 100) ∨ zd_Bd m (zd_T 1 m) := zd_T_step (k := 0) (by decide) (by decide) h0
  have h2 : zd_G m (zd_T 2 m) 2 (2 * (2 * 100)) ∨ zd_Bd m (zd_T 2 m) := zd_T_step (k := 1) (by decide) (by decide) h1
  have h3 : zd_G m (zd_T 3 m) 3 (2 * (2 * (2 * 100))) ∨ zd_Bd m (zd_T 3 m) := zd_T_step (k := 2) (by decide) (by decide) h2
  have h4 : zd_G m (zd_T 4 m) 4 (2 * (2 * (2 * (2 * 100)))) ∨ zd_Bd m (zd_T 4 m) := zd_T_step (k := 3) (by decide) (by decide) h3
  rcases h4 with ⟨d, _, s, t⟩ | h
  · exact Or.inl ⟨⟨d, fun i j k hi hj hk => t k hk i j hi hj⟩, s⟩
  · exact Or.inr h
end
section
/-! cells, zones, frames -/
theorem zd_neg {x : Int32} : x < 0 ↔ x.toInt < 0 := by rw [Int32.lt_iff_toInt_lt, Int32.toInt_zero]
theorem zd_nI_of {x : Int32} {n : Nat} (h : x.toInt = (n : Int)) (hn : n < 2 ^ 31) : x = nI n := Int32.toInt_inj.mp (by rw [nI_toInt hn]; exact h)
theorem zd_i1 (z q : Nat) : 16 * nI z + nI q = nI (16 * z + q) := by
  rw [show (16 : Int32) = nI 16 from rfl, pk_mul, nI_add]
theorem zd_i5 (z q : Nat) : 16 * nI z + 5 * nI q = nI (16 * z + 5 * q) := by
  rw [show (16 : Int32) = nI 16 from rfl, show (5 : Int32) = nI 5 from rfl, pk_mul, pk_mul, nI_add]
theorem zd_i4 (z q : Nat) : 16 * nI z + 4 * nI q = nI (16 * z + 4 * q) := by
  rw [show (16 : Int32) = nI 16 from rfl, show (4 : Int32) = nI 4 from rfl, pk_mul, pk_mul, nI_add]
theorem zd_ic (z i j : Nat) : 16 * nI z + 4 * nI i + nI j = nI (16 * z + (4 * i + j)) := by
  rw [zd_i4, nI_add, Nat.add_assoc]
theorem zd_dv {i : Nat} (hi : i < 1000) : nI i / 4 = nI (i / 4) := by
  rw [show (4 : Int32) = nI 4 from rfl, pk_div (by omega) (by omega) (by omega)]
theorem zd_rm {i : Nat} (hi : i < 1000) : nI i - nI i / 4 * 4 = nI (i % 4) := by
  rw [show (4 : Int32) = nI 4 from rfl, pk_rem (by omega) (by omega) (by omega)]
def zd_V (a : Nat → Int32) (z i j : Nat) : Int := if i < 4 ∧ j < 4 then (a (16 * z + (4 * i + j))).toInt else 0
theorem zd_V_eq {a : Nat → Int32} {z i j : Nat} (hi : i < 4) (hj : j < 4) : zd_V a z i j = (a (16 * z + (4 * i + j))).toInt := if_pos ⟨hi, hj⟩
theorem zd_V_ext {a a' : Nat → Int32} {z z' : Nat} (h : ∀ q, q < 16 → a' (16 * z' + q) = a (16 * z + q)) : zd_V a' z' = zd_V a z := by
  funext i j
  by_cases c : i < 4 ∧ j < 4
  · obtain ⟨hi, hj⟩ := c
    rw [zd_V_eq hi hj, zd_V_eq hi hj, h _ (by omega)]
  · unfold zd_V
    rw [if_neg c, if_neg c]
/-- only cells of zone z have changed -/
def zd_fr (z : Nat) (a a' : Nat → Int32) : Prop := ∀ j, j < 16 * z ∨ 16 * z + 16 ≤ j → a' j = a j
theorem zd_fr_r (z : Nat) (a : Nat → Int32) : zd_fr z a a := fun _ _ => rfl
theorem zd_fr_t {z : Nat} {a a' a'' : Nat → Int32} (h : zd_fr z a a') (h' : zd_fr z a' a'') : zd_fr z a a'' := fun j hj => (h' j hj).trans (h j hj)
theorem zd_fr_u {z i : Nat} {a s : Nat → Int32} {x : Int32} (h : zd_fr z a s) (hi : i < 16) : zd_fr z a (upd s (16 * z + i) x) := by
  intro j hj
  rw [pk_un (by omega)]
  exact h j hj
theorem zd_fr_c {z y q : Nat} {a a' : Nat → Int32} (h : zd_fr z a a') (n : y ≠ z) (hq : q < 16) : a' (16 * y + q) = a (16 * y + q) := h _ (by omega)
theorem zd_fr_V {z y : Nat} {a a' : Nat → Int32} (h : zd_fr z a a') (n : y ≠ z) : zd_V a' y = zd_V a y := zd_V_ext (fun q hq => zd_fr_c h n hq)
/-- a loop that writes one cell of zone z after the other -/
def zd_pw (z : Nat) (a s F : Nat → Int32) (i : Nat) : Prop := zd_fr z a s ∧ ∀ q, q < 16 → s (16 * z + q) = if q < i then F q else a (16 * z + q)
theorem zd_pw_0 {z : Nat} {a F : Nat → Int32} : zd_pw z a a F 0 := ⟨fun _ _ => rfl, fun q _ => by rw [if_neg (by omega)]⟩
theorem zd_pw_at {z i : Nat} {a s F : Nat → Int32} (h : zd_pw z a s F i) (hi : i < 16) : s (16 * z + i) = a (16 * z + i) := by
  rw [h.2 i hi, if_neg (by omega)]
theorem zd_pw_src {z y i : Nat} {a s F : Nat → Int32} (h : zd_pw z a s F i) (hi : i < 16) : s (16 * y + i) = a (16 * y + i) := by
  by_cases e : y = z
  · rw [e]
    exact zd_pw_at h hi
  · exact zd_fr_c h.1 e hi
theorem zd_pw_s {z i : Nat} {a s F : Nat → Int32} {x : Int32} (h : zd_pw z a s F i) (hi : i < 16) (hx : x = F i) : zd_pw z a (upd s (16 * z + i) x) F (i + 1) := by
  refine ⟨zd_fr_u h.1 hi, fun q hq => ?_⟩
  by_cases e : q = i
  · rw [e, pk_us, if_pos (by omega), hx]
  · rw [pk_un (by omega), h.2 q hq]
    by_cases c : q < i
    · rw [if_pos c, if_pos (by omega)]
    · rw [if_neg c, if_neg (by omega)]
theorem zd_pw_end {z : Nat} {a s F : Nat → Int32} (h : zd_pw z a s F 16) : ∀ q, q < 16 → s (16 * z + q) = F q := fun q hq => by
  rw [h.2 q hq, if_pos hq]
theorem zd_upd_self (a : Nat → Int32) (k : Nat) : upd a k (a k) = a := by
  funext j
  by_cases e : j = k
  · rw [e, pk_us]
  · rw [pk_un e]
theorem zd_sh_upd (s : Nat → Int32) (z i : Nat) (x : Int32) : (fun q => upd s (16 * z + i) x (16 * z + q)) = upd (fun q => s (16 * z + q)) i x := by
  funext q
  by_cases e : q = i
  · rw [e, pk_us, pk_us]
  · rw [pk_un e, pk_un (by omega)]
/-! small methods -/
theorem zd_bad {post : Int32 → Prop} {a b : Nat → Int32} {z : Nat} (hz : z < 4) (h : post 0) : wpX_bad post (a, b) (nI z) :=
  br_f (nI_pos (by omega)) (pk_lt z 4 (fun _ => h) (fun t => absurd t (by omega)))
theorem zd_badPair {post : Int32 → Prop} {a b : Nat → Int32} {i j : Nat} (hi : i < 4) (hj : j < 4) (n : i ≠ j) (h : post 0) : wpX_badPair post (a, b) (nI (4 * i + j)) := by
  refine br_f (nI_pos (by omega)) (pk_lt 15 (4 * i + j) (fun t => absurd t (by omega)) (fun _ => ⟨by decide, by decide, ?_⟩))
  rw [zd_rm (by omega), zd_dv (by omega)]
  exact pk_eq ((4 * i + j) / 4) ((4 * i + j) % 4) (fun t => absurd t (by omega)) (fun _ => h)
theorem zd_answer {post : Int32 → Prop} {a b : Nat → Int32} {z : Nat} (hz : z < 6) (h0 : b z = 0 → post 1) (h1 : ¬ b z = 0 → post 0) : wpX_answer post (a, b) (nI z) := by
  unfold wpX_answer
  dsimp only
  rw [nI_clamp (show z < 2 ^ 31 by omega)]
  exact ⟨pk_in z 6 hz, h0, h1⟩
def zd_mn (x y : Int32) : Int32 := if x ≤ y then x else y
theorem zd_mn_i (x y : Int32) : (zd_mn x y).toInt = if x.toInt ≤ y.toInt then x.toInt else y.toInt := by
  unfold zd_mn
  by_cases c : x ≤ y
  · rw [if_pos c, if_pos (Int32.le_iff_toInt_le.mp c)]
  · rw [if_neg c, if_neg (fun t => c (Int32.le_iff_toInt_le.mpr t))]
theorem zd_lower {post : St1 → Prop} {a b : Nat → Int32} {z q : Nat} {c : Int32} (hz : z < 6) (hq : q < 16) (H : post (upd a (16 * z + q) (zd_mn (a (16 * z + q)) c), b)) : wpX_lower post (a, b) (nI z) (nI q) c := by
  unfold wpX_lower
  dsimp only
  rw [zd_i1, nI_clamp (show 16 * z + q < 2 ^ 31 by omega)]
  refine ⟨vp_in_nI (by omega) (by decide), br_c (fun c1 => ?_) (fun c1 => ⟨vp_in_nI (by omega) (by decide), nm_e ?_⟩)⟩
  · rw [show zd_mn (a (16 * z + q)) c = a (16 * z + q) from if_pos c1, zd_upd_self] at H
    exact H
  · rw [show zd_mn (a (16 * z + q)) c = c from if_neg c1] at H
    exact H
theorem zd_copyTo {post : St1 → Prop} {a b : Nat → Int32} {y z : Nat} (hy : y < 6) (hz : z < 6) (hb : b y = 0 ∨ b y = 1) (H : ∀ a', zd_fr z a a' → (∀ q, q < 16 → a' (16 * z + q) = a (16 * y + q)) → post (a', upd b z (b y))) : wpX_copyTo post (a, b) (nI y) (nI z) := by
  have hn : vp_nar .boolean (b y) = b y := by rcases hb with e | e <;> rw [e] <;> rfl
  unfold wpX_copyTo
  dsimp only
  rw [nI_clamp (show y < 2 ^ 31 by omega), nI_clamp (show z < 2 ^ 31 by omega), hn]
  refine ⟨pk_in y 6 hy, pk_in z 6 hz, nm_e ?_⟩
  refine pk_loop (fun n i s => wX_copyTo_14 post (nI y) (nI z) n (nI i) s (upd b z (b y))) (fun i s => zd_pw z a s (fun q => a (16 * y + q)) i) 16 0 a (by omega) zd_pw_0 ?_ ?_
  · intro n s h
    exact pk_le 16 16 (fun _ => H s h.1 (zd_pw_end h)) (fun t => absurd t (by omega))
  · intro n i s hi h hw
    refine pk_le 16 i (fun t => absurd t (by omega)) (fun _ => ?_)
    rw [zd_i1 y i, zd_i1 z i, nI_clamp (show 16 * y + i < 2 ^ 31 by omega), nI_clamp (show 16 * z + i < 2 ^ 31 by omega), zd_pw_src h hi]
    exact ⟨vp_in_nI (by omega) (by decide), vp_in_nI (by omega) (by decide), nm_e (nm_r (nI_1 i) (hw _ (zd_pw_s h hi rfl)))⟩
/-! the fresh zone -/
def zd_bx (q : Nat) : Int32 := if q / 4 = q % 4 ∨ q / 4 = 0 then 0 else 9
theorem zd_bx_at {i j : Nat} (hj : j < 4) : zd_bx (4 * i + j) = if i = j ∨ i = 0 then 0 else 9 := by
  unfold zd_bx
  rw [show (4 * i + j) / 4 = i by omega, show (4 * i + j) % 4 = j by omega]
theorem zd_bb {post : Int32 → Prop} {a b : Nat → Int32} {i j : Nat} (hi : i < 4) (hj : j < 4) (H : post (zd_bx (4 * i + j))) : wpX_boxBound post (a, b) (nI i) (nI j) := by
  rw [zd_bx_at hj] at H
  refine pk_eq i j (fun e => ?_) (fun e => pk_eq i 0 (fun e' => ?_) (fun e' => ?_))
  · rw [if_pos (Or.inl e)] at H
    exact H
  · rw [if_pos (Or.inr e')] at H
    exact H
  · rw [if_neg (by omega)] at H
    exact H
theorem zd_setFresh {post : St1 → Prop} {a b : Nat → Int32} {z : Nat} (hz : z < 6) (H : ∀ a', zd_fr z a a' → (∀ q, q < 16 → a' (16 * z + q) = zd_bx q) → post (a', upd b z 0)) : wpX_setFresh post (a, b) (nI z) := by
  unfold wpX_setFresh
  dsimp only
  rw [nI_clamp (show z < 2 ^ 31 by omega)]
  refine ⟨pk_in z 6 hz, nm_e ?_⟩
  refine pk_loop (fun n i s => wX_setFresh_9 post (nI z) n (nI i) s (upd b z 0)) (fun i s => zd_pw z a s zd_bx (4 * i)) 4 0 a (by omega) zd_pw_0 ?_ ?_
  · intro n s h
    exact pk_le 4 4 (fun _ => H s h.1 (zd_pw_end h)) (fun t => absurd t (by omega))
  · intro n i s hi h hw
    refine pk_le 4 i (fun t => absurd t (by omega)) (fun _ => ?_)
    refine pk_loop (fun n' j s => wX_setFresh_16 post (wX_setFresh_9 post (nI z) n) (nI z) (nI i) n' (nI j) s (upd b z 0)) (fun j s => zd_pw z a s zd_bx (4 * i + j)) 4 0 s (by omega) h ?_ ?_
    · intro n' s' h'
      exact pk_le 4 4 (fun _ => nm_r (nI_1 i) (hw s' h')) (fun t => absurd t (by omega))
    · intro n' j s' hj h' hw'
      refine pk_le 4 j (fun t => absurd t (by omega)) (fun _ => zd_bb hi hj ?_)
      rw [zd_ic, nI_clamp (show 16 * z + (4 * i + j) < 2 ^ 31 by omega)]
      exact ⟨vp_in_nI (by omega) (by decide), nm_e (nm_r (nI_1 j) (hw' _ (zd_pw_s h' (by omega) rfl)))⟩
/-! tighten -/
theorem zd_w95 {post : St1 → Prop} {a b : Nat → Int32} {z : Nat} (hz : z < 6) (H : ∀ b' : Nat → Int32, (∀ y, y ≠ z → b' y = b y) → ((∃ i, i < 4 ∧ a (16 * z + 5 * i) < 0) → b' z = 1) → ((∀ i, i < 4 → ¬ a (16 * z + 5 * i) < 0) → b' z = b z) → post (a, b')) : ∃ n, wX_tighten_95 post (nI z) n 0 a b := by
  refine pk_loop (fun n i s => wX_tighten_95 post (nI z) n (nI i) a s) (fun i s => (∀ y, y ≠ z → s y = b y) ∧ ((∃ t, t < i ∧ a (16 * z + 5 * t) < 0) → s z = 1) ∧ ((∀ t, t < i → ¬ a (16 * z + 5 * t) < 0) → s z = b z)) 4 0 b (by omega) ⟨fun _ _ => rfl, fun ⟨t, ht, _⟩ => absurd ht (by omega), fun _ => rfl⟩ ?_ ?_
  · intro n s h
    exact pk_le 4 4 (fun _ => H s h.1 h.2.1 h.2.2) (fun t => absurd t (by omega))
  · intro n i s hi h hw
    refine pk_le 4 i (fun t => absurd t (by omega)) (fun _ => ?_)
    rw [zd_i5, nI_clamp (show 16 * z + 5 * i < 2 ^ 31 by omega), nI_clamp (show z < 2 ^ 31 by omega)]
    refine ⟨vp_in_nI (by omega) (by decide), br_c (fun c => nm_r (nI_1 i) (hw s ⟨h.1, ?_, ?_⟩)) (fun c => ⟨pk_in z 6 hz, nm_e (nm_r (nI_1 i) (hw _ ⟨?_, ?_, ?_⟩))⟩)⟩
    · rintro ⟨t, ht, n⟩
      by_cases e : t = i
      · rw [e, zd_neg] at n
        rw [Int32.le_iff_toInt_le, Int32.toInt_zero] at c
        omega
      · exact h.2.1 ⟨t, by omega, n⟩
    · intro q
      exact h.2.2 (fun t ht => q t (by omega))
    · intro y hy
      rw [pk_un hy]
      exact h.1 y hy
    · intro _
      exact pk_us
    · intro q
      refine absurd ?_ (q i (by omega))
      rw [zd_neg]
      rw [Int32.le_iff_toInt_le, Int32.toInt_zero] at c
      omega
theorem zd_w9 {post : St1 → Prop} {J : Int32 → (Nat → Int32) → (Nat → Int32) → Prop} {a b : Nat → Int32} {z k : Nat} (hz : z < 6) (hk : k < 4) (H : ∀ a', zd_fr z a a' → (fun q => a' (16 * z + q)) = zd_ph k 16 (fun q => a (16 * z + q)) → J (nI (k + 1)) a' b) : ∃ n, wX_tighten_9 post J (nI z) (nI k) n 0 a b := by
  refine pk_loop (fun n i s => wX_tighten_9 post J (nI z) (nI k) n (nI i) s b) (fun i s => zd_fr z a s ∧ (fun q => s (16 * z + q)) = zd_ph k i (fun q => a (16 * z + q))) 16 0 a (by omega) ⟨fun _ _ => rfl, rfl⟩ ?_ ?_
  · intro n s h
    exact pk_le 16 16 (fun _ => nm_r (nI_1 k) (H s h.1 h.2)) (fun t => absurd t (by omega))
  · intro n i s hi h hw
    have e : zd_ph k (i + 1) (fun q => a (16 * z + q)) = zd_st k i (fun q => s (16 * z + q)) := by
      rw [h.2]
      rfl
    refine pk_le 16 i (fun t => absurd t (by omega)) (fun _ => ?_)
    rw [zd_rm (show i < 1000 by omega), zd_dv (show i < 1000 by omega), zd_ic, zd_ic, zd_i1, nI_clamp (show 16 * z + (4 * (i / 4) + k) < 2 ^ 31 by omega), nI_clamp (show 16 * z + (4 * k + i % 4) < 2 ^ 31 by omega), nI_clamp (show 16 * z + i < 2 ^ 31 by omega)]
    refine ⟨by decide, vp_in_nI (by omega) (by decide), by decide, vp_in_nI (by omega) (by decide), nm_e ⟨vp_in_nI (by omega) (by decide), br_c (fun c => nm_r (nI_1 i) (hw s ⟨h.1, ?_⟩)) (fun c => ⟨vp_in_nI (by omega) (by decide), nm_e (nm_r (nI_1 i) (hw _ ⟨zd_fr_u h.1 hi, ?_⟩))⟩)⟩⟩
    · rw [e]
      exact (zd_st_t (m := fun q => s (16 * z + q)) c).symm
    · rw [e, zd_sh_upd]
      exact (zd_st_f (m := fun q => s (16 * z + q)) c).symm
theorem zd_w2 {post : St1 → Prop} {a b : Nat → Int32} {z : Nat} (hz : z < 6) (H : ∀ a', zd_fr z a a' → (fun q => a' (16 * z + q)) = zd_T 4 (fun q => a (16 * z + q)) → ∃ n, wX_tighten_95 post (nI z) n 0 a' b) : ∃ n, wX_tighten_2 post (nI z) n 0 a b := by
  refine pk_loop (fun n i s => wX_tighten_2 post (nI z) n (nI i) s b) (fun i s => zd_fr z a s ∧ (fun q => s (16 * z + q)) = zd_T i (fun q => a (16 * z + q))) 4 0 a (by omega) ⟨fun _ _ => rfl, rfl⟩ ?_ ?_
  · intro n s h
    exact pk_le 4 4 (fun _ => H s h.1 h.2) (fun t => absurd t (by omega))
  · intro n i s hi h hw
    refine pk_le 4 i (fun t => absurd t (by omega)) (fun _ => zd_w9 hz hi (fun a' f e => hw a' ⟨zd_fr_t h.1 f, ?_⟩))
    rw [e, h.2]
    rfl
theorem zd_tri_congr {g h : Nat → Nat → Int} (e : ∀ i j, i < 4 → j < 4 → h i j = g i j) (hg : zd_tri g) : zd_tri h := by
  refine ⟨fun i hi => ?_, fun i j k hi hj hk => ?_⟩
  · rw [e i i hi hi]; exact hg.1 i hi
  · rw [e i j hi hj, e i k hi hk, e k j hk hj]; exact hg.2 i j k hi hj hk
/-- what tighten makes of zone z: tight and the same points, or it shows that there is none -/
def zd_tg (z : Nat) (a b a' b' : Nat → Int32) : Prop := (b' z = b z ∧ zd_tri (zd_V a' z) ∧ (∀ p, zd_sat (zd_V a' z) p ↔ zd_sat (zd_V a z) p) ∧ (∀ i j, i < 4 → j < 4 → zd_V a' z i j ≤ zd_V a z i j)) ∨ (b' z = 1 ∧ ∀ p, ¬ zd_sat (zd_V a z) p)
theorem zd_tighten {post : St1 → Prop} {a b : Nat → Int32} {z : Nat} (hz : z < 6) (H : ∀ a' b', zd_fr z a a' → (∀ y, y ≠ z → b' y = b y) → (b' z = b z ∨ b' z = 1) → ((∀ i, i < 4 → zd_V a z i i = 0) → (∀ i j, i < 4 → j < 4 → -100 ≤ zd_V a z i j ∧ zd_V a z i j ≤ 100) → zd_tg z a b a' b') → post (a', b')) : wpX_tighten post (a, b) (nI z) := by
  show ∃ n, wX_tighten_2 post (nI z) n 0 a b
  refine zd_w2 hz (fun a' f e => zd_w95 hz (fun b' fb h1 h0 => ?_))
  have eV : ∀ i j, i < 4 → j < 4 → zd_V a z i j = zd_M (fun q => a (16 * z + q)) i j := fun i j hi hj => zd_V_eq hi hj
  have eV' : ∀ i j, i < 4 → j < 4 → zd_V a' z i j = zd_M (zd_T 4 (fun q => a (16 * z + q))) i j := by
    intro i j hi hj
    rw [zd_V_eq hi hj, ← e]
    rfl
  refine H a' b' f fb ?_ (fun d bd => ?_)
  · by_cases neg : ∃ i, i < 4 ∧ a' (16 * z + 5 * i) < 0
    · exact Or.inr (h1 neg)
    · exact Or.inl (h0 (fun i hi t => neg ⟨i, hi, t⟩))
  · have dg : ∀ i, i < 4 → (a' (16 * z + 5 * i)).toInt = zd_M (zd_T 4 (fun q => a (16 * z + q))) i i := by
      intro i hi
      rw [← eV' i i hi hi, zd_V_eq hi hi, show 4 * i + i = 5 * i by omega]
    rcases zd_T_sem (m := fun q => a (16 * z + q)) (fun i hi => by rw [← eV i i hi hi]; exact d i hi) (fun i j hi hj => by rw [← eV i j hi hj]; exact bd i j hi hj) with ⟨t, s⟩ | ⟨⟨i, hi, n⟩, s⟩
    · refine Or.inl ⟨h0 (fun i hi q => ?_), zd_tri_congr eV' t, fun p => ?_, fun i j hi hj => ?_⟩
      · have h3 := t.1 i hi
        rw [zd_neg, dg i hi] at q
        omega
      · exact ((zd_sat_congr eV' p).trans (s p)).trans (zd_sat_congr eV p).symm
      · rw [eV' i j hi hj, eV i j hi hj]
        exact zd_T_le _ _ 4
    · refine Or.inr ⟨h1 ⟨i, hi, ?_⟩, fun p hp => s p ((zd_sat_congr eV p).mp hp)⟩
      rw [zd_neg, dg i hi]
      exact n
end
section
/-- the invariant: flags are 0 or 1, a zone that isn't hollow is tight and in the box -/
def zd_I (a b : Nat → Int32) : Prop := (∀ z, z < 6 → b z = 0 ∨ b z = 1) ∧ (∀ z, z < 4 → b z = 0 → zd_ok (zd_V a z))
/-- only zone z has changed -/
def zd_fz (z : Nat) (a b a' b' : Nat → Int32) : Prop := ∀ y, y ≠ z → zd_V a' y = zd_V a y ∧ b' y = b y
/-- the points of a zone -/
def zd_zp (h : Int32) (g : Nat → Nat → Int) (p : Nat → Int) : Prop := h = 0 ∧ zd_sat g p
theorem zd_fz_u {z : Nat} {a b a' : Nat → Int32} {x : Int32} (f : zd_fr z a a') : zd_fz z a b a' (upd b z x) := fun y n => ⟨zd_fr_V f n, pk_un n⟩
theorem zd_fz_o {z : Nat} {a b a' b' : Nat → Int32} (f : zd_fr z a a') (h : ∀ y, y ≠ z → b' y = b y) : zd_fz z a b a' b' := fun y n => ⟨zd_fr_V f n, h y n⟩
theorem zd_fz_I {z : Nat} {a b a' b' : Nat → Int32} (hI : zd_I a b) (f : zd_fz z a b a' b') (h : b' z = 0 ∨ b' z = 1) (hk : z < 4 → b' z = 0 → zd_ok (zd_V a' z)) : zd_I a' b' := by
  refine ⟨fun y hy => ?_, fun y hy h0 => ?_⟩
  · by_cases e : y = z
    · rw [e]; exact h
    · rw [(f y e).2]; exact hI.1 y hy
  · by_cases e : y = z
    · rw [e] at h0 hy ⊢; exact hk hy h0
    · rw [(f y e).1]
      rw [(f y e).2] at h0
      exact hI.2 y hy h0
theorem zd_10 : ¬ (1 : Int32) = 0 := by decide
theorem zd_V_upd {a : Nat → Int32} {z i j : Nat} {x : Int32} (hi : i < 4) (hj : j < 4) {i' j' : Nat} (hi' : i' < 4) (hj' : j' < 4) : zd_V (upd a (16 * z + (4 * i + j)) x) z i' j' = if i' = i ∧ j' = j then x.toInt else zd_V a z i' j' := by
  rw [zd_V_eq hi' hj', zd_V_eq hi' hj']
  by_cases c : i' = i ∧ j' = j
  · rw [if_pos c, c.1, c.2, pk_us]
  · rw [if_neg c, pk_un (by omega)]
theorem zd_tg_ok {z : Nat} {a b a' b' : Nat → Int32} (t : zd_tg z a b a' b') (hb : b z = 0) (h1 : ∀ i, i < 4 → zd_V a z i 0 ≤ 9) (h2 : ∀ i, i < 4 → zd_V a z 0 i ≤ 0) :
    (b' z = 0 ∧ zd_ok (zd_V a' z) ∧ ∀ p, zd_sat (zd_V a' z) p ↔ zd_sat (zd_V a z) p) ∨ (b' z = 1 ∧ ∀ p, ¬ zd_sat (zd_V a z) p) := by
  rcases t with ⟨e, t, s, l⟩ | h
  · refine Or.inl ⟨e.trans hb, ⟨t, fun i hi => ?_, fun i hi => ?_⟩, s⟩
    · exact Int.le_trans (l i 0 hi (by omega)) (h1 i hi)
    · exact Int.le_trans (l 0 i (by omega) hi) (h2 i hi)
  · exact Or.inr h
/-! meeting two zones -/
theorem zd_w31 {post : St1 → Prop} {a b : Nat → Int32} {z y : Nat} (hz : z < 6) (hy : y < 6)
    (H0 : ∀ a' a'' b'', zd_fr z a a' → (∀ q, q < 16 → a' (16 * z + q) = zd_mn (a (16 * z + q)) (a (16 * y + q))) → b z = 0 → zd_fr z a' a'' → (∀ y, y ≠ z → b'' y = b y) → (b'' z = b z ∨ b'' z = 1) → ((∀ i, i < 4 → zd_V a' z i i = 0) → (∀ i j, i < 4 → j < 4 → -100 ≤ zd_V a' z i j ∧ zd_V a' z i j ≤ 100) → zd_tg z a' b a'' b'') → post (a'', b''))
    (H1 : ∀ a', zd_fr z a a' → ¬ b z = 0 → post (a', b)) : ∃ n, wX_meetWith_31 post (nI z) (nI y) n 0 a b := by
  refine pk_loop (fun n i s => wX_meetWith_31 post (nI z) (nI y) n (nI i) s b) (fun i s => zd_pw z a s (fun q => zd_mn (a (16 * z + q)) (a (16 * y + q))) i) 16 0 a (by omega) zd_pw_0 ?_ ?_
  · intro n s h
    refine pk_le 16 16 (fun _ => ?_) (fun t => absurd t (by omega))
    rw [nI_clamp (show z < 2 ^ 31 by omega)]
    refine ⟨pk_in z 6 hz, br_c (fun c => ?_) (fun c => H1 s h.1 c)⟩
    exact zd_tighten hz (fun a'' b'' f1 f2 f3 f4 => H0 s a'' b'' h.1 (zd_pw_end h) c f1 f2 f3 f4)
  · intro n i s hi h hw
    refine pk_le 16 i (fun t => absurd t (by omega)) (fun _ => ?_)
    rw [zd_i1, nI_clamp (show 16 * y + i < 2 ^ 31 by omega), zd_pw_src h hi]
    refine ⟨vp_in_nI (by omega) (by decide), zd_lower hz hi (nm_r (nI_1 i) (hw _ (zd_pw_s h hi ?_)))⟩
    rw [zd_pw_at h hi]
/-- what meetWith makes of zone z -/
def zd_mw (z y : Nat) (a b a' b' : Nat → Int32) : Prop := (b' z = 0 → zd_ok (zd_V a' z)) ∧ ∀ p, zd_zp (b' z) (zd_V a' z) p ↔ zd_zp (b z) (zd_V a z) p ∧ zd_zp (b y) (zd_V a y) p
theorem zd_meetWith {post : St1 → Prop} {a b : Nat → Int32} {z y : Nat} (hz : z < 6) (hy : y < 6) (hbz : b z = 0 ∨ b z = 1) (hby : b y = 0 ∨ b y = 1)
    (H : ∀ a' b', zd_fr z a a' → (∀ t, t ≠ z → b' t = b t) → (b' z = 0 ∨ b' z = 1) → ((b z = 0 → zd_ok (zd_V a z)) → (b y = 0 → zd_ok (zd_V a y)) → zd_mw z y a b a' b') → post (a', b')) : wpX_meetWith post (a, b) (nI z) (nI y) := by
  have K1 : ¬ (b z = 0 ∧ b y = 0) → ∃ n, wX_meetWith_31 post (nI z) (nI y) n 0 a (upd b z 1) := by
    intro hn
    refine zd_w31 hz hy (fun a' a'' b'' _ _ h => ?_) (fun a' f _ => ?_)
    · rw [pk_us] at h
      exact absurd h zd_10
    · refine H a' _ f (fun t ht => pk_un ht) (Or.inr pk_us) (fun _ _ => ⟨fun h => ?_, fun p => ⟨fun h => ?_, fun h => ?_⟩⟩)
      · rw [pk_us] at h
        exact absurd h zd_10
      · have h1 := h.1
        rw [pk_us] at h1
        exact absurd h1 zd_10
      · exact absurd ⟨h.1.1, h.2.1⟩ hn
  unfold wpX_meetWith
  dsimp only
  rw [nI_clamp (show z < 2 ^ 31 by omega), nI_clamp (show y < 2 ^ 31 by omega)]
  refine ⟨pk_in z 6 hz, br_c (fun c => ⟨pk_in y 6 hy, br_c (fun c' => ⟨pk_in z 6 hz, nm_e ?_⟩) (fun c' => ⟨pk_in z 6 hz, nm_e (K1 (fun t => c' t.2))⟩)⟩) (fun c => ⟨pk_in z 6 hz, nm_e (K1 (fun t => c t.1))⟩)⟩
  refine zd_w31 hz hy (fun a' a'' b'' f1 e _ f2 fb f3 f4 => ?_) (fun a' f h => absurd pk_us h)
  have f3' : b'' z = 0 ∨ b'' z = 1 := by
    rw [pk_us] at f3
    exact f3
  refine H a'' b'' (zd_fr_t f1 f2) (fun t ht => (fb t ht).trans (pk_un ht)) f3' (fun ok1 ok2 => ?_)
  have k1 := ok1 c
  have k2 := ok2 c'
  have eV : ∀ i j, i < 4 → j < 4 → zd_V a' z i j = if zd_V a z i j ≤ zd_V a y i j then zd_V a z i j else zd_V a y i j := by
    intro i j hi hj
    rw [zd_V_eq hi hj, zd_V_eq hi hj, zd_V_eq hi hj, e _ (by omega), zd_mn_i]
  have L1 : ∀ i j, i < 4 → j < 4 → zd_V a' z i j ≤ zd_V a z i j := by
    intro i j hi hj
    rw [eV i j hi hj]
    split <;> omega
  have L2 : ∀ i j, i < 4 → j < 4 → zd_V a' z i j ≤ zd_V a y i j := by
    intro i j hi hj
    rw [eV i j hi hj]
    split <;> omega
  have S : ∀ p, zd_sat (zd_V a' z) p ↔ zd_sat (zd_V a z) p ∧ zd_sat (zd_V a y) p := by
    intro p
    refine ⟨fun h => ⟨zd_sub_of_le L1 h, zd_sub_of_le L2 h⟩, fun h i j hi hj => ?_⟩
    have s1 := h.1 i j hi hj
    have s2 := h.2 i j hi hj
    rw [eV i j hi hj]
    split <;> omega
  have tg := f4 (fun i hi => by rw [eV i i hi hi, k1.1.1 i hi, k2.1.1 i hi]; rfl) (fun i j hi hj => by
    have l1 := zd_ok_lo k1 hi hj
    have l2 := zd_ok_lo k2 hi hj
    have l3 := zd_ok_hi k1 hi hj
    have l4 := L1 i j hi hj
    rw [eV i j hi hj] at l4 ⊢
    split <;> omega)
  have hb0 : (upd b z 0) z = 0 := pk_us
  rcases zd_tg_ok tg hb0 (fun i hi => Int.le_trans (L1 i 0 hi (by omega)) (k1.2.1 i hi)) (fun i hi => Int.le_trans (L1 0 i (by omega) hi) (k1.2.2 i hi)) with ⟨h0, hk, hs⟩ | ⟨h1, hs⟩
  · refine ⟨fun _ => hk, fun p => ⟨fun h => ?_, fun h => ⟨h0, (hs p).mpr ((S p).mpr ⟨h.1.2, h.2.2⟩)⟩⟩⟩
    have t := (S p).mp ((hs p).mp h.2)
    exact ⟨⟨c, t.1⟩, ⟨c', t.2⟩⟩
  · refine ⟨fun h => ?_, fun p => ⟨fun h => ?_, fun h => ?_⟩⟩
    · rw [h1] at h
      exact absurd h zd_10
    · have t := h.1
      rw [h1] at t
      exact absurd t zd_10
    · exact absurd ((S p).mpr ⟨h.1.2, h.2.2⟩) (hs p)
/-! the public ones -/
theorem zd_bx_ok {a : Nat → Int32} {z : Nat} (e : ∀ q, q < 16 → a (16 * z + q) = zd_bx q) : zd_ok (zd_V a z) := by
  have eV : ∀ i j, i < 4 → j < 4 → zd_V a z i j = if i = j ∨ i = 0 then 0 else 9 := by
    intro i j hi hj
    rw [zd_V_eq hi hj, e _ (by omega), zd_bx_at hj]
    by_cases c : i = j ∨ i = 0
    · rw [if_pos c, if_pos c]
      rfl
    · rw [if_neg c, if_neg c]
      rfl
  refine ⟨⟨fun i hi => ?_, fun i j k hi hj hk => ?_⟩, fun i hi => ?_, fun i hi => ?_⟩
  · rw [eV i i hi hi, if_pos (Or.inl rfl)]
  · rw [eV i j hi hj, eV i k hi hk, eV k j hk hj]
    split <;> split <;> split <;> omega
  · rw [eV i 0 hi (by omega)]
    split <;> omega
  · rw [eV 0 i (by omega) hi, if_pos (Or.inr rfl)]
    omega
theorem zd_fresh {post : Int32 → St1 → Prop} {a b : Nat → Int32} {z : Nat} (hz : z < 4) (H : ∀ a' b', zd_fz z a b a' b' → b' z = 0 → zd_ok (zd_V a' z) → post 0 (a', b')) : wpX_fresh post (a, b) (nI z) := by
  unfold wpX_fresh
  dsimp only
  refine zd_bad hz ?_
  refine br_t rfl ?_
  refine zd_setFresh (by omega) (fun a' f e => ?_)
  exact H a' _ (zd_fz_u f) pk_us (zd_bx_ok e)
theorem zd_copy {post : Int32 → St1 → Prop} {a b : Nat → Int32} {z y : Nat} (hz : z < 4) (hy : y < 4) (hb : b y = 0 ∨ b y = 1) (H : ∀ a' b', zd_fz z a b a' b' → b' z = b y → zd_V a' z = zd_V a y → post 0 (a', b')) : wpX_copy post (a, b) (nI z) (nI y) := by
  unfold wpX_copy
  dsimp only
  refine zd_bad hz ?_
  refine br_t rfl ?_
  refine zd_bad hy ?_
  refine br_t rfl ?_
  refine zd_copyTo (by omega) (by omega) hb (fun a' f e => ?_)
  exact H a' _ (zd_fz_u f) pk_us (zd_V_ext e)
theorem zd_meet {post : Int32 → St1 → Prop} {a b : Nat → Int32} {z y : Nat} (hz : z < 4) (hy : y < 4) (hI : zd_I a b) (H : ∀ r a' b', zd_fz z a b a' b' → (b' z = 0 ∨ b' z = 1) → zd_mw z y a b a' b' → ((b' z = 0 ∧ r = 1) ∨ (¬ b' z = 0 ∧ r = 0)) → post r (a', b')) : wpX_meet post (a, b) (nI z) (nI y) := by
  unfold wpX_meet
  dsimp only
  refine zd_bad hz ?_
  refine br_t rfl ?_
  refine zd_bad hy ?_
  refine br_t rfl ?_
  refine zd_meetWith (by omega) (by omega) (hI.1 z (by omega)) (hI.1 y (by omega)) (fun a' b' f1 f2 f3 f4 => ?_)
  have h := fun r => H r a' b' (zd_fz_o f1 f2) f3 (f4 (hI.2 z hz) (hI.2 y hy))
  exact zd_answer (by omega) (fun c => h 1 (Or.inl ⟨c, rfl⟩)) (fun c => h 0 (Or.inr ⟨c, rfl⟩))
/-- what hull makes of zone z -/
def zd_hl (z y : Nat) (a b a' b' : Nat → Int32) : Prop := (b' z = 0 ∨ b' z = 1) ∧ (b' z = 0 → zd_ok (zd_V a' z)) ∧ (∀ p, zd_zp (b z) (zd_V a z) p → zd_zp (b' z) (zd_V a' z) p) ∧ (∀ p, zd_zp (b y) (zd_V a y) p → zd_zp (b' z) (zd_V a' z) p)
theorem zd_117 {post : Int32 → St1 → Prop} {a b : Nat → Int32} {z : Nat} (hz : z < 4) (H : ∀ r, post r (a, b)) : wX_hull_117 post (nI z) a b := by
  unfold wX_hull_117
  exact zd_answer (by omega) (fun _ => H 1) (fun _ => H 0)
def zd_mx (x y : Int32) : Int32 := if y ≤ x then x else y
theorem zd_mx_i (x y : Int32) : (zd_mx x y).toInt = if y.toInt ≤ x.toInt then x.toInt else y.toInt := by
  unfold zd_mx
  by_cases c : y ≤ x
  · rw [if_pos c, if_pos (Int32.le_iff_toInt_le.mp c)]
  · rw [if_neg c, if_neg (fun t => c (Int32.le_iff_toInt_le.mpr t))]
theorem zd_w49 {post : Int32 → St1 → Prop} {a b : Nat → Int32} {z y : Nat} (hz : z < 4) (hy : y < 4) (H : ∀ r a', zd_fr z a a' → (∀ q, q < 16 → a' (16 * z + q) = zd_mx (a (16 * z + q)) (a (16 * y + q))) → post r (a', b)) : ∃ n, wX_hull_49 post (nI z) (nI y) n 0 a b := by
  refine pk_loop (fun n i s => wX_hull_49 post (nI z) (nI y) n (nI i) s b) (fun i s => zd_pw z a s (fun q => zd_mx (a (16 * z + q)) (a (16 * y + q))) i) 16 0 a (by omega) zd_pw_0 ?_ ?_
  · intro n s h
    exact pk_le 16 16 (fun _ => zd_117 hz (fun r => H r s h.1 (zd_pw_end h))) (fun t => absurd t (by omega))
  · intro n i s hi h hw
    refine pk_le 16 i (fun t => absurd t (by omega)) (fun _ => ?_)
    rw [zd_i1 y i, zd_i1 z i, nI_clamp (show 16 * y + i < 2 ^ 31 by omega), nI_clamp (show 16 * z + i < 2 ^ 31 by omega), zd_pw_src (y := y) h hi, zd_pw_src (y := z) h hi]
    refine ⟨vp_in_nI (by omega) (by decide), nm_e ⟨vp_in_nI (by omega) (by decide), br_c (fun c => ⟨vp_in_nI (by omega) (by decide), vp_in_nI (by omega) (by decide), nm_e (nm_r (nI_1 i) (hw _ (zd_pw_s h hi (if_pos c).symm)))⟩) (fun c => ⟨vp_in_nI (by omega) (by decide), nm_e (nm_r (nI_1 i) (hw _ (zd_pw_s h hi (if_neg c).symm)))⟩)⟩⟩
theorem zd_hull {post : Int32 → St1 → Prop} {a b : Nat → Int32} {z y : Nat} (hz : z < 4) (hy : y < 4) (hI : zd_I a b) (H : ∀ r a' b', zd_fz z a b a' b' → zd_hl z y a b a' b' → post r (a', b')) : wpX_hull post (a, b) (nI z) (nI y) := by
  unfold wpX_hull
  dsimp only
  refine zd_bad hz ?_
  refine br_t rfl ?_
  refine zd_bad hy ?_
  refine br_t rfl ?_
  rw [nI_clamp (show z < 2 ^ 31 by omega), nI_clamp (show y < 2 ^ 31 by omega)]
  refine ⟨pk_in z 6 (by omega), br_c (fun c => ⟨pk_in y 6 (by omega), br_c (fun c' => ?_) (fun c' => ?_)⟩) (fun c => ?_)⟩
  · refine zd_w49 hz hy (fun r a' f e => H r a' b (zd_fz_o f (fun _ _ => rfl)) ?_)
    have k1 := hI.2 z hz c
    have k2 := hI.2 y hy c'
    have eV : ∀ i j, i < 4 → j < 4 → zd_V a' z i j = if zd_V a y i j ≤ zd_V a z i j then zd_V a z i j else zd_V a y i j := by
      intro i j hi hj
      rw [zd_V_eq hi hj, zd_V_eq hi hj, zd_V_eq hi hj, e _ (by omega), zd_mx_i]
    have L1 : ∀ i j, i < 4 → j < 4 → zd_V a z i j ≤ zd_V a' z i j := by
      intro i j hi hj
      rw [eV i j hi hj]
      split <;> omega
    have L2 : ∀ i j, i < 4 → j < 4 → zd_V a y i j ≤ zd_V a' z i j := by
      intro i j hi hj
      rw [eV i j hi hj]
      split <;> omega
    have O : ∀ i j, i < 4 → j < 4 → zd_V a' z i j = zd_V a z i j ∨ zd_V a' z i j = zd_V a y i j := by
      intro i j hi hj
      rw [eV i j hi hj]
      split
      · exact Or.inl rfl
      · exact Or.inr rfl
    refine ⟨Or.inl c, fun _ => ⟨⟨fun i hi => ?_, fun i j k hi hj hk => ?_⟩, fun i hi => ?_, fun i hi => ?_⟩, fun p hp => ⟨c, zd_sub_of_le L1 hp.2⟩, fun p hp => ⟨c, zd_sub_of_le L2 hp.2⟩⟩
    · rcases O i i hi hi with t | t
      · rw [t]; exact k1.1.1 i hi
      · rw [t]; exact k2.1.1 i hi
    · have a1 := L1 i k hi hk
      have a2 := L1 k j hk hj
      have a3 := L2 i k hi hk
      have a4 := L2 k j hk hj
      rcases O i j hi hj with t | t
      · have a5 := k1.1.2 i j k hi hj hk
        omega
      · have a5 := k2.1.2 i j k hi hj hk
        omega
    · rcases O i 0 hi (by omega) with t | t
      · rw [t]; exact k1.2.1 i hi
      · rw [t]; exact k2.2.1 i hi
    · rcases O 0 i (by omega) hi with t | t
      · rw [t]; exact k1.2.2 i hi
      · rw [t]; exact k2.2.2 i hi
  · refine zd_117 hz (fun r => H r a b (zd_fz_o (zd_fr_r z a) (fun _ _ => rfl)) ⟨Or.inl c, hI.2 z hz, fun p hp => hp, fun p hp => absurd hp.1 c'⟩)
  · refine zd_copyTo (by omega) (by omega) (hI.1 y (by omega)) (fun a' f e => ?_)
    refine zd_117 hz (fun r => H r a' (upd b z (b y)) (zd_fz_u f) ?_)
    have e1 : zd_V a' z = zd_V a y := zd_V_ext e
    have e2 : (upd b z (b y)) z = b y := pk_us
    unfold zd_hl
    rw [e1, e2]
    exact ⟨hI.1 y (by omega), hI.2 y hy, fun p hp => absurd hp.1 c, fun p hp => hp⟩
end
section
/-- after a delay, before it is tightened -/
def zd_W (g : Nat → Nat → Int) (i j : Nat) : Int := if j = 0 ∧ i ≠ 0 then 9 else g i j
/-- what delay makes of zone z -/
def zd_dl (z : Nat) (a b a' b' : Nat → Int32) : Prop := (b' z = 0 ∨ b' z = 1) ∧ (¬ b z = 0 → ¬ b' z = 0) ∧ (b z = 0 → b' z = 0 ∧ zd_ok (zd_V a' z) ∧ ∀ p, zd_sat (zd_V a' z) p ↔ zd_sat (zd_W (zd_V a z)) p)
theorem zd_w23 {post : Int32 → St1 → Prop} {a b : Nat → Int32} {z : Nat} (hz : z < 4)
    (H : ∀ a' a'' b'' r, zd_fr z a a' → (∀ i j, i < 4 → j < 4 → zd_V a' z i j = zd_W (zd_V a z) i j) → zd_fr z a' a'' → (∀ y, y ≠ z → b'' y = b y) → (b'' z = b z ∨ b'' z = 1) → ((∀ i, i < 4 → zd_V a' z i i = 0) → (∀ i j, i < 4 → j < 4 → -100 ≤ zd_V a' z i j ∧ zd_V a' z i j ≤ 100) → zd_tg z a' b a'' b'') → post r (a'', b'')) : ∃ n, wX_delay_23 post (nI z) n 1 a b := by
  refine pk_loop (fun n i s => wX_delay_23 post (nI z) n (nI i) s b) (fun i s => zd_fr z a s ∧ (∀ q, q < 16 → s (16 * z + q) = if q % 4 = 0 ∧ 0 < q ∧ q < 4 * i then 9 else a (16 * z + q)) ∧ 0 < i) 4 1 a (by omega) ⟨zd_fr_r z a, fun q _ => by rw [if_neg (by omega)], by omega⟩ ?_ ?_
  · intro n s h
    refine pk_le 4 4 (fun _ => ?_) (fun t => absurd t (by omega))
    refine zd_tighten (by omega) (fun a'' b'' f1 f2 f3 f4 => ?_)
    have hv : ∀ i j, i < 4 → j < 4 → zd_V s z i j = zd_W (zd_V a z) i j := by
      intro i j hi hj
      unfold zd_W
      rw [zd_V_eq hi hj, zd_V_eq hi hj, h.2.1 _ (by omega)]
      by_cases c : j = 0 ∧ i ≠ 0
      · rw [if_pos c, if_pos (by omega)]
        rfl
      · rw [if_neg c, if_neg (by omega)]
    have K := fun r => H s a'' b'' r h.1 hv f1 f2 f3 f4
    show wX_delay_54 post (nI z) a'' b''
    unfold wX_delay_54
    exact zd_answer (by omega) (fun _ => K 1) (fun _ => K 0)
  · intro n i s hi h hw
    refine pk_le 4 i (fun t => absurd t (by omega)) (fun _ => ?_)
    rw [zd_i4, nI_clamp (show 16 * z + 4 * i < 2 ^ 31 by omega)]
    refine ⟨vp_in_nI (by omega) (by decide), nm_e (nm_r (nI_1 i) (hw _ ⟨zd_fr_u h.1 (by omega), fun q hq => ?_, by omega⟩))⟩
    have h0 := h.2.2
    by_cases e : q = 4 * i
    · rw [e, pk_us, if_pos (by omega)]
    · rw [pk_un (by omega), h.2.1 q hq]
      by_cases c : q % 4 = 0 ∧ 0 < q ∧ q < 4 * i
      · rw [if_pos c, if_pos (by omega)]
      · rw [if_neg c, if_neg (by omega)]
theorem zd_delay {post : Int32 → St1 → Prop} {a b : Nat → Int32} {z : Nat} (hz : z < 4) (hI : zd_I a b) (H : ∀ r a' b', zd_fz z a b a' b' → zd_dl z a b a' b' → post r (a', b')) : wpX_delay post (a, b) (nI z) := by
  unfold wpX_delay
  dsimp only
  refine zd_bad hz ?_
  refine br_t rfl ?_
  rw [nI_clamp (show z < 2 ^ 31 by omega)]
  refine ⟨pk_in z 6 (by omega), br_c (fun c => ?_) (fun c => ?_)⟩
  · refine zd_w23 hz (fun a' a'' b'' r f1 e f2 fb f3 f4 => H r a'' b'' (zd_fz_o (zd_fr_t f1 f2) fb) ?_)
    have k := hI.2 z hz c
    have tg := f4 (fun i hi => by
      rw [e i i hi hi]
      unfold zd_W
      rw [if_neg (by omega)]
      exact k.1.1 i hi) (fun i j hi hj => by
      rw [e i j hi hj]
      unfold zd_W
      have l1 := zd_ok_lo k hi hj
      have l2 := zd_ok_hi k hi hj
      split <;> omega)
    rcases zd_tg_ok tg c (fun i hi => by
      rw [e i 0 hi (by omega)]
      unfold zd_W
      have l2 := k.2.1 i hi
      split <;> omega) (fun i hi => by
      rw [e 0 i (by omega) hi]
      unfold zd_W
      rw [if_neg (by omega)]
      exact k.2.2 i hi) with ⟨h0, hk, hs⟩ | ⟨h1, hs⟩
    · exact ⟨Or.inl h0, fun t => absurd c t, fun _ => ⟨h0, hk, fun p => (hs p).trans (zd_sat_congr e p)⟩⟩
    · refine absurd ?_ (hs (fun i => zd_V a z i 0))
      refine (zd_sat_congr e _).mpr (zd_sub_of_le (fun i j hi hj => ?_) (zd_att k.1 (by omega)))
      unfold zd_W
      have l2 := zd_ok_hi k hi hj
      split <;> omega
  · unfold wX_delay_54
    have K := fun r => H r a b (zd_fz_o (zd_fr_r z a) (fun _ _ => rfl)) ⟨hI.1 z (by omega), fun t => t, fun t => absurd t c⟩
    exact zd_answer (by omega) (fun _ => K 1) (fun _ => K 0)
theorem zd_w23p {post : Int32 → St1 → Prop} {a b : Nat → Int32} {z : Nat} (hz : z < 4)
    (H : ∀ a' a'' b'' r, zd_fr z a a' → (∀ i j, i < 4 → j < 4 → zd_V a' z i j = if i = 0 ∧ j ≠ 0 then 0 else zd_V a z i j) → zd_fr z a' a'' → (∀ y, y ≠ z → b'' y = b y) → (b'' z = b z ∨ b'' z = 1) → ((∀ i, i < 4 → zd_V a' z i i = 0) → (∀ i j, i < 4 → j < 4 → -100 ≤ zd_V a' z i j ∧ zd_V a' z i j ≤ 100) → zd_tg z a' b a'' b'') → post r (a'', b'')) : ∃ n, wX_past_23 post (nI z) n 1 a b := by
  refine pk_loop (fun n i s => wX_past_23 post (nI z) n (nI i) s b) (fun i s => zd_fr z a s ∧ (∀ q, q < 16 → s (16 * z + q) = if 0 < q ∧ q < i then 0 else a (16 * z + q)) ∧ 0 < i) 4 1 a (by omega) ⟨zd_fr_r z a, fun q _ => by rw [if_neg (by omega)], by omega⟩ ?_ ?_
  · intro n s h
    refine pk_le 4 4 (fun _ => ?_) (fun t => absurd t (by omega))
    refine zd_tighten (by omega) (fun a'' b'' f1 f2 f3 f4 => ?_)
    have hv : ∀ i j, i < 4 → j < 4 → zd_V s z i j = if i = 0 ∧ j ≠ 0 then 0 else zd_V a z i j := by
      intro i j hi hj
      rw [zd_V_eq hi hj, zd_V_eq hi hj, h.2.1 _ (by omega)]
      by_cases c : i = 0 ∧ j ≠ 0
      · rw [if_pos c, if_pos (by omega)]
        rfl
      · rw [if_neg c, if_neg (by omega)]
    have K := fun r => H s a'' b'' r h.1 hv f1 f2 f3 f4
    show wX_past_51 post (nI z) a'' b''
    unfold wX_past_51
    exact zd_answer (by omega) (fun _ => K 1) (fun _ => K 0)
  · intro n i s hi h hw
    refine pk_le 4 i (fun t => absurd t (by omega)) (fun _ => ?_)
    rw [zd_i1, nI_clamp (show 16 * z + i < 2 ^ 31 by omega)]
    refine ⟨vp_in_nI (by omega) (by decide), nm_e (nm_r (nI_1 i) (hw _ ⟨zd_fr_u h.1 (by omega), fun q hq => ?_, by omega⟩))⟩
    have h0 := h.2.2
    by_cases e : q = i
    · rw [e, pk_us, if_pos (by omega)]
    · rw [pk_un (by omega), h.2.1 q hq]
      by_cases c : 0 < q ∧ q < i
      · rw [if_pos c, if_pos (by omega)]
      · rw [if_neg c, if_neg (by omega)]
/-- what a tightened zone leaves of the invariant -/
theorem zd_tg_I {z : Nat} {a a' a'' b b'' : Nat → Int32} (hI : zd_I a b) (hz : z < 4) (c : b z = 0) (f1 : zd_fr z a a') (f2 : zd_fr z a' a'') (fb : ∀ y, y ≠ z → b'' y = b y)
    (f4 : (∀ i, i < 4 → zd_V a' z i i = 0) → (∀ i j, i < 4 → j < 4 → -100 ≤ zd_V a' z i j ∧ zd_V a' z i j ≤ 100) → zd_tg z a' b a'' b'')
    (d : ∀ i, i < 4 → zd_V a' z i i = 0) (l : ∀ i j, i < 4 → j < 4 → -100 ≤ zd_V a' z i j ∧ zd_V a' z i j ≤ 100) (h1 : ∀ i, i < 4 → zd_V a' z i 0 ≤ 9) (h2 : ∀ i, i < 4 → zd_V a' z 0 i ≤ 0) : zd_I a'' b'' := by
  refine zd_fz_I hI (zd_fz_o (zd_fr_t f1 f2) fb) ?_ (fun _ h0 => ?_)
  · rcases zd_tg_ok (f4 d l) c h1 h2 with ⟨h, _⟩ | ⟨h, _⟩
    · exact Or.inl h
    · exact Or.inr h
  · rcases zd_tg_ok (f4 d l) c h1 h2 with ⟨_, h, _⟩ | ⟨h, _⟩
    · exact h
    · rw [h] at h0
      exact absurd h0 zd_10
theorem zd_past {post : Int32 → St1 → Prop} {a b : Nat → Int32} {z : Nat} (hz : z < 4) (hI : zd_I a b) (H : ∀ r a' b', zd_I a' b' → post r (a', b')) : wpX_past post (a, b) (nI z) := by
  unfold wpX_past
  dsimp only
  refine zd_bad hz ?_
  refine br_t rfl ?_
  rw [nI_clamp (show z < 2 ^ 31 by omega)]
  refine ⟨pk_in z 6 (by omega), br_c (fun c => ?_) (fun c => ?_)⟩
  · refine zd_w23p hz (fun a' a'' b'' r f1 e f2 fb f3 f4 => H r a'' b'' ?_)
    have k := hI.2 z hz c
    refine zd_tg_I hI hz c f1 f2 fb f4 (fun i hi => ?_) (fun i j hi hj => ?_) (fun i hi => ?_) (fun i hi => ?_)
    · rw [e i i hi hi, if_neg (by omega)]
      exact k.1.1 i hi
    · rw [e i j hi hj]
      have l1 := zd_ok_lo k hi hj
      have l2 := zd_ok_hi k hi hj
      split <;> omega
    · rw [e i 0 hi (by omega), if_neg (by omega)]
      exact k.2.1 i hi
    · rw [e 0 i (by omega) hi]
      have l2 := k.2.2 i hi
      split <;> omega
  · unfold wX_past_51
    exact zd_answer (by omega) (fun _ => H 1 a b hI) (fun _ => H 0 a b hI)
theorem zd_constrain {post : Int32 → St1 → Prop} {a b : Nat → Int32} {z i j : Nat} {x : Int32} (hz : z < 4) (hi : i < 4) (hj : j < 4) (n : i ≠ j) (x1 : -9 ≤ x.toInt) (x2 : x.toInt ≤ 9) (hI : zd_I a b) (H : ∀ r a' b', zd_I a' b' → post r (a', b')) : wpX_constrain post (a, b) (nI z) (nI (4 * i + j)) x := by
  unfold wpX_constrain
  dsimp only
  refine zd_bad hz ?_
  refine br_t rfl ?_
  refine zd_badPair hi hj n ?_
  refine br_t rfl ?_
  have e9 : (-9 : Int32).toInt = -9 := rfl
  have e9' : (9 : Int32).toInt = 9 := rfl
  refine br_f (fun t => ?_) (br_t ?_ ?_)
  · rw [Int32.lt_iff_toInt_lt, e9] at t
    omega
  · rw [Int32.le_iff_toInt_le, e9']
    exact x2
  rw [nI_clamp (show z < 2 ^ 31 by omega)]
  refine ⟨pk_in z 6 (by omega), br_c (fun c => ?_) (fun c => ?_)⟩
  · refine zd_lower (by omega) (by omega) ?_
    refine zd_tighten (by omega) (fun a'' b'' f2 fb f3 f4 => ?_)
    have K : zd_I a'' b'' := by
      have k := hI.2 z hz c
      have e : ∀ i' j', i' < 4 → j' < 4 → zd_V (upd a (16 * z + (4 * i + j)) (zd_mn (a (16 * z + (4 * i + j))) x)) z i' j' = if i' = i ∧ j' = j then (if zd_V a z i j ≤ x.toInt then zd_V a z i j else x.toInt) else zd_V a z i' j' := by
        intro i' j' hi' hj'
        rw [zd_V_upd hi hj hi' hj', zd_mn_i, zd_V_eq hi hj]
      have L : ∀ i' j', i' < 4 → j' < 4 → zd_V (upd a (16 * z + (4 * i + j)) (zd_mn (a (16 * z + (4 * i + j))) x)) z i' j' ≤ zd_V a z i' j' := by
        intro i' j' hi' hj'
        rw [e i' j' hi' hj']
        by_cases t : i' = i ∧ j' = j
        · rw [if_pos t, t.1, t.2]
          split <;> omega
        · rw [if_neg t]
          exact Int.le_refl _
      refine zd_tg_I hI hz c (zd_fr_u (zd_fr_r z a) (by omega)) f2 fb f4 (fun i' hi' => ?_) (fun i' j' hi' hj' => ?_) (fun i' hi' => ?_) (fun i' hi' => ?_)
      · rw [e i' i' hi' hi', if_neg (by omega)]
        exact k.1.1 i' hi'
      · have l1 := zd_ok_lo k hi' hj'
        have l2 := zd_ok_hi k hi' hj'
        have l3 := zd_ok_lo k hi hj
        have l4 := L i' j' hi' hj'
        refine ⟨?_, by omega⟩
        rw [e i' j' hi' hj']
        by_cases t : i' = i ∧ j' = j
        · rw [if_pos t]
          split <;> omega
        · rw [if_neg t]
          omega
      · exact Int.le_trans (L i' 0 hi' (by omega)) (k.2.1 i' hi')
      · exact Int.le_trans (L 0 i' (by omega) hi') (k.2.2 i' hi')
    show wX_constrain_53 post (nI z) a'' b''
    unfold wX_constrain_53
    exact zd_answer (by omega) (fun _ => H 1 a'' b'' K) (fun _ => H 0 a'' b'' K)
  · unfold wX_constrain_53
    exact zd_answer (by omega) (fun _ => H 1 a b hI) (fun _ => H 0 a b hI)
/-! reset and forget -/
def zd_rs (a : Nat → Int32) (z i : Nat) (f g : Int32 → Int32) (J q : Nat) : Int32 := if q / 4 = i ∧ q % 4 ≠ i ∧ q % 4 < J then f (a (16 * z + q % 4)) else if q % 4 = i ∧ q / 4 ≠ i ∧ q / 4 < J then g (a (16 * z + 4 * (q / 4))) else a (16 * z + q)
def zd_rk (a : Nat → Int32) (z i : Nat) (f g : Int32 → Int32) (J : Nat) (s : Nat → Int32) : Prop := zd_fr z a s ∧ ∀ q, q < 16 → s (16 * z + q) = zd_rs a z i f g J q
theorem zd_rk_0 {a : Nat → Int32} {z i : Nat} {f g : Int32 → Int32} : zd_rk a z i f g 0 a := by
  refine ⟨zd_fr_r z a, fun q _ => ?_⟩
  unfold zd_rs
  rw [if_neg (by omega), if_neg (by omega)]
theorem zd_rk_skip {a s : Nat → Int32} {z i : Nat} {f g : Int32 → Int32} (h : zd_rk a z i f g i s) : zd_rk a z i f g (i + 1) s := by
  refine ⟨h.1, fun q hq => ?_⟩
  rw [h.2 q hq]
  unfold zd_rs
  by_cases c1 : q / 4 = i ∧ q % 4 ≠ i ∧ q % 4 < i
  · rw [if_pos c1, if_pos (by omega)]
  · rw [if_neg c1, if_neg (show ¬ (q / 4 = i ∧ q % 4 ≠ i ∧ q % 4 < i + 1) by omega)]
    by_cases c2 : q % 4 = i ∧ q / 4 ≠ i ∧ q / 4 < i
    · rw [if_pos c2, if_pos (by omega)]
    · rw [if_neg c2, if_neg (by omega)]
theorem zd_rk_a {a s : Nat → Int32} {z i J : Nat} {f g : Int32 → Int32} (hi : 0 < i) (hi4 : i < 4) (hJ : J < 4) (n : J ≠ i) (h : zd_rk a z i f g J s) : s (16 * z + J) = a (16 * z + J) := by
  rw [h.2 J (by omega)]
  unfold zd_rs
  rw [if_neg (by omega), if_neg (by omega)]
theorem zd_rk_b {a s : Nat → Int32} {z i J : Nat} {f g : Int32 → Int32} {x : Int32} (hi : 0 < i) (hi4 : i < 4) (hJ : J < 4) (n : J ≠ i) (h : zd_rk a z i f g J s) : upd s (16 * z + (4 * i + J)) x (16 * z + 4 * J) = a (16 * z + 4 * J) := by
  rw [pk_un (by omega), h.2 (4 * J) (by omega)]
  unfold zd_rs
  rw [if_neg (by omega), if_neg (by omega)]
theorem zd_rk_s {a s : Nat → Int32} {z i J : Nat} {f g : Int32 → Int32} (hi : 0 < i) (hi4 : i < 4) (hJ : J < 4) (n : J ≠ i) (h : zd_rk a z i f g J s) : zd_rk a z i f g (J + 1) (upd (upd s (16 * z + (4 * i + J)) (f (a (16 * z + J)))) (16 * z + (4 * J + i)) (g (a (16 * z + 4 * J)))) := by
  refine ⟨zd_fr_u (zd_fr_u h.1 (by omega)) (by omega), fun q hq => ?_⟩
  by_cases e1 : q = 4 * J + i
  · rw [e1, pk_us]
    unfold zd_rs
    rw [if_neg (by omega), if_pos (by omega), show (4 * J + i) / 4 = J by omega]
  · rw [pk_un (by omega)]
    by_cases e2 : q = 4 * i + J
    · rw [e2, pk_us]
      unfold zd_rs
      rw [if_pos (by omega), show (4 * i + J) % 4 = J by omega]
    · rw [pk_un (by omega), h.2 q hq]
      unfold zd_rs
      by_cases c1 : q / 4 = i ∧ q % 4 ≠ i ∧ q % 4 < J
      · rw [if_pos c1, if_pos (by omega)]
      · rw [if_neg c1, if_neg (show ¬ (q / 4 = i ∧ q % 4 ≠ i ∧ q % 4 < J + 1) by omega)]
        by_cases c2 : q % 4 = i ∧ q / 4 ≠ i ∧ q / 4 < J
        · rw [if_pos c2, if_pos (by omega)]
        · rw [if_neg c2, if_neg (by omega)]
theorem zd_rs_ok {g e : Nat → Nat → Int} {i : Nat} {c d : Int} (hi : 0 < i) (hi4 : i < 4) (hg : zd_ok g) (hcd : d ≤ c) (hd0 : 0 ≤ d) (hc9 : c ≤ 9) (Ea : ∀ y, y < 4 → y ≠ i → e i y = c + g 0 y) (Eb : ∀ x, x < 4 → x ≠ i → e x i = g x 0 - d) (Ec : e i i = 0) (Ed : ∀ x y, x < 4 → y < 4 → x ≠ i → y ≠ i → e x y = g x y) : zd_ok e := by
  have g00 := hg.1.1 0 (by omega)
  refine ⟨⟨fun x hx => ?_, fun x y k hx hy hk => ?_⟩, fun x hx => ?_, fun x hx => ?_⟩
  · by_cases e1 : x = i
    · rw [e1]; exact Ec
    · rw [Ed x x hx hx e1 e1]; exact hg.1.1 x hx
  · have t1 := hg.1.2 x y 0 hx hy (by omega)
    have t2 := hg.1.2 0 y k (by omega) hy hk
    have t3 := hg.1.2 x 0 k hx (by omega) hk
    have t4 := hg.1.2 0 0 k (by omega) (by omega) hk
    have t5 := hg.1.2 x y k hx hy hk
    by_cases e1 : x = i
    · by_cases e2 : y = i
      · by_cases e3 : k = i
        · rw [e1, e2, e3]; omega
        · rw [e1, e2, Ec, Ea k hk e3, Eb k hk e3]; omega
      · by_cases e3 : k = i
        · rw [e1, e3]; omega
        · rw [e1, Ea y hy e2, Ea k hk e3, Ed k y hk hy e3 e2]; omega
    · by_cases e2 : y = i
      · by_cases e3 : k = i
        · rw [e2, e3]; omega
        · rw [e2, Eb x hx e1, Ed x k hx hk e1 e3, Eb k hk e3]; omega
      · by_cases e3 : k = i
        · rw [e3, Ed x y hx hy e1 e2, Eb x hx e1, Ea y hy e2]; omega
        · rw [Ed x y hx hy e1 e2, Ed x k hx hk e1 e3, Ed k y hk hy e3 e2]; omega
  · by_cases e1 : x = i
    · rw [e1, Ea 0 (by omega) (by omega)]; omega
    · rw [Ed x 0 hx (by omega) e1 (by omega)]; exact hg.2.1 x hx
  · by_cases e1 : x = i
    · rw [e1, Eb 0 (by omega) (by omega)]; omega
    · rw [Ed 0 x (by omega) hx (by omega) e1]; exact hg.2.2 x hx
theorem zd_rk_ok {a s : Nat → Int32} {z i : Nat} {f g : Int32 → Int32} {c d : Int} (hi : 0 < i) (hi4 : i < 4) (hg : zd_ok (zd_V a z)) (hcd : d ≤ c) (hd0 : 0 ≤ d) (hc9 : c ≤ 9) (hf : ∀ x : Int32, -9 ≤ x.toInt → x.toInt ≤ 9 → (f x).toInt = c + x.toInt) (hh : ∀ x : Int32, -9 ≤ x.toInt → x.toInt ≤ 9 → (g x).toInt = x.toInt - d) (h : zd_rk a z i f g 4 s) : zd_ok (zd_V s z) := by
  refine zd_rs_ok hi hi4 hg hcd hd0 hc9 (fun y hy n => ?_) (fun x hx n => ?_) ?_ (fun x y hx hy n1 n2 => ?_)
  · have l1 := zd_ok_lo hg (show 0 < 4 by omega) hy
    have l2 := zd_ok_hi hg (show 0 < 4 by omega) hy
    rw [zd_V_eq (by omega) hy, show 4 * 0 + y = y by omega] at l1 l2
    rw [zd_V_eq hi4 hy, zd_V_eq (show 0 < 4 by omega) hy, h.2 _ (by omega)]
    unfold zd_rs
    rw [if_pos (by omega), show (4 * i + y) % 4 = y by omega, show 4 * 0 + y = y by omega]
    exact hf _ l1 l2
  · have l1 := zd_ok_lo hg hx (show 0 < 4 by omega)
    have l2 := zd_ok_hi hg hx (show 0 < 4 by omega)
    rw [zd_V_eq hx (by omega), show 4 * x + 0 = 4 * x by omega] at l1 l2
    rw [zd_V_eq hx hi4, zd_V_eq hx (show 0 < 4 by omega), h.2 _ (by omega)]
    unfold zd_rs
    rw [if_neg (by omega), if_pos (by omega), show (4 * x + i) / 4 = x by omega, show 4 * x + 0 = 4 * x by omega]
    exact hh _ l1 l2
  · have l1 := hg.1.1 i hi4
    rw [zd_V_eq hi4 hi4] at l1
    rw [zd_V_eq hi4 hi4, h.2 _ (by omega)]
    unfold zd_rs
    rw [if_neg (by omega), if_neg (by omega)]
    exact l1
  · rw [zd_V_eq hx hy, zd_V_eq hx hy, h.2 _ (by omega)]
    unfold zd_rs
    rw [if_neg (by omega), if_neg (by omega)]
theorem zd_w44 {post : Int32 → St1 → Prop} {a b : Nat → Int32} {z i : Nat} {x : Int32} (hz : z < 4) (hi : 0 < i) (hi4 : i < 4) (H : ∀ r s, zd_rk a z i (fun t => x + t) (fun t => t - x) 4 s → post r (s, b)) : ∃ n, wX_reset_44 post (nI z) (nI i) x n 0 a b := by
  refine pk_loop (fun n j s => wX_reset_44 post (nI z) (nI i) x n (nI j) s b) (fun j s => zd_rk a z i (fun t => x + t) (fun t => t - x) j s) 4 0 a (by omega) zd_rk_0 ?_ ?_
  · intro n s h
    refine pk_le 4 4 (fun _ => ?_) (fun t => absurd t (by omega))
    unfold wX_reset_124
    exact zd_answer (by omega) (fun _ => H 1 s h) (fun _ => H 0 s h)
  · intro n j s hj h hw
    refine pk_le 4 j (fun t => absurd t (by omega)) (fun _ => ?_)
    refine pk_eq j i (fun e => nm_r (nI_1 j) (hw s ?_)) (fun e => ?_)
    · rw [e] at h ⊢
      exact zd_rk_skip h
    · rw [zd_i1, zd_ic, zd_ic, zd_i4, nI_clamp (show 16 * z + j < 2 ^ 31 by omega), nI_clamp (show 16 * z + (4 * i + j) < 2 ^ 31 by omega), nI_clamp (show 16 * z + (4 * j + i) < 2 ^ 31 by omega), nI_clamp (show 16 * z + 4 * j < 2 ^ 31 by omega), zd_rk_a hi hi4 hj e h]
      refine ⟨vp_in_nI (by omega) (by decide), vp_in_nI (by omega) (by decide), nm_e ⟨vp_in_nI (by omega) (by decide), vp_in_nI (by omega) (by decide), nm_e (nm_r (nI_1 j) (hw _ ?_))⟩⟩
      rw [zd_rk_b hi hi4 hj e h]
      exact zd_rk_s hi hi4 hj e h
theorem zd_w33 {post : Int32 → St1 → Prop} {a b : Nat → Int32} {z i : Nat} (hz : z < 4) (hi : 0 < i) (hi4 : i < 4) (H : ∀ r s, zd_rk a z i (fun t => 9 + t) (fun t => t) 4 s → post r (s, b)) : ∃ n, wX_forget_33 post (nI z) (nI i) n 0 a b := by
  refine pk_loop (fun n j s => wX_forget_33 post (nI z) (nI i) n (nI j) s b) (fun j s => zd_rk a z i (fun t => 9 + t) (fun t => t) j s) 4 0 a (by omega) zd_rk_0 ?_ ?_
  · intro n s h
    refine pk_le 4 4 (fun _ => ?_) (fun t => absurd t (by omega))
    unfold wX_forget_106
    exact zd_answer (by omega) (fun _ => H 1 s h) (fun _ => H 0 s h)
  · intro n j s hj h hw
    refine pk_le 4 j (fun t => absurd t (by omega)) (fun _ => ?_)
    refine pk_eq j i (fun e => nm_r (nI_1 j) (hw s ?_)) (fun e => ?_)
    · rw [e] at h ⊢
      exact zd_rk_skip h
    · rw [zd_i1, zd_ic, zd_ic, zd_i4, nI_clamp (show 16 * z + j < 2 ^ 31 by omega), nI_clamp (show 16 * z + (4 * i + j) < 2 ^ 31 by omega), nI_clamp (show 16 * z + (4 * j + i) < 2 ^ 31 by omega), nI_clamp (show 16 * z + 4 * j < 2 ^ 31 by omega), zd_rk_a hi hi4 hj e h]
      refine ⟨vp_in_nI (by omega) (by decide), vp_in_nI (by omega) (by decide), nm_e ⟨vp_in_nI (by omega) (by decide), vp_in_nI (by omega) (by decide), nm_e (nm_r (nI_1 j) (hw _ ?_))⟩⟩
      rw [zd_rk_b hi hi4 hj e h]
      exact zd_rk_s (f := fun t => 9 + t) (g := fun t => t) hi hi4 hj e h
theorem zd_rk_I {a b s : Nat → Int32} {z i : Nat} {f g : Int32 → Int32} (hI : zd_I a b) (h : zd_rk a z i f g 4 s) (hk : zd_ok (zd_V s z)) (hz : z < 4) : zd_I s b :=
  zd_fz_I hI (zd_fz_o h.1 (fun _ _ => rfl)) (hI.1 z (by omega)) (fun _ _ => hk)
theorem zd_reset {post : Int32 → St1 → Prop} {a b : Nat → Int32} {z i : Nat} {x : Int32} (hz : z < 4) (hi : 0 < i) (hi4 : i < 4) (x1 : 0 ≤ x.toInt) (x2 : x.toInt ≤ 9) (hI : zd_I a b) (H : ∀ r a' b', zd_I a' b' → post r (a', b')) : wpX_reset post (a, b) (nI z) (nI i) x := by
  unfold wpX_reset
  dsimp only
  refine zd_bad hz ?_
  refine br_t rfl ?_
  have e9' : (9 : Int32).toInt = 9 := rfl
  refine pk_lt i 1 (fun t => absurd t (by omega)) (fun _ => pk_lt 3 i (fun t => absurd t (by omega)) (fun _ => br_f (fun t => ?_) (br_t ?_ ?_)))
  · rw [zd_neg] at t
    omega
  · rw [Int32.le_iff_toInt_le, e9']
    exact x2
  rw [nI_clamp (show z < 2 ^ 31 by omega)]
  refine ⟨pk_in z 6 (by omega), br_c (fun c => ?_) (fun c => ?_)⟩
  · refine zd_w44 hz hi hi4 (fun r s h => H r s b (zd_rk_I hI h ?_ hz))
    refine zd_rk_ok (c := x.toInt) (d := x.toInt) hi hi4 (hI.2 z hz c) (Int.le_refl _) x1 x2 (fun t t1 t2 => ?_) (fun t t1 t2 => ?_) h
    · exact Jvm.Kit.i32_add (by omega) (by omega)
    · exact Jvm.Kit.i32_sub (by omega) (by omega)
  · unfold wX_reset_124
    exact zd_answer (by omega) (fun _ => H 1 a b hI) (fun _ => H 0 a b hI)
theorem zd_forget {post : Int32 → St1 → Prop} {a b : Nat → Int32} {z i : Nat} (hz : z < 4) (hi : 0 < i) (hi4 : i < 4) (hI : zd_I a b) (H : ∀ r a' b', zd_I a' b' → post r (a', b')) : wpX_forget post (a, b) (nI z) (nI i) := by
  unfold wpX_forget
  dsimp only
  refine zd_bad hz ?_
  refine br_t rfl ?_
  have e9' : (9 : Int32).toInt = 9 := rfl
  refine pk_lt i 1 (fun t => absurd t (by omega)) (fun _ => pk_le i 3 (fun _ => ?_) (fun t => absurd t (by omega)))
  rw [nI_clamp (show z < 2 ^ 31 by omega)]
  refine ⟨pk_in z 6 (by omega), br_c (fun c => ?_) (fun c => ?_)⟩
  · refine zd_w33 hz hi hi4 (fun r s h => H r s b (zd_rk_I hI h ?_ hz))
    refine zd_rk_ok (c := 9) (d := 0) hi hi4 (hI.2 z hz c) (by omega) (by omega) (by omega) (fun t t1 t2 => ?_) (fun t t1 t2 => by omega) h
    rw [Jvm.Kit.i32_add (by rw [e9']; omega) (by rw [e9']; omega), e9']
  · unfold wX_forget_106
    exact zd_answer (by omega) (fun _ => H 1 a b hI) (fun _ => H 0 a b hI)
/-! a turn -/
theorem zd_rem3 {k : Nat} (hk : k < 1000) : nI k - nI k / 3 * 3 = nI (k % 3) := by
  rw [show (3 : Int32) = nI 3 from rfl, pk_rem (by omega) (by omega) (by omega)]
theorem zd_pair {post : Int32 → Prop} {x : Nat} (hx : x < 16) (H : ∀ i j, i < 4 → j < 4 → i ≠ j → post (nI (4 * i + j))) : wpL_pair post () (nI x) := by
  unfold wpL_pair
  have e1 : nI x &&& 3 = nI (x % 4) := pk_andN (by omega) 2 (by decide)
  have e2 : nI x >>> ((2 : Int32) &&& 31) = nI (x / 4) := pk_shrN (by omega) _ 2 (by decide)
  refine nm_r e1 ⟨by decide, ?_⟩
  have e3 : (nI (x % 4) + 1 + nI (x / 4 % 3)) &&& 3 = nI ((x % 4 + 1 + x / 4 % 3) % 4) := by
    rw [nI_1, nI_add]
    exact pk_andN (by omega) 2 (by decide)
  rw [e2, zd_rem3 (by omega), e3, show (4 : Int32) = nI 4 from rfl, pk_mul, nI_add]
  exact H (x % 4) ((x % 4 + 1 + x / 4 % 3) % 4) (by omega) (by omega) (by omega)
theorem zd_turn {post : Int32 → St1 → Prop} {a b : Nat → Int32} {p1 p2 : Int32} (hI : zd_I a b) (H : ∀ r a' b', zd_I a' b' → post r (a', b')) : wpL_turn post (a, b) p1 p2 := by
  unfold wpL_turn
  dsimp only
  obtain ⟨za, hza, eza⟩ := pk_andE p2 (m := 3) 2 (by decide)
  obtain ⟨zb, hzb, ezb⟩ := pk_andE (p2 >>> ((2 : Int32) &&& 31)) (m := 3) 2 (by decide)
  obtain ⟨zp, hzp, ezp⟩ := pk_andE (p2 >>> ((4 : Int32) &&& 31)) (m := 15) 4 (by decide)
  obtain ⟨zc, hzc, ezc⟩ := pk_andE (p2 >>> ((8 : Int32) &&& 31)) (m := 15) 4 (by decide)
  refine nm_e (nm_r eza (nm_r ezb ?_))
  rw [ezp]
  refine zd_pair (by omega) (fun i j hi hj n => ⟨by decide, ?_⟩)
  have ec : ((p2 >>> ((8 : Int32) &&& 31)) &&& 15) - ((p2 >>> ((8 : Int32) &&& 31)) &&& 15) / 13 * 13 - 4 = nI (zc % 13) - 4 := by
    rw [ezc, show (13 : Int32) = nI 13 from rfl, pk_rem (by omega) (by omega) (by omega)]
  refine nm_r ec ?_
  have e4 : (4 : Int32).toInt = 4 := rfl
  have eN : (nI (zc % 13)).toInt = ((zc % 13 : Nat) : Int) := nI_toInt (by omega)
  have t1 : (nI (zc % 13) - 4).toInt = ((zc % 13 : Nat) : Int) - 4 := by
    rw [Jvm.Kit.i32_sub (by rw [eN, e4]; omega) (by rw [eN, e4]; omega), eN, e4]
  revert t1
  generalize nI (zc % 13) - 4 = x
  intro t1
  have t2 : (-x).toInt = -x.toInt := Jvm.Kit.i32_neg (by omega)
  have hq : 1 + nI (zb % 3) = nI (1 + zb % 3) := nI_add 1 _
  have hI' : ∀ r a' b', zd_fz za a b a' b' → (b' za = 0 ∨ b' za = 1) → (b' za = 0 → zd_ok (zd_V a' za)) → post r (a', b') := fun r a' b' f h k => H r a' b' (zd_fz_I hI f h (fun _ => k))
  rw [zd_rem3 (by omega), hq]
  refine br_c (fun _ => ?_) (fun _ => br_c (fun _ => br_c (fun _ => br_c (fun _ => ?_) (fun _ => br_c (fun _ => br_c (fun _ => br_c (fun _ => br_c (fun _ => br_c (fun _ => ?_) (fun _ => ⟨by decide, ?_⟩)) (fun _ => ⟨by decide, br_c (fun c => ?_) (fun c => ?_)⟩)) (fun _ => ?_)) (fun _ => ?_)) (fun _ => ?_))) (fun _ => ?_)) (fun _ => ?_))
  · exact zd_fresh (by omega) (fun a' b' f h k => hI' _ a' b' f (Or.inl h) (fun _ => k))
  · exact zd_meet (by omega) (by omega) hI (fun r a' b' f h m _ => hI' _ a' b' f h m.1)
  · exact zd_constrain (by omega) hi hj n (by omega) (by omega) hI (fun r a' b' h => H r a' b' h)
  · exact zd_forget (by omega) (by omega) (by omega) hI (fun r a' b' h => H r a' b' h)
  · unfold wL_turn_168
    rw [Int32.le_iff_toInt_le, Int32.toInt_zero] at c
    exact zd_reset (by omega) (by omega) (by omega) c (by omega) hI (fun r a' b' h => H r a' b' h)
  · unfold wL_turn_168
    rw [Int32.le_iff_toInt_le, Int32.toInt_zero] at c
    exact zd_reset (by omega) (by omega) (by omega) (by omega) (by omega) hI (fun r a' b' h => H r a' b' h)
  · exact zd_past (by omega) hI (fun r a' b' h => H r a' b' h)
  · refine zd_delay (by omega) hI (fun r a' b' f h => hI' _ a' b' f h.1 (fun t => ?_))
    by_cases c : b za = 0
    · exact (h.2.2 c).2.1
    · exact absurd t (h.2.1 c)
  · exact zd_hull (by omega) (by omega) hI (fun r a' b' f h => hI' _ a' b' f h.1 h.2.1)
  · exact zd_constrain (by omega) hi hj n (by omega) (by omega) hI (fun r a' b' h => H r a' b' h)
  · refine zd_copy (by omega) (by omega) (hI.1 zb (by omega)) (fun a' b' f e1 e2 => hI' _ a' b' f ?_ (fun t => ?_))
    · rw [e1]
      exact hI.1 zb (by omega)
    · rw [e2]
      rw [e1] at t
      exact hI.2 zb (by omega) t
end
section
theorem zd_empty {post : Int32 → Prop} {a b : Nat → Int32} {z : Nat} (hz : z < 4) (h0 : b z = 0 → post 0) (h1 : ¬ b z = 0 → post 1) : wpX_empty post (a, b) (nI z) := by
  unfold wpX_empty
  dsimp only
  refine zd_bad hz ?_
  refine br_t rfl ?_
  rw [nI_clamp (show z < 2 ^ 31 by omega)]
  exact ⟨pk_in z 6 (by omega), h0, h1⟩
theorem zd_bound {post : Int32 → Prop} {a b : Nat → Int32} {z i j : Nat} (hz : z < 4) (hi : i < 4) (hj : j < 4) (n : i ≠ j) (h0 : b z = 0 → post (a (16 * z + (4 * i + j)))) (h1 : ¬ b z = 0 → post (-2000)) : wpX_bound post (a, b) (nI z) (nI (4 * i + j)) := by
  unfold wpX_bound
  dsimp only
  refine zd_bad hz ?_
  refine br_t rfl ?_
  refine zd_badPair hi hj n ?_
  refine br_t rfl ?_
  rw [nI_clamp (show z < 2 ^ 31 by omega), zd_i1, nI_clamp (show 16 * z + (4 * i + j) < 2 ^ 31 by omega)]
  exact ⟨pk_in z 6 (by omega), br_c (fun c => ⟨vp_in_nI (by omega) (by decide), h0 c⟩) h1⟩
theorem zd_spread {post : Int32 → Prop} {a b : Nat → Int32} {z i j : Nat} (hz : z < 4) (hi : i < 4) (hj : j < 4) (n : i ≠ j) (h0 : b z = 0 → post (a (16 * z + (4 * i + j)) + a (16 * z + (4 * j + i)) + 1)) (h1 : ¬ b z = 0 → post 0) : wpX_spread post (a, b) (nI z) (nI (4 * i + j)) := by
  unfold wpX_spread
  dsimp only
  refine zd_bad hz ?_
  refine br_t rfl ?_
  refine zd_badPair hi hj n ?_
  refine br_t rfl ?_
  have e : 4 * (nI (4 * i + j) - nI (4 * i + j) / 4 * 4) + nI (4 * i + j) / 4 = nI (4 * j + i) := by
    rw [zd_rm (by omega), zd_dv (by omega), show (4 : Int32) = nI 4 from rfl, pk_mul, nI_add, show (4 * i + j) % 4 = j by omega, show (4 * i + j) / 4 = i by omega]
  refine ⟨by decide, by decide, nm_r e ?_⟩
  rw [nI_clamp (show z < 2 ^ 31 by omega), zd_i1, zd_i1, nI_clamp (show 16 * z + (4 * i + j) < 2 ^ 31 by omega), nI_clamp (show 16 * z + (4 * j + i) < 2 ^ 31 by omega)]
  exact ⟨pk_in z 6 (by omega), br_c (fun c => ⟨vp_in_nI (by omega) (by decide), vp_in_nI (by omega) (by decide), h0 c⟩) h1⟩
/-! within -/
theorem zd_w48 {post : Int32 → Prop} {a b : Nat → Int32} {z y : Nat} (hz : z < 6) (hy : y < 6) (H1 : (∀ q, q < 16 → ¬ a (16 * y + q) < a (16 * z + q)) → post 1) (H0 : (∃ q, q < 16 ∧ a (16 * y + q) < a (16 * z + q)) → post 0) : ∃ n, wX_within_48 post (nI z) (nI y) a b n 1 0 := by
  refine pk_loop (fun n i s => wX_within_48 post (nI z) (nI y) a b n s (nI i)) (fun i s => (s = 1 ∧ ∀ q, q < i → ¬ a (16 * y + q) < a (16 * z + q)) ∨ (s = 0 ∧ ∃ q, q < i ∧ a (16 * y + q) < a (16 * z + q))) 16 0 1 (by omega) (Or.inl ⟨rfl, fun q hq => absurd hq (by omega)⟩) ?_ ?_
  · intro n s h
    refine pk_le 16 16 (fun _ => ?_) (fun t => absurd t (by omega))
    rcases h with ⟨e, h⟩ | ⟨e, h⟩
    · rw [e]
      exact ⟨rfl, H1 h⟩
    · rw [e]
      exact ⟨rfl, H0 h⟩
  · intro n i s hi h hw
    refine pk_le 16 i (fun t => absurd t (by omega)) (fun _ => ?_)
    rw [zd_i1 y i, zd_i1 z i, nI_clamp (show 16 * y + i < 2 ^ 31 by omega), nI_clamp (show 16 * z + i < 2 ^ 31 by omega)]
    rcases h with ⟨e, h⟩ | ⟨e, q, hq, h⟩
    · refine br_f (by rw [e]; decide) ⟨vp_in_nI (by omega) (by decide), vp_in_nI (by omega) (by decide), br_c (fun c => nm_r (nI_1 i) (hw 0 (Or.inr ⟨rfl, i, by omega, c⟩))) (fun c => nm_r (nI_1 i) (hw 1 (Or.inl ⟨rfl, fun q hq => ?_⟩)))⟩
      by_cases eq : q = i
      · rw [eq]
        exact c
      · exact h q (by omega)
    · exact br_t e (nm_r (nI_1 i) (hw 0 (Or.inr ⟨rfl, q, by omega, h⟩)))
theorem zd_within {post : Int32 → Prop} {a b : Nat → Int32} {z y : Nat} (hz : z < 4) (hy : y < 4) (hI : zd_I a b) (H : ∀ r, ((r = 1 ∧ ∀ p, zd_zp (b z) (zd_V a z) p → zd_zp (b y) (zd_V a y) p) ∨ (r = 0 ∧ ∃ p, zd_zp (b z) (zd_V a z) p ∧ ¬ zd_zp (b y) (zd_V a y) p)) → post r) : wpX_within post (a, b) (nI z) (nI y) := by
  unfold wpX_within
  dsimp only
  refine zd_bad hz ?_
  refine br_t rfl ?_
  refine zd_bad hy ?_
  refine br_t rfl ?_
  rw [nI_clamp (show z < 2 ^ 31 by omega), nI_clamp (show y < 2 ^ 31 by omega)]
  refine ⟨pk_in z 6 (by omega), br_c (fun c => ⟨pk_in y 6 (by omega), br_c (fun c' => ?_) (fun c' => ?_)⟩) (fun c => ?_)⟩
  · have k1 := hI.2 z hz c
    have k2 := hI.2 y hy c'
    refine zd_w48 (by omega) (by omega) (fun h => H 1 (Or.inl ⟨rfl, fun p hp => ⟨c', zd_sub_of_le (fun i j hi hj => ?_) hp.2⟩⟩)) (fun h => H 0 (Or.inr ⟨rfl, ?_⟩))
    · have t := h (4 * i + j) (by omega)
      rw [Int32.lt_iff_toInt_lt] at t
      rw [zd_V_eq hi hj, zd_V_eq hi hj]
      omega
    · obtain ⟨q, hq, h⟩ := h
      rw [Int32.lt_iff_toInt_lt] at h
      refine ⟨fun k => zd_V a z k (q % 4), ⟨c, zd_att k1.1 (by omega)⟩, fun t => ?_⟩
      have t1 : zd_V a z (q / 4) (q % 4) - zd_V a z (q % 4) (q % 4) ≤ zd_V a y (q / 4) (q % 4) := t.2 (q / 4) (q % 4) (by omega) (by omega)
      rw [k1.1.1 (q % 4) (by omega), zd_V_eq (by omega) (by omega), zd_V_eq (by omega) (by omega), show 4 * (q / 4) + q % 4 = q by omega] at t1
      omega
  · have k1 := hI.2 z hz c
    refine ⟨pk_in z 6 (by omega), ?_⟩
    rw [c]
    exact ⟨rfl, H 0 (Or.inr ⟨rfl, fun k => zd_V a z k 0, ⟨c, zd_att k1.1 (by omega)⟩, fun t => c' t.1⟩)⟩
  · refine ⟨pk_in z 6 (by omega), ?_⟩
    have e1 : b z = 1 := by
      rcases hI.1 z (by omega) with t | t
      · exact absurd t c
      · exact t
    have h1 := H 1 (Or.inl ⟨rfl, fun p hp => absurd hp.1 c⟩)
    rw [e1]
    exact ⟨rfl, h1⟩
/-! touches -/
theorem zd_fz_t {z : Nat} {a b a' b' a'' b'' : Nat → Int32} (h : zd_fz z a b a' b') (h' : zd_fz z a' b' a'' b'') : zd_fz z a b a'' b'' := fun y n => ⟨(h' y n).1.trans (h y n).1, (h' y n).2.trans (h y n).2⟩
theorem zd_zp_ex {h : Int32} {g : Nat → Nat → Int} (h0 : h = 0) (k : zd_ok g) : ∃ p, zd_zp h g p := ⟨fun i => g i 0, h0, zd_att k.1 (by omega)⟩
theorem zd_touches {post : Int32 → St1 → Prop} {a b : Nat → Int32} {z y : Nat} (hz : z < 4) (hy : y < 4) (hI : zd_I a b) (H : ∀ r a' b', zd_fz 4 a b a' b' → (b' 4 = 0 ∨ b' 4 = 1) → ((r = 1 ∧ ∃ p, zd_zp (b z) (zd_V a z) p ∧ zd_zp (b y) (zd_V a y) p) ∨ (r = 0 ∧ ∀ p, ¬ (zd_zp (b z) (zd_V a z) p ∧ zd_zp (b y) (zd_V a y) p))) → post r (a', b')) : wpX_touches post (a, b) (nI z) (nI y) := by
  unfold wpX_touches
  dsimp only
  refine zd_bad hz ?_
  refine br_t rfl ?_
  refine zd_bad hy ?_
  refine br_t rfl ?_
  refine zd_copyTo (y := z) (z := 4) (by omega) (by omega) (hI.1 z (by omega)) (fun a1 f e => ?_)
  have e4 : (upd b 4 (b z)) 4 = b z := pk_us
  have ey : (upd b 4 (b z)) y = b y := pk_un (by omega)
  have v4 : zd_V a1 4 = zd_V a z := zd_V_ext e
  have vy : zd_V a1 y = zd_V a y := zd_fr_V f (by omega)
  refine zd_meetWith (a := a1) (b := upd b 4 (b z)) (z := 4) (y := y) (by omega) (by omega) (by rw [e4]; exact hI.1 z (by omega)) (by rw [ey]; exact hI.1 y (by omega)) (fun a2 b2 f1 f2 f3 f4 => ?_)
  have m := f4 (by rw [e4, v4]; exact hI.2 z hz) (by rw [ey, vy]; exact hI.2 y hy)
  unfold zd_mw at m
  rw [e4, ey, v4, vy] at m
  have F : zd_fz 4 a b a2 b2 := zd_fz_t (zd_fz_u f) (zd_fz_o f1 f2)
  refine br_c (fun c => H 1 a2 b2 F f3 (Or.inl ⟨rfl, ?_⟩)) (fun c => H 0 a2 b2 F f3 (Or.inr ⟨rfl, fun p hp => ?_⟩))
  · obtain ⟨p, hp⟩ := zd_zp_ex c (m.1 c)
    exact ⟨p, (m.2 p).mp hp⟩
  · exact c ((m.2 p).mpr hp).1
/-! least, has -/
theorem zd_w35 {post : Int32 → St1 → Prop} {a b : Nat → Int32} {n i X : Nat} (hi : i < 3) (hb : b 4 = 0) (k : zd_ok (zd_V a 4))
    (H : ∀ a' b' (v : Nat), v < 10 → zd_fz 4 a b a' b' → b' 4 = 0 → zd_ok (zd_V a' 4) → (∀ p, zd_sat (zd_V a' 4) p → zd_sat (zd_V a 4) p ∧ p (i + 1) - p 0 = v) → wX_least_35 post n (nI (X * 10 + v)) (nI i) a' b') : wX_least_35 post (n + 1) (nI X) (nI (i + 1)) a b := by
  have hi1 : i + 1 < 4 := by omega
  have l1 := zd_ok_lo k (show 0 < 4 by omega) hi1
  have l2 := k.2.2 (i + 1) hi1
  have ex : (-(a (16 * 4 + (i + 1)))).toInt = (((-(zd_V a 4 0 (i + 1))).toNat : Nat) : Int) := by
    have e : zd_V a 4 0 (i + 1) = (a (16 * 4 + (i + 1))).toInt := by
      rw [zd_V_eq (by omega) hi1, show 4 * 0 + (i + 1) = i + 1 by omega]
    rw [e] at l1 l2 ⊢
    rw [Jvm.Kit.i32_neg (by omega)]
    omega
  obtain ⟨v, hv⟩ : ∃ v : Nat, v = (-(zd_V a 4 0 (i + 1))).toNat := ⟨_, rfl⟩
  rw [← hv] at ex
  have hv10 : v < 10 := by omega
  have ev : -(a (16 * 4 + (i + 1))) = nI v := zd_nI_of ex (by omega)
  refine pk_le (i + 1) 0 (fun t => absurd t (by omega)) (fun _ => ?_)
  rw [show (64 : Int32) + nI (i + 1) = nI (16 * 4 + (i + 1)) from nI_add 64 (i + 1), nI_clamp (show 16 * 4 + (i + 1) < 2 ^ 31 by omega)]
  refine ⟨vp_in_nI (by omega) (by decide), nm_r ev (nm_r (e' := nI (X * 10 + v)) (by rw [show (10 : Int32) = nI 10 from rfl, pk_mul, nI_add]) ?_)⟩
  rw [show (4 : Int32) * nI (i + 1) = nI (4 * (i + 1)) from pk_mul 4 (i + 1)]
  refine zd_lower (z := 4) (by omega) (by omega) ?_
  refine zd_tighten (z := 4) (by omega) (fun a2 b2 f1 f2 f3 f4 => ?_)
  refine nm_r (pk_m1 i) ?_
  have e : ∀ i' j', i' < 4 → j' < 4 → zd_V (upd a (16 * 4 + 4 * (i + 1)) (zd_mn (a (16 * 4 + 4 * (i + 1))) (nI v))) 4 i' j' = if i' = i + 1 ∧ j' = 0 then (if zd_V a 4 (i + 1) 0 ≤ (v : Int) then zd_V a 4 (i + 1) 0 else (v : Int)) else zd_V a 4 i' j' := by
    intro i' j' hi' hj'
    have t := zd_V_upd (a := a) (z := 4) (x := zd_mn (a (16 * 4 + 4 * (i + 1))) (nI v)) hi1 (show 0 < 4 by omega) hi' hj'
    rw [show 4 * (i + 1) + 0 = 4 * (i + 1) by omega] at t
    rw [t, zd_mn_i, zd_V_eq hi1 (show 0 < 4 by omega), nI_toInt (show v < 2 ^ 31 by omega), show 4 * (i + 1) + 0 = 4 * (i + 1) by omega]
  have hV : -(v : Int) = zd_V a 4 0 (i + 1) := by omega
  have L : ∀ i' j', i' < 4 → j' < 4 → zd_V (upd a (16 * 4 + 4 * (i + 1)) (zd_mn (a (16 * 4 + 4 * (i + 1))) (nI v))) 4 i' j' ≤ zd_V a 4 i' j' := by
    intro i' j' hi' hj'
    rw [e i' j' hi' hj']
    by_cases t : i' = i + 1 ∧ j' = 0
    · rw [if_pos t, t.1, t.2]
      split <;> omega
    · rw [if_neg t]
      exact Int.le_refl _
  have F : zd_fz 4 a b a2 b2 := zd_fz_o (zd_fr_t (zd_fr_u (zd_fr_r 4 a) (by omega)) f1) f2
  have tg := f4 (fun i' hi' => by
    rw [e i' i' hi' hi', if_neg (by omega)]
    exact k.1.1 i' hi') (fun i' j' hi' hj' => by
    have m1 := zd_ok_lo k hi' hj'
    have m2 := zd_ok_hi k hi' hj'
    have m3 := zd_ok_lo k hi1 (show 0 < 4 by omega)
    have m4 := L i' j' hi' hj'
    refine ⟨?_, by omega⟩
    rw [e i' j' hi' hj']
    by_cases t : i' = i + 1 ∧ j' = 0
    · rw [if_pos t]
      split <;> omega
    · rw [if_neg t]
      omega)
  rcases zd_tg_ok tg hb (fun i' hi' => Int.le_trans (L i' 0 hi' (by omega)) (k.2.1 i' hi')) (fun i' hi' => Int.le_trans (L 0 i' (by omega) hi') (k.2.2 i' hi')) with ⟨h0, hk, hs⟩ | ⟨h1, hs⟩
  · refine H a2 b2 v hv10 F h0 hk (fun p hp => ?_)
    have s1 := (hs p).mp hp
    have s2 := zd_sub_of_le L s1
    refine ⟨s2, ?_⟩
    have s3 := s1 (i + 1) 0 hi1 (by omega)
    have s4 := s2 0 (i + 1) (by omega) hi1
    rw [e (i + 1) 0 hi1 (by omega), if_pos ⟨rfl, rfl⟩] at s3
    have s5 : (if zd_V a 4 (i + 1) 0 ≤ (v : Int) then zd_V a 4 (i + 1) 0 else (v : Int)) ≤ v := by split <;> omega
    omega
  · refine absurd ?_ (hs (fun j => zd_V a 4 j (i + 1)))
    intro i' j' hi' hj'
    rw [e i' j' hi' hj']
    have m1 : zd_V a 4 i' (i + 1) - zd_V a 4 j' (i + 1) ≤ zd_V a 4 i' j' := zd_att k.1 hi1 i' j' hi' hj'
    by_cases t : i' = i + 1 ∧ j' = 0
    · rw [t.1, t.2] at m1
      rw [if_pos t, t.1, t.2]
      show zd_V a 4 (i + 1) (i + 1) - zd_V a 4 0 (i + 1) ≤ _
      have m2 := k.1.1 (i + 1) hi1
      split <;> omega
    · rw [if_neg t]
      exact m1
theorem zd_least {post : Int32 → St1 → Prop} {a b : Nat → Int32} {z : Nat} (hz : z < 4) (hI : zd_I a b)
    (H0 : b z = 0 → ∀ a' b' (x y w : Nat), zd_fz 4 a b a' b' → b' 4 = 0 → x < 10 → y < 10 → w < 10 → zd_in (zd_V a z) x y w → post (nI (100 * w + 10 * y + x)) (a', b')) (H1 : ¬ b z = 0 → post (-2000) (a, b)) : wpX_least post (a, b) (nI z) := by
  unfold wpX_least
  dsimp only
  refine zd_bad hz ?_
  refine br_t rfl ?_
  rw [nI_clamp (show z < 2 ^ 31 by omega)]
  refine ⟨pk_in z 6 (by omega), br_c (fun c => ?_) H1⟩
  refine zd_copyTo (y := z) (z := 4) (by omega) (by omega) (hI.1 z (by omega)) (fun a1 f e => ?_)
  have e4 : (upd b 4 (b z)) 4 = 0 := by rw [pk_us]; exact c
  have v4 : zd_V a1 4 = zd_V a z := zd_V_ext e
  have k : zd_ok (zd_V a1 4) := by rw [v4]; exact hI.2 z hz c
  have F1 : zd_fz 4 a b a1 (upd b 4 (b z)) := zd_fz_u f
  refine ⟨4, ?_⟩
  refine zd_w35 (n := 3) (i := 2) (X := 0) (by omega) e4 k (fun a2 b2 w hw g2 h2 k2 s2 => ?_)
  refine zd_w35 (n := 2) (i := 1) (by omega) h2 k2 (fun a3 b3 y hy g3 h3 k3 s3 => ?_)
  refine zd_w35 (n := 1) (i := 0) (by omega) h3 k3 (fun a4 b4 x hx g4 h4 k4 s4 => ?_)
  refine pk_le 0 0 (fun _ => ?_) (fun t => absurd t (by omega))
  rw [show ((0 * 10 + w) * 10 + y) * 10 + x = 100 * w + 10 * y + x by omega]
  refine H0 c a4 b4 x y w (zd_fz_t (zd_fz_t (zd_fz_t F1 g2) g3) g4) h4 hx hy hw ?_
  have p4 := zd_att k4.1 (show 0 < 4 by omega)
  have q3 := s4 _ p4
  have q2 := s3 _ q3.1
  have q1 := s2 _ q2.1
  rw [← v4]
  exact zd_in_of_sat q1.1 q3.2 q2.2 q1.2
def zd_dg (x y w : Nat) : Nat → Nat
  | 0 => 0
  | 1 => x
  | 2 => y
  | _ => w
theorem zd_dg_pt (x y w : Nat) (i : Nat) (hi : i < 4) : zd_pt x y w i = ((zd_dg x y w i : Nat) : Int) :=
  zd_co4 (P := fun i => zd_pt x y w i = ((zd_dg x y w i : Nat) : Int)) rfl rfl rfl rfl i hi
theorem zd_dg_lt {x y w : Nat} (hx : x < 10) (hy : y < 10) (hw : w < 10) (i : Nat) (hi : i < 4) : zd_dg x y w i < 10 :=
  zd_co4 (P := fun i => zd_dg x y w i < 10) (show 0 < 10 by omega) hx hy hw i hi
theorem zd_num {post : Int32 → Prop} {a b : Nat → Int32} {x y w i : Nat} (hx : x < 10) (hy : y < 10) (hw : w < 10) (hi : i < 4) (H : post (nI (zd_dg x y w i))) : wpX_numberOf post (a, b) (nI (100 * w + 10 * y + x)) (nI i) := by
  have d10 : nI (100 * w + 10 * y + x) / 10 = nI ((100 * w + 10 * y + x) / 10) := by
    rw [show (10 : Int32) = nI 10 from rfl, pk_div (by omega) (by omega) (by omega)]
  have r10 : ∀ k, k < 1000 → nI k - nI k / 10 * 10 = nI (k % 10) := fun k hk => by
    rw [show (10 : Int32) = nI 10 from rfl, pk_rem (by omega) (by omega) (by omega)]
  have d100 : nI (100 * w + 10 * y + x) / 100 = nI ((100 * w + 10 * y + x) / 100) := by
    rw [show (100 : Int32) = nI 100 from rfl, pk_div (by omega) (by omega) (by omega)]
  unfold wpX_numberOf
  dsimp only
  refine pk_eq i 0 (fun e => ?_) (fun e => pk_eq i 1 (fun e1 => ⟨by decide, ?_⟩) (fun e1 => pk_eq i 2 (fun e2 => ⟨by decide, by decide, ?_⟩) (fun e2 => ⟨by decide, ?_⟩)))
  · rw [e] at H
    exact H
  · rw [e1] at H
    rw [r10 _ (by omega), show (100 * w + 10 * y + x) % 10 = x by omega]
    exact H
  · rw [e2] at H
    rw [d10, r10 _ (by omega), show (100 * w + 10 * y + x) / 10 % 10 = y by omega]
    exact H
  · rw [show i = 3 by omega] at H
    rw [d100, show (100 * w + 10 * y + x) / 100 = w by omega]
    exact H
theorem zd_has {post : Int32 → Prop} {a b : Nat → Int32} {z x y w : Nat} (hz : z < 4) (c : b z = 0) (k : zd_ok (zd_V a z)) (hx : x < 10) (hy : y < 10) (hw : w < 10) (hin : zd_in (zd_V a z) x y w) (H : post 1) : wpX_has post (a, b) (nI z) (nI (100 * w + 10 * y + x)) := by
  unfold wpX_has
  dsimp only
  refine zd_bad hz ?_
  refine br_t rfl ?_
  rw [nI_clamp (show z < 2 ^ 31 by omega)]
  refine ⟨pk_in z 6 (by omega), br_t c (br_f (nI_pos (by omega)) (pk_le (100 * w + 10 * y + x) 999 (fun _ => ?_) (fun t => absurd t (by omega))))⟩
  refine pk_loop (σ := Unit) (fun n i _ => wX_has_35 post (nI z) (nI (100 * w + 10 * y + x)) a b n 1 (nI i)) (fun _ _ => True) 16 0 () (by omega) trivial ?_ ?_
  · intro n _ _
    exact pk_le 16 16 (fun _ => ⟨rfl, H⟩) (fun t => absurd t (by omega))
  · intro n i _ hi _ hw'
    refine pk_le 16 i (fun t => absurd t (by omega)) (fun _ => ?_)
    rw [zd_rm (by omega), zd_dv (by omega)]
    refine ⟨by decide, zd_num hx hy hw (by omega) ⟨by decide, zd_num hx hy hw (by omega) (br_f (by decide) ?_)⟩⟩
    rw [zd_i1, nI_clamp (show 16 * z + i < 2 ^ 31 by omega)]
    refine ⟨vp_in_nI (by omega) (by decide), br_f (fun t => ?_) (nm_r (nI_1 i) (hw' () trivial))⟩
    have s := zd_sat_of_in k.1.1 hin (i / 4) (i % 4) (by omega) (by omega)
    have b1 := zd_dg_lt hx hy hw (i / 4) (by omega)
    have b2 := zd_dg_lt hx hy hw (i % 4) (by omega)
    rw [zd_dg_pt x y w (i / 4) (by omega), zd_dg_pt x y w (i % 4) (by omega), zd_V_eq (by omega) (by omega), show 4 * (i / 4) + i % 4 = i by omega] at s
    rw [Int32.lt_iff_toInt_lt, pk_sub_toInt (by omega) (by omega)] at t
    omega
/-! meeting -/
theorem zd_w59 {post : Int32 → St1 → Prop} {J : Int32 → (Nat → Int32) → (Nat → Int32) → Prop} {x1 : Int32} {a b : Nat → Int32} {y d : Nat} (hy : y < 4) (hb4 : b 4 = 0 ∨ b 4 = 1) (hby : b y = 0 ∨ b y = 1)
    (H : ∀ a' a'' b'', zd_fr 4 a a' → (d = 0 → zd_V a' 4 = zd_V a 4) → zd_fr 4 a' a'' → (∀ t, t ≠ 4 → b'' t = b t) → (b'' 4 = 0 ∨ b'' 4 = 1) → ((b 4 = 0 → zd_ok (zd_V a' 4)) → (b y = 0 → zd_ok (zd_V a' y)) → zd_mw 4 y a' b a'' b'') → (b'' 4 = 0 → post (nI d) (a'', b'')) ∧ (¬ b'' 4 = 0 → J (nI (d + 1)) a'' b'')) : ∃ n, wX_meeting_59 post J x1 (nI y) (nI d) n 1 a b := by
  refine pk_loop (fun n i s => wX_meeting_59 post J x1 (nI y) (nI d) n (nI i) s b) (fun i s => zd_fr 4 a s ∧ (d = 0 → ∀ q, q < 16 → s (16 * 4 + q) = a (16 * 4 + q))) 4 1 a (by omega) ⟨zd_fr_r 4 a, fun _ _ _ => rfl⟩ ?_ ?_
  · intro n s h
    refine pk_le 4 4 (fun _ => ?_) (fun t => absurd t (by omega))
    refine zd_meetWith (z := 4) (y := y) (by omega) (by omega) hb4 hby (fun a2 b2 f1 f2 f3 f4 => ?_)
    have K := H s a2 b2 h.1 (fun t => zd_V_ext (h.2 t)) f1 f2 f3 f4
    exact br_c K.1 (fun c => nm_r (nI_1 d) (K.2 c))
  · intro n i s hi h hw
    refine pk_le 4 i (fun t => absurd t (by omega)) (fun _ => ?_)
    rw [show (64 : Int32) + 4 * nI i = nI (16 * 4 + 4 * i) from zd_i4 4 i, show (64 : Int32) + nI i = nI (16 * 4 + i) from zd_i1 4 i, nI_clamp (show 16 * 4 + 4 * i < 2 ^ 31 by omega), nI_clamp (show 16 * 4 + i < 2 ^ 31 by omega)]
    refine ⟨vp_in_nI (by omega) (by decide), vp_in_nI (by omega) (by decide), nm_e ⟨vp_in_nI (by omega) (by decide), vp_in_nI (by omega) (by decide), nm_e (nm_r (nI_1 i) (hw _ ⟨zd_fr_u (zd_fr_u h.1 (by omega)) (by omega), fun hd q hq => ?_⟩))⟩⟩
    have e0 : nI d = 0 := by rw [hd]; rfl
    rw [e0, Int32.add_zero, Int32.sub_zero, zd_upd_self, zd_upd_self]
    exact h.2 hd q hq
theorem zd_meeting {post : Int32 → St1 → Prop} {a b : Nat → Int32} {z y : Nat} (hz : z < 4) (hy : y < 4) (hI : zd_I a b) (H : ∀ r a' b', zd_fz 4 a b a' b' → (b' 4 = 0 ∨ b' 4 = 1) → -2000 ≤ r.toInt → r.toInt ≤ 9 → ((r = 0 ∧ ∃ p, zd_zp (b z) (zd_V a z) p ∧ zd_zp (b y) (zd_V a y) p) ∨ (¬ r = 0 ∧ ∀ p, ¬ (zd_zp (b z) (zd_V a z) p ∧ zd_zp (b y) (zd_V a y) p))) → post r (a', b')) : wpX_meeting post (a, b) (nI z) (nI y) := by
  have em : (-2000 : Int32).toInt = -2000 := rfl
  have en : ¬ (-2000 : Int32) = 0 := by decide
  unfold wpX_meeting
  dsimp only
  refine zd_bad hz ?_
  refine br_t rfl ?_
  refine zd_bad hy ?_
  refine br_t rfl ?_
  rw [nI_clamp (show z < 2 ^ 31 by omega), nI_clamp (show y < 2 ^ 31 by omega)]
  have F0 : zd_fz 4 a b a b := fun _ _ => ⟨rfl, rfl⟩
  refine ⟨pk_in z 6 (by omega), br_c (fun c => ⟨pk_in y 6 (by omega), br_c (fun c' => ?_) (fun c' => ?_)⟩) (fun c => ?_)⟩
  · refine pk_loop (fun n d s => wX_meeting_44 post (nI z) (nI y) n (nI d) s.1 s.2) (fun d s => zd_fz 4 a b s.1 s.2 ∧ (s.2 4 = 0 ∨ s.2 4 = 1) ∧ (0 < d → ∀ p, ¬ (zd_zp (b z) (zd_V a z) p ∧ zd_zp (b y) (zd_V a y) p))) 10 0 (a, b) (by omega) ⟨F0, hI.1 4 (by omega), fun t => absurd t (by omega)⟩ ?_ ?_
    · intro n s h
      exact pk_lt 9 10 (fun _ => H _ _ _ h.1 h.2.1 (by rw [em]; omega) (by rw [em]; omega) (Or.inr ⟨en, h.2.2 (by omega)⟩)) (fun t => absurd t (by omega))
    · intro n d s hd h hw
      obtain ⟨s1, s2⟩ := s
      obtain ⟨F, hf, hn⟩ := h
      have F' : zd_fz 4 a b s1 s2 := F
      have gz := F' z (by omega)
      have gy := F' y (by omega)
      refine pk_lt 9 d (fun t => absurd t (by omega)) (fun _ => ?_)
      refine zd_copyTo (a := s1) (b := s2) (y := z) (z := 4) (by omega) (by omega) (by rw [gz.2]; exact hI.1 z (by omega)) (fun a1 f e => ?_)
      have e4 : (upd s2 4 (s2 z)) 4 = b z := by rw [pk_us]; exact gz.2
      have ey : (upd s2 4 (s2 z)) y = b y := by rw [pk_un (by omega)]; exact gy.2
      have v4 : zd_V a1 4 = zd_V a z := (zd_V_ext e).trans gz.1
      have vy : zd_V a1 y = zd_V a y := (zd_fr_V f (by omega)).trans gy.1
      refine zd_w59 (a := a1) (b := upd s2 4 (s2 z)) hy (by rw [e4]; exact hI.1 z (by omega)) (by rw [ey]; exact hI.1 y (by omega)) (fun a2 a3 b3 g1 g2 g3 g4 g5 g6 => ?_)
      have vy2 : zd_V a2 y = zd_V a y := (zd_fr_V g1 (by omega)).trans vy
      have G : zd_fz 4 a b a3 b3 := zd_fz_t F' (zd_fz_t (zd_fz_u f) (zd_fz_o (zd_fr_t g1 g3) g4))
      have M : d = 0 → (b3 4 = 0 → zd_ok (zd_V a3 4)) ∧ ∀ p, zd_zp (b3 4) (zd_V a3 4) p ↔ zd_zp (b z) (zd_V a z) p ∧ zd_zp (b y) (zd_V a y) p := by
        intro d0
        have v42 : zd_V a2 4 = zd_V a z := (g2 d0).trans v4
        have m := g6 (by rw [e4, v42]; exact hI.2 z hz) (by rw [ey, vy2]; exact hI.2 y hy)
        unfold zd_mw at m
        rw [e4, ey, v42, vy2] at m
        exact m
      refine ⟨fun q => ?_, fun q => hw (a3, b3) ⟨G, g5, fun _ p hp => ?_⟩⟩
      · have et : (nI d).toInt = (d : Int) := nI_toInt (by omega)
        refine H _ _ _ G g5 (by rw [et]; omega) (by rw [et]; omega) ?_
        by_cases d0 : d = 0
        · refine Or.inl ⟨by rw [d0]; rfl, ?_⟩
          obtain ⟨p, hp⟩ := zd_zp_ex q ((M d0).1 q)
          exact ⟨p, ((M d0).2 p).mp hp⟩
        · exact Or.inr ⟨nI_ne0 (by omega) (by omega), hn (by omega)⟩
      · by_cases d0 : d = 0
        · exact q (((M d0).2 p).mpr hp).1
        · exact hn (by omega) p hp
  · exact H _ _ _ F0 (hI.1 4 (by omega)) (by rw [em]; omega) (by rw [em]; omega) (Or.inr ⟨en, fun p hp => c' hp.2.1⟩)
  · exact H _ _ _ F0 (hI.1 4 (by omega)) (by rw [em]; omega) (by rw [em]; omega) (Or.inr ⟨en, fun p hp => c hp.1.1⟩)
end
section
theorem zd_greater {post : Int32 → Prop} {a b : Nat → Int32} {p q : Int32} (H : ∀ r : Int32, p.toInt ≤ r.toInt → q.toInt ≤ r.toInt → (r.toInt = p.toInt ∨ r.toInt = q.toInt) → post r) : wpX_greater post (a, b) p q := by
  refine br_c (fun c => H q (Int32.le_iff_toInt_le.mp c) (Int.le_refl _) (Or.inr rfl)) (fun c => H p (Int.le_refl _) ?_ (Or.inl rfl))
  rw [Int32.le_iff_toInt_le] at c
  omega
theorem zd_lesser {post : Int32 → Prop} {a b : Nat → Int32} {p q : Int32} (H : ∀ r : Int32, r.toInt ≤ p.toInt → r.toInt ≤ q.toInt → (r.toInt = p.toInt ∨ r.toInt = q.toInt) → post r) : wpX_lesser post (a, b) p q := by
  refine br_c (fun c => H q (Int32.le_iff_toInt_le.mp c) (Int.le_refl _) (Or.inr rfl)) (fun c => H p (Int.le_refl _) ?_ (Or.inl rfl))
  rw [Int32.le_iff_toInt_le] at c
  omega
theorem zd_cell {a : Nat → Int32} {z i j q : Nat} (hi : i < 4) (hj : j < 4) (hq : 4 * i + j = q) : (a (16 * z + q)).toInt = zd_V a z i j := by
  rw [zd_V_eq hi hj, hq]
theorem zd_sb {x : Nat} {y : Int32} (hx : x < 10) (h1 : -9 ≤ y.toInt) (h2 : y.toInt ≤ 9) : (nI x - y).toInt = (x : Int) - y.toInt := by
  have e : (nI x).toInt = (x : Int) := nI_toInt (by omega)
  rw [Jvm.Kit.i32_sub (by rw [e]; omega) (by rw [e]; omega), e]
theorem zd_ad {x : Nat} {y : Int32} (hx : x < 10) (h1 : -9 ≤ y.toInt) (h2 : y.toInt ≤ 9) : (nI x + y).toInt = (x : Int) + y.toInt := by
  have e : (nI x).toInt = (x : Int) := nI_toInt (by omega)
  rw [Jvm.Kit.i32_add (by rw [e]; omega) (by rw [e]; omega), e]
theorem zd_ng {y : Int32} (h1 : -9 ≤ y.toInt) (h2 : y.toInt ≤ 9) : (-y).toInt = -y.toInt := Jvm.Kit.i32_neg (by omega)
theorem zd_thirds {post : Int32 → Prop} {a b : Nat → Int32} {z x y : Nat} (hz : z < 4) (k : zd_ok (zd_V a z)) (hx : x < 10) (hy : y < 10) (H : post (nI (zd_n3 (zd_V a z) x y))) : wpX_thirds post (a, b) (nI (16 * z)) (nI x) (nI y) := by
  have e3 : nI (16 * z) + 3 = nI (16 * z + 3) := nI_add (16 * z) 3
  have e7 : nI (16 * z) + 7 = nI (16 * z + 7) := nI_add (16 * z) 7
  have e11 : nI (16 * z) + 11 = nI (16 * z + 11) := nI_add (16 * z) 11
  have e12 : nI (16 * z) + 12 = nI (16 * z + 12) := nI_add (16 * z) 12
  have e13 : nI (16 * z) + 13 = nI (16 * z + 13) := nI_add (16 * z) 13
  have e14 : nI (16 * z) + 14 = nI (16 * z + 14) := nI_add (16 * z) 14
  have c3 := zd_cell (a := a) (z := z) (show 0 < 4 by omega) (show 3 < 4 by omega) (show 4 * 0 + 3 = 3 by omega)
  have c7 := zd_cell (a := a) (z := z) (show 1 < 4 by omega) (show 3 < 4 by omega) (show 4 * 1 + 3 = 7 by omega)
  have c11 := zd_cell (a := a) (z := z) (show 2 < 4 by omega) (show 3 < 4 by omega) (show 4 * 2 + 3 = 11 by omega)
  have c12 := zd_cell (a := a) (z := z) (show 3 < 4 by omega) (show 0 < 4 by omega) (show 4 * 3 + 0 = 12 by omega)
  have c13 := zd_cell (a := a) (z := z) (show 3 < 4 by omega) (show 1 < 4 by omega) (show 4 * 3 + 1 = 13 by omega)
  have c14 := zd_cell (a := a) (z := z) (show 3 < 4 by omega) (show 2 < 4 by omega) (show 4 * 3 + 2 = 14 by omega)
  have B : ∀ i j, i < 4 → j < 4 → -9 ≤ zd_V a z i j ∧ zd_V a z i j ≤ 9 := fun i j hi hj => ⟨zd_ok_lo k hi hj, zd_ok_hi k hi hj⟩
  have b03 := B 0 3 (by omega) (by omega)
  have b13 := B 1 3 (by omega) (by omega)
  have b23 := B 2 3 (by omega) (by omega)
  have b30 := B 3 0 (by omega) (by omega)
  have b31 := B 3 1 (by omega) (by omega)
  have b32 := B 3 2 (by omega) (by omega)
  have k03 := k.2.2 3 (by omega)
  unfold wpX_thirds
  dsimp only
  rw [e3, e7, e11, e12, e13, e14, nI_clamp (show 16 * z + 3 < 2 ^ 31 by omega), nI_clamp (show 16 * z + 7 < 2 ^ 31 by omega), nI_clamp (show 16 * z + 11 < 2 ^ 31 by omega), nI_clamp (show 16 * z + 12 < 2 ^ 31 by omega), nI_clamp (show 16 * z + 13 < 2 ^ 31 by omega), nI_clamp (show 16 * z + 14 < 2 ^ 31 by omega)]
  have u1 : (-(a (16 * z + 3))).toInt = -zd_V a z 0 3 := by rw [zd_ng (by omega) (by omega), c3]
  have u2 : (nI x - a (16 * z + 7)).toInt = (x : Int) - zd_V a z 1 3 := by rw [zd_sb hx (by omega) (by omega), c7]
  have u3 : (nI y - a (16 * z + 11)).toInt = (y : Int) - zd_V a z 2 3 := by rw [zd_sb hy (by omega) (by omega), c11]
  have u4 : (nI x + a (16 * z + 13)).toInt = (x : Int) + zd_V a z 3 1 := by rw [zd_ad hx (by omega) (by omega), c13]
  have u5 : (nI y + a (16 * z + 14)).toInt = (y : Int) + zd_V a z 3 2 := by rw [zd_ad hy (by omega) (by omega), c14]
  refine ⟨vp_in_nI (by omega) (by decide), vp_in_nI (by omega) (by decide), zd_greater (fun r1 h11 h12 h13 => ⟨vp_in_nI (by omega) (by decide), zd_greater (fun r2 h21 h22 h23 => ⟨vp_in_nI (by omega) (by decide), vp_in_nI (by omega) (by decide), zd_lesser (fun r3 h31 h32 h33 => ⟨vp_in_nI (by omega) (by decide), zd_lesser (fun r4 h41 h42 h43 => ?_)⟩)⟩)⟩)⟩
  rw [u1] at h11 h13
  rw [u2] at h12 h13
  rw [u3] at h22 h23
  rw [c12] at h31 h33
  rw [u4] at h32 h33
  rw [u5] at h42 h43
  have hc : ∀ w : Nat, zd_C (zd_V a z) x y w ↔ r2.toInt ≤ (w : Int) ∧ (w : Int) ≤ r4.toInt := by
    intro w
    unfold zd_C
    omega
  have en := zd_n3_eq (x := x) (y := y) (show 0 ≤ r2.toInt by omega) (show r4.toInt ≤ 9 by omega) hc
  have nl := zd_n3_le (zd_V a z) x y
  have e1 : (1 : Int32).toInt = 1 := rfl
  refine br_c (fun c => ?_) (fun c => ?_)
  · rw [Int32.le_iff_toInt_le] at c
    rw [if_neg (by omega)] at en
    have es : (r4 - r2).toInt = r4.toInt - r2.toInt := Jvm.Kit.i32_sub (by omega) (by omega)
    have et : (r4 - r2 + 1).toInt = ((zd_n3 (zd_V a z) x y : Nat) : Int) := by
      rw [Jvm.Kit.i32_add (by rw [es, e1]; omega) (by rw [es, e1]; omega), es, e1, en]
    rw [zd_nI_of et (by omega)]
    exact H
  · rw [Int32.le_iff_toInt_le] at c
    rw [if_pos (by omega)] at en
    rw [show zd_n3 (zd_V a z) x y = 0 by omega] at H
    exact H
theorem zd_w112 {post : Int32 → Prop} {J : Int32 → Int32 → Prop} {a b : Nat → Int32} {z x lo hi S : Nat} (hz : z < 4) (k : zd_ok (zd_V a z)) (hx : x < 10) (hlo : lo ≤ hi) (hhi : hi < 10) (hB : ∀ y : Nat, zd_B (zd_V a z) x y ↔ lo ≤ y ∧ y ≤ hi) (H : J (nI (S + zd_n2 (zd_V a z) x)) (nI (x + 1))) : ∃ n, wX_count_112 post J (nI (16 * z)) (nI x) (nI hi) a b n (nI S) (nI lo) := by
  refine pk_loop (fun n y s => wX_count_112 post J (nI (16 * z)) (nI x) (nI hi) a b n s (nI y)) (fun y s => lo ≤ y ∧ s = nI (S + zd_su (fun y => if zd_B (zd_V a z) x y then zd_n3 (zd_V a z) x y else 0) y)) (hi + 1) lo (nI S) (by omega) ⟨Nat.le_refl _, ?_⟩ ?_ ?_
  · rw [zd_su_0 lo (fun y hy => if_neg (fun t => absurd ((hB y).mp t).1 (by omega)))]
    rfl
  · intro n s h
    refine pk_lt hi (hi + 1) (fun _ => nm_r (nI_1 x) ?_) (fun t => absurd t (by omega))
    have e : zd_n2 (zd_V a z) x = zd_su (fun y => if zd_B (zd_V a z) x y then zd_n3 (zd_V a z) x y else 0) (hi + 1) := zd_su_ext 10 (by omega) (fun y h1 h2 => if_neg (fun t => absurd ((hB y).mp t).2 (by omega)))
    rw [h.2, ← e]
    exact H
  · intro n y s hy h hw
    have hl := h.1
    refine pk_lt hi y (fun t => absurd t (by omega)) (fun _ => zd_thirds hz k hx (by omega) (nm_r ?_ (nm_r (nI_1 y) (hw _ ⟨by omega, rfl⟩))))
    have e : (if zd_B (zd_V a z) x y then zd_n3 (zd_V a z) x y else 0) = zd_n3 (zd_V a z) x y := if_pos ((hB y).mpr ⟨hl, by omega⟩)
    rw [h.2, nI_add, Nat.add_assoc]
    show _ = nI (S + (zd_su (fun y => if zd_B (zd_V a z) x y then zd_n3 (zd_V a z) x y else 0) y + (if zd_B (zd_V a z) x y then zd_n3 (zd_V a z) x y else 0)))
    rw [e]
theorem zd_nat {v : Int} (h : 0 ≤ v) (h9 : v ≤ 9) : ∃ n : Nat, n < 10 ∧ v = (n : Int) := ⟨v.toNat, by omega, by omega⟩
theorem zd_w41 {post : Int32 → Prop} {a b : Nat → Int32} {z x0 : Nat} (hz : z < 4) (k : zd_ok (zd_V a z)) (hx0 : zd_V a z 0 1 = -(x0 : Int)) (H : post (nI (zd_N (zd_V a z)))) : ∃ n, wX_count_41 post (nI (16 * z)) a b n 0 (nI x0) := by
  have e4 : nI (16 * z) + 4 = nI (16 * z + 4) := nI_add (16 * z) 4
  have e2 : nI (16 * z) + 2 = nI (16 * z + 2) := nI_add (16 * z) 2
  have e6 : nI (16 * z) + 6 = nI (16 * z + 6) := nI_add (16 * z) 6
  have e8 : nI (16 * z) + 8 = nI (16 * z + 8) := nI_add (16 * z) 8
  have e9 : nI (16 * z) + 9 = nI (16 * z + 9) := nI_add (16 * z) 9
  have c4 := zd_cell (a := a) (z := z) (show 1 < 4 by omega) (show 0 < 4 by omega) (show 4 * 1 + 0 = 4 by omega)
  have c2 := zd_cell (a := a) (z := z) (show 0 < 4 by omega) (show 2 < 4 by omega) (show 4 * 0 + 2 = 2 by omega)
  have c6 := zd_cell (a := a) (z := z) (show 1 < 4 by omega) (show 2 < 4 by omega) (show 4 * 1 + 2 = 6 by omega)
  have c8 := zd_cell (a := a) (z := z) (show 2 < 4 by omega) (show 0 < 4 by omega) (show 4 * 2 + 0 = 8 by omega)
  have c9 := zd_cell (a := a) (z := z) (show 2 < 4 by omega) (show 1 < 4 by omega) (show 4 * 2 + 1 = 9 by omega)
  have B : ∀ i j, i < 4 → j < 4 → -9 ≤ zd_V a z i j ∧ zd_V a z i j ≤ 9 := fun i j hi hj => ⟨zd_ok_lo k hi hj, zd_ok_hi k hi hj⟩
  have b02 := B 0 2 (by omega) (by omega)
  have b12 := B 1 2 (by omega) (by omega)
  have b20 := B 2 0 (by omega) (by omega)
  have b21 := B 2 1 (by omega) (by omega)
  have b10 := B 1 0 (by omega) (by omega)
  have k02 := k.2.2 2 (by omega)
  have d0 := k.1.1 0 (by omega)
  have d1 := k.1.1 1 (by omega)
  have t1 := k.1.2 0 0 1 (by omega) (by omega) (by omega)
  have t2 := k.1.2 0 0 2 (by omega) (by omega) (by omega)
  have t3 := k.1.2 0 1 2 (by omega) (by omega) (by omega)
  have t4 := k.1.2 1 0 2 (by omega) (by omega) (by omega)
  have t5 := k.1.2 1 1 2 (by omega) (by omega) (by omega)
  obtain ⟨xe, hxe, ee⟩ := zd_nat (zd_pos_of_ok k (show 1 < 4 by omega)) (k.2.1 1 (by omega))
  have a4 : a (16 * z + 4) = nI xe := zd_nI_of (by rw [c4]; exact ee) (by omega)
  refine pk_loop (fun n x s => wX_count_41 post (nI (16 * z)) a b n s (nI x)) (fun x s => x0 ≤ x ∧ s = nI (zd_su (fun x => if zd_A (zd_V a z) x then zd_n2 (zd_V a z) x else 0) x)) (xe + 1) x0 0 (by omega) ⟨Nat.le_refl _, ?_⟩ ?_ ?_
  · rw [zd_su_0 x0 (fun y hy => if_neg (fun t => absurd t.1 (by omega)))]
    rfl
  · intro n s h
    have e : zd_N (zd_V a z) = zd_su (fun x => if zd_A (zd_V a z) x then zd_n2 (zd_V a z) x else 0) (xe + 1) := zd_su_ext 10 (by omega) (fun y h1 h2 => if_neg (fun t => absurd t.2 (by omega)))
    have G : vp_in (nI (16 * z) + 4) 96 ∧ ((a (nI (16 * z) + 4).toNatClampNeg < nI (xe + 1) → post s) ∧ (¬ a (nI (16 * z) + 4).toNatClampNeg < nI (xe + 1) → False)) := by
      rw [e4, nI_clamp (show 16 * z + 4 < 2 ^ 31 by omega), a4]
      refine ⟨vp_in_nI (by omega) (by decide), pk_lt xe (xe + 1) (fun _ => ?_) (fun t => absurd t (by omega))⟩
      rw [h.2, ← e]
      exact H
    exact ⟨G.1, G.2.1, fun t => (G.2.2 t).elim⟩
  · intro n x s hx h hw
    have hl := h.1
    have hA : zd_A (zd_V a z) x := ⟨by omega, by omega⟩
    show _ ∧ _
    rw [e4, e2, e6, e8, e9, nI_clamp (show 16 * z + 4 < 2 ^ 31 by omega), nI_clamp (show 16 * z + 2 < 2 ^ 31 by omega), nI_clamp (show 16 * z + 6 < 2 ^ 31 by omega), nI_clamp (show 16 * z + 8 < 2 ^ 31 by omega), nI_clamp (show 16 * z + 9 < 2 ^ 31 by omega), a4]
    have u1 : (-(a (16 * z + 2))).toInt = -zd_V a z 0 2 := by rw [zd_ng (by omega) (by omega), c2]
    have u2 : (nI x - a (16 * z + 6)).toInt = (x : Int) - zd_V a z 1 2 := by rw [zd_sb (by omega) (by omega) (by omega), c6]
    have u4 : (nI x + a (16 * z + 9)).toInt = (x : Int) + zd_V a z 2 1 := by rw [zd_ad (by omega) (by omega) (by omega), c9]
    refine ⟨vp_in_nI (by omega) (by decide), pk_lt xe x (fun t => absurd t (by omega)) (fun _ => ⟨vp_in_nI (by omega) (by decide), vp_in_nI (by omega) (by decide), zd_greater (fun r1 h11 h12 h13 => ⟨vp_in_nI (by omega) (by decide), vp_in_nI (by omega) (by decide), zd_lesser (fun r2 h21 h22 h23 => ?_)⟩)⟩)⟩
    rw [u1] at h11 h13
    rw [u2] at h12 h13
    rw [c8] at h21 h23
    rw [u4] at h22 h23
    obtain ⟨lo, hlo, elo⟩ := zd_nat (v := r1.toInt) (by omega) (by omega)
    obtain ⟨hi, hhi, ehi⟩ := zd_nat (v := r2.toInt) (by omega) (by omega)
    rw [zd_nI_of elo (by omega), zd_nI_of ehi (by omega), h.2]
    refine zd_w112 hz k (by omega) (by omega) hhi (fun y => ?_) (hw _ ⟨by omega, ?_⟩)
    · unfold zd_B
      omega
    · show _ = nI (zd_su (fun x => if zd_A (zd_V a z) x then zd_n2 (zd_V a z) x else 0) x + (if zd_A (zd_V a z) x then zd_n2 (zd_V a z) x else 0))
      rw [if_pos hA]
/-- the answer of count -/
def zd_ct (h : Int32) (g : Nat → Nat → Int) : Nat := if h = 0 then zd_N g else 0
theorem zd_N_le (g : Nat → Nat → Int) : zd_N g ≤ 1000 := by
  refine zd_su_bd (c := 100) 10 (fun x _ => ?_)
  by_cases hg : zd_A g x
  · rw [if_pos hg]
    exact zd_n2_le g x
  · rw [if_neg hg]
    exact Nat.zero_le _
theorem zd_ct_le (h : Int32) (g : Nat → Nat → Int) : zd_ct h g ≤ 1000 := by
  unfold zd_ct
  by_cases c : h = 0
  · rw [if_pos c]
    exact zd_N_le g
  · rw [if_neg c]
    exact Nat.zero_le _
theorem zd_count {post : Int32 → Prop} {a b : Nat → Int32} {z : Nat} (hz : z < 4) (hI : zd_I a b) (H : post (nI (zd_ct (b z) (zd_V a z)))) : wpX_count post (a, b) (nI z) := by
  unfold wpX_count
  dsimp only
  refine zd_bad hz ?_
  refine br_t rfl ?_
  rw [nI_clamp (show z < 2 ^ 31 by omega)]
  unfold zd_ct at H
  refine ⟨pk_in z 6 (by omega), br_c (fun c => ?_) (fun c => ?_)⟩
  · rw [if_pos c] at H
    have k := hI.2 z hz c
    refine nm_r (e' := nI (16 * z)) (pk_mul 16 z) ?_
    have e1 : nI (16 * z) + 1 = nI (16 * z + 1) := nI_add (16 * z) 1
    rw [e1, nI_clamp (show 16 * z + 1 < 2 ^ 31 by omega)]
    have c1 := zd_cell (a := a) (z := z) (show 0 < 4 by omega) (show 1 < 4 by omega) (show 4 * 0 + 1 = 1 by omega)
    have l1 := zd_ok_lo k (show 0 < 4 by omega) (show 1 < 4 by omega)
    have l2 := k.2.2 1 (by omega)
    obtain ⟨x0, hx0, ex⟩ := zd_nat (v := -zd_V a z 0 1) (by omega) (by omega)
    have ea : -(a (16 * z + 1)) = nI x0 := zd_nI_of (by rw [zd_ng (by omega) (by omega), c1]; exact ex) (by omega)
    exact ⟨vp_in_nI (by omega) (by decide), nm_r ea (zd_w41 hz k (by omega) H)⟩
  · rw [if_neg c] at H
    exact H
theorem zd_ct_eq {h h' : Int32} {g g' : Nat → Nat → Int} (k : h = 0 → zd_ok g) (k' : h' = 0 → zd_ok g') (e : ∀ p, zd_zp h g p ↔ zd_zp h' g' p) : zd_ct h g = zd_ct h' g' := by
  unfold zd_ct
  by_cases c : h = 0
  · have c' : h' = 0 := by
      obtain ⟨p, hp⟩ := zd_zp_ex c (k c)
      exact ((e p).mp hp).1
    rw [if_pos c, if_pos c']
    exact zd_N_congr (fun i j hi hj => zd_eq_of_iff (k c).1 (k' c').1 (fun p => ⟨fun t => ((e p).mp ⟨c, t⟩).2, fun t => ((e p).mpr ⟨c', t⟩).2⟩) hi hj)
  · have c' : ¬ h' = 0 := by
      intro c'
      obtain ⟨p, hp⟩ := zd_zp_ex c' (k' c')
      exact c ((e p).mpr hp).1
    rw [if_neg c, if_neg c']
theorem zd_ct_lt {h h' : Int32} {g g' : Nat → Nat → Int} (k : h = 0 → zd_ok g) (k' : h' = 0 → zd_ok g') (s : ∀ p, zd_zp h g p → zd_zp h' g' p) {p : Nat → Int} (i' : zd_zp h' g' p) (n : ¬ zd_zp h g p) : zd_ct h g < zd_ct h' g' := by
  unfold zd_ct
  rw [if_pos i'.1]
  by_cases c : h = 0
  · rw [if_pos c]
    exact zd_Nlt (k c) (k' i'.1) (fun q hq => (s q ⟨c, hq⟩).2) (fun t => n ⟨c, t⟩) i'.2
  · rw [if_neg c]
    exact zd_Npos (k' i'.1)
end
section
/-! the checks of one zone -/
theorem zd_w135 {post : Int32 → Prop} {L : Nat} {xs : Nat → Int32} {J : Int32 → (Nat → Int32) → (Nat → Int32) → Prop} {x2 : Int32} {kc ks : Nat} {a b : Nat → Int32} {z : Nat} (hz : z < 4) (hI : zd_I a b) (H : J (nI (z + 1)) a b) : ∃ n, wL_law_135 post L xs J x2 (nI z) (nI (zd_ct (b z) (zd_V a z))) kc ks a b n 0 := by
  refine pk_loop (σ := Unit) (fun n i _ => wL_law_135 post L xs J x2 (nI z) (nI (zd_ct (b z) (zd_V a z))) kc ks a b n (nI i)) (fun _ _ => True) 12 0 () (by omega) trivial ?_ ?_
  · intro n _ _
    exact pk_le 12 12 (fun _ => nm_r (nI_1 z) H) (fun t => absurd t (by omega))
  · intro n i _ hi _ hw
    refine pk_le 12 i (fun t => absurd t (by omega)) (fun _ => ?_)
    refine zd_pair (by omega) (fun u v hu hv nuv => ?_)
    have e1 : nI (4 * u + v) &&& 3 = nI ((4 * u + v) % 4) := pk_andN (by omega) 2 (by decide)
    have e2 : nI (4 * u + v) >>> ((2 : Int32) &&& 31) = nI ((4 * u + v) / 4) := pk_shrN (by omega) _ 2 (by decide)
    refine nm_r (e' := nI (4 * v + u)) ?_ ?_
    · rw [e1, e2, show (4 : Int32) = nI 4 from rfl, pk_mul, nI_add, show (4 * u + v) % 4 = v by omega, show (4 * u + v) / 4 = u by omega]
    · have W := nm_r (nI_1 i) (hw () trivial)
      by_cases c : b z = 0
      · have k := hI.2 z hz c
        have ec : zd_ct (b z) (zd_V a z) = zd_N (zd_V a z) := if_pos c
        have ep := zd_Npos k
        have el := zd_N_le (zd_V a z)
        refine zd_bound hz hu hv nuv (fun _ => ?_) (fun t => absurd c t)
        refine zd_bound hz hv hu (fun t => nuv t.symm) (fun _ => ?_) (fun t => absurd c t)
        refine br_f (by rw [ec]; exact nI_ne0 ep (by omega)) (br_f (fun t => ?_) ?_)
        · have m1 := zd_ok_lo k hu hv
          have m2 := zd_ok_hi k hu hv
          have m3 := zd_ok_lo k hv hu
          have m4 := zd_ok_hi k hv hu
          have m5 := k.1.2 u u v hu hu hv
          have m6 := k.1.1 u hu
          rw [zd_V_eq hu hv] at m1 m2 m5
          rw [zd_V_eq hv hu] at m3 m4 m5
          rw [Int32.lt_iff_toInt_lt, zd_ng (by omega) (by omega)] at t
          omega
        · exact zd_spread hz hu hv nuv (fun _ => br_t rfl W) (fun t => absurd c t)
      · have ec : zd_ct (b z) (zd_V a z) = 0 := if_neg c
        refine zd_bound hz hu hv nuv (fun t => absurd t c) (fun _ => ?_)
        refine zd_bound hz hv hu (fun t => nuv t.symm) (fun t => absurd t c) (fun _ => ?_)
        refine br_t (by rw [ec]; rfl) (br_t rfl ?_)
        exact zd_spread hz hu hv nuv (fun t => absurd t c) (fun _ => br_t rfl W)
theorem zd_fz4_I {a b a' b' : Nat → Int32} (hI : zd_I a b) (F : zd_fz 4 a b a' b') (g : b' 4 = 0 ∨ b' 4 = 1) : zd_I a' b' := zd_fz_I hI F g (fun t => absurd t (by omega))
theorem zd_zone {post : Int32 → Prop} {L : Nat} {xs : Nat → Int32} {J : Int32 → (Nat → Int32) → (Nat → Int32) → Prop} {x2 : Int32} {kc ks : Nat} {a b : Nat → Int32} {z : Nat} (hz : z < 4) (hI : zd_I a b) (H : ∀ a' b', zd_I a' b' → J (nI (z + 1)) a' b') :
    wpX_count (fun r_116 => (wpX_least (fun r_117 u => match u with | (am661_120, am662_123) => (((r_116 = 0 → (wL_law_81 post L xs J x2 (nI z) r_116 r_117 1 kc ks am661_120 am662_123)) ∧ (¬ r_116 = 0 → (wL_law_81 post L xs J x2 (nI z) r_116 r_117 0 kc ks am661_120 am662_123))))) (a, b) (nI z))) (a, b) (nI z) := by
  refine zd_count hz hI ?_
  refine zd_least hz hI (fun c a' b' x y w F h4 hx hy hw hin => ?_) (fun c => ?_)
  · have I' := zd_fz4_I hI F (Or.inl h4)
    have ez := F z (by omega)
    have k := hI.2 z hz c
    have ec : zd_ct (b z) (zd_V a z) = zd_N (zd_V a z) := if_pos c
    have ep := zd_Npos k
    have el := zd_N_le (zd_V a z)
    have c' : b' z = 0 := ez.2.trans c
    have hN : ¬ nI (zd_ct (b z) (zd_V a z)) = 0 := by rw [ec]; exact nI_ne0 ep (by omega)
    have hN' : ¬ nI (zd_ct (b z) (zd_V a z)) ≤ 0 := by rw [ec]; exact nI_nle ep (by omega)
    refine br_f hN ?_
    unfold wL_law_81
    refine zd_empty hz (fun _ => ?_) (fun t => absurd c' t)
    refine br_t rfl (br_f (fun t => ?_) ?_)
    · have t1 : (nI (100 * w + 10 * y + x)).toInt = (-2000 : Int32).toInt := by rw [t]
      rw [nI_toInt (by omega), show (-2000 : Int32).toInt = -2000 from rfl] at t1
      omega
    unfold wL_law_102
    refine br_f hN ?_
    unfold wL_law_112
    refine br_t rfl (br_f hN' ?_)
    refine zd_has hz c' (by rw [ez.1]; exact k) hx hy hw (by rw [ez.1]; exact hin) (br_f zd_10 ?_)
    have e2 : zd_ct (b z) (zd_V a z) = zd_ct (b' z) (zd_V a' z) := by rw [ez.1, ez.2]
    rw [e2]
    exact zd_w135 hz I' (H a' b' I')
  · have ec : zd_ct (b z) (zd_V a z) = 0 := if_neg c
    have e0 : nI (zd_ct (b z) (zd_V a z)) = 0 := by rw [ec]; rfl
    have e0' : nI (zd_ct (b z) (zd_V a z)) ≤ 0 := by rw [e0]; decide
    refine br_t e0 ?_
    unfold wL_law_81
    refine zd_empty hz (fun t => absurd t c) (fun _ => ?_)
    refine br_t rfl (br_t rfl ?_)
    unfold wL_law_102
    refine br_t e0 ?_
    unfold wL_law_112
    refine br_t rfl (br_t e0' ?_)
    exact zd_w135 hz hI (H a b hI)
/-! the end of the law -/
theorem zd_W_idem {g gd gc : Nat → Nat → Int} (kd : zd_ok gd) (hd : ∀ p, zd_sat gd p ↔ zd_sat (zd_W g) p) (hc : ∀ p, zd_sat gc p ↔ zd_sat (zd_W gd) p) (p : Nat → Int) : zd_sat gc p ↔ zd_sat gd p := by
  rw [hc p]
  constructor
  · intro h
    rw [hd p]
    intro i j hi hj
    have h1 := h i j hi hj
    have h2 := zd_le_of_sub kd.1 (fun p hp => (hd p).mp hp) hi hj
    unfold zd_W at h1 h2 ⊢
    by_cases c : j = 0 ∧ i ≠ 0
    · rw [if_pos c] at h1 ⊢
      exact h1
    · rw [if_neg c] at h1 h2 ⊢
      omega
  · refine zd_sub_of_le (fun i j hi hj => ?_)
    have h2 := zd_ok_hi kd hi hj
    unfold zd_W
    split <;> omega
theorem zd_W_sub {g : Nat → Nat → Int} (k : zd_ok g) {p : Nat → Int} (h : zd_sat g p) : zd_sat (zd_W g) p := by
  refine zd_sub_of_le (fun i j hi hj => ?_) h
  have h2 := zd_ok_hi k hi hj
  unfold zd_W
  split <;> omega
theorem zd_418 {post : Int32 → Prop} {L : Nat} {xs : Nat → Int32} {x8 z0 : Int32} {kc ks : Nat} {a b : Nat → Int32} {A B C D : Nat} (hp : post 1) (hA : A < 4) (hB : B < 4) (hC : C < 4) (hD : D < 4) (nAC : A ≠ C) (nBC : B ≠ C) (nAD : A ≠ D) (nBD : B ≠ D) (nCD : C ≠ D) (hI : zd_I a b) (h8 : z0 = x8) : wL_law_418 post L xs (nI A) (nI B) (nI C) (nI D) x8 z0 kc ks a b := by
  unfold wL_law_418
  refine br_t h8 ?_
  refine zd_copy hC hA (hI.1 A (by omega)) (fun a1 b1 F1 e1 v1 => ?_)
  have A1 := F1 A nAC
  have B1 := F1 B nBC
  have I1 : zd_I a1 b1 := zd_fz_I hI F1 (by rw [e1]; exact hI.1 A (by omega)) (fun _ t => by rw [v1]; rw [e1] at t; exact hI.2 A hA t)
  refine zd_hull (a := a1) (b := b1) hC hB I1 (fun _ a2 b2 F2 h2 => ?_)
  have A2 := F2 A nAC
  have B2 := F2 B nBC
  have I2 : zd_I a2 b2 := zd_fz_I I1 F2 h2.1 (fun _ => h2.2.1)
  refine zd_within (a := a2) (b := b2) hA hC I2 (fun r1 q1 => ?_)
  rcases q1 with ⟨q, -⟩ | ⟨-, p, q, q'⟩
  rotate_left
  · refine absurd (h2.2.2.1 p ?_) q'
    rw [e1, v1]
    rw [A2.1, A2.2, A1.1, A1.2] at q
    exact q
  refine br_f (by rw [q]; exact zd_10) ?_
  refine zd_within (a := a2) (b := b2) hB hC I2 (fun r2 q2 => ?_)
  rcases q2 with ⟨q, -⟩ | ⟨-, p, q, q'⟩
  rotate_left
  · refine absurd (h2.2.2.2 p ?_) q'
    rw [B2.1, B2.2] at q
    exact q
  refine br_f (by rw [q]; exact zd_10) ?_
  refine zd_copy (a := a2) (b := b2) hD hA (I2.1 A (by omega)) (fun a3 b3 F3 e3 v3 => ?_)
  have A3 := F3 A nAD
  have I3 : zd_I a3 b3 := zd_fz_I I2 F3 (by rw [e3]; exact I2.1 A (by omega)) (fun _ t => by rw [v3]; rw [e3] at t; exact I2.2 A hA t)
  refine zd_delay (a := a3) (b := b3) hD I3 (fun _ a4 b4 F4 d4 => ?_)
  have A4 := F4 A nAD
  have k4 : b4 D = 0 → zd_ok (zd_V a4 D) := by
    intro t
    by_cases c : b3 D = 0
    · exact (d4.2.2 c).2.1
    · exact absurd t (d4.2.1 c)
  have I4 : zd_I a4 b4 := zd_fz_I I3 F4 d4.1 (fun _ => k4)
  refine zd_copy (a := a4) (b := b4) hC hD (I4.1 D (by omega)) (fun a5 b5 F5 e5 v5 => ?_)
  have A5 := F5 A nAC
  have D5 := F5 D (fun t => nCD t.symm)
  have I5 : zd_I a5 b5 := zd_fz_I I4 F5 (by rw [e5]; exact I4.1 D (by omega)) (fun _ t => by rw [v5]; rw [e5] at t; exact k4 t)
  refine zd_delay (a := a5) (b := b5) hC I5 (fun _ a6 b6 F6 d6 => ?_)
  have A6 := F6 A nAC
  have D6 := F6 D (fun t => nCD t.symm)
  have k6 : b6 C = 0 → zd_ok (zd_V a6 C) := by
    intro t
    by_cases c : b5 C = 0
    · exact (d6.2.2 c).2.1
    · exact absurd t (d6.2.1 c)
  have I6 : zd_I a6 b6 := zd_fz_I I5 F6 d6.1 (fun _ => k6)
  have vD : zd_V a6 D = zd_V a4 D := D6.1.trans D5.1
  have bD : b6 D = b4 D := D6.2.trans D5.2
  have vA : zd_V a6 A = zd_V a2 A := A6.1.trans (A5.1.trans (A4.1.trans A3.1))
  have bA : b6 A = b2 A := A6.2.trans (A5.2.trans (A4.2.trans A3.2))
  unfold zd_dl at d4 d6
  rw [e3, v3] at d4
  rw [e5, v5] at d6
  have E : ∀ p, zd_zp (b6 C) (zd_V a6 C) p ↔ zd_zp (b6 D) (zd_V a6 D) p := by
    intro p
    rw [vD, bD]
    by_cases c : b4 D = 0
    · have c2 : b2 A = 0 := by
        by_cases t : b2 A = 0
        · exact t
        · exact absurd c (d4.2.1 t)
      have t4 := d4.2.2 c2
      have t6 := d6.2.2 c
      exact ⟨fun t => ⟨c, (zd_W_idem t4.2.1 t4.2.2 t6.2.2 p).mp t.2⟩, fun t => ⟨t6.1, (zd_W_idem t4.2.1 t4.2.2 t6.2.2 p).mpr t.2⟩⟩
    · exact ⟨fun t => absurd t.1 (d6.2.1 c), fun t => absurd t.1 c⟩
  have G : ∀ p, zd_zp (b6 A) (zd_V a6 A) p → zd_zp (b6 D) (zd_V a6 D) p := by
    intro p h
    rw [vA, bA] at h
    rw [vD, bD]
    have t4 := d4.2.2 h.1
    exact ⟨t4.1, (t4.2.2 p).mpr (zd_W_sub (I2.2 A hA h.1) h.2)⟩
  refine zd_within (a := a6) (b := b6) hC hD I6 (fun r3 q3 => ?_)
  rcases q3 with ⟨q, -⟩ | ⟨-, p, q, q'⟩
  rotate_left
  · exact absurd ((E p).mp q) q'
  refine br_f (by rw [q]; exact zd_10) ?_
  refine zd_within (a := a6) (b := b6) hD hC I6 (fun r4 q4 => ?_)
  rcases q4 with ⟨q, -⟩ | ⟨-, p, q, q'⟩
  rotate_left
  · exact absurd ((E p).mpr q) q'
  refine br_f (by rw [q]; exact zd_10) ?_
  refine zd_within (a := a6) (b := b6) hA hD I6 (fun r5 q5 => ?_)
  rcases q5 with ⟨q, -⟩ | ⟨-, p, q, q'⟩
  rotate_left
  · exact absurd (G p q) q'
  refine br_f (by rw [q]; exact zd_10) ?_
  refine zd_count (a := a6) (b := b6) hC I6 ?_
  refine zd_count (a := a6) (b := b6) hD I6 ?_
  refine br_t ?_ hp
  rw [zd_ct_eq k6 (I6.2 D hD) E]
theorem zd_288 {post : Int32 → Prop} {L : Nat} {xs : Nat → Int32} {kc ks : Nat} {a b : Nat → Int32} {A B C D : Nat} (hp : post 1) (hA : A < 4) (hB : B < 4) (hC : C < 4) (hD : D < 4) (nAC : A ≠ C) (nBC : B ≠ C) (nAD : A ≠ D) (nBD : B ≠ D) (nCD : C ≠ D) (hs : A + B + C + D = 6) (hI : zd_I a b) : wL_law_288 post L xs (nI A) (nI B) (nI C) kc ks a b := by
  unfold wL_law_288
  refine nm_r (e' := nI D) ?_ ?_
  · rw [show (6 : Int32) = nI 6 from rfl, pk_sub (by omega), pk_sub (by omega), pk_sub (by omega), show 6 - A - B - C = D by omega]
  refine zd_within hA hB hI (fun r1 h1 => ?_)
  refine zd_touches hA hB hI (fun r2 a1 b1 F1 g1 h2 => ?_)
  have I1 := zd_fz4_I hI F1 g1
  have A1 := F1 A (by omega)
  have B1 := F1 B (by omega)
  refine zd_meeting (a := a1) (b := b1) hA hB I1 (fun r3 a2 b2 F2 g2 m1 m2 h3 => ?_)
  have I2 := zd_fz4_I I1 F2 g2
  have A2 := F2 A (by omega)
  have B2 := F2 B (by omega)
  have vA : zd_V a2 A = zd_V a A := A2.1.trans A1.1
  have bA : b2 A = b A := A2.2.trans A1.2
  have vB : zd_V a2 B = zd_V a B := B2.1.trans B1.1
  have bB : b2 B = b B := B2.2.trans B1.2
  rw [A1.1, A1.2, B1.1, B1.2, ← vA, ← bA, ← vB, ← bB] at h3
  rw [← vA, ← bA, ← vB, ← bB] at h1 h2
  refine zd_count (a := a2) (b := b2) hA I2 ?_
  have K : ∀ z0, z0 = r2 → wL_law_346 post L xs (nI A) (nI B) (nI C) (nI D) r1 r2 r3 (nI (zd_ct (b2 A) (zd_V a2 A))) z0 kc ks a2 b2 := by
    intro z0 ez
    unfold wL_law_346
    have em : (-2000 : Int32).toInt = -2000 := rfl
    have e9 : (9 : Int32).toInt = 9 := rfl
    refine br_t ez (br_f (fun t => ?_) (br_t ?_ ?_))
    · rw [Int32.lt_iff_toInt_lt, em] at t
      omega
    · rw [Int32.le_iff_toInt_le, e9]
      exact m2
    refine zd_copy (a := a2) (b := b2) hC hA (I2.1 A (by omega)) (fun a3 b3 F3 e3 v3 => ?_)
    have I3 : zd_I a3 b3 := zd_fz_I I2 F3 (by rw [e3]; exact I2.1 A (by omega)) (fun _ t => by rw [v3]; rw [e3] at t; exact I2.2 A hA t)
    have B3 := F3 B nBC
    refine zd_meet (a := a3) (b := b3) hC hB I3 (fun r4 a4 b4 F4 g4 w4 h4 => ?_)
    have I4 : zd_I a4 b4 := zd_fz_I I3 F4 g4 (fun _ => w4.1)
    unfold zd_mw at w4
    rw [e3, v3, B3.1, B3.2] at w4
    refine zd_count (a := a4) (b := b4) hC I4 ?_
    have K2 : ∀ z1, z1 = r1 → wL_law_402 post L xs (nI A) (nI B) (nI C) (nI D) r1 r2 r4 z1 kc ks a4 b4 := by
      intro z1 e1
      unfold wL_law_402
      refine br_t e1 ?_
      have K3 : ∀ z2, z2 = r2 → wL_law_418 post L xs (nI A) (nI B) (nI C) (nI D) r2 z2 kc ks a4 b4 := fun z2 e2 => zd_418 hp hA hB hC hD nAC nBC nAD nBD nCD I4 e2
      rcases h4 with ⟨c4, e4⟩ | ⟨c4, e4⟩
      · refine br_t e4 (K3 1 ?_)
        rcases h2 with ⟨t, -⟩ | ⟨-, t⟩
        · exact t.symm
        · obtain ⟨p, hp4⟩ := zd_zp_ex c4 (w4.1 c4)
          exact absurd ((w4.2 p).mp hp4) (t p)
      · refine br_f (by rw [e4]; decide) (K3 0 ?_)
        rcases h2 with ⟨-, p, t⟩ | ⟨t, -⟩
        · exact absurd ((w4.2 p).mpr t).1 c4
        · exact t.symm
    rcases h1 with ⟨t, s⟩ | ⟨t, p, s1, s2⟩
    · refine br_t ?_ (K2 1 t.symm)
      rw [zd_ct_eq w4.1 (I2.2 A hA) (fun p => (w4.2 p).trans ⟨fun q => q.1, fun q => ⟨q, s p q⟩⟩)]
    · have lt := zd_ct_lt w4.1 (I2.2 A hA) (fun p q => ((w4.2 p).mp q).1) s1 (fun q => s2 ((w4.2 p).mp q).2)
      have l1 := zd_ct_le (b2 A) (zd_V a2 A)
      refine br_f (fun q => ?_) (K2 0 t.symm)
      rw [nI_eq (by omega) (by omega)] at q
      omega
  rcases h3 with ⟨e3, p, t3⟩ | ⟨e3, t3⟩
  · refine br_t e3 (K 1 ?_)
    rcases h2 with ⟨t, -⟩ | ⟨-, t⟩
    · exact t.symm
    · exact absurd t3 (t p)
  · refine br_f e3 (K 0 ?_)
    rcases h2 with ⟨-, p, t⟩ | ⟨t, -⟩
    · exact absurd t (t3 p)
    · exact t.symm
theorem zd_w52 {post : Int32 → Prop} {L : Nat} {xs : Nat → Int32} {x2 : Int32} {kc ks : Nat} {a b : Nat → Int32} (hp : post 1) (hI : zd_I a b) : ∃ n, wL_law_52 post L xs x2 kc ks n 0 a b := by
  refine pk_loop (fun n z s => wL_law_52 post L xs x2 kc ks n (nI z) s.1 s.2) (fun _ s => zd_I s.1 s.2) 4 0 (a, b) (by omega) hI ?_ ?_
  · intro n s h
    obtain ⟨a1, b1⟩ := s
    have h' : zd_I a1 b1 := h
    refine pk_le 4 4 (fun _ => ?_) (fun t => absurd t (by omega))
    obtain ⟨A, hA, eA⟩ := pk_andE x2 (m := 3) 2 (by decide)
    obtain ⟨T, hT, eT⟩ := pk_andE (x2 >>> ((2 : Int32) &&& 31)) (m := 3) 2 (by decide)
    refine nm_r eA ⟨by decide, ?_⟩
    have eB : (nI A + 1 + (((x2 >>> ((2 : Int32) &&& 31)) &&& 3) - ((x2 >>> ((2 : Int32) &&& 31)) &&& 3) / 3 * 3)) &&& 3 = nI ((A + 1 + T % 3) % 4) := by
      rw [eT, zd_rem3 (by omega), nI_1, nI_add]
      exact pk_andN (by omega) 2 (by decide)
    have eC : (nI A + 2) &&& 3 = nI ((A + 2) % 4) := by
      rw [show nI A + 2 = nI (A + 2) from nI_add A 2]
      exact pk_andN (by omega) 2 (by decide)
    have eC' : (nI A + 3) &&& 3 = nI ((A + 3) % 4) := by
      rw [show nI A + 3 = nI (A + 3) from nI_add A 3]
      exact pk_andN (by omega) 2 (by decide)
    refine nm_r eB (nm_r eC ?_)
    rw [eC']
    refine pk_eq ((A + 2) % 4) ((A + 1 + T % 3) % 4) (fun e => ?_) (fun e => ?_)
    · exact zd_288 (D := 6 - A - (A + 1 + T % 3) % 4 - (A + 3) % 4) hp (by omega) (by omega) (by omega) (by omega) (by omega) (by omega) (by omega) (by omega) (by omega) (by omega) h'
    · exact zd_288 (D := 6 - A - (A + 1 + T % 3) % 4 - (A + 2) % 4) hp (by omega) (by omega) (by omega) (by omega) (by omega) (by omega) (by omega) (by omega) (by omega) (by omega) h'
  · intro n z s hz h hw
    obtain ⟨a1, b1⟩ := s
    have h' : zd_I a1 b1 := h
    refine pk_le 4 z (fun t => absurd t (by omega)) (fun _ => ?_)
    exact zd_zone hz h' (fun a' b' q => hw (a', b') q)
theorem zd_init {post : St1 → Prop} (H : ∀ a b, zd_I a b → post (a, b)) : wpX_init post 2 102 () := by
  refine ⟨by omega, by omega, by omega, by omega, ?_⟩
  refine pk_loop (fun n z s => wX_init_22 post 2 102 2 102 n (nI z) s.1 s.2) (fun i s => (∀ z, z < 6 → s.2 z = 0 ∨ s.2 z = 1) ∧ ∀ z, z < i → zd_ok (zd_V s.1 z)) 4 0 (fun _ => 0, fun _ => 0) (by omega) ⟨fun _ _ => Or.inl rfl, fun z hz => absurd hz (by omega)⟩ ?_ ?_
  · intro n s h
    obtain ⟨a1, b1⟩ := s
    exact pk_le 4 4 (fun _ => H a1 b1 ⟨h.1, fun z hz _ => h.2 z hz⟩) (fun t => absurd t (by omega))
  · intro n i s hi h hw
    obtain ⟨a1, b1⟩ := s
    refine pk_le 4 i (fun t => absurd t (by omega)) (fun _ => ?_)
    refine zd_setFresh (a := a1) (b := b1) (by omega) (fun a' f e => nm_r (nI_1 i) (hw (a', upd b1 i 0) ⟨fun z hz => ?_, fun z hz => ?_⟩))
    · show upd b1 i 0 z = 0 ∨ upd b1 i 0 z = 1
      by_cases c : z = i
      · rw [c]
        exact Or.inl pk_us
      · rw [pk_un c]
        exact h.1 z hz
    · show zd_ok (zd_V a' z)
      by_cases c : z = i
      · rw [c]
        exact zd_bx_ok e
      · rw [zd_fr_V f c]
        exact h.2 z (by omega)
theorem zd_w23l {post : Int32 → Prop} {L : Nat} {xs : Nat → Int32} {x2 : Int32} {kc ks : Nat} {a b : Nat → Int32} (hp : post 1) (hL : L ≤ 260) (hI : zd_I a b) : ∃ n, wL_law_23 post L xs x2 kc ks n 1 a b := by
  refine loop_m (fun n (s : Nat × (Nat → Int32) × (Nat → Int32)) => wL_law_23 post L xs x2 kc ks n (nI s.1) s.2.1 s.2.2) (fun s => s.1 ≤ L + 1 ∧ zd_I s.2.1 s.2.2) (fun s => L + 5 - s.1) ?_ (1, a, b) ⟨by show 1 ≤ L + 1; omega, hI⟩
  intro n s h hw
  obtain ⟨k, a1, b1⟩ := s
  have hk : k ≤ L + 1 := h.1
  have h' : zd_I a1 b1 := h.2
  refine pk_le L (k + 1) (fun _ => zd_w52 hp h') (fun t => ⟨pk_in k L (by omega), pk_in (k + 1) L (by omega) (nI_1 k), ?_⟩) rfl (nI_1 k)
  refine zd_turn h' (fun r a' b' q => nm_r (nI_add k 2) (hw (k + 2, a', b') ⟨?_, q⟩ ?_))
  · show k + 2 ≤ L + 1
    omega
  · show L + 5 - (k + 2) < L + 5 - k
    omega
theorem i_vc (xs : Nat → Int32) (L : Nat) (hL : L ≤ 260) : wpL_law (fun r => r = 1) L xs := by
  refine ⟨2, 102, by omega, by omega, zd_init (fun a b hI => ?_)⟩
  exact pk_le L 0 (fun _ => zd_w23l rfl hL hI) (fun t => ⟨pk_in 0 L t, nm_e (zd_w23l rfl hL hI)⟩)
end
