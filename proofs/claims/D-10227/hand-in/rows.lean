section
/-! the grid of strands, by recursion from the letters of the rows (x) and of the columns (y) -/
/-- what leaves a cell to the right -/
def sw_r (x y h v : Int32) : Int32 := if x = y then v else if h ≤ v then h else v
/-- what leaves a cell downward -/
def sw_d (x y h v : Int32) : Int32 := if x = y then h else if h ≤ v then v else h
def sw_H (x : Int32) (y v : Nat → Int32) (h0 : Int32) : Nat → Int32
  | 0 => h0
  | j + 1 => sw_r x (y j) (sw_H x y v h0 j) (v j)
/-- the strand that comes from above into cell (i, j) -/
def sw_V (x y : Nat → Int32) : Nat → Nat → Int32
  | 0 => fun j => nI j
  | i + 1 => fun j => sw_d (x i) (y j) (sw_H (x i) y (sw_V x y i) ((-1) - nI i) j) (sw_V x y i j)
/-- the strand that comes from the left into cell (i, j) -/
def sw_h (x y : Nat → Int32) (i j : Nat) : Int32 := sw_H (x i) y (sw_V x y i) ((-1) - nI i) j
theorem sw_h0 (x y : Nat → Int32) (i : Nat) : sw_h x y i 0 = (-1) - nI i := rfl
theorem sw_hs (x y : Nat → Int32) (i j : Nat) : sw_h x y i (j + 1) = sw_r (x i) (y j) (sw_h x y i j) (sw_V x y i j) := rfl
theorem sw_v0 (x y : Nat → Int32) (j : Nat) : sw_V x y 0 j = nI j := rfl
theorem sw_vs (x y : Nat → Int32) (i j : Nat) : sw_V x y (i + 1) j = sw_d (x i) (y j) (sw_h x y i j) (sw_V x y i j) := rfl
/-! the grid looks at the letters in its range alone -/
theorem sw_cgH {x y x' y' : Nat → Int32} {C i : Nat} (hx : x i = x' i) (hy : ∀ j, j < C → y j = y' j) (hv : ∀ j, j < C → sw_V x y i j = sw_V x' y' i j) : ∀ j, j ≤ C → sw_h x y i j = sw_h x' y' i j := by
  intro j
  induction j with
  | zero =>
    intro _
    rw [sw_h0, sw_h0]
  | succ j ih =>
    intro h
    rw [sw_hs, sw_hs, hx, hy j h, ih (by omega), hv j h]
theorem sw_cgV {x y x' y' : Nat → Int32} {R C : Nat} (hx : ∀ i, i < R → x i = x' i) (hy : ∀ j, j < C → y j = y' j) : ∀ i, i ≤ R → ∀ j, j < C → sw_V x y i j = sw_V x' y' i j := by
  intro i
  induction i with
  | zero => intro _ j _; rfl
  | succ i ih =>
    intro h j hj
    have hi := ih (by omega)
    rw [sw_vs, sw_vs, hx i h, hy j hj, sw_cgH (hx i h) hy hi j (by omega), hi j hj]
theorem sw_cgh {x y x' y' : Nat → Int32} {R C : Nat} (hx : ∀ i, i < R → x i = x' i) (hy : ∀ j, j < C → y j = y' j) : ∀ i, i < R → ∀ j, j ≤ C → sw_h x y i j = sw_h x' y' i j :=
  fun i hi => sw_cgH (hx i hi) hy (sw_cgV hx hy i (by omega))
/-! counting strands that begin at f or behind it -/
def sw_b (f h : Int32) : Nat := if h < f then 0 else 1
def sw_c (f : Int32) (v : Nat → Int32) : Nat → Nat
  | 0 => 0
  | j + 1 => sw_c f v j + sw_b f (v j)
/-- of the first i rows: how many give such a strand to column j -/
def sw_D (f : Int32) (x y : Nat → Int32) (j : Nat) : Nat → Nat
  | 0 => 0
  | i + 1 => sw_D f x y j i + sw_b f (sw_h x y i j)
theorem sw_cs (f : Int32) (v : Nat → Int32) (j : Nat) : sw_c f v (j + 1) = sw_c f v j + sw_b f (v j) := rfl
theorem sw_Ds (f : Int32) (x y : Nat → Int32) (j i : Nat) : sw_D f x y j (i + 1) = sw_D f x y j i + sw_b f (sw_h x y i j) := rfl
theorem sw_b1 (f h : Int32) : sw_b f h ≤ 1 := by
  unfold sw_b
  split <;> omega
theorem sw_keep (f x y h v : Int32) : sw_b f (sw_d x y h v) + sw_b f (sw_r x y h v) = sw_b f v + sw_b f h := by
  unfold sw_d sw_r
  by_cases e : x = y
  · rw [if_pos e, if_pos e]; omega
  · rw [if_neg e, if_neg e]
    by_cases g : h ≤ v
    · rw [if_pos g, if_pos g]
    · rw [if_neg g, if_neg g]; omega
theorem sw_row (f : Int32) (x y : Nat → Int32) (i j : Nat) : sw_c f (sw_V x y (i + 1)) j + sw_b f (sw_h x y i j) = sw_c f (sw_V x y i) j + sw_b f ((-1) - nI i) := by
  induction j with
  | zero => rfl
  | succ j ih =>
    have k := sw_keep f (x i) (y j) (sw_h x y i j) (sw_V x y i j)
    rw [sw_cs, sw_cs, sw_hs, sw_vs]
    omega
theorem sw_negT : ∀ i, i < 20 → ∀ F, F < 30 → (-1) - nI i < nI F := by decide +kernel
theorem sw_neg {i F : Nat} (hi : i < 20) (hF : F < 30) : sw_b (nI F) ((-1) - nI i) = 0 := by
  unfold sw_b
  exact if_pos (sw_negT i hi F hF)
theorem sw_base (x y : Nat → Int32) {F : Nat} (hF : F < 30) : ∀ j, j < 30 → sw_c (nI F) (sw_V x y 0) j = j - F := by
  intro j
  induction j with
  | zero => intro _; exact (Nat.zero_sub F).symm
  | succ j ih =>
    intro hj
    rw [sw_cs, ih (by omega), sw_v0]
    unfold sw_b
    by_cases e : j < F
    · rw [if_pos (nI_lt e (by omega))]; omega
    · rw [if_neg (nI_nlt (by omega) (by omega))]; omega
/-- the law of the count -/
theorem sw_main (x y : Nat → Int32) {F j : Nat} (hF : F < 30) (hj : j < 30) : ∀ i, i ≤ 20 → sw_c (nI F) (sw_V x y i) j + sw_D (nI F) x y j i = j - F := by
  intro i
  induction i with
  | zero => intro _; exact sw_base x y hF j hj
  | succ i ih =>
    intro hi
    have r := sw_row (nI F) x y i j
    rw [sw_neg (by omega) hF] at r
    have e := ih (by omega)
    rw [sw_Ds]
    omega
theorem sw_Dle (f : Int32) (x y : Nat → Int32) (j : Nat) : ∀ i, sw_D f x y j i ≤ i := by
  intro i
  induction i with
  | zero => exact Nat.le_refl 0
  | succ i ih =>
    have b := sw_b1 f (sw_h x y i j)
    rw [sw_Ds]
    omega
theorem sw_Dsz (x y : Nat → Int32) {F j i : Nat} (hF : F < 30) (hj : j < 30) (hi : i ≤ 20) : sw_D (nI F) x y j i ≤ j - F := by
  have m := sw_main x y hF hj i hi
  omega
/-- one column more: the same or one more -/
theorem sw_Dj (x y : Nat → Int32) {F j i : Nat} (hF : F < 30) (hj : j + 1 < 30) (hi : i ≤ 20) : sw_D (nI F) x y j i ≤ sw_D (nI F) x y (j + 1) i ∧ sw_D (nI F) x y (j + 1) i ≤ sw_D (nI F) x y j i + 1 := by
  have m := sw_main x y hF (show j < 30 by omega) i hi
  have m' := sw_main x y hF hj i hi
  have b := sw_b1 (nI F) (sw_V x y i j)
  rw [sw_cs] at m'
  omega
theorem sw_bF {F : Nat} (hF : F + 1 < 30) (h : Int32) : sw_b (nI (F + 1)) h ≤ sw_b (nI F) h := by
  unfold sw_b
  by_cases e : h < nI F
  · have g : h < nI (F + 1) := Int32.lt_trans e (nI_lt (by omega) (by omega))
    rw [if_pos e, if_pos g]
    exact Nat.le_refl 0
  · rw [if_neg e]
    split <;> omega
theorem sw_cF {F : Nat} (hF : F + 1 < 30) (v : Nat → Int32) : ∀ j, sw_c (nI (F + 1)) v j ≤ sw_c (nI F) v j := by
  intro j
  induction j with
  | zero => exact Nat.le_refl 0
  | succ j ih =>
    have b := sw_bF hF (v j)
    rw [sw_cs, sw_cs]
    omega
theorem sw_DF0 {F : Nat} (hF : F + 1 < 30) (x y : Nat → Int32) (j : Nat) : ∀ i, sw_D (nI (F + 1)) x y j i ≤ sw_D (nI F) x y j i := by
  intro i
  induction i with
  | zero => exact Nat.le_refl 0
  | succ i ih =>
    have b := sw_bF hF (sw_h x y i j)
    rw [sw_Ds, sw_Ds]
    omega
/-- one place more in front: the same or one more -/
theorem sw_DF (x y : Nat → Int32) {F j i : Nat} (hF : F + 1 < 30) (hj : j < 30) (hi : i ≤ 20) : sw_D (nI (F + 1)) x y j i ≤ sw_D (nI F) x y j i ∧ sw_D (nI F) x y j i ≤ sw_D (nI (F + 1)) x y j i + 1 := by
  have m := sw_main x y (show F < 30 by omega) hj i hi
  have m' := sw_main x y hF hj i hi
  have c := sw_cF hF (sw_V x y i) j
  exact ⟨sw_DF0 hF x y j i, by omega⟩
/-- a cell of one letter -/
theorem sw_diag (x y : Nat → Int32) {F j i : Nat} (hF : F ≤ j) (hj : j + 1 < 30) (hi : i ≤ 20) (e : x i = y j) : sw_D (nI F) x y (j + 1) (i + 1) = sw_D (nI F) x y j i + 1 := by
  have m := sw_main x y (show F < 30 by omega) (show j < 30 by omega) i hi
  have m' := sw_main x y (show F < 30 by omega) hj i hi
  have r : sw_h x y i (j + 1) = sw_V x y i j := by
    rw [sw_hs]
    unfold sw_r
    exact if_pos e
  rw [sw_cs] at m'
  rw [sw_Ds, r]
  omega
theorem sw_Di (f : Int32) (x y : Nat → Int32) (j i : Nat) : sw_D f x y j i ≤ sw_D f x y j (i + 1) := by
  rw [sw_Ds]
  omega
theorem sw_DmI (f : Int32) (x y : Nat → Int32) (j i : Nat) : ∀ k, sw_D f x y j i ≤ sw_D f x y j (i + k) := by
  intro k
  induction k with
  | zero => exact Nat.le_refl _
  | succ k ih => exact Nat.le_trans ih (sw_Di f x y j (i + k))
theorem sw_DmJ (x y : Nat → Int32) {F j i : Nat} (hF : F < 30) (hi : i ≤ 20) : ∀ k, j + k < 30 → sw_D (nI F) x y j i ≤ sw_D (nI F) x y (j + k) i := by
  intro k
  induction k with
  | zero => intro _; exact Nat.le_refl _
  | succ k ih => exact fun h => Nat.le_trans (ih (by omega)) (sw_Dj x y hF (j := j + k) h hi).1
theorem sw_even (x y : Nat → Int32) (E : ∀ i j, x (2 * i) = y (2 * j)) (f : Nat) : ∀ k, 2 * f + 2 * k < 30 → 2 * k ≤ 20 → k ≤ sw_D (nI (2 * f)) x y (2 * f + 2 * k) (2 * k) := by
  intro k
  induction k with
  | zero => intro _ _; exact Nat.zero_le _
  | succ k ih =>
    intro h1 h2
    have i0 := ih (by omega) (by omega)
    have e : x (2 * k) = y (2 * f + 2 * k) := by
      have z := E k (f + k)
      rw [show 2 * (f + k) = 2 * f + 2 * k by omega] at z
      exact z
    have d := sw_diag x y (F := 2 * f) (j := 2 * f + 2 * k) (i := 2 * k) (by omega) (by omega) (by omega) e
    have g1 := (sw_Dj x y (F := 2 * f) (j := 2 * f + 2 * k + 1) (i := 2 * k + 1) (by omega) (by omega) (by omega)).1
    have g2 := sw_Di (nI (2 * f)) x y (2 * f + 2 * k + 1 + 1) (2 * k + 1)
    show k + 1 ≤ sw_D (nI (2 * f)) x y (2 * f + 2 * k + 1 + 1) (2 * k + 1 + 1)
    omega
/-- with blanks at the even places: at least the shorter of the two lengths -/
theorem sw_least (x y : Nat → Int32) (E : ∀ i j, x (2 * i) = y (2 * j)) {m i j : Nat} (hm : m ≤ 10) (hij : i ≤ j) (hj : j ≤ 14) : min m (j - i) ≤ sw_D (nI (2 * i)) x y (2 * j) (2 * m) := by
  obtain ⟨k, hk⟩ : ∃ k, k = min m (j - i) := ⟨_, rfl⟩
  have a := sw_even x y E i k (by omega) (by omega)
  have b := sw_DmJ x y (F := 2 * i) (j := 2 * i + 2 * k) (i := 2 * k) (by omega) (by omega) (2 * j - (2 * i + 2 * k)) (by omega)
  have c := sw_DmI (nI (2 * i)) x y (2 * j) (2 * k) (2 * m - 2 * k)
  rw [show 2 * i + 2 * k + (2 * j - (2 * i + 2 * k)) = 2 * j by omega] at b
  rw [show 2 * k + (2 * m - 2 * k) = 2 * m by omega] at c
  omega
end
section
/-! the letters, one cell -/
/-- letter i of a word as braid b has it: 0 as it is, 1 with blanks -/
def sw_l (b : Nat) (a : Nat → Int32) (i : Nat) : Int32 := if b = 1 then (if i % 2 = 0 then 9 else a (i / 2)) else a i
theorem sw_ix (b c i : Nat) : nI b * nI c + nI i = nI (b * c + i) := by rw [pk_mul, nI_add]
theorem sw_updI (f : Nat → Int32) (k : Nat) : upd f k (f k) = f := by
  funext j
  by_cases e : j = k
  · rw [e]; exact pk_us
  · exact pk_un e
theorem sw_half {i : Nat} (hi : i < 100) : nI i >>> ((1 : Int32) &&& 31) = nI (i / 2) := pk_shrN (by omega) _ 1 (by decide)
theorem sw_odd {i : Nat} (hi : i < 100) : nI i &&& 1 = nI (i % 2) := pk_andN (by omega) 1 (by decide)
theorem sw_lA {post : Int32 → Prop} {f0 f1 : Int32} {a1 a2 a3 a4 a5 a6 : Nat → Int32} {b i : Nat} (hb : b ≤ 1) (hi : i < 10 * (b + 1)) (H : post (sw_l b a1 i)) : wpX_letterA post (f0, f1, a1, a2, a3, a4, a5, a6) (nI b) (nI i) := by
  unfold wpX_letterA
  dsimp only
  refine pk_eq b 1 (fun e => ?_) (fun e => ?_)
  · refine pk_eq (i % 2) 0 (fun z => ?_) (fun z => ?_) (sw_odd (by omega))
    · have hl : sw_l b a1 i = 9 := by
        unfold sw_l
        rw [if_pos e, if_pos z]
      rw [hl] at H
      exact H
    · have hl : sw_l b a1 i = a1 (i / 2) := by
        unfold sw_l
        rw [if_pos e, if_neg z]
      rw [hl] at H
      rw [sw_half (by omega), nI_clamp (show i / 2 < 2 ^ 31 by omega)]
      exact ⟨pk_in (i / 2) 10 (by omega), H⟩
  · have hl : sw_l b a1 i = a1 i := by
      unfold sw_l
      rw [if_neg e]
    rw [hl] at H
    rw [nI_clamp (show i < 2 ^ 31 by omega)]
    exact ⟨pk_in i 10 (by omega), H⟩
theorem sw_lB {post : Int32 → Prop} {f0 f1 : Int32} {a1 a2 a3 a4 a5 a6 : Nat → Int32} {b j : Nat} (hb : b ≤ 1) (hj : j < 14 * (b + 1)) (H : post (sw_l b a2 j)) : wpX_letterB post (f0, f1, a1, a2, a3, a4, a5, a6) (nI b) (nI j) := by
  unfold wpX_letterB
  dsimp only
  refine pk_eq b 0 (fun e => ?_) (fun e0 => pk_eq b 1 (fun e => ?_) (fun e => absurd e0 (by omega)))
  · have hl : sw_l b a2 j = a2 j := by
      unfold sw_l
      rw [if_neg (by omega)]
    rw [hl] at H
    rw [nI_clamp (show j < 2 ^ 31 by omega)]
    exact ⟨pk_in j 14 (by omega), H⟩
  · refine pk_eq (j % 2) 0 (fun z => ?_) (fun z => ?_) (sw_odd (by omega))
    · have hl : sw_l b a2 j = 9 := by
        unfold sw_l
        rw [if_pos e, if_pos z]
      rw [hl] at H
      exact H
    · have hl : sw_l b a2 j = a2 (j / 2) := by
        unfold sw_l
        rw [if_pos e, if_neg z]
      rw [hl] at H
      rw [sw_half (by omega), nI_clamp (show j / 2 < 2 ^ 31 by omega)]
      exact ⟨pk_in (j / 2) 14 (by omega), H⟩
theorem sw_56 {post : St1 → Prop} {f0 f1 s t : Int32} {a1 a2 a3 a4 a5 a6 : Nat → Int32} {b i j : Nat} (hb : b ≤ 1) (hi : i < 20) (hj : j < 28)
    (H : post (f0, f1, a1, a2, a3, a4, upd a5 (b * 20 + i) t, upd a6 (b * 28 + j) s)) : wX_cell_56 post (nI b) (nI i) (nI j) s t f0 f1 a1 a2 a3 a4 a5 a6 := by
  have e5 : nI b * 20 + nI i = nI (b * 20 + i) := sw_ix b 20 i
  have e6 : nI b * 28 + nI j = nI (b * 28 + j) := sw_ix b 28 j
  unfold wX_cell_56
  rw [e5, e6, nI_clamp (show b * 20 + i < 2 ^ 31 by omega), nI_clamp (show b * 28 + j < 2 ^ 31 by omega)]
  exact ⟨pk_in (b * 20 + i) 60 (by omega), nm_e ⟨pk_in (b * 28 + j) 84 (by omega), nm_e H⟩⟩
theorem sw_cell {post : St1 → Prop} {f0 f1 : Int32} {a1 a2 a3 a4 a5 a6 : Nat → Int32} {b i j : Nat} (hb : b ≤ 1) (hi : i < 10 * (b + 1)) (hj : j < 14 * (b + 1))
    (H : post (f0, f1, a1, a2, a3, a4, upd a5 (b * 20 + i) (sw_r (sw_l b a1 i) (sw_l b a2 j) (a5 (b * 20 + i)) (a6 (b * 28 + j))), upd a6 (b * 28 + j) (sw_d (sw_l b a1 i) (sw_l b a2 j) (a5 (b * 20 + i)) (a6 (b * 28 + j))))) :
    wpX_cell post (f0, f1, a1, a2, a3, a4, a5, a6) (nI b) (nI i) (nI j) := by
  have e5 : nI b * 20 + nI i = nI (b * 20 + i) := sw_ix b 20 i
  have e6 : nI b * 28 + nI j = nI (b * 28 + j) := sw_ix b 28 j
  unfold wpX_cell
  dsimp only
  rw [e5, e6, nI_clamp (show b * 20 + i < 2 ^ 31 by omega), nI_clamp (show b * 28 + j < 2 ^ 31 by omega)]
  refine ⟨pk_in (b * 20 + i) 60 (by omega), nm_e ⟨pk_in (b * 28 + j) 84 (by omega), nm_e (sw_lA hb hi (sw_lB hb hj (br_c (fun e => ?_) (fun e => br_c (fun g => ?_) (fun g => ?_)))))⟩⟩
  · have hr : sw_r (sw_l b a1 i) (sw_l b a2 j) (a5 (b * 20 + i)) (a6 (b * 28 + j)) = a6 (b * 28 + j) := if_pos e
    have hd : sw_d (sw_l b a1 i) (sw_l b a2 j) (a5 (b * 20 + i)) (a6 (b * 28 + j)) = a5 (b * 20 + i) := if_pos e
    rw [hr, hd] at H
    exact sw_56 hb (by omega) (by omega) H
  · have hr : sw_r (sw_l b a1 i) (sw_l b a2 j) (a5 (b * 20 + i)) (a6 (b * 28 + j)) = a5 (b * 20 + i) := (if_neg e).trans (if_pos g)
    have hd : sw_d (sw_l b a1 i) (sw_l b a2 j) (a5 (b * 20 + i)) (a6 (b * 28 + j)) = a6 (b * 28 + j) := (if_neg e).trans (if_pos g)
    rw [hr, hd, sw_updI, sw_updI] at H
    exact H
  · have hr : sw_r (sw_l b a1 i) (sw_l b a2 j) (a5 (b * 20 + i)) (a6 (b * 28 + j)) = a6 (b * 28 + j) := (if_neg e).trans (if_neg g)
    have hd : sw_d (sw_l b a1 i) (sw_l b a2 j) (a5 (b * 20 + i)) (a6 (b * 28 + j)) = a5 (b * 20 + i) := (if_neg e).trans (if_neg g)
    rw [hr, hd] at H
    exact sw_56 hb (by omega) (by omega) H
end
section
/-! rows and columns -/
/-- braid b of R rows and C columns -/
def sw_B (b R C : Nat) (a1 a2 a3 a4 a5 a6 : Nat → Int32) : Prop :=
  a3 b = nI R ∧ a4 b = nI C ∧ (∀ i, i < R → a5 (b * 20 + i) = sw_h (sw_l b a1) (sw_l b a2) i C) ∧ (∀ j, j < C → a6 (b * 28 + j) = sw_V (sw_l b a1) (sw_l b a2) R j)
/-- outside braid b all is kept -/
def sw_F (b : Nat) (a3 a4 a5 a6 c3 c4 c5 c6 : Nat → Int32) : Prop :=
  (∀ p, p ≠ b → c3 p = a3 p) ∧ (∀ p, p ≠ b → c4 p = a4 p) ∧ (∀ p, ¬ (b * 20 ≤ p ∧ p < b * 20 + 20) → c5 p = a5 p) ∧ (∀ p, ¬ (b * 28 ≤ p ∧ p < b * 28 + 28) → c6 p = a6 p)
theorem sw_Fr (b : Nat) (a3 a4 a5 a6 : Nat → Int32) : sw_F b a3 a4 a5 a6 a3 a4 a5 a6 := ⟨fun _ _ => rfl, fun _ _ => rfl, fun _ _ => rfl, fun _ _ => rfl⟩
theorem sw_Ft {b : Nat} {a3 a4 a5 a6 c3 c4 c5 c6 d3 d4 d5 d6 : Nat → Int32} (h : sw_F b a3 a4 a5 a6 c3 c4 c5 c6) (k : sw_F b c3 c4 c5 c6 d3 d4 d5 d6) : sw_F b a3 a4 a5 a6 d3 d4 d5 d6 :=
  ⟨fun p z => (k.1 p z).trans (h.1 p z), fun p z => (k.2.1 p z).trans (h.2.1 p z), fun p z => (k.2.2.1 p z).trans (h.2.2.1 p z), fun p z => (k.2.2.2 p z).trans (h.2.2.2 p z)⟩
/-- another braid is kept -/
theorem sw_BF {b e R C : Nat} {a1 a2 a3 a4 a5 a6 c3 c4 c5 c6 : Nat → Int32} (h : sw_B e R C a1 a2 a3 a4 a5 a6) (k : sw_F b a3 a4 a5 a6 c3 c4 c5 c6) (n : e ≠ b) (hR : R ≤ 20) (hC : C ≤ 28) : sw_B e R C a1 a2 c3 c4 c5 c6 :=
  ⟨(k.1 e n).trans h.1, (k.2.1 e n).trans h.2.1, fun i hi => (k.2.2.1 _ (by omega)).trans (h.2.2.1 i hi), fun j hj => (k.2.2.2 _ (by omega)).trans (h.2.2.2 j hj)⟩
/-- other letters behind the ends -/
theorem sw_BL {b R C : Nat} {a1 a2 a3 a4 a5 a6 c1 c2 : Nat → Int32} (h : sw_B b R C a1 a2 a3 a4 a5 a6) (hx : ∀ i, i < R → sw_l b a1 i = sw_l b c1 i) (hy : ∀ j, j < C → sw_l b a2 j = sw_l b c2 j) : sw_B b R C c1 c2 a3 a4 a5 a6 :=
  ⟨h.1, h.2.1, fun i hi => (h.2.2.1 i hi).trans (sw_cgh hx hy i hi C (Nat.le_refl C)), fun j hj => (h.2.2.2 j hj).trans (sw_cgV hx hy R (Nat.le_refl R) j hj)⟩
/-- a row under way: k cells done -/
def sw_RI (b R C : Nat) (x y a5 a6 : Nat → Int32) (k : Nat) (s : (Nat → Int32) × (Nat → Int32)) : Prop :=
  s.1 (b * 20 + R) = sw_h x y R k ∧ (∀ i, i < R → s.1 (b * 20 + i) = sw_h x y i C) ∧ (∀ j, j < k → s.2 (b * 28 + j) = sw_V x y (R + 1) j) ∧ (∀ j, k ≤ j → j < C → s.2 (b * 28 + j) = sw_V x y R j)
    ∧ (∀ p, ¬ (b * 20 ≤ p ∧ p < b * 20 + 20) → s.1 p = a5 p) ∧ (∀ p, ¬ (b * 28 ≤ p ∧ p < b * 28 + 28) → s.2 p = a6 p)
theorem sw_RIs {b R C k : Nat} {x y a5 a6 : Nat → Int32} {s : (Nat → Int32) × (Nat → Int32)} (hR : R < 20) (hC : C ≤ 28) (hk : k < C) (h : sw_RI b R C x y a5 a6 k s) :
    sw_RI b R C x y a5 a6 (k + 1) (upd s.1 (b * 20 + R) (sw_r (x R) (y k) (s.1 (b * 20 + R)) (s.2 (b * 28 + k))), upd s.2 (b * 28 + k) (sw_d (x R) (y k) (s.1 (b * 20 + R)) (s.2 (b * 28 + k)))) := by
  obtain ⟨h1, h2, h3, h4, h5, h6⟩ := h
  rw [h1, h4 k (Nat.le_refl k) hk]
  refine ⟨?_, fun i hi => ?_, fun j hj => ?_, fun j hj hj2 => ?_, fun p hp => ?_, fun p hp => ?_⟩
  · dsimp only
    rw [pk_us, sw_hs]
  · dsimp only
    rw [pk_un (by omega)]
    exact h2 i hi
  · dsimp only
    by_cases e : j = k
    · rw [e, pk_us, sw_vs]
    · rw [pk_un (by omega)]
      exact h3 j (by omega)
  · dsimp only
    rw [pk_un (by omega)]
    exact h4 j (by omega) hj2
  · dsimp only
    rw [pk_un (by omega)]
    exact h5 p hp
  · dsimp only
    rw [pk_un (by omega)]
    exact h6 p hp
theorem sw_addRow {post : St1 → Prop} {f0 f1 : Int32} {a1 a2 a3 a4 a5 a6 : Nat → Int32} {b R C : Nat} (hb : b ≤ 1) (hR : R < 10 * (b + 1)) (hC : C ≤ 14 * (b + 1)) (h : sw_B b R C a1 a2 a3 a4 a5 a6)
    (H : ∀ c3 c4 c5 c6, sw_B b (R + 1) C a1 a2 c3 c4 c5 c6 → sw_F b a3 a4 a5 a6 c3 c4 c5 c6 → post (f0, f1, a1, a2, c3, c4, c5, c6)) :
    wpX_addRow post (f0, f1, a1, a2, a3, a4, a5, a6) (nI b) := by
  obtain ⟨h3, h4, h5, h6⟩ := h
  have e5 : nI b * 20 + nI R = nI (b * 20 + R) := sw_ix b 20 R
  unfold wpX_addRow
  dsimp only
  rw [nI_clamp (show b < 2 ^ 31 by omega)]
  refine ⟨pk_in b 3 (by omega), nm_r h3 ?_⟩
  rw [e5, nI_clamp (show b * 20 + R < 2 ^ 31 by omega)]
  refine ⟨pk_in (b * 20 + R) 60 (by omega), nm_e ⟨pk_in b 3 (by omega), nm_r (show upd a3 b (nI R + 1) = upd a3 b (nI (R + 1)) by rw [nI_1]) ?_⟩⟩
  refine pk_loop (fun n k s => wX_addRow_32 post (nI b) (nI R) n (nI k) f0 f1 a1 a2 (upd a3 b (nI (R + 1))) a4 s.1 s.2) (sw_RI b R C (sw_l b a1) (sw_l b a2) a5 a6) C 0 (upd a5 (b * 20 + R) ((-1) - nI R), a6) (by omega) ?_ ?_ ?_
  · refine ⟨?_, fun i hi => ?_, fun j hj => absurd hj (by omega), fun j _ hj => h6 j hj, fun p hp => ?_, fun p _ => rfl⟩
    · dsimp only
      rw [pk_us, sw_h0]
    · dsimp only
      rw [pk_un (by omega)]
      exact h5 i hi
    · dsimp only
      rw [pk_un (by omega)]
  · intro n s h
    obtain ⟨g1, g2, g3, g4, g5, g6⟩ := h
    refine ⟨pk_in b 3 (by omega), br_t ?_ (H _ _ _ _ ⟨pk_us, h4, fun i hi => ?_, g3⟩ ⟨fun p hp => pk_un hp, fun p _ => rfl, g5, g6⟩)⟩
    · rw [nI_clamp (show b < 2 ^ 31 by omega), h4]
      exact nI_le (Nat.le_refl C) (by omega)
    · by_cases e : i = R
      · rw [e]
        exact g1
      · exact g2 i (by omega)
  · intro n k s hk h hw
    refine ⟨pk_in b 3 (by omega), br_f ?_ (sw_cell hb hR (by omega) (nm_r (nI_1 k) (hw (_, _) (sw_RIs (by omega) (by omega) hk h))))⟩
    rw [nI_clamp (show b < 2 ^ 31 by omega), h4]
    exact nI_ge hk (by omega)
/-- a column under way: k cells done -/
def sw_CI (b R C : Nat) (x y a5 a6 : Nat → Int32) (k : Nat) (s : (Nat → Int32) × (Nat → Int32)) : Prop :=
  s.2 (b * 28 + C) = sw_V x y k C ∧ (∀ j, j < C → s.2 (b * 28 + j) = sw_V x y R j) ∧ (∀ i, i < k → s.1 (b * 20 + i) = sw_h x y i (C + 1)) ∧ (∀ i, k ≤ i → i < R → s.1 (b * 20 + i) = sw_h x y i C)
    ∧ (∀ p, ¬ (b * 20 ≤ p ∧ p < b * 20 + 20) → s.1 p = a5 p) ∧ (∀ p, ¬ (b * 28 ≤ p ∧ p < b * 28 + 28) → s.2 p = a6 p)
theorem sw_CIs {b R C k : Nat} {x y a5 a6 : Nat → Int32} {s : (Nat → Int32) × (Nat → Int32)} (hR : R ≤ 20) (hC : C < 28) (hk : k < R) (h : sw_CI b R C x y a5 a6 k s) :
    sw_CI b R C x y a5 a6 (k + 1) (upd s.1 (b * 20 + k) (sw_r (x k) (y C) (s.1 (b * 20 + k)) (s.2 (b * 28 + C))), upd s.2 (b * 28 + C) (sw_d (x k) (y C) (s.1 (b * 20 + k)) (s.2 (b * 28 + C)))) := by
  obtain ⟨h1, h2, h3, h4, h5, h6⟩ := h
  rw [h1, h4 k (Nat.le_refl k) hk]
  refine ⟨?_, fun j hj => ?_, fun i hi => ?_, fun i hi hi2 => ?_, fun p hp => ?_, fun p hp => ?_⟩
  · dsimp only
    rw [pk_us, sw_vs]
  · dsimp only
    rw [pk_un (by omega)]
    exact h2 j hj
  · dsimp only
    by_cases e : i = k
    · rw [e, pk_us, sw_hs]
    · rw [pk_un (by omega)]
      exact h3 i (by omega)
  · dsimp only
    rw [pk_un (by omega)]
    exact h4 i (by omega) hi2
  · dsimp only
    rw [pk_un (by omega)]
    exact h5 p hp
  · dsimp only
    rw [pk_un (by omega)]
    exact h6 p hp
theorem sw_addColumn {post : St1 → Prop} {f0 f1 : Int32} {a1 a2 a3 a4 a5 a6 : Nat → Int32} {b R C : Nat} (hb : b ≤ 1) (hR : R ≤ 10 * (b + 1)) (hC : C < 14 * (b + 1)) (h : sw_B b R C a1 a2 a3 a4 a5 a6)
    (H : ∀ c3 c4 c5 c6, sw_B b R (C + 1) a1 a2 c3 c4 c5 c6 → sw_F b a3 a4 a5 a6 c3 c4 c5 c6 → post (f0, f1, a1, a2, c3, c4, c5, c6)) :
    wpX_addColumn post (f0, f1, a1, a2, a3, a4, a5, a6) (nI b) := by
  obtain ⟨h3, h4, h5, h6⟩ := h
  have e6 : nI b * 28 + nI C = nI (b * 28 + C) := sw_ix b 28 C
  unfold wpX_addColumn
  dsimp only
  rw [nI_clamp (show b < 2 ^ 31 by omega)]
  refine ⟨pk_in b 3 (by omega), nm_r h4 ?_⟩
  rw [e6, nI_clamp (show b * 28 + C < 2 ^ 31 by omega)]
  refine ⟨pk_in (b * 28 + C) 84 (by omega), nm_e ⟨pk_in b 3 (by omega), nm_r (show upd a4 b (nI C + 1) = upd a4 b (nI (C + 1)) by rw [nI_1]) ?_⟩⟩
  refine pk_loop (fun n k s => wX_addColumn_30 post (nI b) (nI C) n (nI k) f0 f1 a1 a2 a3 (upd a4 b (nI (C + 1))) s.1 s.2) (sw_CI b R C (sw_l b a1) (sw_l b a2) a5 a6) R 0 (a5, upd a6 (b * 28 + C) (nI C)) (by omega) ?_ ?_ ?_
  · refine ⟨?_, fun j hj => ?_, fun i hi => absurd hi (by omega), fun i _ hi => h5 i hi, fun p _ => rfl, fun p hp => ?_⟩
    · dsimp only
      rw [pk_us, sw_v0]
    · dsimp only
      rw [pk_un (by omega)]
      exact h6 j hj
    · dsimp only
      rw [pk_un (by omega)]
  · intro n s h
    obtain ⟨g1, g2, g3, g4, g5, g6⟩ := h
    refine ⟨pk_in b 3 (by omega), br_t ?_ (H _ _ _ _ ⟨h3, pk_us, g3, fun j hj => ?_⟩ ⟨fun p _ => rfl, fun p hp => pk_un hp, g5, g6⟩)⟩
    · rw [nI_clamp (show b < 2 ^ 31 by omega), h3]
      exact nI_le (Nat.le_refl R) (by omega)
    · by_cases e : j = C
      · rw [e]
        exact g1
      · exact g2 j (by omega)
  · intro n k s hk h hw
    refine ⟨pk_in b 3 (by omega), br_f ?_ (sw_cell hb (by omega) hC (nm_r (nI_1 k) (hw (_, _) (sw_CIs (by omega) (by omega) hk h))))⟩
    rw [nI_clamp (show b < 2 ^ 31 by omega), h3]
    exact nI_ge hk (by omega)
/-- the four arrays of the braids under way -/
def sw_QI (b R C : Nat) (a1 a2 a3 a4 a5 a6 : Nat → Int32) (s : (Nat → Int32) × (Nat → Int32) × (Nat → Int32) × (Nat → Int32)) : Prop :=
  sw_B b R C a1 a2 s.1 s.2.1 s.2.2.1 s.2.2.2 ∧ sw_F b a3 a4 a5 a6 s.1 s.2.1 s.2.2.1 s.2.2.2
theorem sw_37 {post : St1 → Prop} {f0 f1 : Int32} {a1 a2 a3 a4 a5 a6 d3 d4 d5 d6 : Nat → Int32} {b R C : Nat} (hb : b ≤ 1) (hR : R ≤ 10 * (b + 1)) (hC : C ≤ 14 * (b + 1)) (h : sw_B b R 0 a1 a2 d3 d4 d5 d6) (hF : sw_F b a3 a4 a5 a6 d3 d4 d5 d6)
    (H : ∀ c3 c4 c5 c6, sw_B b R C a1 a2 c3 c4 c5 c6 → sw_F b a3 a4 a5 a6 c3 c4 c5 c6 → post (f0, f1, a1, a2, c3, c4, c5, c6)) :
    ∃ n, wX_combAll_37 post (nI b) (nI C) n 0 f0 f1 a1 a2 d3 d4 d5 d6 :=
  pk_loop (σ := (Nat → Int32) × (Nat → Int32) × (Nat → Int32) × (Nat → Int32)) (fun n k s => wX_combAll_37 post (nI b) (nI C) n (nI k) f0 f1 a1 a2 s.1 s.2.1 s.2.2.1 s.2.2.2) (fun k s => sw_QI b R k a1 a2 a3 a4 a5 a6 s) C 0 (d3, d4, d5, d6) (by omega) ⟨h, hF⟩
    (fun n s g => pk_le C C (fun _ => H _ _ _ _ g.1 g.2) (fun z => absurd z (by omega)))
    (fun n k s hk g hw => pk_le C k (fun z => absurd z (by omega)) (fun _ => sw_addColumn hb hR (by omega) g.1 (fun c3 c4 c5 c6 u v => nm_r (nI_1 k) (hw (c3, c4, c5, c6) ⟨u, sw_Ft g.2 v⟩))))
theorem sw_17 {post : St1 → Prop} {f0 f1 : Int32} {a1 a2 a3 a4 a5 a6 d3 d4 d5 d6 : Nat → Int32} {b R C : Nat} (hb : b ≤ 1) (hR : R ≤ 10 * (b + 1)) (hC : C ≤ 14 * (b + 1)) (h : sw_B b 0 0 a1 a2 d3 d4 d5 d6) (hF : sw_F b a3 a4 a5 a6 d3 d4 d5 d6)
    (H : ∀ c3 c4 c5 c6, sw_B b R C a1 a2 c3 c4 c5 c6 → sw_F b a3 a4 a5 a6 c3 c4 c5 c6 → post (f0, f1, a1, a2, c3, c4, c5, c6)) :
    ∃ n, wX_combAll_17 post (nI b) (nI R) (nI C) n 0 f0 f1 a1 a2 d3 d4 d5 d6 :=
  pk_loop (σ := (Nat → Int32) × (Nat → Int32) × (Nat → Int32) × (Nat → Int32)) (fun n k s => wX_combAll_17 post (nI b) (nI R) (nI C) n (nI k) f0 f1 a1 a2 s.1 s.2.1 s.2.2.1 s.2.2.2) (fun k s => sw_QI b k 0 a1 a2 a3 a4 a5 a6 s) R 0 (d3, d4, d5, d6) (by omega) ⟨h, hF⟩
    (fun n s g => pk_le R R (fun _ => sw_37 hb hR hC g.1 g.2 H) (fun z => absurd z (by omega)))
    (fun n k s hk g hw => pk_le R k (fun z => absurd z (by omega)) (fun _ => sw_addRow hb (by omega) (by omega) g.1 (fun c3 c4 c5 c6 u v => nm_r (nI_1 k) (hw (c3, c4, c5, c6) ⟨u, sw_Ft g.2 v⟩))))
theorem sw_combAll {post : St1 → Prop} {f0 f1 : Int32} {a1 a2 a3 a4 a5 a6 : Nat → Int32} {b R C : Nat} (hb : b ≤ 1) (hR : R ≤ 10 * (b + 1)) (hC : C ≤ 14 * (b + 1))
    (H : ∀ c3 c4 c5 c6, sw_B b R C a1 a2 c3 c4 c5 c6 → sw_F b a3 a4 a5 a6 c3 c4 c5 c6 → post (f0, f1, a1, a2, c3, c4, c5, c6)) :
    wpX_combAll post (f0, f1, a1, a2, a3, a4, a5, a6) (nI b) (nI R) (nI C) := by
  unfold wpX_combAll
  dsimp only
  rw [nI_clamp (show b < 2 ^ 31 by omega)]
  refine ⟨pk_in b 3 (by omega), nm_e ⟨pk_in b 3 (by omega), nm_e (sw_17 hb hR hC ⟨pk_us, pk_us, fun i hi => absurd hi (by omega), fun j hj => absurd hj (by omega)⟩ ⟨fun p hp => pk_un hp, fun p hp => pk_un hp, fun _ _ => rfl, fun _ _ => rfl⟩ H)⟩⟩
theorem sw_2 (m : Nat) : 2 * nI m = nI (2 * m) := pk_mul 2 m
/-- the whole state -/
def sw_I (m n : Nat) (a1 a2 a3 a4 a5 a6 : Nat → Int32) : Prop := m ≤ 10 ∧ n ≤ 14 ∧ sw_B 0 m n a1 a2 a3 a4 a5 a6 ∧ sw_B 1 (2 * m) (2 * n) a1 a2 a3 a4 a5 a6
theorem sw_combAgain {post : St1 → Prop} {a1 a2 a3 a4 a5 a6 : Nat → Int32} {m n : Nat} (hm : m ≤ 10) (hn : n ≤ 14)
    (H : ∀ c3 c4 c5 c6, sw_I m n a1 a2 c3 c4 c5 c6 → post (nI m, nI n, a1, a2, c3, c4, c5, c6)) :
    wpX_combAgain post (nI m, nI n, a1, a2, a3, a4, a5, a6) := by
  unfold wpX_combAgain
  dsimp only
  refine sw_combAll (b := 0) (by omega) (by omega) (by omega) (fun c3 c4 c5 c6 u v => ?_)
  dsimp only
  rw [sw_2, sw_2]
  exact sw_combAll (b := 1) (by omega) (by omega) (by omega) (fun d3 d4 d5 d6 u2 v2 => H _ _ _ _ ⟨hm, hn, sw_BF u v2 (by omega) (by omega) (by omega), u2⟩)
end
section
/-! what changes the words -/
theorem sw_ll0 {a : Nat → Int32} {k i : Nat} {x : Int32} (h : i < k) : sw_l 0 a i = sw_l 0 (upd a k x) i := by
  unfold sw_l
  rw [if_neg (by omega), if_neg (by omega), pk_un (by omega)]
theorem sw_ll1 {a : Nat → Int32} {k i : Nat} {x : Int32} (h : i < 2 * k) : sw_l 1 a i = sw_l 1 (upd a k x) i := by
  unfold sw_l
  rw [if_pos rfl, if_pos rfl]
  by_cases z : i % 2 = 0
  · rw [if_pos z, if_pos z]
  · rw [if_neg z, if_neg z, pk_un (by omega)]
theorem sw_badL {post : Int32 → Prop} {f0 f1 p : Int32} {a1 a2 a3 a4 a5 a6 : Nat → Int32} (H0 : post 0) (H1 : post 1) : wpX_badLetter post (f0, f1, a1, a2, a3, a4, a5, a6) p := by
  unfold wpX_badLetter
  dsimp only
  exact br_c (fun _ => H1) (fun _ => br_c (fun _ => H0) (fun _ => H1))
theorem sw_growA {post : Int32 → St1 → Prop} {p : Int32} {a1 a2 a3 a4 a5 a6 : Nat → Int32} {m n : Nat} (hI : sw_I m n a1 a2 a3 a4 a5 a6)
    (H : ∀ r m' n' c1 c2 c3 c4 c5 c6, sw_I m' n' c1 c2 c3 c4 c5 c6 → post r (nI m', nI n', c1, c2, c3, c4, c5, c6)) :
    wpX_growA post (nI m, nI n, a1, a2, a3, a4, a5, a6) p := by
  have hI' := hI
  obtain ⟨hm, hn, h0, h1⟩ := hI'
  unfold wpX_growA
  dsimp only
  rw [nI_clamp (show m < 2 ^ 31 by omega)]
  refine sw_badL (br_t rfl (pk_eq m 10 (fun _ => H _ _ _ _ _ _ _ _ _ hI) (fun z => ⟨pk_in m 10 (by omega), nm_e (nm_r (nI_1 m) ?_)⟩))) (br_f (by decide) (H _ _ _ _ _ _ _ _ _ hI))
  refine sw_addRow (b := 0) (R := m) (C := n) (by omega) (by omega) (by omega) (sw_BL h0 (fun i hi => sw_ll0 hi) (fun _ _ => rfl)) (fun c3 c4 c5 c6 u v => ?_)
  dsimp only
  refine sw_addRow (b := 1) (R := 2 * m) (C := 2 * n) (by omega) (by omega) (by omega) (sw_BL (sw_BF h1 v (by omega) (by omega) (by omega)) (fun i hi => sw_ll1 hi) (fun _ _ => rfl)) (fun d3 d4 d5 d6 u2 v2 => ?_)
  dsimp only
  refine sw_addRow (b := 1) (R := 2 * m + 1) (C := 2 * n) (by omega) (by omega) (by omega) u2 (fun e3 e4 e5 e6 u3 v3 => ?_)
  exact H _ (m + 1) n _ _ _ _ _ _ ⟨by omega, hn, sw_BF (sw_BF u v2 (by omega) (by omega) (by omega)) v3 (by omega) (by omega) (by omega), u3⟩
theorem sw_growB {post : Int32 → St1 → Prop} {p : Int32} {a1 a2 a3 a4 a5 a6 : Nat → Int32} {m n : Nat} (hI : sw_I m n a1 a2 a3 a4 a5 a6)
    (H : ∀ r m' n' c1 c2 c3 c4 c5 c6, sw_I m' n' c1 c2 c3 c4 c5 c6 → post r (nI m', nI n', c1, c2, c3, c4, c5, c6)) :
    wpX_growB post (nI m, nI n, a1, a2, a3, a4, a5, a6) p := by
  have hI' := hI
  obtain ⟨hm, hn, h0, h1⟩ := hI'
  unfold wpX_growB
  dsimp only
  rw [nI_clamp (show n < 2 ^ 31 by omega)]
  refine sw_badL (br_t rfl (pk_eq n 14 (fun _ => H _ _ _ _ _ _ _ _ _ hI) (fun z => ⟨pk_in n 14 (by omega), nm_e (nm_r (nI_1 n) ?_)⟩))) (br_f (by decide) (H _ _ _ _ _ _ _ _ _ hI))
  refine sw_addColumn (b := 0) (R := m) (C := n) (by omega) (by omega) (by omega) (sw_BL h0 (fun _ _ => rfl) (fun i hi => sw_ll0 hi)) (fun c3 c4 c5 c6 u v => ?_)
  dsimp only
  refine sw_addColumn (b := 1) (R := 2 * m) (C := 2 * n) (by omega) (by omega) (by omega) (sw_BL (sw_BF h1 v (by omega) (by omega) (by omega)) (fun _ _ => rfl) (fun i hi => sw_ll1 hi)) (fun d3 d4 d5 d6 u2 v2 => ?_)
  dsimp only
  refine sw_addColumn (b := 1) (R := 2 * m) (C := 2 * n + 1) (by omega) (by omega) (by omega) u2 (fun e3 e4 e5 e6 u3 v3 => ?_)
  exact H _ m (n + 1) _ _ _ _ _ _ ⟨hm, by omega, sw_BF (sw_BF u v2 (by omega) (by omega) (by omega)) v3 (by omega) (by omega) (by omega), u3⟩
theorem sw_putA {post : Int32 → St1 → Prop} {q p : Int32} {a1 a2 a3 a4 a5 a6 : Nat → Int32} {m n : Nat} (hI : sw_I m n a1 a2 a3 a4 a5 a6)
    (H : ∀ r m' n' c1 c2 c3 c4 c5 c6, sw_I m' n' c1 c2 c3 c4 c5 c6 → post r (nI m', nI n', c1, c2, c3, c4, c5, c6)) :
    wpX_putA post (nI m, nI n, a1, a2, a3, a4, a5, a6) q p := by
  have hI' := hI
  obtain ⟨hm, hn, h0, h1⟩ := hI'
  unfold wpX_putA
  dsimp only
  refine br_c (fun _ => H _ _ _ _ _ _ _ _ _ hI) (fun g0 => ?_)
  obtain ⟨i, hi, rfl⟩ := nI_of g0
  rw [nI_clamp hi]
  refine pk_le m i (fun _ => H _ _ _ _ _ _ _ _ _ hI) (fun z => sw_badL (br_t rfl ⟨pk_in i 10 (by omega), nm_e ⟨pk_in i 10 (by omega), nm_e ?_⟩⟩) (br_f (by decide) (H _ _ _ _ _ _ _ _ _ hI)))
  refine br_c (fun e => ?_) (fun _ => sw_combAgain hm hn (fun c3 c4 c5 c6 k => H _ _ _ _ _ _ _ _ _ k))
  subst e
  rw [sw_updI]
  exact H _ _ _ _ _ _ _ _ _ hI
theorem sw_shiftB {post : Int32 → St1 → Prop} {a1 a2 a3 a4 a5 a6 : Nat → Int32} {m n : Nat} (hI : sw_I m n a1 a2 a3 a4 a5 a6)
    (H : ∀ r m' n' c1 c2 c3 c4 c5 c6, sw_I m' n' c1 c2 c3 c4 c5 c6 → post r (nI m', nI n', c1, c2, c3, c4, c5, c6)) :
    wpX_shiftB post (nI m, nI n, a1, a2, a3, a4, a5, a6) := by
  have hI' := hI
  obtain ⟨hm, hn, h0, h1⟩ := hI'
  unfold wpX_shiftB
  dsimp only
  refine pk_eq n 0 (fun _ => H _ _ _ _ _ _ _ _ _ hI) (fun z => nm_e (nm_r (show nI n - 1 = nI (n - 1) from pk_sub (show 1 ≤ n by omega)) ?_))
  exact pk_loop (fun k i s => wX_shiftB_29 post (a2 0) (nI m) (nI (n - 1)) k (nI i) a1 s a3 a4 a5 a6) (fun _ _ => True) (n - 1) 0 a2 (by omega) trivial
    (fun k s _ => pk_le (n - 1) (n - 1) (fun _ => sw_combAgain hm (by omega) (fun c3 c4 c5 c6 g => H _ _ _ _ _ _ _ _ _ g)) (fun z => absurd z (by omega)))
    (fun k i s hi _ hw => pk_le (n - 1) i (fun z => absurd z (by omega)) (fun _ => ⟨pk_in (i + 1) 14 (by omega) (nI_1 i), pk_in i 14 (by omega), nm_e (nm_r (nI_1 i) (hw _ trivial))⟩))
theorem sw_clear {post : St1 → Prop} {f0 f1 : Int32} {a1 a2 a3 a4 a5 a6 : Nat → Int32}
    (H : ∀ c3 c4 c5 c6, sw_I 0 0 a1 a2 c3 c4 c5 c6 → post (nI 0, nI 0, a1, a2, c3, c4, c5, c6)) :
    wpX_clear post (f0, f1, a1, a2, a3, a4, a5, a6) := by
  unfold wpX_clear
  dsimp only
  exact sw_combAgain (m := 0) (n := 0) (by omega) (by omega) H
theorem sw_t21 {post : Int32 → St1 → Prop} {a1 a2 a3 a4 a5 a6 : Nat → Int32} {m n : Nat} (hI : sw_I m n a1 a2 a3 a4 a5 a6)
    (H : ∀ r m' n' c1 c2 c3 c4 c5 c6, sw_I m' n' c1 c2 c3 c4 c5 c6 → post r (nI m', nI n', c1, c2, c3, c4, c5, c6)) (x2 x3 z0 : Int32) :
    wL_turn_21 post x2 x3 z0 (nI m) (nI n) a1 a2 a3 a4 a5 a6 := by
  have t80 : wL_turn_80 post (nI m) (nI n) a1 a2 a3 a4 a5 a6 := by
    unfold wL_turn_80
    exact sw_shiftB hI H
  unfold wL_turn_21
  exact br_c (fun _ => br_c (fun _ => br_c (fun _ => br_c (fun _ => t80) (fun _ => br_c (fun _ => sw_clear (fun c3 c4 c5 c6 k => H 0 0 0 _ _ _ _ _ _ k)) (fun _ => t80))) (fun _ => sw_putA hI H)) (fun _ => sw_growB hI H)) (fun _ => sw_growA hI H)
theorem sw_turn {post : Int32 → St1 → Prop} {p q : Int32} {a1 a2 a3 a4 a5 a6 : Nat → Int32} {m n : Nat} (hI : sw_I m n a1 a2 a3 a4 a5 a6)
    (H : ∀ r m' n' c1 c2 c3 c4 c5 c6, sw_I m' n' c1 c2 c3 c4 c5 c6 → post r (nI m', nI n', c1, c2, c3, c4, c5, c6)) :
    wpL_turn post (nI m, nI n, a1, a2, a3, a4, a5, a6) p q := by
  unfold wpL_turn
  dsimp only
  exact nm_e (br_c (fun _ => sw_t21 hI H _ _ _) (fun _ => sw_t21 hI H _ _ _))
end
section
/-! what the braids answer -/
theorem sw_cm1 {f : Int32} {v : Nat → Int32} {k T : Nat} (h : v k < f) : sw_c f v (min (k + 1) T) = sw_c f v (min k T) := by
  by_cases e : k < T
  · rw [show min (k + 1) T = k + 1 by omega, show min k T = k by omega, sw_cs]
    unfold sw_b
    rw [if_pos h]
    exact Nat.add_zero _
  · rw [show min (k + 1) T = min k T by omega]
theorem sw_cm2 {f : Int32} {v : Nat → Int32} {k T : Nat} (h : T ≤ k) : sw_c f v (min (k + 1) T) = sw_c f v (min k T) := by
  rw [show min (k + 1) T = min k T by omega]
theorem sw_cm3 {f : Int32} {v : Nat → Int32} {k T : Nat} (h : ¬ v k < f) (e : k < T) : sw_c f v (min (k + 1) T) = sw_c f v (min k T) + 1 := by
  rw [show min (k + 1) T = k + 1 by omega, show min k T = k by omega, sw_cs]
  unfold sw_b
  rw [if_neg h]
theorem sw_last {C R k : Nat} (h : k < R) : (nI C + nI R) - 1 - nI k = nI (C + R - 1 - k) := by
  rw [nI_add]
  show nI (C + R) - nI 1 - nI k = nI (C + R - 1 - k)
  rw [pk_sub (by omega), pk_sub (by omega)]
theorem sw_68 {post : Int32 → Prop} {f0 f1 : Int32} {a1 a2 a3 a4 a5 a6 : Nat → Int32} {b R C F T c : Nat} (hb : b ≤ 1) (hR : R ≤ 10 * (b + 1)) (hC : C ≤ 14 * (b + 1)) (h3 : a3 b = nI R) (hT : T ≤ C)
    (H : post ((nI T - nI F) - nI c)) : ∃ n, wX_common_68 post (nI b) (nI F) (nI T) ((nI C + nI R) - 1) f0 f1 a1 a2 a3 a4 a5 a6 n (nI c) 0 := by
  refine pk_loop (σ := Unit) (fun n k _ => wX_common_68 post (nI b) (nI F) (nI T) ((nI C + nI R) - 1) f0 f1 a1 a2 a3 a4 a5 a6 n (nI c) (nI k)) (fun _ _ => True) R 0 () (by omega) trivial ?_ ?_
  · intro n _ _
    refine ⟨pk_in b 3 (by omega), br_t ?_ H⟩
    rw [nI_clamp (show b < 2 ^ 31 by omega), h3]
    exact nI_le (Nat.le_refl R) (by omega)
  · intro n k _ hk _ hw
    refine ⟨pk_in b 3 (by omega), br_f ?_ ⟨pk_in (b * 20 + k) 60 (by omega) (sw_ix b 20 k), br_c (fun _ => nm_r (nI_1 k) (hw () trivial)) (fun _ => br_t ?_ (nm_r (nI_1 k) (hw () trivial)))⟩⟩
    · rw [nI_clamp (show b < 2 ^ 31 by omega), h3]
      exact nI_ge hk (by omega)
    · rw [sw_last hk]
      exact nI_le (by omega) (by omega)
theorem sw_common {post : Int32 → Prop} {f0 f1 : Int32} {a1 a2 a3 a4 a5 a6 : Nat → Int32} {b R C F T : Nat} (hb : b ≤ 1) (hR : R ≤ 10 * (b + 1)) (hC : C ≤ 14 * (b + 1)) (h : sw_B b R C a1 a2 a3 a4 a5 a6) (hF : F ≤ T) (hT : T ≤ C)
    (H : post (nI (sw_D (nI F) (sw_l b a1) (sw_l b a2) T R))) : wpX_common post (f0, f1, a1, a2, a3, a4, a5, a6) (nI b) (nI F) (nI T) := by
  obtain ⟨h3, h4, h5, h6⟩ := h
  have M := sw_main (sw_l b a1) (sw_l b a2) (show F < 30 by omega) (show T < 30 by omega) R (by omega)
  have H' : post ((nI T - nI F) - nI (sw_c (nI F) (sw_V (sw_l b a1) (sw_l b a2) R) T)) := by
    rw [pk_sub hF, pk_sub (by omega), show T - F - sw_c (nI F) (sw_V (sw_l b a1) (sw_l b a2) R) T = sw_D (nI F) (sw_l b a1) (sw_l b a2) T R by omega]
    exact H
  unfold wpX_common
  dsimp only
  rw [nI_clamp (show b < 2 ^ 31 by omega), h3, h4]
  refine ⟨pk_in b 3 (by omega), pk_in b 3 (by omega), nm_e ?_⟩
  refine pk_loop (σ := Nat) (fun n k s => wX_common_23 post (nI b) (nI F) (nI T) ((nI C + nI R) - 1) f0 f1 a1 a2 a3 a4 a5 a6 n (nI s) (nI k)) (fun k s => s = sw_c (nI F) (sw_V (sw_l b a1) (sw_l b a2) R) (min k T)) C 0 0 (by omega) ?_ ?_ ?_
  · show 0 = sw_c (nI F) (sw_V (sw_l b a1) (sw_l b a2) R) (min 0 T)
    rw [Nat.zero_min]
    rfl
  · intro n s hs
    have hs' : s = sw_c (nI F) (sw_V (sw_l b a1) (sw_l b a2) R) (min C T) := hs
    rw [show min C T = T by omega] at hs'
    refine ⟨pk_in b 3 (by omega), br_t ?_ ?_⟩
    · rw [nI_clamp (show b < 2 ^ 31 by omega), h4]
      exact nI_le (Nat.le_refl C) (by omega)
    · rw [hs']
      exact sw_68 hb hR hC h3 hT H'
  · intro n k s hk hs hw
    have hs' : s = sw_c (nI F) (sw_V (sw_l b a1) (sw_l b a2) R) (min k T) := hs
    have e6 : nI b * 28 + nI k = nI (b * 28 + k) := sw_ix b 28 k
    have g6 : a6 (nI b * 28 + nI k).toNatClampNeg = sw_V (sw_l b a1) (sw_l b a2) R k := by
      rw [e6, nI_clamp (show b * 28 + k < 2 ^ 31 by omega)]
      exact h6 k hk
    refine ⟨pk_in b 3 (by omega), br_f ?_ ⟨pk_in (b * 28 + k) 84 (by omega) e6, br_c (fun g => nm_r (nI_1 k) (hw s ?_)) (fun g => pk_le T k (fun z => nm_r (nI_1 k) (hw s ?_)) (fun z => nm_r (nI_1 s) (nm_r (nI_1 k) (hw (s + 1) ?_))))⟩⟩
    · rw [nI_clamp (show b < 2 ^ 31 by omega), h4]
      exact nI_ge hk (by omega)
    · rw [g6] at g
      exact hs'.trans (sw_cm1 g).symm
    · exact hs'.trans (sw_cm2 z).symm
    · rw [g6] at g
      show s + 1 = sw_c (nI F) (sw_V (sw_l b a1) (sw_l b a2) R) (min (k + 1) T)
      rw [sw_cm3 g z, hs']
/-- the common letters of stretch i to j -/
def sw_P (m : Nat) (a1 a2 : Nat → Int32) (i j : Nat) : Nat := sw_D (nI i) (sw_l 0 a1) (sw_l 0 a2) j m
/-- the same in the braid with blanks -/
def sw_E (m : Nat) (a1 a2 : Nat → Int32) (i j : Nat) : Nat := sw_D (nI (2 * i)) (sw_l 1 a1) (sw_l 1 a2) (2 * j) (2 * m)
/-- the changes -/
def sw_Q (m : Nat) (a1 a2 : Nat → Int32) (i j : Nat) : Nat := m + j - i - sw_E m a1 a2 i j
theorem sw_Pm (m : Nat) (a1 a2 : Nat → Int32) (i j : Nat) : sw_P m a1 a2 i j ≤ m := sw_Dle _ _ _ _ m
theorem sw_Ps {m : Nat} (a1 a2 : Nat → Int32) {i j : Nat} (hm : m ≤ 10) (hi : i ≤ j) (hj : j ≤ 14) : sw_P m a1 a2 i j ≤ j - i := sw_Dsz _ _ (by omega) (by omega) (by omega)
theorem sw_Pj {m : Nat} (a1 a2 : Nat → Int32) {i j : Nat} (hm : m ≤ 10) (hi : i ≤ j) (hj : j ≤ 14) : sw_P m a1 a2 i j ≤ sw_P m a1 a2 i (j + 1) ∧ sw_P m a1 a2 i (j + 1) ≤ sw_P m a1 a2 i j + 1 := sw_Dj _ _ (by omega) (by omega) (by omega)
theorem sw_Pi {m : Nat} (a1 a2 : Nat → Int32) {i j : Nat} (hm : m ≤ 10) (hi : i + 1 ≤ j) (hj : j ≤ 14) : sw_P m a1 a2 (i + 1) j ≤ sw_P m a1 a2 i j ∧ sw_P m a1 a2 i j ≤ sw_P m a1 a2 (i + 1) j + 1 := sw_DF _ _ (by omega) (by omega) (by omega)
theorem sw_bl (a1 a2 : Nat → Int32) (i j : Nat) : sw_l 1 a1 (2 * i) = sw_l 1 a2 (2 * j) := by
  unfold sw_l
  rw [if_pos rfl, if_pos rfl, if_pos (by omega), if_pos (by omega)]
theorem sw_E1 {m : Nat} (a1 a2 : Nat → Int32) {i j : Nat} (hm : m ≤ 10) (hi : i ≤ j) (hj : j ≤ 14) : min m (j - i) ≤ sw_E m a1 a2 i j ∧ sw_E m a1 a2 i j ≤ 2 * m ∧ sw_E m a1 a2 i j ≤ 2 * j - 2 * i :=
  ⟨sw_least _ _ (sw_bl a1 a2) hm hi hj, sw_Dle _ _ _ _ _, sw_Dsz _ _ (by omega) (by omega) (by omega)⟩
theorem sw_bsOk {post : Int32 → Prop} {f0 f1 : Int32} {a1 a2 a3 a4 a5 a6 : Nat → Int32} {i j N : Nat} (hi : i ≤ j) (hj : j ≤ N) (hN : N ≤ 20) (H : post 0) : wpX_badStretch post (f0, f1, a1, a2, a3, a4, a5, a6) (nI i) (nI j) (nI N) := by
  unfold wpX_badStretch
  dsimp only
  exact br_f (nI_pos (by omega)) (pk_lt j i (fun z => absurd z (by omega)) (fun _ => pk_le j N (fun _ => H) (fun z => absurd z (by omega))))
theorem sw_bsBad {post : Int32 → Prop} {f0 f1 : Int32} {a1 a2 a3 a4 a5 a6 : Nat → Int32} {i j N : Nat} (hi : i ≤ j) (hj : N < j) (hN : j ≤ 20) (H : post 1) : wpX_badStretch post (f0, f1, a1, a2, a3, a4, a5, a6) (nI i) (nI j) (nI N) := by
  unfold wpX_badStretch
  dsimp only
  exact br_f (nI_pos (by omega)) (pk_lt j i (fun z => absurd z (by omega)) (fun _ => pk_le j N (fun z => absurd z (by omega)) (fun _ => H)))
theorem sw_commonB {post : Int32 → Prop} {x y : Int32} {a1 a2 a3 a4 a5 a6 : Nat → Int32} {m n : Nat} (i j : Nat) (hI : sw_I m n a1 a2 a3 a4 a5 a6) (hi : i ≤ j) (hj : j ≤ n) (ex : x = nI i) (ey : y = nI j)
    (H : post (nI (sw_P m a1 a2 i j))) : wpX_commonB post (nI m, nI n, a1, a2, a3, a4, a5, a6) x y := by
  obtain ⟨hm, hn, h0, h1⟩ := hI
  subst ex ey
  unfold wpX_commonB
  dsimp only
  exact sw_bsOk hi hj (by omega) (br_t rfl (sw_common (b := 0) (by omega) (by omega) (by omega) h0 hi hj H))
theorem sw_commonX {post : Int32 → Prop} {x y : Int32} {a1 a2 a3 a4 a5 a6 : Nat → Int32} {m n : Nat} (hn : n ≤ 14) (ex : x = nI 0) (ey : y = nI (n + 1))
    (H : post (-1)) : wpX_commonB post (nI m, nI n, a1, a2, a3, a4, a5, a6) x y := by
  subst ex ey
  unfold wpX_commonB
  dsimp only
  exact sw_bsBad (by omega) (by omega) (by omega) (br_f (by decide) H)
theorem sw_changes {post : Int32 → Prop} {x y : Int32} {a1 a2 a3 a4 a5 a6 : Nat → Int32} {m n : Nat} (i j : Nat) (hI : sw_I m n a1 a2 a3 a4 a5 a6) (hi : i ≤ j) (hj : j ≤ n) (ex : x = nI i) (ey : y = nI j)
    (H : post (nI (sw_Q m a1 a2 i j))) : wpX_changes post (nI m, nI n, a1, a2, a3, a4, a5, a6) x y := by
  obtain ⟨hm, hn, h0, h1⟩ := hI
  have e := sw_E1 a1 a2 hm hi (show j ≤ 14 by omega)
  subst ex ey
  unfold wpX_changes
  dsimp only
  rw [sw_2, sw_2]
  refine sw_common (b := 1) (R := 2 * m) (C := 2 * n) (by omega) (by omega) (by omega) h1 (by omega) (by omega) ?_
  show post (nI m + nI j - nI i - nI (sw_E m a1 a2 i j))
  rw [nI_add, pk_sub (by omega), pk_sub (by omega)]
  exact H
theorem sw_changesB {post : Int32 → Prop} {x y : Int32} {a1 a2 a3 a4 a5 a6 : Nat → Int32} {m n : Nat} (i j : Nat) (hI : sw_I m n a1 a2 a3 a4 a5 a6) (hi : i ≤ j) (hj : j ≤ n) (ex : x = nI i) (ey : y = nI j)
    (H : post (nI (sw_Q m a1 a2 i j))) : wpX_changesB post (nI m, nI n, a1, a2, a3, a4, a5, a6) x y := by
  have hn := hI.2.1
  subst ex ey
  unfold wpX_changesB
  dsimp only
  exact sw_bsOk hi hj (by omega) (br_t rfl (sw_changes i j hI hi hj rfl rfl H))
end
section
/-! nearest; the words' whole -/
theorem sw_at (i j : Nat) : 16 * nI i + nI j = nI (16 * i + j) := by
  show nI 16 * nI i + nI j = nI (16 * i + j)
  rw [pk_mul, nI_add]
theorem sw_hi {s t : Nat} (hs : s ≤ 20) (ht : t < 16) : nI (16 * s + t) >>> ((4 : Int32) &&& 31) = nI s :=
  (pk_shrN (by omega) _ 4 (by decide)).trans (congrArg nI (show (16 * s + t) / 16 = s by omega))
theorem sw_lo {s t : Nat} (hs : s ≤ 20) (ht : t < 16) : nI (16 * s + t) &&& 15 = nI t :=
  (pk_andN (by omega) 4 (by decide)).trans (congrArg nI (show (16 * s + t) % 16 = t by omega))
theorem sw_n18 {a1 a2 a3 a4 a5 a6 : Nat → Int32} {m n : Nat} (hI : sw_I m n a1 a2 a3 a4 a5 a6) {i : Nat} : ∀ d j, j + d = n + 1 → i ≤ j → ∀ (x : Int32) (s t : Nat), s ≤ t → t ≤ n →
    ∃ (y : Int32) (s' t' : Nat), s' ≤ t' ∧ t' ≤ n ∧ ∀ (post : Int32 → Prop) (J : Int32 → Int32 → Int32 → Prop), J y (nI (16 * s' + t')) (nI (i + 1)) → wX_nearestAt_18 post J (nI i) (nI m) (nI n) a1 a2 a3 a4 a5 a6 (d + 1) x (nI (16 * s + t)) (nI j) := by
  have hn := hI.2.1
  intro d
  induction d with
  | zero =>
    intro j hj hij x s t hst ht
    exact ⟨x, s, t, hst, ht, fun post J hJ => pk_lt n j (fun _ => nm_r (nI_1 i) hJ) (fun z => absurd z (by omega))⟩
  | succ d ih =>
    intro j hj hij x s t hst ht
    by_cases g : x ≤ nI (sw_Q m a1 a2 i j)
    · obtain ⟨y, s', t', k1, k2, K⟩ := ih (j + 1) (by omega) (by omega) x s t hst ht
      exact ⟨y, s', t', k1, k2, fun post J hJ => pk_lt n j (fun z => absurd z (by omega)) (fun _ => sw_changes i j hI hij (by omega) rfl rfl (br_t g (nm_r (nI_1 j) (K post J hJ))))⟩
    · obtain ⟨y, s', t', k1, k2, K⟩ := ih (j + 1) (by omega) (by omega) (nI (sw_Q m a1 a2 i j)) i j hij (by omega)
      exact ⟨y, s', t', k1, k2, fun post J hJ => pk_lt n j (fun z => absurd z (by omega)) (fun _ => sw_changes i j hI hij (by omega) rfl rfl (br_f g (nm_r (sw_at i j) (nm_r (nI_1 j) (K post J hJ)))))⟩
theorem sw_n7 {a1 a2 a3 a4 a5 a6 : Nat → Int32} {m n : Nat} (hI : sw_I m n a1 a2 a3 a4 a5 a6) : ∀ d i, i + d = n + 1 → ∀ (x : Int32) (s t : Nat), s ≤ t → t ≤ n →
    ∃ s' t' : Nat, s' ≤ t' ∧ t' ≤ n ∧ ∀ post : Int32 → Prop, post (nI (16 * s' + t')) → wX_nearestAt_7 post (nI m) (nI n) a1 a2 a3 a4 a5 a6 (d + 1) x (nI (16 * s + t)) (nI i) := by
  have hn := hI.2.1
  intro d
  induction d with
  | zero =>
    intro i hi x s t hst ht
    exact ⟨s, t, hst, ht, fun post hp => pk_lt n i (fun _ => hp) (fun z => absurd z (by omega))⟩
  | succ d ih =>
    intro i hi x s t hst ht
    obtain ⟨y, s1, t1, k1, k2, K⟩ := sw_n18 hI (i := i) (n + 1 - i) i (by omega) (Nat.le_refl i) x s t hst ht
    obtain ⟨s', t', l1, l2, K'⟩ := ih (i + 1) (by omega) y s1 t1 k1 k2
    exact ⟨s', t', l1, l2, fun post hp => pk_lt n i (fun z => absurd z (by omega)) (fun _ => ⟨_, K post _ (K' post hp)⟩)⟩
theorem sw_near {a1 a2 a3 a4 a5 a6 : Nat → Int32} {m n : Nat} (hI : sw_I m n a1 a2 a3 a4 a5 a6) :
    ∃ s t : Nat, s ≤ t ∧ t ≤ n ∧ ∀ post : Int32 → Prop, post (nI (16 * s + t)) → wpX_nearestAt post (nI m, nI n, a1, a2, a3, a4, a5, a6) := by
  obtain ⟨s, t, h1, h2, K⟩ := sw_n7 hI (n + 1) 0 (by omega) 100 0 0 (Nat.le_refl 0) (Nat.zero_le n)
  refine ⟨s, t, h1, h2, fun post hp => ?_⟩
  unfold wpX_nearestAt
  dsimp only
  exact ⟨_, K post hp⟩
theorem sw_nearest {post : Int32 → Prop} {a1 a2 a3 a4 a5 a6 : Nat → Int32} {m n s t : Nat} (hI : sw_I m n a1 a2 a3 a4 a5 a6) (hs : s ≤ t) (ht : t ≤ n) (K : ∀ post : Int32 → Prop, post (nI (16 * s + t)) → wpX_nearestAt post (nI m, nI n, a1, a2, a3, a4, a5, a6))
    (H : post (nI (sw_Q m a1 a2 s t))) : wpX_nearest post (nI m, nI n, a1, a2, a3, a4, a5, a6) := by
  have hn := hI.2.1
  unfold wpX_nearest
  dsimp only
  exact K _ (sw_changes s t hI hs ht (sw_hi (by omega) (by omega)) (sw_lo (by omega) (by omega)) H)
theorem sw_m0 : -(0 : Int32) = nI 0 := by decide
theorem sw_commonA {post : Int32 → Prop} {a1 a2 a3 a4 a5 a6 : Nat → Int32} {m n : Nat} (hI : sw_I m n a1 a2 a3 a4 a5 a6)
    (H : post (nI (sw_P m a1 a2 0 n))) : wpX_commonA post (nI m, nI n, a1, a2, a3, a4, a5, a6) 0 (nI m) := by
  obtain ⟨hm, hn, h0, h1⟩ := hI
  unfold wpX_commonA
  dsimp only
  refine sw_bsOk (i := 0) (Nat.zero_le m) (Nat.le_refl m) (by omega) (br_t rfl ?_)
  unfold wpX_commonRows
  dsimp only
  have e3 : a3 (0 : Int32).toNatClampNeg = nI m := h0.1
  have e4 : a4 (0 : Int32).toNatClampNeg = nI n := h0.2.1
  have z : nI m - nI m = nI 0 := by rw [pk_sub (Nat.le_refl m), Nat.sub_self]
  rw [e3, e4]
  refine ⟨pk_in 0 3 (by omega), nm_r z ⟨pk_in 0 3 (by omega), ?_⟩⟩
  rw [nI_add, Nat.add_zero, sw_m0]
  refine sw_common (b := 0) (F := 0) (T := n) (by omega) (by omega) (by omega) h0 (Nat.zero_le n) (Nat.le_refl n) ?_
  show post (nI (sw_P m a1 a2 0 n) - nI 0 - nI 0)
  rw [pk_sub (Nat.zero_le _), Nat.sub_zero, pk_sub (Nat.zero_le _), Nat.sub_zero]
  exact H
theorem sw_bcOk {post : Int32 → Prop} {a1 a2 a3 a4 a5 a6 : Nat → Int32} {m n : Nat} (hm : m ≤ 10) (hn : n ≤ 14) (H : post 0) : wpX_badCounts post (nI m, nI n, a1, a2, a3, a4, a5, a6) (nI m) (nI n) := by
  unfold wpX_badCounts
  dsimp only
  exact br_f (nI_pos (by omega)) (pk_lt m m (fun z => absurd z (by omega)) (fun _ => br_f (nI_pos (by omega)) (pk_le n n (fun _ => H) (fun z => absurd z (by omega)))))
theorem sw_commonEnd {post : Int32 → Prop} {a1 a2 a3 a4 a5 a6 : Nat → Int32} {m n : Nat} (hI : sw_I m n a1 a2 a3 a4 a5 a6)
    (H : post (nI (sw_P m a1 a2 0 n))) : wpX_commonEnd post (nI m, nI n, a1, a2, a3, a4, a5, a6) (nI m) (nI n) := by
  obtain ⟨hm, hn, h0, h1⟩ := hI
  unfold wpX_commonEnd
  dsimp only
  have z : nI m - nI m = nI 0 := by rw [pk_sub (Nat.le_refl m), Nat.sub_self]
  refine sw_bcOk hm hn (br_t rfl (nm_r z ?_))
  rw [show -(nI 0) = nI 0 from sw_m0]
  refine sw_common (b := 0) (F := 0) (T := n) (by omega) (by omega) (by omega) h0 (Nat.zero_le n) (Nat.le_refl n) ?_
  show post (nI (sw_P m a1 a2 0 n) - nI 0)
  rw [pk_sub (Nat.zero_le _), Nat.sub_zero]
  exact H
theorem sw_commonBegin {post : Int32 → Prop} {a1 a2 a3 a4 a5 a6 : Nat → Int32} {m n : Nat} (hI : sw_I m n a1 a2 a3 a4 a5 a6)
    (H : post (nI (sw_P m a1 a2 0 n))) : wpX_commonBegin post (nI m, nI n, a1, a2, a3, a4, a5, a6) (nI m) (nI n) := by
  obtain ⟨hm, hn, h0, h1⟩ := hI
  unfold wpX_commonBegin
  dsimp only
  have z : nI m - nI m = nI 0 := by rw [pk_sub (Nat.le_refl m), Nat.sub_self]
  have z2 : nI n - nI n = nI 0 := by rw [pk_sub (Nat.le_refl n), Nat.sub_self]
  rw [z2]
  refine sw_bcOk hm hn (br_t rfl (nm_r z ?_))
  rw [nI_add, Nat.add_zero]
  refine sw_common (b := 0) (F := 0) (T := n) (by omega) (by omega) (by omega) h0 (Nat.zero_le n) (Nat.le_refl n) ?_
  show post (nI (sw_P m a1 a2 0 n) - nI 0)
  rw [pk_sub (Nat.zero_le _), Nat.sub_zero]
  exact H
end
section
/-! the law -/
theorem sw_s124 {post : Int32 → Prop} {a1 a2 a3 a4 a5 a6 : Nat → Int32} {m n i j : Nat} (hI : sw_I m n a1 a2 a3 a4 a5 a6) (hi : i ≤ j) (hj : j ≤ n) (H : post 1) :
    wL_sound_124 post (nI i) (nI j) (nI (sw_P m a1 a2 i j)) (nI m) (nI n) a1 a2 a3 a4 a5 a6 := by
  have hm := hI.1
  have hn := hI.2.1
  unfold wL_sound_124
  refine pk_eq i 0 (fun _ => H) (fun z => ?_)
  obtain ⟨k, rfl⟩ : ∃ k, i = k + 1 := ⟨i - 1, by omega⟩
  have p := sw_Pi a1 a2 hm (show k + 1 ≤ j from hi) (show j ≤ 14 by omega)
  have q := sw_Pm m a1 a2 (k + 1) j
  refine sw_commonB k j hI (by omega) hj (nI_pred k) rfl (pk_lt (sw_P m a1 a2 k j) (sw_P m a1 a2 (k + 1) j) (fun z => absurd z (by omega)) (fun _ => ?_))
  exact sw_commonB k j hI (by omega) hj (nI_pred k) rfl (pk_lt (sw_P m a1 a2 (k + 1) j + 1) (sw_P m a1 a2 k j) (fun z => absurd z (by omega)) (fun _ => H) (nI_1 _))
theorem sw_s52 {post : Int32 → Prop} {a1 a2 a3 a4 a5 a6 : Nat → Int32} {m n i j l u : Nat} (hI : sw_I m n a1 a2 a3 a4 a5 a6) (hi : i ≤ j) (hj : j ≤ n) (hl : l ≤ sw_Q m a1 a2 i j) (hu : sw_Q m a1 a2 i j ≤ u) (hu2 : u ≤ 20) (H : post 1) :
    wL_sound_52 post (nI i) (nI j) (nI m) (nI n) (nI (sw_P m a1 a2 i j)) (nI (sw_Q m a1 a2 i j)) (nI (j - i)) (nI l) (nI u) (nI m) (nI n) a1 a2 a3 a4 a5 a6 := by
  have hm := hI.1
  have hn := hI.2.1
  have q := sw_Pm m a1 a2 i j
  have q2 := sw_Ps a1 a2 hm hi (show j ≤ 14 by omega)
  have p := sw_Pj a1 a2 hm hi (show j ≤ 14 by omega)
  unfold wL_sound_52
  refine pk_lt (sw_Q m a1 a2 i j) l (fun z => absurd z (by omega)) (fun _ => pk_lt u (sw_Q m a1 a2 i j) (fun z => absurd z (by omega)) (fun _ => br_f (nI_pos (by omega)) (pk_lt m (sw_P m a1 a2 i j) (fun z => absurd z (by omega)) (fun _ => pk_le (sw_P m a1 a2 i j) (j - i) (fun _ => ?_) (fun z => absurd z (by omega))))))
  refine pk_le n j (fun _ => sw_s124 hI hi hj H) (fun z => ?_)
  refine sw_commonB i (j + 1) hI (by omega) (by omega) rfl (nI_1 j) (pk_lt (sw_P m a1 a2 i (j + 1)) (sw_P m a1 a2 i j) (fun z => absurd z (by omega)) (fun _ => ?_))
  exact sw_commonB i (j + 1) hI (by omega) (by omega) rfl (nI_1 j) (pk_le (sw_P m a1 a2 i (j + 1)) (sw_P m a1 a2 i j + 1) (fun _ => sw_s124 hI hi hj H) (fun z => absurd z (by omega)) rfl (nI_1 _))
theorem sw_sound {post : Int32 → Prop} {a1 a2 a3 a4 a5 a6 : Nat → Int32} {m n i j : Nat} (hI : sw_I m n a1 a2 a3 a4 a5 a6) (hi : i ≤ j) (hj : j ≤ n) (H : post 1) :
    wpL_sound post (nI m, nI n, a1, a2, a3, a4, a5, a6) (nI i) (nI j) (nI m) (nI n) := by
  have hm := hI.1
  have hn := hI.2.1
  have e := sw_E1 a1 a2 hm hi (show j ≤ 14 by omega)
  have eQ : sw_Q m a1 a2 i j = m + j - i - sw_E m a1 a2 i j := rfl
  unfold wpL_sound
  dsimp only
  refine sw_commonB i j hI hi hj rfl rfl (sw_changesB i j hI hi hj rfl rfl (nm_r (pk_sub hi) (pk_le m (j - i) (fun z => ?_) (fun z => ?_))))
  · rw [pk_sub z]
    unfold wL_sound_38
    exact pk_le m (j - i) (fun _ => sw_s52 hI hi hj (by omega) (by omega) (by omega) H) (fun w => absurd w (by omega))
  · rw [pk_sub (show j - i ≤ m by omega)]
    unfold wL_sound_38
    exact pk_le m (j - i) (fun w => absurd w (by omega)) (fun _ => sw_s52 hI hi hj (by omega) (by omega) (by omega) H)
theorem sw_115 {post : Int32 → Prop} {L : Nat} {xs : Nat → Int32} {kc ks : Nat} {a1 a2 a3 a4 a5 a6 : Nat → Int32} {m n : Nat} (hI : sw_I m n a1 a2 a3 a4 a5 a6) (H : post 1) :
    wL_law_115 post L xs (nI m) (nI n) kc ks (nI m) (nI n) a1 a2 a3 a4 a5 a6 := by
  have hn := hI.2.1
  obtain ⟨s, t, hs, ht, K⟩ := sw_near hI
  unfold wL_law_115
  refine sw_commonB 0 n hI (Nat.zero_le n) (Nat.le_refl n) rfl rfl (K _ (sw_commonA hI (br_t rfl (sw_commonEnd hI (br_t rfl (sw_commonBegin hI (br_t rfl (sw_nearest hI hs ht K ?_))))))))
  exact sw_changesB s t hI hs ht (sw_hi (by omega) (by omega)) (sw_lo (by omega) (by omega)) (br_t rfl (sw_commonX hn rfl (nI_1 n) (br_t rfl H)))
theorem sw_73 {post J : Int32 → Prop} {L : Nat} {xs : Nat → Int32} {kc ks : Nat} {a1 a2 a3 a4 a5 a6 : Nat → Int32} {m n i : Nat} (hI : sw_I m n a1 a2 a3 a4 a5 a6) (hi : i ≤ n) (hJ : J (nI (i + 1))) :
    ∃ f, wL_law_73 post L xs J (nI m) (nI n) (nI i) kc ks (nI m) (nI n) a1 a2 a3 a4 a5 a6 f (nI i) := by
  have hn := hI.2.1
  exact pk_loop (σ := Unit) (fun f j _ => wL_law_73 post L xs J (nI m) (nI n) (nI i) kc ks (nI m) (nI n) a1 a2 a3 a4 a5 a6 f (nI j)) (fun j _ => i ≤ j) (n + 1) i () (by omega) (Nat.le_refl i)
    (fun f _ _ => pk_lt 14 (n + 1) (fun _ => nm_r (nI_1 i) hJ) (fun _ => pk_lt n (n + 1) (fun _ => nm_r (nI_1 i) hJ) (fun z => absurd z (by omega))))
    (fun f j _ hj h hw => pk_lt 14 j (fun z => absurd z (by omega)) (fun _ => pk_lt n j (fun z => absurd z (by omega)) (fun _ => sw_sound hI h (by omega) (br_f (by decide) (nm_r (nI_1 j) (hw () (Nat.le_succ_of_le h)))))))
theorem sw_55 {post : Int32 → Prop} {L : Nat} {xs : Nat → Int32} {kc ks : Nat} {a1 a2 a3 a4 a5 a6 : Nat → Int32} {m n : Nat} (hI : sw_I m n a1 a2 a3 a4 a5 a6) (H : post 1) :
    ∃ f, wL_law_55 post L xs (nI m) (nI n) kc ks (nI m) (nI n) a1 a2 a3 a4 a5 a6 f 0 := by
  have hn := hI.2.1
  exact pk_loop (σ := Unit) (fun f i _ => wL_law_55 post L xs (nI m) (nI n) kc ks (nI m) (nI n) a1 a2 a3 a4 a5 a6 f (nI i)) (fun _ _ => True) (n + 1) 0 () (by omega) trivial
    (fun f _ _ => pk_lt 14 (n + 1) (fun _ => sw_115 hI H) (fun _ => pk_lt n (n + 1) (fun _ => sw_115 hI H) (fun z => absurd z (by omega))))
    (fun f i _ hi _ hw => pk_lt 14 i (fun z => absurd z (by omega)) (fun _ => pk_lt n i (fun z => absurd z (by omega)) (fun _ => sw_73 hI (by omega) (hw () trivial))))
theorem sw_len {post : Int32 → Prop} {a1 a2 a3 a4 a5 a6 : Nat → Int32} {m n : Nat} (H : post (nI (16 * n + m))) : wpX_lengths post (nI m, nI n, a1, a2, a3, a4, a5, a6) := by
  unfold wpX_lengths
  dsimp only
  show post (nI m + nI 16 * nI n)
  rw [pk_mul, nI_add, Nat.add_comm]
  exact H
/-- a state that matches -/
def sw_S (s : St1) : Prop := ∃ m n : Nat, s.1 = nI m ∧ s.2.1 = nI n ∧ sw_I m n s.2.2.1 s.2.2.2.1 s.2.2.2.2.1 s.2.2.2.2.2.1 s.2.2.2.2.2.2.1 s.2.2.2.2.2.2.2
theorem sw_10 {post : Int32 → Prop} {L : Nat} {xs : Nat → Int32} {kc ks : Nat} (hL : L ≤ 260) (H : post 1) (s : St1) (h : sw_S s) :
    ∃ f, wL_law_10 post L xs kc ks f 0 s.1 s.2.1 s.2.2.1 s.2.2.2.1 s.2.2.2.2.1 s.2.2.2.2.2.1 s.2.2.2.2.2.2.1 s.2.2.2.2.2.2.2 := by
  refine pk_loop (σ := St1) (fun f k s => wL_law_10 post L xs kc ks f (nI (2 * k)) s.1 s.2.1 s.2.2.1 s.2.2.2.1 s.2.2.2.2.1 s.2.2.2.2.2.1 s.2.2.2.2.2.2.1 s.2.2.2.2.2.2.2) (fun _ s => sw_S s) (L / 2) 0 s (Nat.zero_le _) h ?_ ?_
  · intro f s h
    obtain ⟨f0, f1, a1, a2, a3, a4, a5, a6⟩ := s
    obtain ⟨m, n, e0, e1, hI⟩ := h
    dsimp only at e0 e1 hI
    subst e0 e1
    have hm := hI.1
    have hn := hI.2.1
    refine pk_le L (2 * (L / 2) + 1) (fun _ => ?_) (fun z => absurd z (by omega)) rfl (nI_1 _)
    exact sw_len (nm_r (sw_lo (by omega) (by omega)) (nm_r (sw_hi (by omega) (by omega)) (sw_55 hI H)))
  · intro f k s hk h hw
    obtain ⟨f0, f1, a1, a2, a3, a4, a5, a6⟩ := s
    obtain ⟨m, n, e0, e1, hI⟩ := h
    dsimp only at e0 e1 hI
    subst e0 e1
    have e2 : nI (2 * k) + 2 = nI (2 * (k + 1)) := nI_add (2 * k) 2
    refine pk_le L (2 * k + 1) (fun z => absurd z (by omega)) (fun _ => ⟨pk_in (2 * k) L (by omega), pk_in (2 * k + 1) L (by omega) (nI_1 _), ?_⟩) rfl (nI_1 _)
    exact sw_turn hI (fun r m' n' c1 c2 c3 c4 c5 c6 g => nm_r e2 (hw (nI m', nI n', c1, c2, c3, c4, c5, c6) ⟨m', n', rfl, rfl, g⟩))
theorem sw_start : sw_S (0, 0, (fun _ => 0), (fun _ => 0), (fun _ => 0), (fun _ => 0), (fun _ => 0), (fun _ => 0)) :=
  ⟨0, 0, rfl, rfl, by omega, by omega, ⟨rfl, rfl, fun i hi => absurd hi (by omega), fun j hj => absurd hj (by omega)⟩, ⟨rfl, rfl, fun i hi => absurd hi (by omega), fun j hj => absurd hj (by omega)⟩⟩
theorem i_vc (xs : Nat → Int32) (L : Nat) (hL : L ≤ 260) : wpL_law (fun r => r = 1) L xs :=
  ⟨6, 174, by omega, by omega, by omega, by omega, by omega, by omega, by omega, by omega, by omega, by omega, by omega, by omega, by omega, by omega, sw_10 (post := fun r => r = 1) hL rfl (0, 0, (fun _ => 0), (fun _ => 0), (fun _ => 0), (fun _ => 0), (fun _ => 0), (fun _ => 0)) sw_start⟩
end
