section
/-! FibSearch: the cells rise strictly; both sides hold the same array and the same count of probes -/
/-- cells 0 .. 12 rise strictly -/
def fs_inc (a : Nat → Int64) : Prop := ∀ j : Nat, j < 12 → a j < a (j + 1)
/-- the relation at the head of a turn: count and array are the same, and the array rises -/
def i_Rel (_ : Nat) (u : SX) (v : SY) : Prop := u.2.2.2 = v ∧ fs_inc v.2
theorem i_up {k : Nat} {u : SX} {v : SY} (h : i_Rel k u v) : i_Rel (k + 4) u v := h
theorem fs_tr {x y z : Int64} (h : x < y) (g : y < z) : x < z := by
  rw [Int64.lt_iff_toInt_lt] at *; omega
theorem fs_le {x y : Int64} (h : x < y) : ¬ y ≤ x := by
  rw [Int64.lt_iff_toInt_lt] at h; rw [Int64.le_iff_toInt_le]; omega
theorem fs_el {x y : Int64} (h : ¬ y ≤ x) : x < y := by
  rw [Int64.le_iff_toInt_le] at h; rw [Int64.lt_iff_toInt_lt]; omega
theorem fs_lel {x y : Int64} (h : x < y) : x ≤ y := by
  rw [Int64.lt_iff_toInt_lt] at h; rw [Int64.le_iff_toInt_le]; omega
theorem fs_ne {x y : Int64} (h : x < y) : ¬ x = y := fun e => by
  rw [e, Int64.lt_iff_toInt_lt] at h; omega
theorem fs_as {x y : Int64} (h : x < y) : ¬ y < x := fun g => by
  rw [Int64.lt_iff_toInt_lt] at h g; omega
theorem fs_ir {x : Int64} : ¬ x < x := fun h => by
  rw [Int64.lt_iff_toInt_lt] at h; omega
theorem fs_anti {x y : Int64} (h : x ≤ y) (g : y ≤ x) : x = y := by
  rw [Int64.le_iff_toInt_le] at h g; exact Int64.toInt_inj.mp (by omega)
theorem fs_lg {x y : Int64} (h : ¬ x = y) : x < y ∨ y < x := by
  rw [← Int64.toInt_inj] at h; rw [Int64.lt_iff_toInt_lt, Int64.lt_iff_toInt_lt]; omega
/-- a later cell is greater -/
theorem fs_mono {a : Nat → Int64} (hs : fs_inc a) : ∀ d i : Nat, i + d + 1 < 13 → a i < a (i + d + 1) := by
  intro d
  induction d with
  | zero => intro i h; exact hs i (by omega)
  | succ d ih => intro i h; exact fs_tr (ih i (by omega)) (hs (i + d + 1) (by omega))
theorem fs_mo {a : Nat → Int64} (hs : fs_inc a) {i j : Nat} (h : i < j) (hj : j < 13) : a i < a j := by
  have e : i + (j - i - 1) + 1 = j := by omega
  have m := fs_mono hs (j - i - 1) i (by omega)
  rw [e] at m
  exact m
/-- a write between its neighbours keeps the order -/
theorem fs_upd {a : Nat → Int64} (hs : fs_inc a) {j : Nat} {y : Int64} (hl : 0 < j → a (j - 1) < y) (hr : j < 12 → y < a (j + 1)) : fs_inc (vp_updL a j y) := by
  intro i hi
  show (if i = j then y else a i) < (if i + 1 = j then y else a (i + 1))
  by_cases h1 : i = j
  · rw [if_pos h1, if_neg (by omega), h1]
    exact hr (by omega)
  · rw [if_neg h1]
    by_cases h2 : i + 1 = j
    · rw [if_pos h2]
      have e : j - 1 = i := by omega
      have l := hl (by omega)
      rw [e] at l
      exact l
    · rw [if_neg h2]
      exact hs i hi
/-- the reference's running count of cells below x -/
def fs_r (a : Nat → Int64) (x : Int64) : Nat → Nat
  | 0 => 0
  | j + 1 => if a j < x then fs_r a x j + 1 else fs_r a x j
/-- the reference's running mark: some cell is x -/
def fs_h (a : Nat → Int64) (x : Int64) : Nat → Int32
  | 0 => 0
  | j + 1 => if a j = x then 1 else fs_h a x j
/-- the count, where the cells below x are the first r -/
theorem fs_r_eq {a : Nat → Int64} {x : Int64} {r : Nat} (hl : ∀ j, j < r → a j < x) (hg : ∀ j, r ≤ j → j < 13 → ¬ a j < x) : ∀ j : Nat, j ≤ 13 → fs_r a x j = if j < r then j else r := by
  intro j
  induction j with
  | zero =>
    intro _
    show 0 = _
    by_cases z : 0 < r
    · rw [if_pos z]
    · rw [if_neg z]; omega
  | succ j ih =>
    intro h
    have i := ih (by omega)
    show (if a j < x then fs_r a x j + 1 else fs_r a x j) = _
    by_cases z : j < r
    · rw [if_pos (hl j z), i, if_pos z]
      by_cases w : j + 1 < r
      · rw [if_pos w]
      · rw [if_neg w]; omega
    · rw [if_neg (hg j (by omega) (by omega)), i, if_neg z, if_neg (by omega)]
/-- the mark, where no cell is x -/
theorem fs_h_0 {a : Nat → Int64} {x : Int64} (hn : ∀ j, j < 13 → ¬ a j = x) : ∀ j : Nat, j ≤ 13 → fs_h a x j = 0 := by
  intro j
  induction j with
  | zero => intro _; rfl
  | succ j ih =>
    intro h
    show (if a j = x then 1 else fs_h a x j) = 0
    rw [if_neg (hn j (by omega))]
    exact ih (by omega)
/-- the mark, behind a cell that is x -/
theorem fs_h_1 {a : Nat → Int64} {x : Int64} {i : Nat} (he : a i = x) : ∀ j : Nat, i < j → fs_h a x j = 1 := by
  intro j
  induction j with
  | zero => intro h; exact absurd h (by omega)
  | succ j ih =>
    intro h
    show (if a j = x then 1 else fs_h a x j) = 1
    by_cases z : a j = x
    · rw [if_pos z]
    · rw [if_neg z]
      refine ih ?_
      rcases Nat.lt_or_ge i j with w | w
      · exact w
      · have e : i = j := by omega
        rw [e] at he
        exact absurd he z
end
section
/-- the cost table as a function of the key -/
def fs_cst : Nat → Int32
  | 0 => 3
  | 1 => 3
  | 2 => 4
  | 3 => 2
  | 4 => 4
  | 5 => 3
  | 6 => 4
  | 7 => 4
  | 8 => 5
  | 9 => 1
  | 10 => 4
  | 11 => 3
  | 12 => 4
  | 13 => 4
  | 14 => 5
  | 15 => 2
  | 16 => 4
  | 17 => 4
  | 18 => 5
  | 19 => 3
  | 20 => 5
  | 21 => 4
  | 22 => 5
  | 23 => 5
  | 24 => 6
  | 25 => 6
  | 26 => 6
  | _ => 4
theorem fs_c0 {P : Int32 → Prop} (h : P 3) : wpY_cost P (nI 0) := br_f (by decide +kernel) (br_f (by decide +kernel) (br_t (by decide +kernel) h))
theorem fs_c1 {P : Int32 → Prop} (h : P 3) : wpY_cost P (nI 1) := br_f (by decide +kernel) (br_f (by decide +kernel) (br_f (by decide +kernel) (br_t (by decide +kernel) h)))
theorem fs_c2 {P : Int32 → Prop} (h : P 4) : wpY_cost P (nI 2) := br_f (by decide +kernel) (br_f (by decide +kernel) (br_f (by decide +kernel) (br_f (by decide +kernel) (br_t (by decide +kernel) h))))
theorem fs_c3 {P : Int32 → Prop} (h : P 2) : wpY_cost P (nI 3) := br_f (by decide +kernel) (br_f (by decide +kernel) (br_f (by decide +kernel) (br_f (by decide +kernel) (br_f (by decide +kernel) (br_t (by decide +kernel) h)))))
theorem fs_c4 {P : Int32 → Prop} (h : P 4) : wpY_cost P (nI 4) := br_f (by decide +kernel) (br_f (by decide +kernel) (br_f (by decide +kernel) (br_f (by decide +kernel) (br_f (by decide +kernel) (br_f (by decide +kernel) (br_t (by decide +kernel) h))))))
theorem fs_c5 {P : Int32 → Prop} (h : P 3) : wpY_cost P (nI 5) := br_f (by decide +kernel) (br_f (by decide +kernel) (br_f (by decide +kernel) (br_f (by decide +kernel) (br_f (by decide +kernel) (br_f (by decide +kernel) (br_f (by decide +kernel) (br_t (by decide +kernel) h)))))))
theorem fs_c6 {P : Int32 → Prop} (h : P 4) : wpY_cost P (nI 6) := br_f (by decide +kernel) (br_f (by decide +kernel) (br_f (by decide +kernel) (br_f (by decide +kernel) (br_f (by decide +kernel) (br_f (by decide +kernel) (br_f (by decide +kernel) (br_f (by decide +kernel) (br_t (by decide +kernel) h))))))))
theorem fs_c7 {P : Int32 → Prop} (h : P 4) : wpY_cost P (nI 7) := br_f (by decide +kernel) (br_f (by decide +kernel) (br_f (by decide +kernel) (br_f (by decide +kernel) (br_f (by decide +kernel) (br_f (by decide +kernel) (br_f (by decide +kernel) (br_f (by decide +kernel) (br_f (by decide +kernel) (br_t (by decide +kernel) h)))))))))
theorem fs_c8 {P : Int32 → Prop} (h : P 5) : wpY_cost P (nI 8) := br_f (by decide +kernel) (br_f (by decide +kernel) (br_f (by decide +kernel) (br_f (by decide +kernel) (br_f (by decide +kernel) (br_f (by decide +kernel) (br_f (by decide +kernel) (br_f (by decide +kernel) (br_f (by decide +kernel) (br_f (by decide +kernel) (br_t (by decide +kernel) h))))))))))
theorem fs_c9 {P : Int32 → Prop} (h : P 1) : wpY_cost P (nI 9) := br_f (by decide +kernel) (br_f (by decide +kernel) (br_f (by decide +kernel) (br_f (by decide +kernel) (br_f (by decide +kernel) (br_f (by decide +kernel) (br_f (by decide +kernel) (br_f (by decide +kernel) (br_f (by decide +kernel) (br_f (by decide +kernel) (br_f (by decide +kernel) (br_t (by decide +kernel) h)))))))))))
theorem fs_c10 {P : Int32 → Prop} (h : P 4) : wpY_cost P (nI 10) := br_f (by decide +kernel) (br_f (by decide +kernel) (br_f (by decide +kernel) (br_f (by decide +kernel) (br_f (by decide +kernel) (br_f (by decide +kernel) (br_f (by decide +kernel) (br_f (by decide +kernel) (br_f (by decide +kernel) (br_f (by decide +kernel) (br_f (by decide +kernel) (br_f (by decide +kernel) (br_t (by decide +kernel) h))))))))))))
theorem fs_c11 {P : Int32 → Prop} (h : P 3) : wpY_cost P (nI 11) := br_f (by decide +kernel) (br_f (by decide +kernel) (br_f (by decide +kernel) (br_f (by decide +kernel) (br_f (by decide +kernel) (br_f (by decide +kernel) (br_f (by decide +kernel) (br_f (by decide +kernel) (br_f (by decide +kernel) (br_f (by decide +kernel) (br_f (by decide +kernel) (br_f (by decide +kernel) (br_f (by decide +kernel) (br_t (by decide +kernel) h)))))))))))))
theorem fs_c12 {P : Int32 → Prop} (h : P 4) : wpY_cost P (nI 12) := br_f (by decide +kernel) (br_f (by decide +kernel) (br_f (by decide +kernel) (br_f (by decide +kernel) (br_f (by decide +kernel) (br_f (by decide +kernel) (br_f (by decide +kernel) (br_f (by decide +kernel) (br_f (by decide +kernel) (br_f (by decide +kernel) (br_f (by decide +kernel) (br_f (by decide +kernel) (br_f (by decide +kernel) (br_f (by decide +kernel) (br_t (by decide +kernel) h))))))))))))))
theorem fs_c13 {P : Int32 → Prop} (h : P 4) : wpY_cost P (nI 13) := br_f (by decide +kernel) (br_f (by decide +kernel) (br_f (by decide +kernel) (br_f (by decide +kernel) (br_f (by decide +kernel) (br_f (by decide +kernel) (br_f (by decide +kernel) (br_f (by decide +kernel) (br_f (by decide +kernel) (br_f (by decide +kernel) (br_f (by decide +kernel) (br_f (by decide +kernel) (br_f (by decide +kernel) (br_f (by decide +kernel) (br_f (by decide +kernel) (br_t (by decide +kernel) h)))))))))))))))
theorem fs_c14 {P : Int32 → Prop} (h : P 5) : wpY_cost P (nI 14) := br_f (by decide +kernel) (br_f (by decide +kernel) (br_f (by decide +kernel) (br_f (by decide +kernel) (br_f (by decide +kernel) (br_f (by decide +kernel) (br_f (by decide +kernel) (br_f (by decide +kernel) (br_f (by decide +kernel) (br_f (by decide +kernel) (br_f (by decide +kernel) (br_f (by decide +kernel) (br_f (by decide +kernel) (br_f (by decide +kernel) (br_f (by decide +kernel) (br_f (by decide +kernel) (br_t (by decide +kernel) h))))))))))))))))
theorem fs_c15 {P : Int32 → Prop} (h : P 2) : wpY_cost P (nI 15) := br_f (by decide +kernel) (br_f (by decide +kernel) (br_f (by decide +kernel) (br_f (by decide +kernel) (br_f (by decide +kernel) (br_f (by decide +kernel) (br_f (by decide +kernel) (br_f (by decide +kernel) (br_f (by decide +kernel) (br_f (by decide +kernel) (br_f (by decide +kernel) (br_f (by decide +kernel) (br_f (by decide +kernel) (br_f (by decide +kernel) (br_f (by decide +kernel) (br_f (by decide +kernel) (br_f (by decide +kernel) (br_t (by decide +kernel) h)))))))))))))))))
theorem fs_c16 {P : Int32 → Prop} (h : P 4) : wpY_cost P (nI 16) := br_f (by decide +kernel) (br_f (by decide +kernel) (br_f (by decide +kernel) (br_f (by decide +kernel) (br_f (by decide +kernel) (br_f (by decide +kernel) (br_f (by decide +kernel) (br_f (by decide +kernel) (br_f (by decide +kernel) (br_f (by decide +kernel) (br_f (by decide +kernel) (br_f (by decide +kernel) (br_f (by decide +kernel) (br_f (by decide +kernel) (br_f (by decide +kernel) (br_f (by decide +kernel) (br_f (by decide +kernel) (br_f (by decide +kernel) (br_t (by decide +kernel) h))))))))))))))))))
theorem fs_c17 {P : Int32 → Prop} (h : P 4) : wpY_cost P (nI 17) := br_f (by decide +kernel) (br_f (by decide +kernel) (br_f (by decide +kernel) (br_f (by decide +kernel) (br_f (by decide +kernel) (br_f (by decide +kernel) (br_f (by decide +kernel) (br_f (by decide +kernel) (br_f (by decide +kernel) (br_f (by decide +kernel) (br_f (by decide +kernel) (br_f (by decide +kernel) (br_f (by decide +kernel) (br_f (by decide +kernel) (br_f (by decide +kernel) (br_f (by decide +kernel) (br_f (by decide +kernel) (br_f (by decide +kernel) (br_f (by decide +kernel) (br_t (by decide +kernel) h)))))))))))))))))))
theorem fs_c18 {P : Int32 → Prop} (h : P 5) : wpY_cost P (nI 18) := br_f (by decide +kernel) (br_f (by decide +kernel) (br_f (by decide +kernel) (br_f (by decide +kernel) (br_f (by decide +kernel) (br_f (by decide +kernel) (br_f (by decide +kernel) (br_f (by decide +kernel) (br_f (by decide +kernel) (br_f (by decide +kernel) (br_f (by decide +kernel) (br_f (by decide +kernel) (br_f (by decide +kernel) (br_f (by decide +kernel) (br_f (by decide +kernel) (br_f (by decide +kernel) (br_f (by decide +kernel) (br_f (by decide +kernel) (br_f (by decide +kernel) (br_f (by decide +kernel) (br_t (by decide +kernel) h))))))))))))))))))))
theorem fs_c19 {P : Int32 → Prop} (h : P 3) : wpY_cost P (nI 19) := br_f (by decide +kernel) (br_f (by decide +kernel) (br_f (by decide +kernel) (br_f (by decide +kernel) (br_f (by decide +kernel) (br_f (by decide +kernel) (br_f (by decide +kernel) (br_f (by decide +kernel) (br_f (by decide +kernel) (br_f (by decide +kernel) (br_f (by decide +kernel) (br_f (by decide +kernel) (br_f (by decide +kernel) (br_f (by decide +kernel) (br_f (by decide +kernel) (br_f (by decide +kernel) (br_f (by decide +kernel) (br_f (by decide +kernel) (br_f (by decide +kernel) (br_f (by decide +kernel) (br_f (by decide +kernel) (br_t (by decide +kernel) h)))))))))))))))))))))
theorem fs_c20 {P : Int32 → Prop} (h : P 5) : wpY_cost P (nI 20) := br_f (by decide +kernel) (br_f (by decide +kernel) (br_f (by decide +kernel) (br_f (by decide +kernel) (br_f (by decide +kernel) (br_f (by decide +kernel) (br_f (by decide +kernel) (br_f (by decide +kernel) (br_f (by decide +kernel) (br_f (by decide +kernel) (br_f (by decide +kernel) (br_f (by decide +kernel) (br_f (by decide +kernel) (br_f (by decide +kernel) (br_f (by decide +kernel) (br_f (by decide +kernel) (br_f (by decide +kernel) (br_f (by decide +kernel) (br_f (by decide +kernel) (br_f (by decide +kernel) (br_f (by decide +kernel) (br_f (by decide +kernel) (br_t (by decide +kernel) h))))))))))))))))))))))
theorem fs_c21 {P : Int32 → Prop} (h : P 4) : wpY_cost P (nI 21) := br_f (by decide +kernel) (br_f (by decide +kernel) (br_f (by decide +kernel) (br_f (by decide +kernel) (br_f (by decide +kernel) (br_f (by decide +kernel) (br_f (by decide +kernel) (br_f (by decide +kernel) (br_f (by decide +kernel) (br_f (by decide +kernel) (br_f (by decide +kernel) (br_f (by decide +kernel) (br_f (by decide +kernel) (br_f (by decide +kernel) (br_f (by decide +kernel) (br_f (by decide +kernel) (br_f (by decide +kernel) (br_f (by decide +kernel) (br_f (by decide +kernel) (br_f (by decide +kernel) (br_f (by decide +kernel) (br_f (by decide +kernel) (br_f (by decide +kernel) (br_t (by decide +kernel) h)))))))))))))))))))))))
theorem fs_c22 {P : Int32 → Prop} (h : P 5) : wpY_cost P (nI 22) := br_f (by decide +kernel) (br_f (by decide +kernel) (br_f (by decide +kernel) (br_f (by decide +kernel) (br_f (by decide +kernel) (br_f (by decide +kernel) (br_f (by decide +kernel) (br_f (by decide +kernel) (br_f (by decide +kernel) (br_f (by decide +kernel) (br_f (by decide +kernel) (br_f (by decide +kernel) (br_f (by decide +kernel) (br_f (by decide +kernel) (br_f (by decide +kernel) (br_f (by decide +kernel) (br_f (by decide +kernel) (br_f (by decide +kernel) (br_f (by decide +kernel) (br_f (by decide +kernel) (br_f (by decide +kernel) (br_f (by decide +kernel) (br_f (by decide +kernel) (br_f (by decide +kernel) (br_t (by decide +kernel) h))))))))))))))))))))))))
theorem fs_c23 {P : Int32 → Prop} (h : P 5) : wpY_cost P (nI 23) := br_f (by decide +kernel) (br_f (by decide +kernel) (br_f (by decide +kernel) (br_f (by decide +kernel) (br_f (by decide +kernel) (br_f (by decide +kernel) (br_f (by decide +kernel) (br_f (by decide +kernel) (br_f (by decide +kernel) (br_f (by decide +kernel) (br_f (by decide +kernel) (br_f (by decide +kernel) (br_f (by decide +kernel) (br_f (by decide +kernel) (br_f (by decide +kernel) (br_f (by decide +kernel) (br_f (by decide +kernel) (br_f (by decide +kernel) (br_f (by decide +kernel) (br_f (by decide +kernel) (br_f (by decide +kernel) (br_f (by decide +kernel) (br_f (by decide +kernel) (br_f (by decide +kernel) (br_f (by decide +kernel) (br_t (by decide +kernel) h)))))))))))))))))))))))))
theorem fs_c24 {P : Int32 → Prop} (h : P 6) : wpY_cost P (nI 24) := br_f (by decide +kernel) (br_f (by decide +kernel) (br_f (by decide +kernel) (br_f (by decide +kernel) (br_f (by decide +kernel) (br_f (by decide +kernel) (br_f (by decide +kernel) (br_f (by decide +kernel) (br_f (by decide +kernel) (br_f (by decide +kernel) (br_f (by decide +kernel) (br_f (by decide +kernel) (br_f (by decide +kernel) (br_f (by decide +kernel) (br_f (by decide +kernel) (br_f (by decide +kernel) (br_f (by decide +kernel) (br_f (by decide +kernel) (br_f (by decide +kernel) (br_f (by decide +kernel) (br_f (by decide +kernel) (br_f (by decide +kernel) (br_f (by decide +kernel) (br_f (by decide +kernel) (br_f (by decide +kernel) (br_f (by decide +kernel) (br_t (by decide +kernel) h))))))))))))))))))))))))))
theorem fs_c25 {P : Int32 → Prop} (h : P 6) : wpY_cost P (nI 25) := br_f (by decide +kernel) (br_f (by decide +kernel) (br_f (by decide +kernel) (br_f (by decide +kernel) (br_f (by decide +kernel) (br_f (by decide +kernel) (br_f (by decide +kernel) (br_f (by decide +kernel) (br_f (by decide +kernel) (br_f (by decide +kernel) (br_f (by decide +kernel) (br_f (by decide +kernel) (br_f (by decide +kernel) (br_f (by decide +kernel) (br_f (by decide +kernel) (br_f (by decide +kernel) (br_f (by decide +kernel) (br_f (by decide +kernel) (br_f (by decide +kernel) (br_f (by decide +kernel) (br_f (by decide +kernel) (br_f (by decide +kernel) (br_f (by decide +kernel) (br_f (by decide +kernel) (br_f (by decide +kernel) (br_f (by decide +kernel) (br_f (by decide +kernel) (br_t (by decide +kernel) h)))))))))))))))))))))))))))
theorem fs_c26 {P : Int32 → Prop} (h : P 6) : wpY_cost P (nI 26) := br_f (by decide +kernel) (br_f (by decide +kernel) (br_f (by decide +kernel) (br_f (by decide +kernel) (br_f (by decide +kernel) (br_f (by decide +kernel) (br_f (by decide +kernel) (br_f (by decide +kernel) (br_f (by decide +kernel) (br_f (by decide +kernel) (br_f (by decide +kernel) (br_f (by decide +kernel) (br_f (by decide +kernel) (br_f (by decide +kernel) (br_f (by decide +kernel) (br_f (by decide +kernel) (br_f (by decide +kernel) (br_f (by decide +kernel) (br_f (by decide +kernel) (br_f (by decide +kernel) (br_f (by decide +kernel) (br_f (by decide +kernel) (br_f (by decide +kernel) (br_f (by decide +kernel) (br_f (by decide +kernel) (br_f (by decide +kernel) (br_f (by decide +kernel) (br_f (by decide +kernel) (br_t (by decide +kernel) h))))))))))))))))))))))))))))
theorem fs_cost {P : Int32 → Prop} : ∀ k : Nat, k < 27 → P (fs_cst k) → wpY_cost P (nI k)
  | 0, _, h => fs_c0 h
  | 1, _, h => fs_c1 h
  | 2, _, h => fs_c2 h
  | 3, _, h => fs_c3 h
  | 4, _, h => fs_c4 h
  | 5, _, h => fs_c5 h
  | 6, _, h => fs_c6 h
  | 7, _, h => fs_c7 h
  | 8, _, h => fs_c8 h
  | 9, _, h => fs_c9 h
  | 10, _, h => fs_c10 h
  | 11, _, h => fs_c11 h
  | 12, _, h => fs_c12 h
  | 13, _, h => fs_c13 h
  | 14, _, h => fs_c14 h
  | 15, _, h => fs_c15 h
  | 16, _, h => fs_c16 h
  | 17, _, h => fs_c17 h
  | 18, _, h => fs_c18 h
  | 19, _, h => fs_c19 h
  | 20, _, h => fs_c20 h
  | 21, _, h => fs_c21 h
  | 22, _, h => fs_c22 h
  | 23, _, h => fs_c23 h
  | 24, _, h => fs_c24 h
  | 25, _, h => fs_c25 h
  | 26, _, h => fs_c26 h
  | n + 27, z, _ => absurd z (by omega)
end
section
theorem fs_cl {j : Nat} (h : j < 13) : (nI j).toNatClampNeg = j := nI_clamp (by omega)
theorem fs_y30 {post : Int32 → SY → Prop} {J : Int32 → Int32 → Int32 → Prop} {x : Int64} {x3 x4 : Int32} {p : Int32} {a : Nat → Int64} (j : Nat) (hj : j < 13)
    (K : J x3 (if a j = x then 1 else x4) (nI (j + 1))) : wY_find_30 post J x x3 x4 (nI j) p a := by
  unfold wY_find_30
  rw [fs_cl hj]
  refine ⟨vp_in_nI hj (by omega), ?_⟩
  by_cases z : a j = x
  · rw [if_pos z] at K
    exact br_t z (nm_r (nI_1 j) K)
  · rw [if_neg z] at K
    exact br_f z (nm_r (nI_1 j) K)
/-- the reference's loop: it counts, and marks -/
theorem fs_yl {post : Int32 → SY → Prop} {x : Int64} {p : Int32} {a : Nat → Int64}
    (F : wpY_cost (fun c => (fs_h a x 13 = 1 → post (nI (fs_r a x 13)) (c, a)) ∧ (¬ fs_h a x 13 = 1 → post (-1) (c, a))) (2 * nI (fs_r a x 13) + fs_h a x 13)) :
    ∀ d j : Nat, j + d = 13 → wY_find_8 post x p a (d + 1) (nI (fs_r a x j)) (fs_h a x j) (nI j) := by
  intro d
  induction d with
  | zero =>
    intro j hj
    have e : j = 13 := by omega
    subst e
    exact br_t (by decide +kernel) F
  | succ d ih =>
    intro j hj
    have hj' : j < 13 := by omega
    have i := ih (j + 1) (by omega)
    have hc : ¬ (13 : Int32) ≤ nI j := nI_ge (b := 13) hj' (by decide)
    refine br_f hc ⟨vp_in_nI hj' (by omega), ?_⟩
    rw [fs_cl hj']
    by_cases z : a j < x
    · have e : fs_r a x (j + 1) = fs_r a x j + 1 := if_pos z
      rw [e] at i
      exact br_f (fs_le z) (nm_r (nI_1 _) (fs_y30 j hj' i))
    · have e : fs_r a x (j + 1) = fs_r a x j := if_neg z
      rw [e] at i
      have w : x ≤ a j := Int64.not_lt.mp z
      exact br_t w (fs_y30 j hj' i)
theorem fs_2 : (2 : Int32) = nI 2 := by decide +kernel
theorem fs_m2 (r : Nat) : (2 : Int32) * nI r = nI (2 * r) := by
  rw [fs_2]; exact (Int32.ofNat_mul 2 r).symm
theorem fs_k1 (r : Nat) : 2 * nI r + 1 = nI (2 * r + 1) := by
  rw [fs_m2, nI_1]
theorem fs_k0 (r : Nat) : 2 * nI r + 0 = nI (2 * r) := by
  rw [fs_m2]; exact Int32.add_zero _
/-- the reference, where x stands in cell i -/
theorem fs_yf {post : Int32 → SY → Prop} {x : Int64} {p : Int32} {a : Nat → Int64} (hs : fs_inc a) (i : Nat) (hi : i < 13) (he : a i = x)
    (hp : post (nI i) (fs_cst (2 * i + 1), a)) : wpY_find post (p, a) x := by
  have r13 : fs_r a x 13 = i := by
    rw [fs_r_eq (r := i) (fun j hj => he ▸ fs_mo hs hj hi) (fun j hj h13 => ?_) 13 (by omega), if_neg (by omega)]
    rcases Nat.lt_or_ge i j with w | w
    · exact fs_as (he ▸ fs_mo hs w h13)
    · have e : j = i := by omega
      rw [e, he]; exact fs_ir
  have h13 : fs_h a x 13 = 1 := fs_h_1 he 13 hi
  refine ⟨14, fs_yl ?_ 13 0 rfl⟩
  rw [r13, h13, fs_k1]
  exact fs_cost (2 * i + 1) (by omega) (br_t rfl hp)
/-- the reference, where x stands nowhere and r cells are below it -/
theorem fs_ya {post : Int32 → SY → Prop} {x : Int64} {p : Int32} {a : Nat → Int64} (hs : fs_inc a) (r : Nat) (hr : r < 14)
    (hl : r = 0 ∨ a (r - 1) < x) (hg : r = 13 ∨ x < a r)
    (hp : post (-1) (fs_cst (2 * r), a)) : wpY_find post (p, a) x := by
  have lo : ∀ j, j < r → a j < x := by
    intro j hj
    rcases hl with z | z
    · omega
    · rcases Nat.lt_or_ge j (r - 1) with w | w
      · exact fs_tr (fs_mo hs w (by omega)) z
      · have e : r - 1 = j := by omega
        rw [e] at z; exact z
  have hi : ∀ j, r ≤ j → j < 13 → x < a j := by
    intro j hj h13
    rcases hg with z | z
    · omega
    · rcases Nat.lt_or_ge r j with w | w
      · exact fs_tr z (fs_mo hs w h13)
      · have e : r = j := by omega
        rw [e] at z; exact z
  have r13 : fs_r a x 13 = r := by
    rw [fs_r_eq (r := r) lo (fun j hj h13 => fs_as (hi j hj h13)) 13 (by omega)]
    by_cases w : 13 < r
    · omega
    · rw [if_neg w]
  have h13 : fs_h a x 13 = 0 := by
    refine fs_h_0 (fun j hj => ?_) 13 (by omega)
    rcases Nat.lt_or_ge j r with w | w
    · exact fs_ne (lo j w)
    · exact fun e => fs_ne (hi j w hj) e.symm
  refine ⟨14, fs_yl ?_ 13 0 rfl⟩
  rw [r13, h13, fs_k0]
  exact fs_cost (2 * r) (by omega) (br_f (by decide) hp)
/-- what is asked of the component's end -/
def fs_Q (k : Nat) (p0 : Int32) (a : Nat → Int64) (x : Int64) : Int32 → SX → Prop := fun r u' => wpY_find (fun r' v' => r' = r ∧ i_Rel (k + 4) u' v') (p0, a) x
theorem fs_lf {k : Nat} {p0 : Int32} {a : Nat → Int64} {x : Int64} {f g h p : Int32} (hs : fs_inc a) (i : Nat) (hi : i < 13) (he : a i = x) (hp : p = fs_cst (2 * i + 1)) : fs_Q k p0 a x (nI i) (f, g, h, p, a) :=
  fs_yf hs i hi he ⟨rfl, by rw [hp]; exact ⟨rfl, hs⟩⟩
theorem fs_la {k : Nat} {p0 : Int32} {a : Nat → Int64} {x : Int64} {f g h p : Int32} (hs : fs_inc a) (r : Nat) (hr : r < 14)
    (hl : r = 0 ∨ a (r - 1) < x) (hg : r = 13 ∨ x < a r) (hp : p = fs_cst (2 * r)) : fs_Q k p0 a x (-1) (f, g, h, p, a) :=
  fs_ya hs r hr hl hg ⟨rfl, by rw [hp]; exact ⟨rfl, hs⟩⟩
/-- one probe of the component's loop -/
theorem fs_xs {post : Int32 → SX → Prop} {x : Int64} {a : Nat → Int64} {n : Nat} {o f g h p : Int32} (i : Nat) (hi : i < 13) (hf : ¬ f ≤ 1) (ho : o + h = nI i)
    (he : a i = x → post (nI i) (f, g, h, p + 1, a))
    (hl : a i < x → wX_find_24 post x a n (nI i) g h (g - h) (p + 1))
    (hg : x < a i → wX_find_24 post x a n o h (g - h) (h - (g - h)) (p + 1)) : wX_find_24 post x a (n + 1) o f g h p := by
  have h12 : nI i ≤ (12 : Int32) := nI_le (b := 12) (by omega) (by decide)
  have h0 : (0 : Int32) ≤ nI i := nI_pos' (by omega)
  refine br_f hf (nm_r ho (br_t h12 ?_))
  unfold wX_find_51
  rw [fs_cl hi]
  refine br_t h0 (nm_e ⟨vp_in_nI hi (by omega), nm_e ?_⟩)
  by_cases z : x ≤ a i
  · refine br_t z ?_
    by_cases w : a i ≤ x
    · exact br_t w (he (fs_anti w z))
    · exact br_f w (nm_e (nm_e (hg (fs_el w))))
  · exact br_f z (nm_e (hl (fs_el z)))
/-- the component's last probe, behind its loop -/
theorem fs_xe {post : Int32 → SX → Prop} {x : Int64} {a : Nat → Int64} {n : Nat} {o f g h p : Int32} (i : Nat) (hi : i < 13) (hf : f ≤ 1) (h1 : g = 1) (ho : o + 1 = nI i)
    (he : a i = x → post (nI i) (f, g, h, p + 1, a))
    (hl : a i < x → post (-1) (f, g, h, p + 1, a))
    (hg : x < a i → post (-1) (f, g, h, p + 1, a)) : wX_find_24 post x a (n + 1) o f g h p := by
  have h12 : ¬ (12 : Int32) < nI i := nI_nlt (a := 12) (by omega) (by decide)
  refine br_t hf (br_t h1 ?_)
  rw [ho, fs_cl hi]
  refine br_f h12 (nm_e ⟨vp_in_nI hi (by omega), ?_⟩)
  by_cases z : a i = x
  · exact br_t z (he z)
  · exact br_f z ((fs_lg z).elim hl hg)
theorem fs_xn {post : Int32 → SX → Prop} {x : Int64} {a : Nat → Int64} {n : Nat} {o f g h p : Int32} (hf : f ≤ 1) (h1 : ¬ g = 1)
    (hp : post (-1) (f, g, h, p, a)) : wX_find_24 post x a (n + 1) o f g h p := br_t hf (br_f h1 hp)
end
section
/-- every way through the probes ends with the reference's answer and count -/
theorem fs_tree {k : Nat} {p0 : Int32} {a : Nat → Int64} {x : Int64} (hs : fs_inc a) : wX_find_24 (fs_Q k p0 a x) x a 7 (-1) 13 8 5 0 :=
  (fs_xs 4 (by omega) (by decide +kernel) (by decide +kernel)
    (fun e4 => fs_lf hs 4 (by omega) e4 (by decide +kernel))
    (fun l4 =>
      (fs_xs 7 (by omega) (by decide +kernel) (by decide +kernel)
        (fun e7 => fs_lf hs 7 (by omega) e7 (by decide +kernel))
        (fun l7 =>
          (fs_xs 9 (by omega) (by decide +kernel) (by decide +kernel)
            (fun e9 => fs_lf hs 9 (by omega) e9 (by decide +kernel))
            (fun l9 =>
              (fs_xs 10 (by omega) (by decide +kernel) (by decide +kernel)
                (fun e10 => fs_lf hs 10 (by omega) e10 (by decide +kernel))
                (fun l10 =>
                  (fs_xs 11 (by omega) (by decide +kernel) (by decide +kernel)
                    (fun e11 => fs_lf hs 11 (by omega) e11 (by decide +kernel))
                    (fun l11 =>
                      (fs_xe 12 (by omega) (by decide +kernel) (by decide +kernel) (by decide +kernel)
                        (fun e12 => fs_lf hs 12 (by omega) e12 (by decide +kernel))
                        (fun l12 => fs_la hs 13 (by omega) (Or.inr l12) (Or.inl rfl) (by decide +kernel))
                        (fun g12 => fs_la hs 12 (by omega) (Or.inr l11) (Or.inr g12) (by decide +kernel)))
                    )
                    (fun g11 =>
                      (fs_xn (by decide +kernel) (by decide +kernel)
                        (fs_la hs 11 (by omega) (Or.inr l10) (Or.inr g11) (by decide +kernel)))
                    ))
                )
                (fun g10 =>
                  (fs_xe 10 (by omega) (by decide +kernel) (by decide +kernel) (by decide +kernel)
                    (fun e10 => absurd e10.symm (fs_ne g10))
                    (fun l10 => absurd l10 (fs_as g10))
                    (fun _ => fs_la hs 10 (by omega) (Or.inr l9) (Or.inr g10) (by decide +kernel)))
                ))
            )
            (fun g9 =>
              (fs_xs 8 (by omega) (by decide +kernel) (by decide +kernel)
                (fun e8 => fs_lf hs 8 (by omega) e8 (by decide +kernel))
                (fun l8 =>
                  (fs_xe 9 (by omega) (by decide +kernel) (by decide +kernel) (by decide +kernel)
                    (fun e9 => absurd e9.symm (fs_ne g9))
                    (fun l9 => absurd l9 (fs_as g9))
                    (fun _ => fs_la hs 9 (by omega) (Or.inr l8) (Or.inr g9) (by decide +kernel)))
                )
                (fun g8 =>
                  (fs_xn (by decide +kernel) (by decide +kernel)
                    (fs_la hs 8 (by omega) (Or.inr l7) (Or.inr g8) (by decide +kernel)))
                ))
            ))
        )
        (fun g7 =>
          (fs_xs 5 (by omega) (by decide +kernel) (by decide +kernel)
            (fun e5 => fs_lf hs 5 (by omega) e5 (by decide +kernel))
            (fun l5 =>
              (fs_xs 6 (by omega) (by decide +kernel) (by decide +kernel)
                (fun e6 => fs_lf hs 6 (by omega) e6 (by decide +kernel))
                (fun l6 =>
                  (fs_xe 7 (by omega) (by decide +kernel) (by decide +kernel) (by decide +kernel)
                    (fun e7 => absurd e7.symm (fs_ne g7))
                    (fun l7 => absurd l7 (fs_as g7))
                    (fun _ => fs_la hs 7 (by omega) (Or.inr l6) (Or.inr g7) (by decide +kernel)))
                )
                (fun g6 =>
                  (fs_xn (by decide +kernel) (by decide +kernel)
                    (fs_la hs 6 (by omega) (Or.inr l5) (Or.inr g6) (by decide +kernel)))
                ))
            )
            (fun g5 =>
              (fs_xe 5 (by omega) (by decide +kernel) (by decide +kernel) (by decide +kernel)
                (fun e5 => absurd e5.symm (fs_ne g5))
                (fun l5 => absurd l5 (fs_as g5))
                (fun _ => fs_la hs 5 (by omega) (Or.inr l4) (Or.inr g5) (by decide +kernel)))
            ))
        ))
    )
    (fun g4 =>
      (fs_xs 1 (by omega) (by decide +kernel) (by decide +kernel)
        (fun e1 => fs_lf hs 1 (by omega) e1 (by decide +kernel))
        (fun l1 =>
          (fs_xs 2 (by omega) (by decide +kernel) (by decide +kernel)
            (fun e2 => fs_lf hs 2 (by omega) e2 (by decide +kernel))
            (fun l2 =>
              (fs_xs 3 (by omega) (by decide +kernel) (by decide +kernel)
                (fun e3 => fs_lf hs 3 (by omega) e3 (by decide +kernel))
                (fun l3 =>
                  (fs_xe 4 (by omega) (by decide +kernel) (by decide +kernel) (by decide +kernel)
                    (fun e4 => absurd e4.symm (fs_ne g4))
                    (fun l4 => absurd l4 (fs_as g4))
                    (fun _ => fs_la hs 4 (by omega) (Or.inr l3) (Or.inr g4) (by decide +kernel)))
                )
                (fun g3 =>
                  (fs_xn (by decide +kernel) (by decide +kernel)
                    (fs_la hs 3 (by omega) (Or.inr l2) (Or.inr g3) (by decide +kernel)))
                ))
            )
            (fun g2 =>
              (fs_xe 2 (by omega) (by decide +kernel) (by decide +kernel) (by decide +kernel)
                (fun e2 => absurd e2.symm (fs_ne g2))
                (fun l2 => absurd l2 (fs_as g2))
                (fun _ => fs_la hs 2 (by omega) (Or.inr l1) (Or.inr g2) (by decide +kernel)))
            ))
        )
        (fun g1 =>
          (fs_xs 0 (by omega) (by decide +kernel) (by decide +kernel)
            (fun e0 => fs_lf hs 0 (by omega) e0 (by decide +kernel))
            (fun l0 =>
              (fs_xe 1 (by omega) (by decide +kernel) (by decide +kernel) (by decide +kernel)
                (fun e1 => absurd e1.symm (fs_ne g1))
                (fun l1 => absurd l1 (fs_as g1))
                (fun _ => fs_la hs 1 (by omega) (Or.inr l0) (Or.inr g1) (by decide +kernel)))
            )
            (fun g0 =>
              (fs_xn (by decide +kernel) (by decide +kernel)
                (fs_la hs 0 (by omega) (Or.inl rfl) (Or.inr g0) (by decide +kernel)))
            ))
        ))
    ))
end
section
theorem fs_16 : (16 : Int64) = lN 16 := by decide +kernel
/-- both constructors fill the same array -/
theorem fs_ini : ∀ (d j : Nat) (a : Nat → Int64), j + d = 13 → (∀ i, i < j → a i = lN (16 * i)) → ∃ b : Nat → Int64, (∀ i, i < 13 → b i = lN (16 * i)) ∧
    (∀ post : SX → Prop, post (13, 8, 5, 0, b) → wX_init_16 post 0 0 0 0 (d + 1) (lN (16 * j)) (nI j) a) ∧
    (∀ post : SY → Prop, post (0, b) → wY_init_14 post 0 (d + 1) (nI j) a) := by
  intro d
  induction d with
  | zero =>
    intro j a hj ha
    have e : j = 13 := by omega
    subst e
    exact ⟨a, ha, fun post hp => br_t (by decide +kernel) hp, fun post hp => br_t (by decide +kernel) hp⟩
  | succ d ih =>
    intro j a hj ha
    have hj' : j < 13 := by omega
    have hc : ¬ (13 : Int32) ≤ nI j := nI_ge (b := 13) hj' (by decide)
    have hi : vp_in (nI j) 13 := vp_in_nI hj' (by omega)
    have hn : ∀ i, i < j + 1 → vp_updL a j (lN (16 * j)) i = lN (16 * i) := by
      intro i h
      show (if i = j then lN (16 * j) else a i) = _
      by_cases z : i = j
      · rw [if_pos z, z]
      · rw [if_neg z]; exact ha i (by omega)
    obtain ⟨b, hb, hX, hY⟩ := ih (j + 1) (vp_updL a j (lN (16 * j))) (by omega) hn
    have eX : lN (16 * j) + 16 = lN (16 * (j + 1)) := by
      rw [fs_16, lN_add]; exact congrArg lN (by omega)
    have eY : 16 * (nI j).toInt64 = lN (16 * j) := by
      rw [nI_l (by omega), fs_16, lN_mul]
    have uX : vp_updL a (nI j).toNatClampNeg (lN (16 * j)) = vp_updL a j (lN (16 * j)) := by rw [fs_cl hj']
    have uY : vp_updL a (nI j).toNatClampNeg (16 * (nI j).toInt64) = vp_updL a j (lN (16 * j)) := by rw [fs_cl hj', eY]
    exact ⟨b, hb, fun post hp => br_f hc ⟨hi, nm_r uX (nm_r eX (nm_r (nI_1 j) (hX post hp)))⟩, fun post hp => br_f hc ⟨hi, nm_r uY (nm_r (nI_1 j) (hY post hp))⟩⟩
theorem fs_l0 : lN (16 * 0) = 0 := by decide +kernel
theorem i_vc0 : wpX_init (fun u => wpY_init (fun v => i_Rel 0 u v)) := by
  obtain ⟨b, hb, hX, hY⟩ := fs_ini 13 0 (fun _ => 0) rfl (fun i h => absurd h (by omega))
  rw [nI_0, fs_l0] at hX
  rw [nI_0] at hY
  refine ⟨14, hX _ ⟨14, hY _ ⟨rfl, fun j hj => ?_⟩⟩⟩
  show b j < b (j + 1)
  rw [hb j (by omega), hb (j + 1) (by omega), lN_lt (by omega) (by omega)]
  omega
/-- the write: one outcome for both -/
theorem fs_p32 {a : Nat → Int64} (hs : fs_inc a) (j : Nat) (hj : j ≤ 12) (y : Int64) (hl : 0 < j → a (j - 1) < y) : ∃ (r : Int32) (b : Nat → Int64), fs_inc b ∧
    (∀ (post : Int32 → SX → Prop) (f g h p : Int32), post r (f, g, h, p, b) → wX_put_32 post (nI j) y f g h p a) ∧
    (∀ (post : Int32 → SY → Prop) (p : Int32), post r (p, b) → wY_put_32 post (nI j) y p a) := by
  have hi : vp_in (nI j) 13 := vp_in_nI (by omega) (by omega)
  have u : vp_updL a (nI j).toNatClampNeg y = vp_updL a j y := by rw [fs_cl (by omega)]
  by_cases z : j = 12
  · have hc : (12 : Int32) ≤ nI j := nI_le (a := 12) (by omega) (by omega)
    exact ⟨0, vp_updL a j y, fs_upd hs hl (fun w => absurd w (by omega)), fun post f g h p hp => br_t hc ⟨hi, nm_r u hp⟩, fun post p hp => br_t hc ⟨hi, nm_r u hp⟩⟩
  · have hc : ¬ (12 : Int32) ≤ nI j := nI_ge (b := 12) (by omega) (by decide)
    have hi1 : vp_in (nI j + 1) 13 := by rw [nI_1]; exact vp_in_nI (by omega) (by omega)
    have c1 : (nI j + 1).toNatClampNeg = j + 1 := by rw [nI_1]; exact fs_cl (by omega)
    by_cases w : y < a (j + 1)
    · have w' : y < a (nI j + 1).toNatClampNeg := by rw [c1]; exact w
      exact ⟨0, vp_updL a j y, fs_upd hs hl (fun _ => w), fun post f g h p hp => br_f hc ⟨hi1, br_t w' ⟨hi, nm_r u hp⟩⟩, fun post p hp => br_f hc ⟨hi1, br_t w' ⟨hi, nm_r u hp⟩⟩⟩
    · have w' : ¬ y < a (nI j + 1).toNatClampNeg := by rw [c1]; exact w
      exact ⟨-3, a, hs, fun post f g h p hp => br_f hc ⟨hi1, br_f w' hp⟩, fun post p hp => br_f hc ⟨hi1, br_f w' hp⟩⟩
theorem fs_put {a : Nat → Int64} (hs : fs_inc a) (i : Int32) (y : Int64) : ∃ (r : Int32) (b : Nat → Int64), fs_inc b ∧
    (∀ (post : Int32 → SX → Prop) (f g h p : Int32), post r (f, g, h, p, b) → wpX_put post (f, g, h, p, a) i y) ∧
    (∀ (post : Int32 → SY → Prop) (p : Int32), post r (p, b) → wpY_put post (p, a) i y) := by
  by_cases h0 : i < 0
  · exact ⟨-1, a, hs, fun post f g h p hp => br_t h0 hp, fun post p hp => br_t h0 hp⟩
  · by_cases h12 : i ≤ 12
    · obtain ⟨j, hj, rfl⟩ := nI_of2 (M := 12) (n := 12) (by decide) h0 h12
      cases j with
      | zero =>
        obtain ⟨r, b, hb, hX, hY⟩ := fs_p32 hs 0 (by omega) y (fun w => absurd w (by omega))
        have z : nI 0 ≤ 0 := by decide +kernel
        exact ⟨r, b, hb, fun post f g h p hp => br_f h0 (br_t h12 (br_t z (hX post f g h p hp))), fun post p hp => br_f h0 (br_t h12 (br_t z (hY post p hp)))⟩
      | succ j =>
        have z : ¬ nI (j + 1) ≤ 0 := nI_nle (by omega) (by omega)
        have hi : vp_in (nI (j + 1) - 1) 13 := by rw [nI_pred]; exact vp_in_nI (by omega) (by omega)
        have c1 : (nI (j + 1) - 1).toNatClampNeg = j := by rw [nI_pred]; exact fs_cl (by omega)
        by_cases w : a j < y
        · obtain ⟨r, b, hb, hX, hY⟩ := fs_p32 hs (j + 1) hj y (fun _ => w)
          have w' : a (nI (j + 1) - 1).toNatClampNeg < y := by rw [c1]; exact w
          exact ⟨r, b, hb, fun post f g h p hp => br_f h0 (br_t h12 (br_f z ⟨hi, br_t w' (hX post f g h p hp)⟩)), fun post p hp => br_f h0 (br_t h12 (br_f z ⟨hi, br_t w' (hY post p hp)⟩))⟩
        · have w' : ¬ a (nI (j + 1) - 1).toNatClampNeg < y := by rw [c1]; exact w
          exact ⟨-2, a, hs, fun post f g h p hp => br_f h0 (br_t h12 (br_f z ⟨hi, br_f w' hp⟩)), fun post p hp => br_f h0 (br_t h12 (br_f z ⟨hi, br_f w' hp⟩))⟩
    · exact ⟨-1, a, hs, fun post f g h p hp => br_f h0 (br_f h12 hp), fun post p hp => br_f h0 (br_f h12 hp)⟩
theorem i_vc_put {k : Nat} {u : SX} {v : SY} (I : i_Rel k u v) (hk : k + 4 ≤ 2048) (v1 : Int32) (a1 : Int64) : wpX_put (fun r u' => wpY_put (fun r' v' => r' = r ∧ i_Rel (k + 4) u' v') v v1 a1) u v1 a1 := by
  obtain ⟨f, g, h, p, a⟩ := u
  obtain ⟨rfl, hs⟩ := I
  obtain ⟨r, b, hb, hX, hY⟩ := fs_put hs v1 a1
  exact hX _ f g h p (hY _ p ⟨rfl, rfl, hb⟩)
theorem i_vc_find {k : Nat} {u : SX} {v : SY} (I : i_Rel k u v) (hk : k + 4 ≤ 2048) (a0 : Int64) : wpX_find (fun r u' => wpY_find (fun r' v' => r' = r ∧ i_Rel (k + 4) u' v') v a0) u a0 := by
  obtain ⟨f, g, h, p, a⟩ := u
  obtain ⟨rfl, hs⟩ := I
  exact ⟨7, fs_tree (k := k) (p0 := p) (x := a0) hs⟩
theorem i_vc_probes {k : Nat} {u : SX} {v : SY} (I : i_Rel k u v) (hk : k + 4 ≤ 2048) : wpX_probes (fun r => wpY_probes (fun r' => r' = r ∧ i_Rel (k + 4) u v) v) u := by
  obtain ⟨f, g, h, p, a⟩ := u
  obtain ⟨rfl, hs⟩ := I
  exact ⟨rfl, rfl, hs⟩
theorem i_vc_at {k : Nat} {u : SX} {v : SY} (I : i_Rel k u v) (hk : k + 4 ≤ 2048) (v1 : Int32) : wpX_at (fun r => wpY_at (fun r' => r' = r ∧ i_Rel (k + 4) u v) v v1) u v1 := by
  obtain ⟨f, g, h, p, a⟩ := u
  obtain ⟨rfl, hs⟩ := I
  by_cases h0 : v1 < 0
  · exact br_t h0 (br_t h0 ⟨rfl, rfl, hs⟩)
  · by_cases h12 : v1 ≤ 12
    · obtain ⟨j, hj, rfl⟩ := nI_of2 (M := 12) (n := 12) (by decide) h0 h12
      have hi : vp_in (nI j) 13 := vp_in_nI (by omega) (by omega)
      exact br_f h0 (br_t h12 ⟨hi, br_f h0 (br_t h12 ⟨hi, rfl, rfl, hs⟩)⟩)
    · exact br_f h0 (br_f h12 (br_f h0 (br_f h12 ⟨rfl, rfl, hs⟩)))
end
