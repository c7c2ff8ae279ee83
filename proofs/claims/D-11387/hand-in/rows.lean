section
/-- what a coordinate x is seen as, divided by b (0: all are one) -/
def oc_co (x b : Nat) : Nat := if b = 0 then 0 else x / b
def oc_bA (v : Nat) : Nat := if v / 16 = 2 then 0 else v / 16 + 1
def oc_bB (v : Nat) : Nat := if v / 4 % 4 = 3 then 0 else v / 4 % 4 + 1
def oc_bC (v : Nat) : Nat := if v % 4 = 3 then 0 else 2 ^ (v % 4)
/-- the cell of a place in a view -/
def oc_sn (v p : Nat) : Nat := 48 * oc_co (p / 48) (oc_bA v) + 8 * oc_co (p / 8 % 6) (oc_bB v) + oc_co (p % 8) (oc_bC v)
theorem oc_co_le (x b : Nat) : oc_co x b ≤ x := by
  unfold oc_co
  split
  · omega
  · exact Nat.div_le_self x b
theorem oc_co_0 (x : Nat) : oc_co x 0 = 0 := by
  unfold oc_co
  rw [if_pos rfl]
theorem oc_co_p {x b : Nat} (h : 0 < b) : oc_co x b = x / b := by
  unfold oc_co
  rw [if_neg (by omega)]
theorem oc_co_1 (x : Nat) : oc_co x 1 = x := by
  rw [oc_co_p (by omega), Nat.div_one]
theorem oc_sn_lt {v p : Nat} (hp : p < 192) : oc_sn v p < 192 := by
  have h1 := oc_co_le (p / 48) (oc_bA v)
  have h2 := oc_co_le (p / 8 % 6) (oc_bB v)
  have h3 := oc_co_le (p % 8) (oc_bC v)
  unfold oc_sn
  omega
theorem oc_sn_0 {p : Nat} (hp : p < 192) : oc_sn 0 p = p := by
  have a : oc_bA 0 = 1 := by decide
  have b : oc_bB 0 = 1 := by decide
  have c : oc_bC 0 = 1 := by decide
  unfold oc_sn
  rw [a, b, c, oc_co_1, oc_co_1, oc_co_1]
  omega
theorem oc_bA_lt {v : Nat} (h : v < 48) : oc_bA v < 4 := by
  unfold oc_bA
  split <;> omega
theorem oc_bB_lt (v : Nat) : oc_bB v < 5 := by
  unfold oc_bB
  split <;> omega
theorem oc_p2 : ∀ k, k < 4 → 2 ^ k < 9 := by decide
theorem oc_bC_lt (v : Nat) : oc_bC v < 9 := by
  unfold oc_bC
  split
  · omega
  · exact oc_p2 (v % 4) (by omega)

/-- a slot's row: how many cells are full; counts, sums, lows, highs by the cell -/
abbrev oc_Row : Type := Int32 × (Nat → Int32) × (Nat → Int32) × (Nat → Int32) × (Nat → Int32)
def oc_nil : oc_Row := (0, fun _ => 0, fun _ => 0, fun _ => 10000, fun _ => (-10000))
/-- a row with one more entry -/
def oc_E (r : oc_Row) (c : Nat) (k t l h : Int32) : oc_Row :=
  (r.1 + (if r.2.1 c = 0 then 1 else 0), upd r.2.1 c (r.2.1 c + k), upd r.2.2.1 c (r.2.2.1 c + t),
    upd r.2.2.2.1 c (if r.2.2.2.1 c ≤ l then r.2.2.2.1 c else l), upd r.2.2.2.2 c (if h ≤ r.2.2.2.2 c then r.2.2.2.2 c else h))
theorem oc_E_at {c : Nat} {r : oc_Row} {k t l h : Int32} : (oc_E r c k t l h).2.1 c = r.2.1 c + k ∧ (oc_E r c k t l h).2.2.1 c = r.2.2.1 c + t ∧
    (oc_E r c k t l h).2.2.2.1 c = (if r.2.2.2.1 c ≤ l then r.2.2.2.1 c else l) ∧ (oc_E r c k t l h).2.2.2.2 c = (if h ≤ r.2.2.2.2 c then r.2.2.2.2 c else h) := by
  unfold oc_E
  dsimp only
  exact ⟨pk_us, pk_us, pk_us, pk_us⟩
theorem oc_E_n {c j : Nat} {r : oc_Row} {k t l h : Int32} (n : j ≠ c) : (oc_E r c k t l h).2.1 j = r.2.1 j ∧ (oc_E r c k t l h).2.2.1 j = r.2.2.1 j ∧
    (oc_E r c k t l h).2.2.2.1 j = r.2.2.2.1 j ∧ (oc_E r c k t l h).2.2.2.2 j = r.2.2.2.2 j := by
  unfold oc_E
  dsimp only
  exact ⟨pk_un n, pk_un n, pk_un n, pk_un n⟩
theorem oc_E_f {c : Nat} {r : oc_Row} {k t l h : Int32} : (oc_E r c k t l h).1 = r.1 + (if r.2.1 c = 0 then 1 else 0) := rfl
/-- slot s of the five holds the row r -/
def oc_R (s : Nat) (r : oc_Row) (a4 a6 a7 a8 a9 : Nat → Int32) : Prop :=
  a4 s = r.1 ∧ ∀ j, j < 192 → a6 (192 * s + j) = r.2.1 j ∧ a7 (192 * s + j) = r.2.2.1 j ∧ a8 (192 * s + j) = r.2.2.2.1 j ∧ a9 (192 * s + j) = r.2.2.2.2 j
/-- slotView as it is after a start -/
def oc_V (a3 : Nat → Int32) : Prop := a3 0 = 0 ∧ ∀ j, 0 < j → j < 5 → a3 j = -1
theorem oc_R_E {s c : Nat} {r : oc_Row} {a4 a6 a7 a8 a9 : Nat → Int32} (hc : c < 192) (h : oc_R s r a4 a6 a7 a8 a9) (k t l hh : Int32) :
    oc_R s (oc_E r c k t l hh) (upd a4 s (a4 s + (if a6 (192 * s + c) = 0 then 1 else 0))) (upd a6 (192 * s + c) (a6 (192 * s + c) + k)) (upd a7 (192 * s + c) (a7 (192 * s + c) + t))
      (upd a8 (192 * s + c) (if a8 (192 * s + c) ≤ l then a8 (192 * s + c) else l)) (upd a9 (192 * s + c) (if hh ≤ a9 (192 * s + c) then a9 (192 * s + c) else hh)) := by
  obtain ⟨h4, hj⟩ := h
  obtain ⟨q6, q7, q8, q9⟩ := hj c hc
  rw [q6, q7, q8, q9, h4]
  refine ⟨pk_us, fun j hjl => ?_⟩
  by_cases e : j = c
  · subst e
    obtain ⟨e6, e7, e8, e9⟩ := oc_E_at (c := j) (r := r) (k := k) (t := t) (l := l) (h := hh)
    exact ⟨by rw [pk_us, e6], by rw [pk_us, e7], by rw [pk_us, e8], by rw [pk_us, e9]⟩
  · have n : 192 * s + j ≠ 192 * s + c := by omega
    obtain ⟨p6, p7, p8, p9⟩ := hj j hjl
    obtain ⟨e6, e7, e8, e9⟩ := oc_E_n (c := c) (j := j) (r := r) (k := k) (t := t) (l := l) (h := hh) e
    exact ⟨by rw [pk_un n, p6, e6], by rw [pk_un n, p7, e7], by rw [pk_un n, p8, e8], by rw [pk_un n, p9, e9]⟩
theorem oc_R_o {s s' c : Nat} {r : oc_Row} {a4 a6 a7 a8 a9 : Nat → Int32} {x4 x6 x7 x8 x9 : Int32} (hc : c < 192) (hs : s' ≠ s) (h : oc_R s' r a4 a6 a7 a8 a9) :
    oc_R s' r (upd a4 s x4) (upd a6 (192 * s + c) x6) (upd a7 (192 * s + c) x7) (upd a8 (192 * s + c) x8) (upd a9 (192 * s + c) x9) := by
  obtain ⟨h4, hj⟩ := h
  refine ⟨by rw [pk_un hs, h4], fun j hjl => ?_⟩
  have n : 192 * s' + j ≠ 192 * s + c := by omega
  rw [pk_un n, pk_un n, pk_un n, pk_un n]
  exact hj j hjl
/-- the row worked out from the row r over its cells below i -/
def oc_W (r : oc_Row) (v : Nat) : Nat → oc_Row
  | 0 => oc_nil
  | i + 1 => if r.2.1 i ≤ 0 then oc_W r v i else oc_E (oc_W r v i) (oc_sn v i) (r.2.1 i) (r.2.2.1 i) (r.2.2.2.1 i) (r.2.2.2.2 i)
theorem oc_W_s {r : oc_Row} {v i : Nat} (h : r.2.1 i ≤ 0) : oc_W r v (i + 1) = oc_W r v i := by
  show (if r.2.1 i ≤ 0 then oc_W r v i else _) = _
  rw [if_pos h]
theorem oc_W_e {r : oc_Row} {v i : Nat} (h : ¬ r.2.1 i ≤ 0) : oc_W r v (i + 1) = oc_E (oc_W r v i) (oc_sn v i) (r.2.1 i) (r.2.2.1 i) (r.2.2.2.1 i) (r.2.2.2.2 i) := by
  show (if r.2.1 i ≤ 0 then oc_W r v i else _) = _
  rw [if_neg h]
theorem oc_W_skip {r : oc_Row} {v i : Nat} (d : Nat) (h : ∀ j, i ≤ j → j < i + d → r.2.1 j = 0) : oc_W r v (i + d) = oc_W r v i := by
  induction d with
  | zero => rfl
  | succ d ih =>
    have e : r.2.1 (i + d) = 0 := h (i + d) (by omega) (by omega)
    show oc_W r v ((i + d) + 1) = oc_W r v i
    rw [oc_W_s (by rw [e]; decide)]
    exact ih (fun j h1 h2 => h j h1 (by omega))
/-- one fact's row, two facts' row -/
def oc_1 (c : Nat) (x : Int32) : oc_Row := oc_E oc_nil c 1 x x x
def oc_2 (c c' : Nat) (x y : Int32) : oc_Row := oc_E (oc_1 c x) c' 1 y y y
/-- a measure is in its bounds -/
def oc_ok (x : Int32) : Prop := ¬ x < (-1000) ∧ ¬ 1000 < x
theorem oc_ok_i {x : Int32} (h : oc_ok x) : -1000 ≤ x.toInt ∧ x.toInt ≤ 1000 := by
  obtain ⟨h1, h2⟩ := h
  rw [Int32.lt_iff_toInt_lt] at h1 h2
  have e1 : (-1000 : Int32).toInt = -1000 := by decide
  have e2 : (1000 : Int32).toInt = 1000 := by decide
  omega
theorem oc_ok_lo {x : Int32} (h : oc_ok x) : ¬ (10000 : Int32) ≤ x := by
  have := oc_ok_i h
  rw [Int32.le_iff_toInt_le]
  have e : (10000 : Int32).toInt = 10000 := by decide
  omega
theorem oc_ok_hi {x : Int32} (h : oc_ok x) : ¬ x ≤ (-10000 : Int32) := by
  have := oc_ok_i h
  rw [Int32.le_iff_toInt_le]
  have e : (-10000 : Int32).toInt = -10000 := by decide
  omega
theorem oc_z (x : Int32) : 0 + x = x := by
  rw [Int32.zero_add]
theorem oc_1_at {c : Nat} {x : Int32} (h : oc_ok x) : (oc_1 c x).1 = 1 ∧ (oc_1 c x).2.1 c = 1 ∧ (oc_1 c x).2.2.1 c = x ∧ (oc_1 c x).2.2.2.1 c = x ∧ (oc_1 c x).2.2.2.2 c = x := by
  obtain ⟨e6, e7, e8, e9⟩ := oc_E_at (c := c) (r := oc_nil) (k := 1) (t := x) (l := x) (h := x)
  have e8' : (oc_1 c x).2.2.2.1 c = if (10000 : Int32) ≤ x then (10000 : Int32) else x := e8
  have e9' : (oc_1 c x).2.2.2.2 c = if x ≤ (-10000 : Int32) then (-10000 : Int32) else x := e9
  rw [if_neg (oc_ok_lo h)] at e8'
  rw [if_neg (oc_ok_hi h)] at e9'
  exact ⟨rfl, e6, e7.trans (oc_z x), e8', e9'⟩
theorem oc_1_n {c j : Nat} {x : Int32} (n : j ≠ c) : (oc_1 c x).2.1 j = 0 ∧ (oc_1 c x).2.2.1 j = 0 ∧ (oc_1 c x).2.2.2.1 j = 10000 ∧ (oc_1 c x).2.2.2.2 j = (-10000) :=
  oc_E_n (r := oc_nil) n
/-- the second fact falls into another cell -/
theorem oc_2_n {c c' : Nat} {x y : Int32} (h : oc_ok x) (hy : oc_ok y) (n : c ≠ c') :
    (oc_2 c c' x y).1 = 2 ∧ ((oc_2 c c' x y).2.1 c = 1 ∧ (oc_2 c c' x y).2.2.1 c = x ∧ (oc_2 c c' x y).2.2.2.1 c = x ∧ (oc_2 c c' x y).2.2.2.2 c = x) ∧
    ((oc_2 c c' x y).2.1 c' = 1 ∧ (oc_2 c c' x y).2.2.1 c' = y ∧ (oc_2 c c' x y).2.2.2.1 c' = y ∧ (oc_2 c c' x y).2.2.2.2 c' = y) := by
  obtain ⟨p1, p2, p3, p4, p5⟩ := oc_1_at (c := c) h
  obtain ⟨q2, q3, q4, q5⟩ := oc_1_n (c := c) (j := c') (x := x) (fun e => n e.symm)
  obtain ⟨n2, n3, n4, n5⟩ := oc_E_n (r := oc_1 c x) (k := 1) (t := y) (l := y) (h := y) n
  obtain ⟨e2, e3, e4, e5⟩ := oc_E_at (c := c') (r := oc_1 c x) (k := 1) (t := y) (l := y) (h := y)
  have e1 := oc_E_f (c := c') (r := oc_1 c x) (k := 1) (t := y) (l := y) (h := y)
  rw [p1, q2, if_pos rfl] at e1
  rw [q2] at e2
  rw [q3] at e3
  rw [q4, if_neg (oc_ok_lo hy)] at e4
  rw [q5, if_neg (oc_ok_hi hy)] at e5
  exact ⟨e1, ⟨n2.trans p2, n3.trans p3, n4.trans p4, n5.trans p5⟩, e2, e3.trans (oc_z y), e4, e5⟩
/-- the second fact falls into the same cell -/
theorem oc_2_s {c : Nat} {x y : Int32} (h : oc_ok x) :
    (oc_2 c c x y).1 = 1 ∧ (oc_2 c c x y).2.2.1 c = x + y ∧ (oc_2 c c x y).2.2.2.2 c = if y ≤ x then x else y := by
  obtain ⟨p1, p2, p3, p4, p5⟩ := oc_1_at (c := c) h
  obtain ⟨e2, e3, e4, e5⟩ := oc_E_at (c := c) (r := oc_1 c x) (k := 1) (t := y) (l := y) (h := y)
  have e1 := oc_E_f (c := c) (r := oc_1 c x) (k := 1) (t := y) (l := y) (h := y)
  rw [p1, p2, if_neg (by decide)] at e1
  rw [p3] at e3
  rw [p5] at e5
  exact ⟨e1, e3, e5⟩
theorem oc_W_1 {v : Nat} {x : Int32} (h : oc_ok x) : oc_W (oc_1 100 x) v 192 = oc_1 (oc_sn v 100) x := by
  obtain ⟨p1, p2, p3, p4, p5⟩ := oc_1_at (c := 100) h
  have z : ∀ j, j ≠ 100 → (oc_1 100 x).2.1 j = 0 := fun j hj => (oc_1_n hj).1
  have e3 : oc_W (oc_1 100 x) v (101 + 91) = oc_W (oc_1 100 x) v 101 := oc_W_skip 91 (fun j h1 h2 => z j (by omega))
  have e1 : oc_W (oc_1 100 x) v (0 + 100) = oc_W (oc_1 100 x) v 0 := oc_W_skip 100 (fun j h1 h2 => z j (by omega))
  have e2 := oc_W_e (r := oc_1 100 x) (v := v) (i := 100) (by rw [p2]; decide)
  rw [p2, p3, p4, p5] at e2
  have e1' : oc_W (oc_1 100 x) v 100 = oc_nil := e1
  have e2' : oc_W (oc_1 100 x) v 101 = oc_1 (oc_sn v 100) x := by
    rw [e1'] at e2
    exact e2
  exact e3.trans e2'
theorem oc_W_2 {v : Nat} {x y : Int32} (h : oc_ok x) (hy : oc_ok y) : oc_W (oc_2 100 101 x y) v 192 = oc_2 (oc_sn v 100) (oc_sn v 101) x y := by
  obtain ⟨_, ⟨p2, p3, p4, p5⟩, q2, q3, q4, q5⟩ := oc_2_n (c := 100) (c' := 101) h hy (by decide)
  have z : ∀ j, j ≠ 100 → j ≠ 101 → (oc_2 100 101 x y).2.1 j = 0 := fun j hj hj' => ((oc_E_n hj').1).trans (oc_1_n hj).1
  have e3 : oc_W (oc_2 100 101 x y) v (102 + 90) = oc_W (oc_2 100 101 x y) v 102 := oc_W_skip 90 (fun j h1 h2 => z j (by omega) (by omega))
  have e1 : oc_W (oc_2 100 101 x y) v (0 + 100) = oc_W (oc_2 100 101 x y) v 0 := oc_W_skip 100 (fun j h1 h2 => z j (by omega) (by omega))
  have e2 := oc_W_e (r := oc_2 100 101 x y) (v := v) (i := 100) (by rw [p2]; decide)
  have e4 := oc_W_e (r := oc_2 100 101 x y) (v := v) (i := 101) (by rw [q2]; decide)
  rw [p2, p3, p4, p5] at e2
  rw [q2, q3, q4, q5] at e4
  have e1' : oc_W (oc_2 100 101 x y) v 100 = oc_nil := e1
  have e2' : oc_W (oc_2 100 101 x y) v 101 = oc_1 (oc_sn v 100) x := by
    rw [e1'] at e2
    exact e2
  have e4' : oc_W (oc_2 100 101 x y) v 102 = oc_2 (oc_sn v 100) (oc_sn v 101) x y := by
    rw [show oc_W (oc_2 100 101 x y) v (101 + 1) = oc_W (oc_2 100 101 x y) v 102 from rfl, e2'] at e4
    exact e4
  exact e3.trans e4'
end
section
theorem oc_byA {post : Int32 → Prop} {v : Nat} (hv : v < 48) (H : post (nI (oc_bA v))) : wpX_byA post () (nI v) := by
  unfold wpX_byA
  refine nm_r (pk_shrN (by omega) _ 4 (by decide)) ?_
  refine pk_eq (v / 2 ^ 4) 2 (fun h => ?_) (fun h => ?_)
  · rw [show oc_bA v = 0 by unfold oc_bA; rw [if_pos (by omega)]] at H
    exact H
  · rw [show oc_bA v = v / 2 ^ 4 + 1 by unfold oc_bA; rw [if_neg (by omega)]] at H
    rw [nI_1]
    exact H
theorem oc_byB {post : Int32 → Prop} {v : Nat} (hv : v < 48) (H : post (nI (oc_bB v))) : wpX_byB post () (nI v) := by
  have e : (nI v >>> ((2 : Int32) &&& 31)) &&& 3 = nI (v / 4 % 4) := by
    rw [pk_shrN (by omega) _ 2 (by decide), pk_andN (by omega) 2 (by decide)]
  unfold wpX_byB
  refine nm_r e ?_
  refine pk_eq (v / 4 % 4) 3 (fun h => ?_) (fun h => ?_)
  · rw [show oc_bB v = 0 by unfold oc_bB; rw [if_pos h]] at H
    exact H
  · rw [show oc_bB v = v / 4 % 4 + 1 by unfold oc_bB; rw [if_neg h]] at H
    rw [nI_1]
    exact H
theorem oc_sh : ∀ k, k < 4 → (1 : Int32) <<< (nI k &&& 31) = nI (2 ^ k) := by decide +kernel
theorem oc_byC {post : Int32 → Prop} {v : Nat} (hv : v < 48) (H : post (nI (oc_bC v))) : wpX_byC post () (nI v) := by
  have e : nI v &&& 3 = nI (v % 4) := pk_andN (by omega) 2 (by decide)
  unfold wpX_byC
  refine nm_r e ?_
  refine pk_eq (v % 4) 3 (fun h => ?_) (fun h => ?_)
  · rw [show oc_bC v = 0 by unfold oc_bC; rw [if_pos h]] at H
    exact H
  · rw [show oc_bC v = 2 ^ (v % 4) by unfold oc_bC; rw [if_neg h]] at H
    rw [oc_sh (v % 4) (by omega)]
    exact H
theorem oc_coarser {post : Int32 → Prop} {x b : Nat} (hx : x < 2 ^ 31) (hb : b < 2 ^ 31) (H : post (nI (oc_co x b))) : wpX_coarser post () (nI x) (nI b) := by
  unfold wpX_coarser
  refine pk_le b 0 (fun h => ?_) (fun h => ⟨nI_ne0 h hb, ?_⟩)
  · rw [show b = 0 by omega, oc_co_0] at H
    exact H
  · rw [oc_co_p h] at H
    rw [pk_div hx h hb]
    exact H
theorem oc_d48 {p : Nat} (hp : p < 192) : nI p / 48 = nI (p / 48) := pk_div (d := 48) (by omega) (by omega) (by omega)
theorem oc_d8 {p : Nat} (hp : p < 192) : nI p / 8 = nI (p / 8) := pk_div (d := 8) (by omega) (by omega) (by omega)
theorem oc_r6 {p : Nat} (hp : p < 192) : nI p - nI p / 6 * 6 = nI (p % 6) := pk_rem (d := 6) (by omega) (by omega) (by omega)
theorem oc_r8 {p : Nat} (hp : p < 192) : nI p - nI p / 8 * 8 = nI (p % 8) := pk_rem (d := 8) (by omega) (by omega) (by omega)
theorem oc_48 (a b c : Nat) : ((48 * nI a) + (8 * nI b)) + nI c = nI (48 * a + 8 * b + c) := by
  show ((nI 48 * nI a) + (nI 8 * nI b)) + nI c = _
  rw [pk_mul, pk_mul, nI_add, nI_add]
theorem oc_seenAs {post : Int32 → Prop} {v p : Nat} (hv : v < 48) (hp : p < 192) (H : post (nI (oc_sn v p))) : wpX_seenAs post () (nI v) (nI p) := by
  have hA := oc_bA_lt hv
  have hB := oc_bB_lt v
  have hC := oc_bC_lt v
  unfold wpX_seenAs
  rw [oc_r8 hp, oc_d48 hp, oc_d8 hp, oc_r6 (show p / 8 < 192 by omega)]
  refine ⟨by decide, oc_byA hv (oc_coarser (by omega) (by omega) ⟨by decide, by decide, oc_byB hv (oc_coarser (by omega) (by omega) ⟨by decide, oc_byC hv (oc_coarser (by omega) (by omega) ?_)⟩)⟩)⟩
  rw [oc_48]
  exact H
theorem oc_one (x : Int32) : nI 1 * x = x := by
  show (1 : Int32) * x = x
  rw [Int32.one_mul]
theorem oc_cellFrom {post : Int32 → Prop} {v p : Nat} (hv : v < 48) (hp : p < 192) (H : post (nI (oc_sn v p))) : wpX_cellFrom post () 0 (nI p) (nI v) := by
  unfold wpX_cellFrom
  rw [oc_r8 hp, oc_d48 hp, oc_d8 hp, oc_r6 (show p / 8 < 192 by omega)]
  refine oc_byA (v := 0) (by omega) ⟨by decide, nm_r (oc_one _) (oc_byB (v := 0) (by omega) ⟨by decide, by decide, nm_r (oc_one _) (oc_byC (v := 0) (by omega) ⟨by decide, nm_r (oc_one _) ?_⟩)⟩)⟩
  rw [oc_48, show 48 * (p / 48) + 8 * (p / 8 % 6) + p % 8 = p by omega]
  exact oc_seenAs hv hp H
/-- the law's own seen -/
theorem oc_seen_87 {post : Int32 → Prop} {a b c v : Nat} (hc : c < 8) (H : post (nI (48 * a + 8 * b + oc_co c (oc_bC v)))) : wL_seen_87 post (nI a) (nI b) (nI c) (nI (v % 4)) := by
  unfold wL_seen_87
  refine pk_le (v % 4) 0 (fun h => ?_) (fun h => pk_eq (v % 4) 1 (fun h1 => ⟨by decide, ?_⟩) (fun h1 => pk_eq (v % 4) 2 (fun h2 => ⟨by decide, ?_⟩) (fun h2 => ?_)))
  · rw [show oc_bC v = 1 by unfold oc_bC; rw [show v % 4 = 0 by omega]; rfl, oc_co_1] at H
    unfold wL_seen_121
    rw [oc_48]
    exact H
  · rw [show oc_bC v = 2 by unfold oc_bC; rw [h1]; rfl, oc_co_p (by omega)] at H
    unfold wL_seen_119 wL_seen_121
    rw [show nI c / 2 = nI (c / 2) from pk_div (d := 2) (by omega) (by omega) (by omega), oc_48]
    exact H
  · rw [show oc_bC v = 4 by unfold oc_bC; rw [h2]; rfl, oc_co_p (by omega)] at H
    unfold wL_seen_119 wL_seen_121
    rw [show nI c / 4 = nI (c / 4) from pk_div (d := 4) (by omega) (by omega) (by omega), oc_48]
    exact H
  · rw [show oc_bC v = 0 by unfold oc_bC; rw [if_pos (by omega)], oc_co_0] at H
    unfold wL_seen_119 wL_seen_121
    rw [← nI_0, oc_48]
    exact H
theorem oc_seen_56 {post : Int32 → Prop} {a b c v : Nat} (hb : b < 6) (hc : c < 8) (H : post (nI (48 * a + 8 * oc_co b (oc_bB v) + oc_co c (oc_bC v)))) : wL_seen_56 post (nI a) (nI b) (nI c) (nI (v / 4 % 4)) (nI (v % 4)) := by
  unfold wL_seen_56
  refine pk_le (v / 4 % 4) 0 (fun h => ?_) (fun h => pk_eq (v / 4 % 4) 1 (fun h1 => ⟨by decide, ?_⟩) (fun h1 => pk_eq (v / 4 % 4) 2 (fun h2 => ⟨by decide, ?_⟩) (fun h2 => ?_)))
  · rw [show oc_bB v = 1 by unfold oc_bB; rw [show v / 4 % 4 = 0 by omega]; rfl, oc_co_1] at H
    exact oc_seen_87 hc H
  · rw [show oc_bB v = 2 by unfold oc_bB; rw [h1]; rfl, oc_co_p (b := 2) (by omega)] at H
    unfold wL_seen_86
    rw [show nI b / 2 = nI (b / 2) from pk_div (d := 2) (by omega) (by omega) (by omega)]
    exact oc_seen_87 hc H
  · rw [show oc_bB v = 3 by unfold oc_bB; rw [h2]; rfl, oc_co_p (b := 3) (by omega)] at H
    unfold wL_seen_86
    rw [show nI b / 3 = nI (b / 3) from pk_div (d := 3) (by omega) (by omega) (by omega)]
    exact oc_seen_87 hc H
  · rw [show oc_bB v = 0 by unfold oc_bB; rw [if_pos (by omega)], oc_co_0] at H
    unfold wL_seen_86
    exact oc_seen_87 (b := 0) hc H
theorem oc_seen {post : Int32 → Prop} {v p : Nat} (hv : v < 48) (hp : p < 192) (H : post (nI (oc_sn v p))) : wpL_seen post () (nI v) (nI p) := by
  have e1 : nI v / 16 = nI (v / 16) := pk_div (d := 16) (by omega) (by omega) (by omega)
  have e2 : nI v / 4 = nI (v / 4) := pk_div (d := 4) (by omega) (by omega) (by omega)
  have e3 : nI (v / 4) - nI (v / 4) / 4 * 4 = nI (v / 4 % 4) := pk_rem (d := 4) (by omega) (by omega) (by omega)
  have e4 : nI v - nI v / 4 * 4 = nI (v % 4) := pk_rem (d := 4) (by omega) (by omega) (by omega)
  unfold wpL_seen
  rw [oc_r8 hp, oc_d48 hp, oc_d8 hp, oc_r6 (show p / 8 < 192 by omega), e4, e1, e2, e3]
  refine ⟨by decide, nm_e ⟨by decide, by decide, nm_e ⟨by decide, nm_e ⟨by decide, nm_e ⟨by decide, by decide, nm_e ⟨by decide, nm_e ?_⟩⟩⟩⟩⟩⟩
  unfold oc_sn at H
  refine pk_le (v / 16) 0 (fun h => ?_) (fun h => pk_eq (v / 16) 1 (fun h1 => ⟨by decide, ?_⟩) (fun h1 => ?_))
  · rw [show oc_bA v = 1 by unfold oc_bA; rw [show v / 16 = 0 by omega]; rfl, oc_co_1] at H
    exact oc_seen_56 (by omega) (by omega) H
  · rw [show oc_bA v = 2 by unfold oc_bA; rw [h1]; rfl, oc_co_p (b := 2) (by omega)] at H
    unfold wL_seen_55
    rw [show nI (p / 48) / 2 = nI (p / 48 / 2) from pk_div (d := 2) (by omega) (by omega) (by omega)]
    exact oc_seen_56 (by omega) (by omega) H
  · rw [show oc_bA v = 0 by unfold oc_bA; rw [if_pos (by omega)], oc_co_0] at H
    unfold wL_seen_55
    exact oc_seen_56 (a := 0) (by omega) (by omega) H
end
section
section
variable {post : St2 → Prop} {sz ck : Int32} {a1 a2 a3 a4 a5 a6 a7 a8 a9 : Nat → Int32}
theorem oc_e86 {h z : Int32} {m : Nat} (hm : m < 960)
    (H : post (sz, ck, a1, a2, a3, a4, a5, a6, a7, upd a8 m z, upd a9 m (if h ≤ a9 m then a9 m else h))) :
    wX_enter_86 post h (nI m) z (nI m) sz ck a1 a2 a3 a4 a5 a6 a7 a8 a9 := by
  have p := pk_in m 960 hm
  unfold wX_enter_86
  rw [nI_clamp (show m < 2 ^ 31 by omega)]
  refine ⟨p, nm_e ⟨p, br_c (fun g => ⟨p, p, nm_e ?_⟩) (fun g => ⟨p, nm_e ?_⟩)⟩⟩
  · rw [if_pos g] at H
    exact H
  · rw [if_neg g] at H
    exact H
theorem oc_e31 {k t l h z0 z1 : Int32} {m s : Nat} (hs : s < 5) (hm : m < 960)
    (H : post (sz, ck, a1, a2, a3, upd a4 s (z1 + z0), a5, upd a6 m (a6 m + k), upd a7 m (a7 m + t), upd a8 m (if a8 m ≤ l then a8 m else l), upd a9 m (if h ≤ a9 m then a9 m else h))) :
    wX_enter_31 post k t l h (nI m) z0 z1 (nI s) sz ck a1 a2 a3 a4 a5 a6 a7 a8 a9 := by
  have p := pk_in m 960 hm
  unfold wX_enter_31
  rw [nI_clamp (show m < 2 ^ 31 by omega), nI_clamp (show s < 2 ^ 31 by omega)]
  refine ⟨pk_in s 5 hs, nm_e ⟨p, p, nm_e ⟨p, p, nm_e ⟨p, br_c (fun g => ⟨p, ?_⟩) (fun g => ?_)⟩⟩⟩⟩
  · rw [if_pos g] at H
    exact oc_e86 hm H
  · rw [if_neg g] at H
    exact oc_e86 hm H
theorem oc_ix (s c : Nat) : 192 * nI s + nI c = nI (192 * s + c) := by
  show nI 192 * nI s + nI c = _
  rw [pk_mul, nI_add]
/-- enter: the slot's row has one more entry, the other slots keep theirs -/
theorem oc_enter {s c : Nat} {k t l h : Int32} {r : oc_Row} (hs : s < 5) (hc : c < 192) (hr : oc_R s r a4 a6 a7 a8 a9)
    (H : ∀ b4 b6 b7 b8 b9, oc_R s (oc_E r c k t l h) b4 b6 b7 b8 b9 → (∀ s' r', s' ≠ s → oc_R s' r' a4 a6 a7 a8 a9 → oc_R s' r' b4 b6 b7 b8 b9) → post (sz, ck, a1, a2, a3, b4, a5, b6, b7, b8, b9)) :
    wpX_enter post (sz, ck, a1, a2, a3, a4, a5, a6, a7, a8, a9) (nI s) (nI c) k t l h := by
  have h0 := H _ _ _ _ _ (oc_R_E hc hr k t l h) (fun s' r' n g => oc_R_o hc n g)
  unfold wpX_enter
  dsimp only
  refine nm_r (oc_ix s c) ?_
  rw [nI_clamp (show 192 * s + c < 2 ^ 31 by omega), nI_clamp (show s < 2 ^ 31 by omega)]
  refine ⟨pk_in s 5 hs, pk_in (192 * s + c) 960 (by omega), br_c (fun g => ?_) (fun g => ?_)⟩
  · rw [if_pos g] at h0
    exact oc_e31 hs (by omega) h0
  · rw [if_neg g] at h0
    exact oc_e31 hs (by omega) h0
/-- wipe: the slot's row is empty, the other slots keep theirs -/
theorem oc_wipe {s : Nat} (hs : s < 5)
    (H : ∀ b4 b6 b7 b8 b9, oc_R s oc_nil b4 b6 b7 b8 b9 → (∀ s' r', s' ≠ s → oc_R s' r' a4 a6 a7 a8 a9 → oc_R s' r' b4 b6 b7 b8 b9) → post (sz, ck, a1, a2, a3, b4, a5, b6, b7, b8, b9)) :
    wpX_wipe post (sz, ck, a1, a2, a3, a4, a5, a6, a7, a8, a9) (nI s) := by
  have e : 192 * nI s + 192 = nI (192 * s + 192) := oc_ix s 192
  have e0 : 192 * nI s = nI (192 * s) := pk_mul 192 s
  unfold wpX_wipe
  dsimp only
  rw [nI_clamp (show s < 2 ^ 31 by omega)]
  refine ⟨pk_in s 5 hs, nm_e (nm_r e0 ?_)⟩
  refine pk_loop (σ := (Nat → Int32) × (Nat → Int32) × (Nat → Int32) × (Nat → Int32)) (fun n i q => wX_wipe_13 post (nI s) sz ck n (nI (192 * s + i)) a1 a2 a3 (upd a4 s 0) a5 q.1 q.2.1 q.2.2.1 q.2.2.2)
    (fun i q => (∀ j, j < i → q.1 (192 * s + j) = 0 ∧ q.2.1 (192 * s + j) = 0 ∧ q.2.2.1 (192 * s + j) = 10000 ∧ q.2.2.2 (192 * s + j) = (-10000)) ∧
      (∀ m, m < 192 * s ∨ 192 * s + 192 ≤ m → q.1 m = a6 m ∧ q.2.1 m = a7 m ∧ q.2.2.1 m = a8 m ∧ q.2.2.2 m = a9 m)) 192 0 (a6, a7, a8, a9) (by omega) ⟨fun j hj => absurd hj (by omega), fun m _ => ⟨rfl, rfl, rfl, rfl⟩⟩ ?_ ?_
  · rintro n ⟨q6, q7, q8, q9⟩ ⟨h1, h2⟩
    refine pk_le (192 * s + 192) (192 * s + 192) (fun _ => ?_) (fun z => absurd z (by omega)) (hx := e)
    refine H _ _ _ _ _ ⟨pk_us, h1⟩ (fun s' r' n' g => ?_)
    obtain ⟨g4, gj⟩ := g
    refine ⟨by rw [pk_un n', g4], fun j hj => ?_⟩
    obtain ⟨k6, k7, k8, k9⟩ := h2 (192 * s' + j) (by omega)
    obtain ⟨g6, g7, g8, g9⟩ := gj j hj
    exact ⟨k6.trans g6, k7.trans g7, k8.trans g8, k9.trans g9⟩
  · rintro n i ⟨q6, q7, q8, q9⟩ hi ⟨h1, h2⟩ hw
    have p := pk_in (192 * s + i) 960 (by omega)
    refine pk_le (192 * s + 192) (192 * s + i) (fun z => absurd z (by omega)) (fun _ => ?_) (hx := e)
    dsimp only
    rw [nI_clamp (show 192 * s + i < 2 ^ 31 by omega)]
    refine ⟨p, nm_e ⟨p, nm_e ⟨p, nm_e ⟨p, nm_e (nm_r (nI_1 (192 * s + i)) (hw (upd q6 (192 * s + i) 0, upd q7 (192 * s + i) 0, upd q8 (192 * s + i) 10000, upd q9 (192 * s + i) (-10000)) ⟨fun j hj => ?_, fun m hm => ?_⟩))⟩⟩⟩⟩
    · dsimp only
      by_cases ej : j = i
      · subst ej
        exact ⟨pk_us, pk_us, pk_us, pk_us⟩
      · have nj : 192 * s + j ≠ 192 * s + i := by omega
        rw [pk_un nj, pk_un nj, pk_un nj, pk_un nj]
        exact h1 j (by omega)
    · dsimp only
      have nm : m ≠ 192 * s + i := by omega
      rw [pk_un nm, pk_un nm, pk_un nm, pk_un nm]
      exact h2 m hm
/-- slotView after the loop that gives the slots up -/
theorem oc_V_up {b : Nat → Int32} {i : Nat} (hi : 1 ≤ i) (h0 : b 0 = 0) (h : ∀ j, 0 < j → j < i → b j = -1) : upd b i (-1) 0 = 0 ∧ ∀ j, 0 < j → j < i + 1 → upd b i (-1) j = -1 := by
  refine ⟨by rw [pk_un (by omega)]; exact h0, fun j h1 h2 => ?_⟩
  by_cases e : j = i
  · rw [e, pk_us]
  · rw [pk_un e]
    exact h j h1 (by omega)
theorem oc_init {mc ms : Nat} (hc : 9 ≤ mc) (hm : 3935 ≤ ms)
    (H : ∀ b3 b4 b6 b7 b8 b9, oc_V b3 → oc_R 0 oc_nil b4 b6 b7 b8 b9 → post (0, 0, (fun _ => 0), (fun _ => 0), b3, b4, (fun _ => 0), b6, b7, b8, b9)) :
    wpX_init post mc ms (0, 0) := by
  unfold wpX_init
  dsimp only
  refine ⟨by omega, by omega, by omega, by omega, by omega, by omega, by omega, by omega, by omega, by omega, by omega, by omega, by omega, by omega, by omega, by omega, by omega, by omega, ?_⟩
  refine pk_loop (σ := Nat → Int32) (fun n i b => wX_init_79 post mc ms 9 3935 0 0 n (nI i) (fun _ => 0) (fun _ => 0) b (fun _ => 0) (fun _ => 0) (fun _ => 0) (fun _ => 0) (fun _ => 0) (fun _ => 0))
    (fun i b => 1 ≤ i ∧ b 0 = 0 ∧ ∀ j, 0 < j → j < i → b j = -1) 5 1 (fun _ => 0) (by omega) ⟨by omega, rfl, fun j h1 h2 => absurd h2 (by omega)⟩ ?_ ?_
  · rintro n b ⟨_, h0, h1⟩
    refine pk_le 5 5 (fun _ => ?_) (fun z => absurd z (by omega))
    exact oc_wipe (s := 0) (by omega) (fun b4 b6 b7 b8 b9 hr _ => H b b4 b6 b7 b8 b9 ⟨h0, h1⟩ hr)
  · rintro n i b hi ⟨h, h0, h1⟩ hw
    refine pk_le 5 i (fun z => absurd z (by omega)) (fun _ => ⟨pk_in i 5 hi, ?_⟩)
    rw [nI_clamp (show i < 2 ^ 31 by omega)]
    exact nm_e (nm_r (nI_1 i) (hw _ ⟨by omega, oc_V_up h h0 h1⟩))
/-- add, over the fresh views: slot 0 alone takes the entry -/
theorem oc_add {n p : Nat} {x : Int32} {r : oc_Row} (hn : n < 40) (hp : p < 192) (hv : oc_V a3) (hr : oc_R 0 r a4 a6 a7 a8 a9)
    (H : ∀ b4 b6 b7 b8 b9, oc_R 0 (oc_E r p 1 x x x) b4 b6 b7 b8 b9 → post (nI (n + 1), ck, upd a1 n (nI p), upd a2 n x, a3, b4, a5, b6, b7, b8, b9)) :
    wpX_add post (nI n, ck, a1, a2, a3, a4, a5, a6, a7, a8, a9) (nI p) x := by
  obtain ⟨v0, v1⟩ := hv
  unfold wpX_add
  dsimp only
  rw [nI_clamp (show n < 2 ^ 31 by omega)]
  refine ⟨pk_in n 40 hn, nm_e ⟨pk_in n 40 hn, nm_e (nm_r (nI_1 n) ?_)⟩⟩
  refine pk_loop (σ := (Nat → Int32) × (Nat → Int32) × (Nat → Int32) × (Nat → Int32) × (Nat → Int32)) (fun f i q => wX_add_32 post (nI p) x f (nI i) (nI (n + 1)) ck (upd a1 n (nI p)) (upd a2 n x) a3 q.1 a5 q.2.1 q.2.2.1 q.2.2.2.1 q.2.2.2.2)
    (fun i q => (i = 0 → oc_R 0 r q.1 q.2.1 q.2.2.1 q.2.2.2.1 q.2.2.2.2) ∧ (0 < i → oc_R 0 (oc_E r p 1 x x x) q.1 q.2.1 q.2.2.1 q.2.2.2.1 q.2.2.2.2)) 5 0 (a4, a6, a7, a8, a9) (by omega) ⟨fun _ => hr, fun z => absurd z (by omega)⟩ ?_ ?_
  · rintro f ⟨q4, q6, q7, q8, q9⟩ ⟨_, h1⟩
    exact pk_le 5 5 (fun _ => H _ _ _ _ _ (h1 (by omega))) (fun z => absurd z (by omega))
  · rintro f i ⟨q4, q6, q7, q8, q9⟩ hi ⟨h0, h1⟩ hw
    refine pk_le 5 i (fun z => absurd z (by omega)) (fun _ => ⟨pk_in i 5 hi, ?_⟩)
    rw [nI_clamp (show i < 2 ^ 31 by omega)]
    by_cases ei : i = 0
    · subst ei
      rw [v0]
      refine br_f (by decide) ⟨pk_in 0 5 hi, oc_seenAs (v := 0) (by omega) hp ?_⟩
      rw [oc_sn_0 hp]
      exact oc_enter (s := 0) (by omega) hp (h0 rfl) (fun b4 b6 b7 b8 b9 hb _ => nm_r (nI_1 0) (hw (b4, b6, b7, b8, b9) ⟨fun z => absurd z (by omega), fun _ => hb⟩))
    · exact br_t (v1 i (by omega) hi) (nm_r (nI_1 i) (hw (q4, q6, q7, q8, q9) ⟨fun z => absurd z (by omega), fun _ => h1 (by omega)⟩))
end
section
variable {post : Int32 → St2 → Prop} {sz ck : Int32} {a1 a2 a3 a4 a5 a6 a7 a8 a9 : Nat → Int32}
theorem oc_isCell {Q : Int32 → Prop} {p : Nat} (hp : p < 192) (H : Q 1) : wpX_isCell Q () (nI p) :=
  pk_lt p 0 (fun z => absurd z (by omega)) (fun _ => pk_le 192 p (fun z => absurd z (by omega)) (fun _ => H))
theorem oc_isM {Q : Int32 → Prop} {x : Int32} (hx : oc_ok x) (H : Q 1) : wpX_isMeasure Q () x :=
  br_f hx.1 (br_f hx.2 H)
theorem oc_noM {Q : Int32 → Prop} {x : Int32} (hx : ¬ oc_ok x) (H : Q 0) : wpX_isMeasure Q () x :=
  br_c (fun _ => H) (fun g => br_c (fun _ => H) (fun g' => absurd ⟨g, g'⟩ hx))
theorem oc_fits {Q : Int32 → Prop} {x : Int32} (hx : oc_ok x) (H : Q 1) : wpL_fits Q () x :=
  br_f hx.1 (br_f hx.2 H)
theorem oc_nofits {Q : Int32 → Prop} {x : Int32} (hx : ¬ oc_ok x) (H : Q 0) : wpL_fits Q () x :=
  br_c (fun _ => H) (fun g => br_c (fun _ => H) (fun g' => absurd ⟨g, g'⟩ hx))
theorem oc_put {n p : Nat} {x : Int32} {r : oc_Row} (hn : n < 40) (hp : p < 192) (hx : oc_ok x) (hv : oc_V a3) (hr : oc_R 0 r a4 a6 a7 a8 a9)
    (H : ∀ b4 b6 b7 b8 b9, oc_R 0 (oc_E r p 1 x x x) b4 b6 b7 b8 b9 → post (nI n) (nI (n + 1), ck, upd a1 n (nI p), upd a2 n x, a3, b4, a5, b6, b7, b8, b9)) :
    wpX_put post (nI n, ck, a1, a2, a3, a4, a5, a6, a7, a8, a9) (nI p) x := by
  unfold wpX_put
  dsimp only
  refine oc_isCell hp (br_f (by decide) (oc_isM hx (br_f (by decide) (pk_eq n 40 (fun z => absurd z (by omega)) (fun _ => oc_add hn hp hv hr (fun b4 b6 b7 b8 b9 hb => ?_))))))
  show post (nI (n + 1) - 1) _
  rw [nI_pred]
  exact H b4 b6 b7 b8 b9 hb
theorem oc_put_no {n p : Nat} {x : Int32} (hp : p < 192) (hx : ¬ oc_ok x) (H : post (-2) (nI n, ck, a1, a2, a3, a4, a5, a6, a7, a8, a9)) :
    wpX_put post (nI n, ck, a1, a2, a3, a4, a5, a6, a7, a8, a9) (nI p) x := by
  unfold wpX_put
  dsimp only
  exact oc_isCell hp (br_f (by decide) (oc_noM hx (br_t rfl H)))
end
end
section
/-- the row of n facts -/
def oc_rows (pl : Nat → Nat) (ms : Nat → Int32) : Nat → oc_Row
  | 0 => oc_nil
  | n + 1 => oc_E (oc_rows pl ms n) (pl n) 1 (ms n) (ms n) (ms n)
section
variable {post : St2 → Prop} {ck : Int32} {a1 a2 a3 a4 a5 a6 a7 a8 a9 : Nat → Int32}
theorem oc_anew27 {n : Nat} {pl : Nat → Nat} (hn : n ≤ 40) (hp : ∀ k, k < n → pl k < 192 ∧ a1 k = nI (pl k)) (hr : oc_R 0 oc_nil a4 a6 a7 a8 a9)
    (H : ∀ b4 b6 b7 b8 b9, oc_R 0 (oc_rows pl a2 n) b4 b6 b7 b8 b9 → post (nI n, ck, a1, a2, a3, b4, a5, b6, b7, b8, b9)) :
    ∃ f, wX_startAnew_27 post f 0 (nI n) ck a1 a2 a3 a4 a5 a6 a7 a8 a9 := by
  refine pk_loop (σ := (Nat → Int32) × (Nat → Int32) × (Nat → Int32) × (Nat → Int32) × (Nat → Int32)) (fun f i q => wX_startAnew_27 post f (nI i) (nI n) ck a1 a2 a3 q.1 a5 q.2.1 q.2.2.1 q.2.2.2.1 q.2.2.2.2)
    (fun i q => oc_R 0 (oc_rows pl a2 i) q.1 q.2.1 q.2.2.1 q.2.2.2.1 q.2.2.2.2) n 0 (a4, a6, a7, a8, a9) (by omega) hr ?_ ?_
  · rintro f ⟨q4, q6, q7, q8, q9⟩ h
    exact pk_le n n (fun _ => H _ _ _ _ _ h) (fun z => absurd z (by omega))
  · rintro f i ⟨q4, q6, q7, q8, q9⟩ hi h hw
    obtain ⟨p1, p2⟩ := hp i hi
    have p := pk_in i 40 (by omega)
    refine pk_le n i (fun z => absurd z (by omega)) (fun _ => ⟨p, p, p, p, ?_⟩)
    rw [nI_clamp (show i < 2 ^ 31 by omega), p2]
    exact oc_enter (s := 0) (by omega) p1 h (fun b4 b6 b7 b8 b9 hb _ => nm_r (nI_1 i) (hw (b4, b6, b7, b8, b9) hb))
theorem oc_anew {n : Nat} {pl : Nat → Nat} (hn : n ≤ 40) (hp : ∀ k, k < n → pl k < 192 ∧ a1 k = nI (pl k)) (h0 : a3 0 = 0)
    (H : ∀ b3 b4 b6 b7 b8 b9, oc_V b3 → oc_R 0 (oc_rows pl a2 n) b4 b6 b7 b8 b9 → post (nI n, ck, a1, a2, b3, b4, a5, b6, b7, b8, b9)) :
    wpX_startAnew post (nI n, ck, a1, a2, a3, a4, a5, a6, a7, a8, a9) := by
  unfold wpX_startAnew
  dsimp only
  refine pk_loop (σ := Nat → Int32) (fun f i b => wX_startAnew_2 post (nI n) ck f (nI i) a1 a2 b a4 a5 a6 a7 a8 a9)
    (fun i b => 1 ≤ i ∧ b 0 = 0 ∧ ∀ j, 0 < j → j < i → b j = -1) 5 1 a3 (by omega) ⟨by omega, h0, fun j h1 h2 => absurd h2 (by omega)⟩ ?_ ?_
  · rintro f b ⟨_, h0, h1⟩
    refine pk_le 5 5 (fun _ => ?_) (fun z => absurd z (by omega))
    exact oc_wipe (s := 0) (by omega) (fun b4 b6 b7 b8 b9 hr _ => oc_anew27 hn hp hr (fun c4 c6 c7 c8 c9 hc => H b c4 c6 c7 c8 c9 ⟨h0, h1⟩ hc))
  · rintro f i b hi ⟨h, h0, h1⟩ hw
    refine pk_le 5 i (fun z => absurd z (by omega)) (fun _ => ⟨pk_in i 5 hi, ?_⟩)
    rw [nI_clamp (show i < 2 ^ 31 by omega)]
    exact nm_e (nm_r (nI_1 i) (hw _ ⟨by omega, oc_V_up h h0 h1⟩))
end
section
variable {post : Int32 → St2 → Prop} {ck : Int32} {a1 a2 a3 a4 a5 a6 a7 a8 a9 : Nat → Int32}
theorem oc_isFact {Q : Int32 → Prop} {n k : Nat} (hn : n < 2 ^ 31) (hk : k < n) (H : Q 1) : wpX_isFact Q (nI n, ck, a1, a2, a3, a4, a5, a6, a7, a8, a9) (nI k) := by
  unfold wpX_isFact
  dsimp only
  exact pk_lt k 0 (fun z => absurd z (by omega)) (fun _ => pk_le n k (fun z => absurd z (by omega)) (fun _ => H))
theorem oc_noFact {Q : Int32 → Prop} {n : Nat} {x : Int32} (hn : n < 2 ^ 31) (hx : ∀ k, k < n → x ≠ nI k) (H : Q 0) : wpX_isFact Q (nI n, ck, a1, a2, a3, a4, a5, a6, a7, a8, a9) x := by
  unfold wpX_isFact
  dsimp only
  refine br_c (fun _ => H) (fun g => br_c (fun _ => H) (fun g' => ?_))
  obtain ⟨j, hj, rfl⟩ := nI_of g
  rw [nI_leI hn hj] at g'
  exact absurd rfl (hx j (by omega))
/-- measure of the only fact -/
theorem oc_meas {x y : Int32} (hx : oc_ok x) (h1 : a1 0 = nI 100) (h2 : a2 0 = y) (h3 : a3 0 = 0)
    (H : ∀ b2 b3 b4 b6 b7 b8 b9, oc_V b3 → oc_R 0 (oc_1 100 x) b4 b6 b7 b8 b9 → post y (nI 1, ck, a1, b2, b3, b4, a5, b6, b7, b8, b9)) :
    wpX_measure post (nI 1, ck, a1, a2, a3, a4, a5, a6, a7, a8, a9) 0 x := by
  unfold wpX_measure
  dsimp only
  refine oc_isFact (n := 1) (k := 0) (by omega) (by omega) (br_f (by decide) (oc_isM hx (br_f (by decide) ⟨pk_in 0 40 (by omega), nm_r (e' := y) h2 ⟨pk_in 0 40 (by omega), nm_r (e' := upd a2 0 x) rfl ?_⟩⟩)))
  refine oc_anew (n := 1) (pl := fun _ => 100) (by omega) (fun k hk => ⟨by decide, ?_⟩) h3 (fun b3 b4 b6 b7 b8 b9 hv hr => ?_)
  · rw [show k = 0 by omega]
    exact h1
  · refine H _ b3 b4 b6 b7 b8 b9 hv ?_
    have e : oc_rows (fun _ => 100) (upd a2 0 x) 1 = oc_1 100 x := by
      show oc_E oc_nil 100 1 (upd a2 0 x 0) (upd a2 0 x 0) (upd a2 0 x 0) = oc_E oc_nil 100 1 x x x
      rw [pk_us]
    rw [e] at hr
    exact hr
theorem oc_meas_noM {x : Int32} (hx : ¬ oc_ok x) (H : post (-2) (nI 1, ck, a1, a2, a3, a4, a5, a6, a7, a8, a9)) :
    wpX_measure post (nI 1, ck, a1, a2, a3, a4, a5, a6, a7, a8, a9) 0 x := by
  unfold wpX_measure
  dsimp only
  exact oc_isFact (n := 1) (k := 0) (by omega) (by omega) (br_f (by decide) (oc_noM hx (br_t rfl H)))
theorem oc_meas_noF {k x : Int32} (hk : ¬ k = 0) (H : post (-1) (nI 1, ck, a1, a2, a3, a4, a5, a6, a7, a8, a9)) :
    wpX_measure post (nI 1, ck, a1, a2, a3, a4, a5, a6, a7, a8, a9) k x := by
  unfold wpX_measure
  dsimp only
  refine oc_noFact (n := 1) (by omega) (fun j hj e => hk ?_) (br_t rfl H)
  rw [e, show j = 0 by omega]
  rfl
/-- the end of drop's loop -/
theorem oc_drop14 {f n : Nat} {pl : Nat → Nat} (hn : n < 40) (hp : ∀ k, k < n → pl k < 192 ∧ a1 k = nI (pl k)) (h3 : a3 0 = 0)
    (H : ∀ b3 b4 b6 b7 b8 b9, post (nI n) (nI n, ck, a1, a2, b3, b4, a5, b6, b7, b8, b9)) :
    wX_drop_14 post (nI (n + 1)) ck (f + 1) (nI (n + 1)) a1 a2 a3 a4 a5 a6 a7 a8 a9 := by
  refine pk_le (n + 1) (n + 1) (fun _ => nm_r (nI_pred n) ?_) (fun z => absurd z (by omega))
  exact oc_anew (by omega) hp h3 (fun b3 b4 b6 b7 b8 b9 _ _ => H b3 b4 b6 b7 b8 b9)
/-- the last fact is dropped -/
theorem oc_drop_last {n : Nat} {pl : Nat → Nat} (hn : n < 40) (hp : ∀ k, k < n → pl k < 192 ∧ a1 k = nI (pl k)) (h3 : a3 0 = 0)
    (H : ∀ b3 b4 b6 b7 b8 b9, post (nI n) (nI n, ck, a1, a2, b3, b4, a5, b6, b7, b8, b9)) :
    wpX_drop post (nI (n + 1), ck, a1, a2, a3, a4, a5, a6, a7, a8, a9) (nI n) := by
  unfold wpX_drop
  dsimp only
  exact oc_isFact (n := n + 1) (k := n) (by omega) (by omega) (br_f (by decide) (nm_r (nI_1 n) ⟨0 + 1, oc_drop14 hn hp h3 H⟩))
/-- the first one of two facts is dropped -/
theorem oc_drop_first {p : Nat} (hp : p < 192) (h1 : a1 1 = nI p) (h3 : a3 0 = 0)
    (H : ∀ b2 b3 b4 b6 b7 b8 b9, post (nI 1) (nI 1, ck, upd a1 0 (nI p), b2, b3, b4, a5, b6, b7, b8, b9)) :
    wpX_drop post (nI 2, ck, a1, a2, a3, a4, a5, a6, a7, a8, a9) (nI 0) := by
  unfold wpX_drop
  dsimp only
  refine oc_isFact (n := 2) (k := 0) (by omega) (by omega) (br_f (by decide) (nm_r (nI_1 0) ⟨1 + 1, ?_⟩))
  refine pk_le 2 1 (fun z => absurd z (by omega)) (fun _ => ⟨pk_in 1 40 (by omega), pk_in 0 40 (by omega), nm_r (e' := upd a1 0 (nI p)) ?_ ⟨pk_in 1 40 (by omega), pk_in 0 40 (by omega), nm_r (e' := upd a2 0 (a2 1)) rfl (nm_r (nI_1 1) ?_)⟩⟩)
  · rw [← h1]
    rfl
  · exact oc_drop14 (f := 0) (n := 1) (pl := fun _ => p) (by omega) (fun k hk => ⟨hp, by rw [show k = 0 by omega, pk_us]⟩) h3 (fun b3 b4 b6 b7 b8 b9 => H _ b3 b4 b6 b7 b8 b9)
theorem oc_drop_no {n : Nat} {x : Int32} (hn : n < 2 ^ 31) (hx : ∀ k, k < n → x ≠ nI k) (H : post (-1) (nI n, ck, a1, a2, a3, a4, a5, a6, a7, a8, a9)) :
    wpX_drop post (nI n, ck, a1, a2, a3, a4, a5, a6, a7, a8, a9) x := by
  unfold wpX_drop
  dsimp only
  exact oc_noFact hn hx (br_t rfl H)
theorem oc_isView {Q : Int32 → Prop} {v : Nat} (hv : v < 48) (H : Q 1) : wpX_isView Q () (nI v) :=
  pk_lt v 0 (fun z => absurd z (by omega)) (fun _ => pk_le 48 v (fun z => absurd z (by omega)) (fun _ => H))
theorem oc_noView {Q : Int32 → Prop} {x : Int32} (hx : ∀ v, v < 48 → x ≠ nI v) (H : Q 0) : wpX_isView Q () x := by
  unfold wpX_isView
  refine br_c (fun _ => H) (fun g => br_c (fun _ => H) (fun g' => ?_))
  obtain ⟨j, hj, rfl⟩ := nI_of g
  have g2 : ¬ nI 48 ≤ nI j := g'
  rw [nI_leI (by omega) hj] at g2
  exact absurd rfl (hx j (by omega))
/-- the cell of the first fact in the finest view -/
theorem oc_cellOf {Q : Int32 → Prop} {n p : Nat} (h0 : 0 < n) (hn : n < 2 ^ 31) (hp : p < 192) (h1 : a1 0 = nI p) (H : Q (nI p)) :
    wpX_cellOf Q (nI n, ck, a1, a2, a3, a4, a5, a6, a7, a8, a9) 0 0 := by
  unfold wpX_cellOf
  dsimp only
  refine oc_isView (v := 0) (by omega) (br_f (by decide) (oc_isFact (k := 0) hn h0 (br_f (by decide) ⟨pk_in 0 40 (by omega), ?_⟩)))
  rw [show (0 : Int32).toNatClampNeg = 0 from rfl, h1]
  refine oc_seenAs (v := 0) (by omega) hp ?_
  rw [oc_sn_0 hp]
  exact H
theorem oc_cellOf_no {Q : Int32 → Prop} (H : Q (-2)) : wpX_cellOf Q (nI 0, ck, a1, a2, a3, a4, a5, a6, a7, a8, a9) 0 0 := by
  unfold wpX_cellOf
  dsimp only
  exact oc_isView (v := 0) (by omega) (br_f (by decide) (oc_noFact (n := 0) (by omega) (fun k hk => absurd hk (by omega)) (br_t rfl H)))
end
end
section
section
variable {post : St2 → Prop} {sz ck : Int32} {a1 a2 a3 a4 a5 a6 a7 a8 a9 : Nat → Int32}
/-- workOut from slot 0 into slot 1 -/
theorem oc_workOut {v : Nat} {r : oc_Row} (hv : v < 48) (h3 : a3 0 = 0) (hr : oc_R 0 r a4 a6 a7 a8 a9)
    (H : ∀ b3 b4 b5 b6 b7 b8 b9, b3 0 = 0 → b3 1 = nI v → oc_R 1 (oc_W r v 192) b4 b6 b7 b8 b9 → post (sz, ck, a1, a2, b3, b4, b5, b6, b7, b8, b9)) :
    wpX_workOut post (sz, ck, a1, a2, a3, a4, a5, a6, a7, a8, a9) (nI v) 0 1 := by
  unfold wpX_workOut
  dsimp only
  refine oc_wipe (s := 1) (by omega) (fun c4 c6 c7 c8 c9 hw ho => ?_)
  have hr' := ho 0 r (by omega) hr
  show vp_in 1 5 ∧ _
  refine ⟨pk_in 1 5 (by omega), nm_r (e' := upd a3 1 (nI v)) rfl ⟨pk_in 1 5 (by omega), nm_r (e' := upd a5 1 ck) rfl ?_⟩⟩
  have u0 : upd a3 1 (nI v) 0 = 0 := by
    rw [pk_un (by omega)]
    exact h3
  refine pk_loop (σ := (Nat → Int32) × (Nat → Int32) × (Nat → Int32) × (Nat → Int32) × (Nat → Int32)) (fun f i q => wX_workOut_25 post (nI v) 0 1 f (nI i) sz ck a1 a2 (upd a3 1 (nI v)) q.1 (upd a5 1 ck) q.2.1 q.2.2.1 q.2.2.2.1 q.2.2.2.2)
    (fun i q => oc_R 0 r q.1 q.2.1 q.2.2.1 q.2.2.2.1 q.2.2.2.2 ∧ oc_R 1 (oc_W r v i) q.1 q.2.1 q.2.2.1 q.2.2.2.1 q.2.2.2.2) 192 0 (c4, c6, c7, c8, c9) (by omega) ⟨hr', hw⟩ ?_ ?_
  · rintro f ⟨q4, q6, q7, q8, q9⟩ ⟨_, h⟩
    exact pk_le 192 192 (fun _ => H _ _ _ _ _ _ _ u0 pk_us h) (fun z => absurd z (by omega))
  · rintro f i ⟨q4, q6, q7, q8, q9⟩ hi ⟨h, h'⟩ hf
    have p := pk_in (192 * 0 + i) 960 (by omega)
    obtain ⟨k6, k7, k8, k9⟩ := h.2 i hi
    refine pk_le 192 i (fun z => absurd z (by omega)) (fun _ => nm_r (oc_ix 0 i) ⟨p, ?_⟩)
    dsimp only
    dsimp only at k6 k7 k8 k9
    rw [nI_clamp (show 192 * 0 + i < 2 ^ 31 by omega), k6]
    refine br_c (fun g => nm_r (nI_1 i) (hf (q4, q6, q7, q8, q9) ⟨h, ?_⟩)) (fun g => ⟨pk_in 0 5 (by omega), ?_⟩)
    · rw [oc_W_s g]
      exact h'
    · rw [show (0 : Int32).toNatClampNeg = 0 from rfl, u0]
      refine oc_cellFrom hv hi ⟨p, p, p, p, ?_⟩
      rw [k7, k8, k9]
      refine oc_enter (s := 1) (by omega) (oc_sn_lt hi) h' (fun b4 b6 b7 b8 b9 hb ho' => nm_r (nI_1 i) (hf (b4, b6, b7, b8, b9) ⟨ho' 0 r (by omega) h, ?_⟩))
      rw [oc_W_e g]
      exact hb
end
section
variable {post : Int32 → St2 → Prop} {sz ck : Int32} {a1 a2 a3 a4 a5 a6 a7 a8 a9 : Nat → Int32}
/-- the search for the slot to work a view out into: slot 1, when no slot but the first holds a view -/
theorem oc_s130 {v : Nat} (hV : oc_V a3) (H : wpX_workOut (fun u => post 1 u) (sz, ck, a1, a2, a3, a4, a5, a6, a7, a8, a9) (nI v) 0 1) :
    ∃ f, wX_slotFor_130 post (nI v) 0 sz ck a1 a2 a3 a4 a5 a6 a7 a8 a9 f 1 1 := by
  refine pk_loop (σ := Unit) (fun f i _ => wX_slotFor_130 post (nI v) 0 sz ck a1 a2 a3 a4 a5 a6 a7 a8 a9 f 1 (nI i)) (fun i _ => 1 ≤ i) 5 1 () (by omega) (by omega) ?_ ?_
  · intro f _ _
    exact pk_le 5 5 (fun _ => H) (fun z => absurd z (by omega))
  · intro f i _ hi h1 hw
    refine pk_le 5 i (fun z => absurd z (by omega)) (fun _ => pk_eq i 0 (fun z => absurd z (by omega)) (fun _ => ⟨pk_in i 5 hi, ?_⟩))
    rw [nI_clamp (show i < 2 ^ 31 by omega)]
    refine br_t (hV.2 i (by omega) hi) ?_
    exact ⟨pk_in 1 5 (by omega), br_t (hV.2 1 (by omega) (by omega)) (nm_r (nI_1 i) (hw () (by omega)))⟩
/-- the search for the source: slot 0, when no slot but the first holds a view -/
theorem oc_s49 {v : Nat} (hV : oc_V a3) (H : wpX_workOut (fun u => post 1 u) (sz, ck, a1, a2, a3, a4, a5, a6, a7, a8, a9) (nI v) 0 1) :
    ∃ f, wX_slotFor_49 post (nI v) sz ck a1 a2 a3 a4 a5 a6 a7 a8 a9 f 0 1 := by
  refine pk_loop (σ := Unit) (fun f i _ => wX_slotFor_49 post (nI v) sz ck a1 a2 a3 a4 a5 a6 a7 a8 a9 f 0 (nI i)) (fun i _ => 1 ≤ i) 5 1 () (by omega) (by omega) ?_ ?_
  · intro f _ _
    exact pk_le 5 5 (fun _ => br_f (by decide) (oc_s130 hV H)) (fun z => absurd z (by omega))
  · intro f i _ hi h1 hw
    refine pk_le 5 i (fun z => absurd z (by omega)) (fun _ => ⟨pk_in i 5 hi, ?_⟩)
    rw [nI_clamp (show i < 2 ^ 31 by omega)]
    refine br_t (hV.2 i (by omega) hi) ?_
    exact br_t rfl (nm_r (nI_1 i) (hw () (by omega)))
/-- the search among the slots finds none -/
theorem oc_s12 {v : Nat} (hv : v < 48) (h0 : v ≠ 0) (hV : oc_V a3) (H : wpX_workOut (fun u => post 1 u) (sz, ck, a1, a2, a3, a4, a5, a6, a7, a8, a9) (nI v) 0 1) :
    ∃ f, wX_slotFor_12 post (nI v) sz ck a1 a2 a3 a4 a5 a6 a7 a8 a9 f 0 := by
  refine pk_loop (σ := Unit) (fun f i _ => wX_slotFor_12 post (nI v) sz ck a1 a2 a3 a4 a5 a6 a7 a8 a9 f (nI i)) (fun _ _ => True) 5 0 () (by omega) trivial ?_ ?_
  · intro f _ _
    exact pk_le 5 5 (fun _ => oc_s49 hV H) (fun z => absurd z (by omega))
  · intro f i _ hi _ hw
    refine pk_le 5 i (fun z => absurd z (by omega)) (fun _ => ⟨pk_in i 5 hi, ?_⟩)
    rw [nI_clamp (show i < 2 ^ 31 by omega)]
    refine br_f ?_ (nm_r (nI_1 i) (hw () trivial))
    by_cases e : i = 0
    · rw [e, hV.1, ← nI_0, nI_eq (by omega) (by omega)]
      omega
    · rw [hV.2 i (by omega) hi]
      intro z
      exact absurd (show nI v < 0 by rw [← z]; decide) (nI_pos (by omega))
/-- a view v stands in slot t, with the row r -/
def oc_T (v t : Nat) (r : oc_Row) (a3 a4 a6 a7 a8 a9 : Nat → Int32) : Prop :=
  a3 0 = 0 ∧ ((v = 0 ∧ t = 0) ∨ (v ≠ 0 ∧ t = 1 ∧ a3 1 = nI v)) ∧ oc_R t r a4 a6 a7 a8 a9
/-- slotFor, the view standing in a slot -/
theorem oc_slot2 {v t : Nat} {r : oc_Row} (hv : v < 48) (hT : oc_T v t r a3 a4 a6 a7 a8 a9)
    (H : ∀ b5, post (nI t) (sz, ck + 1, a1, a2, a3, a4, b5, a6, a7, a8, a9)) :
    wpX_slotFor post (sz, ck, a1, a2, a3, a4, a5, a6, a7, a8, a9) (nI v) := by
  obtain ⟨h0, hc, _⟩ := hT
  unfold wpX_slotFor
  dsimp only
  refine nm_e ?_
  rcases hc with ⟨rfl, rfl⟩ | ⟨hn, rfl, h1⟩
  · exact ⟨0 + 1, pk_le 5 0 (fun z => absurd z (by omega)) (fun _ => ⟨pk_in 0 5 (by omega), br_t h0 ⟨pk_in 0 5 (by omega), nm_e (H _)⟩⟩)⟩
  · refine ⟨0 + 1 + 1, pk_le 5 0 (fun z => absurd z (by omega)) (fun _ => ⟨pk_in 0 5 (by omega), br_f ?_ (nm_r (nI_1 0) ?_)⟩)⟩
    · show ¬ a3 0 = nI v
      rw [h0, ← nI_0, nI_eq (by omega) (by omega)]
      omega
    · exact pk_le 5 1 (fun z => absurd z (by omega)) (fun _ => ⟨pk_in 1 5 (by omega), br_t h1 ⟨pk_in 1 5 (by omega), nm_e (H _)⟩⟩)
/-- slotFor over the fresh views -/
theorem oc_slot1 {v : Nat} {r : oc_Row} (hv : v < 48) (hV : oc_V a3) (hr : oc_R 0 r a4 a6 a7 a8 a9)
    (H : ∀ t b3 b4 b5 b6 b7 b8 b9, oc_T v t (if v = 0 then r else oc_W r v 192) b3 b4 b6 b7 b8 b9 → post (nI t) (sz, ck + 1, a1, a2, b3, b4, b5, b6, b7, b8, b9)) :
    wpX_slotFor post (sz, ck, a1, a2, a3, a4, a5, a6, a7, a8, a9) (nI v) := by
  by_cases e : v = 0
  · rw [if_pos e] at H
    have hT : oc_T v 0 r a3 a4 a6 a7 a8 a9 := ⟨hV.1, Or.inl ⟨e, rfl⟩, hr⟩
    exact oc_slot2 hv hT (fun b5 => H 0 a3 a4 b5 a6 a7 a8 a9 hT)
  · rw [if_neg e] at H
    unfold wpX_slotFor
    dsimp only
    refine nm_e (oc_s12 hv e hV (oc_workOut hv hV.1 hr (fun b3 b4 b5 b6 b7 b8 b9 h0 h1 hb => ?_)))
    exact H 1 b3 b4 b5 b6 b7 b8 b9 ⟨h0, Or.inr ⟨e, rfl, h1⟩, hb⟩
theorem oc_T_t {v t : Nat} {r : oc_Row} (h : oc_T v t r a3 a4 a6 a7 a8 a9) : t < 5 := by
  rcases h.2.1 with ⟨_, rfl⟩ | ⟨_, rfl, _⟩ <;> omega
/-- sum, over the fresh views -/
theorem oc_sum {v c : Nat} {r : oc_Row} (hv : v < 48) (hc : c < 192) (hV : oc_V a3) (hr : oc_R 0 r a4 a6 a7 a8 a9)
    (H : ∀ t b3 b4 b5 b6 b7 b8 b9, oc_T v t (if v = 0 then r else oc_W r v 192) b3 b4 b6 b7 b8 b9 → post ((if v = 0 then r else oc_W r v 192).2.2.1 c) (sz, ck + 1, a1, a2, b3, b4, b5, b6, b7, b8, b9)) :
    wpX_sum post (sz, ck, a1, a2, a3, a4, a5, a6, a7, a8, a9) (nI v) (nI c) := by
  unfold wpX_sum
  dsimp only
  refine oc_isView hv (br_f (by decide) (oc_isCell hc (br_f (by decide) (oc_slot1 hv hV hr (fun t b3 b4 b5 b6 b7 b8 b9 hT => ?_)))))
  have ht := oc_T_t hT
  have h := H t b3 b4 b5 b6 b7 b8 b9 hT
  rw [← (hT.2.2.2 c hc).2.1] at h
  dsimp only
  rw [oc_ix, nI_clamp (show 192 * t + c < 2 ^ 31 by omega)]
  exact ⟨pk_in (192 * t + c) 960 (by omega), h⟩
/-- most, the view standing in a slot -/
theorem oc_most {v t c : Nat} {r : oc_Row} (hv : v < 48) (hc : c < 192) (hT : oc_T v t r a3 a4 a6 a7 a8 a9)
    (H : ∀ b5, post (r.2.2.2.2 c) (sz, ck + 1, a1, a2, a3, a4, b5, a6, a7, a8, a9)) :
    wpX_most post (sz, ck, a1, a2, a3, a4, a5, a6, a7, a8, a9) (nI v) (nI c) := by
  unfold wpX_most
  dsimp only
  refine oc_isView hv (br_f (by decide) (oc_isCell hc (br_f (by decide) (oc_slot2 hv hT (fun b5 => ?_)))))
  have ht := oc_T_t hT
  have h := H b5
  rw [← (hT.2.2.2 c hc).2.2.2] at h
  dsimp only
  rw [oc_ix, nI_clamp (show 192 * t + c < 2 ^ 31 by omega)]
  exact ⟨pk_in (192 * t + c) 960 (by omega), h⟩
/-- full, the view standing in a slot -/
theorem oc_full {v t : Nat} {r : oc_Row} (hv : v < 48) (hT : oc_T v t r a3 a4 a6 a7 a8 a9)
    (H : ∀ b5, post r.1 (sz, ck + 1, a1, a2, a3, a4, b5, a6, a7, a8, a9)) :
    wpX_full post (sz, ck, a1, a2, a3, a4, a5, a6, a7, a8, a9) (nI v) := by
  unfold wpX_full
  dsimp only
  refine oc_isView hv (br_f (by decide) (oc_slot2 hv hT (fun b5 => ?_)))
  have ht := oc_T_t hT
  have h := H b5
  rw [← hT.2.2.1] at h
  dsimp only
  rw [nI_clamp (show t < 2 ^ 31 by omega)]
  exact ⟨pk_in t 5 ht, h⟩
/-- no such view -/
theorem oc_sum_no {x y : Int32} (hx : ∀ v, v < 48 → x ≠ nI v) (H : post 0 (sz, ck, a1, a2, a3, a4, a5, a6, a7, a8, a9)) :
    wpX_sum post (sz, ck, a1, a2, a3, a4, a5, a6, a7, a8, a9) x y := by
  unfold wpX_sum
  dsimp only
  exact oc_noView hx (br_t rfl H)
theorem oc_most_no {x y : Int32} (hx : ∀ v, v < 48 → x ≠ nI v) (H : post (-10000) (sz, ck, a1, a2, a3, a4, a5, a6, a7, a8, a9)) :
    wpX_most post (sz, ck, a1, a2, a3, a4, a5, a6, a7, a8, a9) x y := by
  unfold wpX_most
  dsimp only
  exact oc_noView hx (br_t rfl H)
theorem oc_full_no {x : Int32} (hx : ∀ v, v < 48 → x ≠ nI v) (H : post (-1) (sz, ck, a1, a2, a3, a4, a5, a6, a7, a8, a9)) :
    wpX_full post (sz, ck, a1, a2, a3, a4, a5, a6, a7, a8, a9) x := by
  unfold wpX_full
  dsimp only
  exact oc_noView hx (br_t rfl H)
end
end
section
section
variable {post : Int32 → St0 → Prop} {mc ms kc ks : Nat} {ck : Int32} {a1 a2 a3 a4 a5 a6 a7 a8 a9 : Nat → Int32}
theorem oc_facts {Q : Int32 → Prop} {sz : Int32} (H : Q sz) : wpX_facts Q (sz, ck, a1, a2, a3, a4, a5, a6, a7, a8, a9) := H
/-- behind full: drop, facts and cellOf; one fact -/
theorem oc_L325_1 {x3 z : Int32} (hp : post 1 ()) (h1 : a1 0 = nI 100) (h3 : a3 0 = 0) :
    wL_lawOf_325 post mc ms x3 0 z z kc ks (nI 1) ck a1 a2 a3 a4 a5 a6 a7 a8 a9 := by
  unfold wL_lawOf_325
  refine br_t rfl ?_
  by_cases e : x3 = 0
  · subst e
    refine oc_drop_last (n := 0) (pl := fun _ => 0) (by omega) (fun k hk => absurd hk (by omega)) h3 (fun b3 b4 b6 b7 b8 b9 => ?_)
    exact br_t rfl (br_t rfl (br_f (by decide) (br_t (by decide) (oc_facts (oc_cellOf_no (br_f (by decide) (br_t rfl (br_f (by decide) (br_t (by decide) (br_f (by decide) (br_t rfl hp)))))))))))
  · refine oc_drop_no (n := 1) (by omega) (fun k hk z => e ?_) ?_
    · rw [z, show k = 0 by omega]
      rfl
    · have G : wL_lawOf_356 post mc ms x3 0 (-1) kc ks (nI 1) ck a1 a2 a3 a4 a5 a6 a7 a8 a9 :=
        br_t rfl (br_t rfl (br_t rfl (oc_facts (oc_cellOf (n := 1) (p := 100) (by omega) (by omega) (by omega) h1 (br_t rfl (br_t rfl (br_t rfl (br_t rfl (br_f e (br_t rfl hp))))))))))
      exact br_f e (br_c (fun _ => br_t rfl G) (fun _ => G))
/-- two facts -/
theorem oc_L325_2 {x3 z : Int32} (hp : post 1 ()) (h1 : a1 0 = nI 100) (h2 : a1 1 = nI 101) (h3 : a3 0 = 0) :
    wL_lawOf_325 post mc ms x3 1 z z kc ks (nI 2) ck a1 a2 a3 a4 a5 a6 a7 a8 a9 := by
  unfold wL_lawOf_325
  refine br_t rfl ?_
  by_cases e : x3 = 0
  · subst e
    refine oc_drop_first (p := 101) (by omega) h2 h3 (fun b2 b3 b4 b6 b7 b8 b9 => ?_)
    exact br_t rfl (br_f (by decide) (br_f (by decide) (br_t (by decide) (oc_facts (oc_cellOf (n := 1) (p := 101) (by omega) (by omega) (by omega) pk_us (br_f (by decide) (br_f (by decide) (br_f (by decide) (br_t (by decide) (br_t rfl (br_t rfl (br_t rfl hp))))))))))))
  · by_cases e1 : x3 = 1
    · subst e1
      refine oc_drop_last (n := 1) (pl := fun _ => 100) (by omega) (fun k hk => ⟨by omega, by rw [show k = 0 by omega]; exact h1⟩) h3 (fun b3 b4 b6 b7 b8 b9 => ?_)
      exact br_f e (br_t rfl (br_f (by decide) (br_f (by decide) (br_f (by decide) (br_t (by decide) (oc_facts (oc_cellOf (n := 1) (p := 100) (by omega) (by omega) (by omega) h1 (br_f (by decide) (br_f (by decide) (br_f (by decide) (br_t (by decide) (br_t rfl (br_f e (br_t rfl hp))))))))))))))
    · refine oc_drop_no (n := 2) (by omega) (fun k hk z => ?_) ?_
      · rcases (show k = 0 ∨ k = 1 by omega) with rfl | rfl
        · exact e z
        · exact e1 z
      · exact br_f e (br_f e1 (br_f (by decide) (br_t rfl (br_t rfl (oc_facts (oc_cellOf (n := 2) (p := 100) (by omega) (by omega) (by omega) h1 (br_t rfl (br_t rfl (br_t rfl (br_t rfl (br_f e (br_t rfl hp))))))))))))
/-- n facts, x10 says whether there are two -/
def oc_N (n : Nat) (x10 : Int32) (a1 : Nat → Int32) : Prop := a1 0 = nI 100 ∧ ((n = 1 ∧ x10 = 0) ∨ (n = 2 ∧ x10 = 1 ∧ a1 1 = nI 101))
theorem oc_L325 {n : Nat} {x3 x10 z z' : Int32} (hp : post 1 ()) (hN : oc_N n x10 a1) (h3 : a3 0 = 0) (hz : z' = z) :
    wL_lawOf_325 post mc ms x3 x10 z z' kc ks (nI n) ck a1 a2 a3 a4 a5 a6 a7 a8 a9 := by
  subst hz
  obtain ⟨h1, ⟨rfl, rfl⟩ | ⟨rfl, rfl, h2⟩⟩ := hN
  · exact oc_L325_1 hp h1 h3
  · exact oc_L325_2 hp h1 h2 h3
/-- no such view -/
theorem oc_Lbad {n : Nat} {x1 x2 x3 x8 x10 : Int32} (hp : post 1 ()) (hN : oc_N n x10 a1) (h3 : a3 0 = 0) (hx : ∀ v, v < 48 → x2 ≠ nI v) :
    wL_lawOf_191 post mc ms x1 x2 x3 x8 x10 0 0 0 kc ks (nI n) ck a1 a2 a3 a4 a5 a6 a7 a8 a9 := by
  unfold wL_lawOf_191
  refine oc_sum_no hx (br_t rfl ?_)
  unfold wL_lawOf_232
  refine br_t rfl (oc_most_no hx ?_)
  have G : ∀ z, wL_lawOf_269 post mc ms x2 x3 x10 0 0 (-10000) z kc ks (nI n) ck a1 a2 a3 a4 a5 a6 a7 a8 a9 := by
    intro z
    unfold wL_lawOf_269
    refine br_t rfl ?_
    unfold wL_lawOf_286
    exact br_t rfl (oc_full_no hx (br_t rfl (oc_L325 hp hN h3 rfl)))
  exact br_c (fun _ => G x8) (fun _ => br_c (fun _ => G x8) (fun _ => br_c (fun _ => G x8) (fun _ => G x1)))
theorem oc_a0 (x : Int32) : x + 0 = x := by
  rw [Int32.add_zero]
/-- one fact, a view -/
theorem oc_Lg1 {v : Nat} {x1 x3 x8 x12 : Int32} (hp : post 1 ()) (hN : oc_N 1 0 a1) (hv : v < 48) (hx : oc_ok x8) (hV : oc_V a3) (hr : oc_R 0 (oc_1 100 x8) a4 a6 a7 a8 a9) :
    wL_lawOf_191 post mc ms x1 (nI v) x3 x8 0 1 x12 (nI (oc_sn v 100)) kc ks (nI 1) ck a1 a2 a3 a4 a5 a6 a7 a8 a9 := by
  have hc : oc_sn v 100 < 192 := oc_sn_lt (by omega)
  have hR : (if v = 0 then oc_1 100 x8 else oc_W (oc_1 100 x8) v 192) = oc_1 (oc_sn v 100) x8 := by
    by_cases e : v = 0
    · rw [if_pos e, e, oc_sn_0 (by omega)]
    · rw [if_neg e, oc_W_1 hx]
  obtain ⟨p1, _, p3, _, p5⟩ := oc_1_at (c := oc_sn v 100) hx
  unfold wL_lawOf_191
  refine oc_sum hv hc hV hr (fun t b3 b4 b5 b6 b7 b8 b9 hT => ?_)
  rw [hR] at hT ⊢
  rw [p3]
  refine br_f (by decide) (br_t rfl (br_t (oc_a0 x8).symm (oc_most hv hc hT (fun c5 => ?_))))
  rw [p5]
  refine br_t rfl (br_f (by decide) (br_t rfl (oc_full hv hT (fun d5 => ?_))))
  rw [p1]
  exact br_f (by decide) (br_t rfl (oc_L325 hp hN hT.1 rfl))
/-- two facts, a view -/
theorem oc_Lg2 {v : Nat} {x1 x3 x8 : Int32} (hp : post 1 ()) (hN : oc_N 2 1 a1) (hv : v < 48) (hx : oc_ok x8) (hy : oc_ok x1) (hV : oc_V a3) (hr : oc_R 0 (oc_2 100 101 x8 x1) a4 a6 a7 a8 a9) :
    (oc_sn v 100 = oc_sn v 101 → wL_lawOf_191 post mc ms x1 (nI v) x3 x8 1 1 1 (nI (oc_sn v 100)) kc ks (nI 2) ck a1 a2 a3 a4 a5 a6 a7 a8 a9) ∧
    (¬ oc_sn v 100 = oc_sn v 101 → wL_lawOf_191 post mc ms x1 (nI v) x3 x8 1 1 0 (nI (oc_sn v 100)) kc ks (nI 2) ck a1 a2 a3 a4 a5 a6 a7 a8 a9) := by
  have hc : oc_sn v 100 < 192 := oc_sn_lt (by omega)
  have hR : (if v = 0 then oc_2 100 101 x8 x1 else oc_W (oc_2 100 101 x8 x1) v 192) = oc_2 (oc_sn v 100) (oc_sn v 101) x8 x1 := by
    by_cases e : v = 0
    · rw [if_pos e, e, oc_sn_0 (by omega), oc_sn_0 (by omega)]
    · rw [if_neg e, oc_W_2 hx hy]
  refine ⟨fun e => ?_, fun e => ?_⟩
  · obtain ⟨p1, p3, p5⟩ := oc_2_s (c := oc_sn v 100) (y := x1) hx
    rw [← e] at hR
    unfold wL_lawOf_191
    refine oc_sum hv hc hV hr (fun t b3 b4 b5 b6 b7 b8 b9 hT => ?_)
    rw [hR] at hT ⊢
    rw [p3]
    refine br_f (by decide) (br_f (by decide) (br_f (by decide) (br_t rfl (oc_most hv hc hT (fun c5 => ?_)))))
    rw [p5]
    have G : ∀ z ck' c5, wL_lawOf_286 post mc ms (nI v) x3 1 1 1 z z kc ks (nI 2) ck' a1 a2 b3 b4 c5 b6 b7 b8 b9 := by
      intro z ck' c5
      unfold wL_lawOf_286
      refine br_t rfl (oc_full hv hT (fun d5 => ?_))
      rw [p1]
      exact br_f (by decide) (br_f (by decide) (br_f (by decide) (oc_L325 hp hN hT.1 rfl)))
    refine br_f (by decide) (br_f (by decide) (br_c (fun g => ?_) (fun g => ?_)))
    · rw [if_pos g]
      exact br_f (by decide) (G x8 _ c5)
    · rw [if_neg g]
      exact br_f (by decide) (G x1 _ c5)
  · obtain ⟨p1, ⟨_, p3, _, p5⟩, _⟩ := oc_2_n hx hy e
    unfold wL_lawOf_191
    refine oc_sum hv hc hV hr (fun t b3 b4 b5 b6 b7 b8 b9 hT => ?_)
    rw [hR] at hT ⊢
    rw [p3]
    refine br_f (by decide) (br_f (by decide) (br_t rfl (br_t (oc_a0 x8).symm (oc_most hv hc hT (fun c5 => ?_)))))
    rw [p5]
    refine br_f (by decide) (br_t rfl (br_f (by decide) (br_t rfl (oc_full hv hT (fun d5 => ?_)))))
    rw [p1]
    exact br_f (by decide) (br_f (by decide) (br_t rfl (oc_L325 hp hN hT.1 rfl)))
/-- what slot 0 holds -/
def oc_S (n : Nat) (x8 x1 : Int32) (a4 a6 a7 a8 a9 : Nat → Int32) : Prop :=
  oc_ok x8 ∧ ((n = 1 ∧ oc_R 0 (oc_1 100 x8) a4 a6 a7 a8 a9) ∨ (n = 2 ∧ oc_ok x1 ∧ oc_R 0 (oc_2 100 101 x8 x1) a4 a6 a7 a8 a9))
theorem oc_Lgood {n v : Nat} {x1 x3 x8 x10 : Int32} (hp : post 1 ()) (hN : oc_N n x10 a1) (hv : v < 48) (hV : oc_V a3) (hS : oc_S n x8 x1 a4 a6 a7 a8 a9) :
    (oc_sn v 100 = oc_sn v 101 → wL_lawOf_191 post mc ms x1 (nI v) x3 x8 x10 1 1 (nI (oc_sn v 100)) kc ks (nI n) ck a1 a2 a3 a4 a5 a6 a7 a8 a9) ∧
    (¬ oc_sn v 100 = oc_sn v 101 → wL_lawOf_191 post mc ms x1 (nI v) x3 x8 x10 1 0 (nI (oc_sn v 100)) kc ks (nI n) ck a1 a2 a3 a4 a5 a6 a7 a8 a9) := by
  obtain ⟨hx, hS⟩ := hS
  have hN' := hN
  obtain ⟨_, ⟨rfl, rfl⟩ | ⟨rfl, rfl, _⟩⟩ := hN'
  · rcases hS with ⟨_, hr⟩ | ⟨z, _⟩
    · exact ⟨fun _ => oc_Lg1 hp hN hv hx hV hr, fun _ => oc_Lg1 hp hN hv hx hV hr⟩
    · exact absurd z (by omega)
  · rcases hS with ⟨z, _⟩ | ⟨_, hy, hr⟩
    · exact absurd z (by omega)
    · exact oc_Lg2 hp hN hv hx hy hV hr
/-- behind the two puts -/
theorem oc_L130 {n : Nat} {x1 x2 x3 x8 x10 : Int32} (hp : post 1 ()) (hN : oc_N n x10 a1) (hV : oc_V a3) (hS : oc_S n x8 x1 a4 a6 a7 a8 a9) :
    wL_lawOf_130 post mc ms x1 x2 x3 x8 x10 kc ks (nI n) ck a1 a2 a3 a4 a5 a6 a7 a8 a9 := by
  unfold wL_lawOf_130
  by_cases hx : ∃ v, v < 48 ∧ x2 = nI v
  · obtain ⟨v, hv, rfl⟩ := hx
    refine pk_lt v 0 (fun z => absurd z (by omega)) (fun _ => pk_lt 47 v (fun z => absurd z (by omega)) (fun _ => ?_))
    obtain ⟨g1, g0⟩ := oc_Lgood (mc := mc) (ms := ms) (kc := kc) (ks := ks) (ck := ck) (a2 := a2) (a5 := a5) (x3 := x3) hp hN hv hV hS
    have h1 : oc_sn v 100 < 192 := oc_sn_lt (by omega)
    have h2 : oc_sn v 101 < 192 := oc_sn_lt (by omega)
    unfold wL_lawOf_147
    refine br_f (by decide) (oc_seen (p := 100) hv (by omega) (oc_seen (p := 101) hv (by omega) (pk_eq (oc_sn v 100) (oc_sn v 101) (fun e => ?_) (fun e => ?_))))
    · unfold wL_lawOf_174
      exact br_f (by decide) (oc_seen (p := 100) hv (by omega) (g1 e))
    · unfold wL_lawOf_173 wL_lawOf_174
      exact br_f (by decide) (oc_seen (p := 100) hv (by omega) (g0 e))
  · have hx' : ∀ v, v < 48 → x2 ≠ nI v := fun v hv e => hx ⟨v, hv, e⟩
    have G : wL_lawOf_146 post mc ms x1 x2 x3 x8 x10 kc ks (nI n) ck a1 a2 a3 a4 a5 a6 a7 a8 a9 :=
      br_t rfl (br_t rfl (oc_Lbad hp hN hV.1 hx'))
    refine br_c (fun _ => G) (fun g => br_c (fun _ => G) (fun g' => ?_))
    obtain ⟨j, hj, e⟩ := nI_of g
    have g2 : ¬ nI 47 < nI j := by
      rw [← e]
      exact g'
    rw [nI_ltI (by omega) hj] at g2
    exact absurd e (hx' j (by omega))
/-- behind measure -/
theorem oc_L87 {x1 x2 x3 x8 : Int32} (hp : post 1 ()) (h1 : a1 0 = nI 100) (hV : oc_V a3) (hx : oc_ok x8) (hr : oc_R 0 (oc_1 100 x8) a4 a6 a7 a8 a9) :
    wL_lawOf_87 post mc ms x1 x2 x3 x8 kc ks (nI 1) ck a1 a2 a3 a4 a5 a6 a7 a8 a9 := by
  unfold wL_lawOf_87
  by_cases hy : oc_ok x1
  · refine oc_put (n := 1) (p := 101) (by omega) (by omega) hy hV hr (fun b4 b6 b7 b8 b9 hb => oc_fits hy (br_f (by decide) (br_t rfl (br_t rfl ?_))))
    exact oc_L130 (n := 2) hp ⟨by rw [pk_un (by omega)]; exact h1, Or.inr ⟨rfl, rfl, pk_us⟩⟩ hV ⟨hx, Or.inr ⟨rfl, hy, hb⟩⟩
  · refine oc_put_no (p := 101) (by omega) hy (oc_nofits hy (br_t rfl (br_t rfl (br_f (by decide) ?_))))
    exact oc_L130 (n := 1) hp ⟨h1, Or.inl ⟨rfl, rfl⟩⟩ hV ⟨hx, Or.inl ⟨rfl, hr⟩⟩
theorem oc_ok5 : oc_ok 5 := ⟨by decide, by decide⟩
theorem oc_lawOf {p0 p1 p2 p3 : Int32} (hp : post 1 ()) : wpL_lawOf post 20 5000 () p0 p1 p2 p3 := by
  unfold wpL_lawOf
  refine ⟨by omega, by omega, 9, 3935, by omega, by omega, oc_init (by omega) (by omega) (fun b3 b4 b6 b7 b8 b9 hV hr => ?_)⟩
  refine oc_put (n := 0) (p := 100) (by omega) (by omega) oc_ok5 hV hr (fun c4 c6 c7 c8 c9 hr1 => ?_)
  have hr1' : oc_R 0 (oc_1 100 5) c4 c6 c7 c8 c9 := hr1
  by_cases e : p3 = 0
  · subst e
    by_cases hx : oc_ok p0
    · refine oc_meas (y := 5) hx pk_us pk_us hV.1 (fun d2 d3 d4 d6 d7 d8 d9 hV' hr' => ?_)
      exact br_t rfl (oc_fits hx (br_f (by decide) (br_t rfl (br_t rfl (br_f (by decide) (br_t rfl (br_f (by decide) (oc_L87 hp pk_us hV' hx hr'))))))))
    · refine oc_meas_noM hx ?_
      exact br_t rfl (oc_nofits hx (br_t rfl (br_t rfl (br_t rfl (br_t rfl (br_t rfl (br_t rfl (oc_L87 hp pk_us hV oc_ok5 hr1'))))))))
  · refine oc_meas_noF e ?_
    exact br_f e (br_t rfl (br_f e (br_t rfl (br_t rfl (oc_L87 hp pk_us hV oc_ok5 hr1')))))
end
theorem oc_cellAt {post : Int32 → Prop} {L : Nat} {xs : Nat → Int32} (k : Nat) (hk : k < 4) (hL : L ≤ 4) (H : ∀ x, post x) : wpL_cellAt post L xs () (nI k) :=
  pk_le L k (fun _ => H _) (fun h => ⟨pk_in k L h, H _⟩)
theorem i_vc (xs : Nat → Int32) (L : Nat) (hL : L ≤ 4) : wpL_law (fun r => r = 1) L xs := by
  unfold wpL_law
  exact oc_cellAt 0 (by omega) hL (fun r1 => oc_cellAt 1 (by omega) hL (fun r2 => oc_cellAt 2 (by omega) hL (fun r3 => oc_cellAt 3 (by omega) hL (fun r4 => ⟨20, 5000, by omega, by omega, oc_lawOf rfl⟩))))
end
