section
/-! Int32 by toInt -/
theorem td_add {x y : Int32} (h1 : -2147483648 ≤ x.toInt + y.toInt) (h2 : x.toInt + y.toInt < 2147483648) : (x + y).toInt = x.toInt + y.toInt := by
  rw [Int32.toInt_add]
  exact Int.bmod_eq_of_le (by omega) (by omega)
theorem td_sub {x y : Int32} (h1 : -2147483648 ≤ x.toInt - y.toInt) (h2 : x.toInt - y.toInt < 2147483648) : (x - y).toInt = x.toInt - y.toInt := by
  rw [Int32.toInt_sub]
  exact Int.bmod_eq_of_le (by omega) (by omega)
theorem td_mul {x y : Int32} (h1 : -2147483648 ≤ x.toInt * y.toInt) (h2 : x.toInt * y.toInt < 2147483648) : (x * y).toInt = x.toInt * y.toInt := by
  rw [Int32.toInt_mul]
  exact Int.bmod_eq_of_le (by omega) (by omega)
theorem td_i8 {x : Int32} (h1 : -128 ≤ x.toInt) (h2 : x.toInt < 128) : x.toInt8.toInt32 = x := by
  apply Int32.toInt.inj
  rw [Int8.toInt_toInt32, Int32.toInt_toInt8]
  exact Int.bmod_eq_of_le (by omega) (by omega)
theorem td_le {x y : Int32} : x ≤ y ↔ x.toInt ≤ y.toInt := Int32.le_iff_toInt_le
theorem td_lt {x y : Int32} : x < y ↔ x.toInt < y.toInt := Int32.lt_iff_toInt_lt
theorem td_inc {x : Int32} (h1 : 0 ≤ x.toInt) (h2 : x.toInt ≤ 100) : ((x + 1).toInt8.toInt32).toInt = x.toInt + 1 := by
  have e : (x + 1).toInt = x.toInt + 1 := td_add (y := 1) (by show -2147483648 ≤ x.toInt + 1; omega) (by show x.toInt + 1 < 2147483648; omega)
  rw [td_i8 (by omega) (by omega), e]
/-! the tours of four cities: 1 leaves 01 and 23 out, 2 leaves 02 and 13 out, 3 leaves 03 and 12 out -/
def td_ok (v : Int32) : Prop := v = 0 ∨ v = 1
def td_al1 (N : Nat → Int32) : Prop := N 1 ≠ 1 ∧ N 17 ≠ 1 ∧ td_ok (N 2) ∧ td_ok (N 3) ∧ td_ok (N 9) ∧ td_ok (N 10)
def td_al2 (N : Nat → Int32) : Prop := N 2 ≠ 1 ∧ N 10 ≠ 1 ∧ td_ok (N 1) ∧ td_ok (N 3) ∧ td_ok (N 9) ∧ td_ok (N 17)
def td_al3 (N : Nat → Int32) : Prop := N 3 ≠ 1 ∧ N 9 ≠ 1 ∧ td_ok (N 1) ∧ td_ok (N 2) ∧ td_ok (N 10) ∧ td_ok (N 17)
def td_no (N : Nat → Int32) : Prop := ¬ td_al1 N ∧ ¬ td_al2 N ∧ ¬ td_al3 N
def td_c1 (a1 : Nat → Int32) : Int := (a1 2).toInt + (a1 3).toInt + (a1 9).toInt + (a1 10).toInt
def td_c2 (a1 : Nat → Int32) : Int := (a1 1).toInt + (a1 3).toInt + (a1 9).toInt + (a1 17).toInt
def td_c3 (a1 : Nat → Int32) : Int := (a1 1).toInt + (a1 2).toInt + (a1 10).toInt + (a1 17).toInt
/-- m is the least of l and the costs of the tours that N allows -/
def td_R (a1 N : Nat → Int32) (l m : Int) : Prop := m ≤ l ∧ (td_al1 N → m ≤ td_c1 a1) ∧ (td_al2 N → m ≤ td_c2 a1) ∧ (td_al3 N → m ≤ td_c3 a1) ∧ (m = l ∨ (td_al1 N ∧ m = td_c1 a1) ∨ (td_al2 N ∧ m = td_c2 a1) ∨ (td_al3 N ∧ m = td_c3 a1))
/-- the same both ways -/
def td_S (N : Nat → Int32) : Prop := N 7 = N 1 ∧ N 14 = N 2 ∧ N 21 = N 3 ∧ N 15 = N 9 ∧ N 22 = N 10 ∧ N 23 = N 17
/-- lengths in bounds -/
def td_L (a1 : Nat → Int32) : Prop := (0 ≤ (a1 1).toInt ∧ (a1 1).toInt ≤ 99) ∧ (0 ≤ (a1 2).toInt ∧ (a1 2).toInt ≤ 99) ∧ (0 ≤ (a1 3).toInt ∧ (a1 3).toInt ≤ 99) ∧ (0 ≤ (a1 9).toInt ∧ (a1 9).toInt ≤ 99) ∧ (0 ≤ (a1 10).toInt ∧ (a1 10).toInt ≤ 99) ∧ (0 ≤ (a1 17).toInt ∧ (a1 17).toInt ≤ 99)
/-- penalties in bounds -/
def td_P (k : Int) (a4 : Nat → Int32) : Prop := (-k ≤ (a4 0).toInt ∧ (a4 0).toInt ≤ k) ∧ (-k ≤ (a4 1).toInt ∧ (a4 1).toInt ≤ k) ∧ (-k ≤ (a4 2).toInt ∧ (a4 2).toInt ≤ k) ∧ (-k ≤ (a4 3).toInt ∧ (a4 3).toInt ≤ k)
def td_w (a1 a4 : Nat → Int32) (i a b : Nat) : Int := (a1 i).toInt + (a4 a).toInt + (a4 b).toInt
def td_b (c : Bool) : Int := if c then 1 else 0
def td_v (c : Bool) (w : Int) : Int := if c then w else 0
def td_i (c : Bool) : Int32 := if c then 1 else 0
theorem td_b_in (c : Bool) : 0 ≤ td_b c ∧ td_b c ≤ 1 := by cases c <;> decide
theorem td_v_in {c : Bool} {w : Int} (h : -3300 ≤ w ∧ w ≤ 3300) : -3300 ≤ td_v c w ∧ td_v c w ≤ 3300 := by
  cases c
  · show (-3300 : Int) ≤ 0 ∧ (0 : Int) ≤ 3300
    omega
  · exact h
theorem td_b_f : td_b false = 0 := rfl
theorem td_b_t : td_b true = 1 := rfl
theorem td_v_f (w : Int) : td_v false w = 0 := rfl
theorem td_v_t (w : Int) : td_v true w = w := rfl
theorem td_w_in {a1 a4 : Nat → Int32} {i a b : Nat} (h1 : 0 ≤ (a1 i).toInt ∧ (a1 i).toInt ≤ 99) (h2 : -1600 ≤ (a4 a).toInt ∧ (a4 a).toInt ≤ 1600) (h3 : -1600 ≤ (a4 b).toInt ∧ (a4 b).toInt ≤ 1600) :
    (a1 i + a4 a + a4 b).toInt = td_w a1 a4 i a b ∧ -3300 ≤ td_w a1 a4 i a b ∧ td_w a1 a4 i a b ≤ 3300 := by
  have e1 : (a1 i + a4 a).toInt = (a1 i).toInt + (a4 a).toInt := td_add (by omega) (by omega)
  have e2 : (a1 i + a4 a + a4 b).toInt = (a1 i + a4 a).toInt + (a4 b).toInt := td_add (by omega) (by omega)
  unfold td_w
  omega
/-- the links taken, as degrees and flags -/
def td_C (c0 c1 c2 c3 c4 c5 : Bool) (a6 a7 : Nat → Int32) : Prop :=
  ((a6 0).toInt = td_b c0 + td_b c1 + td_b c2 ∧ (a6 1).toInt = td_b c0 + td_b c3 + td_b c4 ∧ (a6 2).toInt = td_b c1 + td_b c3 + td_b c5 ∧ (a6 3).toInt = td_b c2 + td_b c4 + td_b c5) ∧
  (a7 1 = td_i c0 ∧ a7 7 = td_i c0 ∧ a7 2 = td_i c1 ∧ a7 14 = td_i c1 ∧ a7 3 = td_i c2 ∧ a7 21 = td_i c2 ∧ a7 9 = td_i c3 ∧ a7 15 = td_i c3 ∧ a7 10 = td_i c4 ∧ a7 22 = td_i c4 ∧ a7 17 = td_i c5 ∧ a7 23 = td_i c5) ∧
  (a7 8 = 0 ∧ a7 16 = 0 ∧ a7 24 = 0)
/-- the groups of the cities 1, 2, 3 -/
def td_G (c3 c4 c5 : Bool) (a5 : Nat → Int32) : Prop :=
  ((a5 1).toInt8.toInt32 = a5 1 ∧ (a5 2).toInt8.toInt32 = a5 2 ∧ (a5 3).toInt8.toInt32 = a5 3) ∧
  (a5 1 = a5 2 ↔ (c3 = true ∨ (c4 = true ∧ c5 = true))) ∧ (a5 1 = a5 3 ↔ (c4 = true ∨ (c3 = true ∧ c5 = true))) ∧ (a5 2 = a5 3 ↔ (c5 = true ∨ (c3 = true ∧ c4 = true)))
def td_sum (a1 a4 : Nat → Int32) (c0 c1 c2 c3 c4 c5 : Bool) : Int :=
  td_v c0 (td_w a1 a4 1 0 1) + td_v c1 (td_w a1 a4 2 0 2) + td_v c2 (td_w a1 a4 3 0 3) + td_v c3 (td_w a1 a4 9 1 2) + td_v c4 (td_w a1 a4 10 1 3) + td_v c5 (td_w a1 a4 17 2 3)
def td_B (a1 a4 : Nat → Int32) (c0 c1 c2 c3 c4 c5 : Bool) (tc : Int32) (a5 a6 a7 : Nat → Int32) : Prop :=
  tc.toInt = td_sum a1 a4 c0 c1 c2 c3 c4 c5 ∧ td_C c0 c1 c2 c3 c4 c5 a6 a7 ∧ td_G c3 c4 c5 a5
theorem td_ws {a1 a4 : Nat → Int32} (hL : td_L a1) (hP : td_P 1600 a4) :
    ((a1 1 + a4 0 + a4 1).toInt = td_w a1 a4 1 0 1 ∧ -3300 ≤ td_w a1 a4 1 0 1 ∧ td_w a1 a4 1 0 1 ≤ 3300) ∧
    ((a1 2 + a4 0 + a4 2).toInt = td_w a1 a4 2 0 2 ∧ -3300 ≤ td_w a1 a4 2 0 2 ∧ td_w a1 a4 2 0 2 ≤ 3300) ∧
    ((a1 3 + a4 0 + a4 3).toInt = td_w a1 a4 3 0 3 ∧ -3300 ≤ td_w a1 a4 3 0 3 ∧ td_w a1 a4 3 0 3 ≤ 3300) ∧
    ((a1 9 + a4 1 + a4 2).toInt = td_w a1 a4 9 1 2 ∧ -3300 ≤ td_w a1 a4 9 1 2 ∧ td_w a1 a4 9 1 2 ≤ 3300) ∧
    ((a1 10 + a4 1 + a4 3).toInt = td_w a1 a4 10 1 3 ∧ -3300 ≤ td_w a1 a4 10 1 3 ∧ td_w a1 a4 10 1 3 ≤ 3300) ∧
    ((a1 17 + a4 2 + a4 3).toInt = td_w a1 a4 17 2 3 ∧ -3300 ≤ td_w a1 a4 17 2 3 ∧ td_w a1 a4 17 2 3 ≤ 3300) := by
  obtain ⟨l1, l2, l3, l9, l10, l17⟩ := hL
  obtain ⟨p0, p1, p2, p3⟩ := hP
  exact ⟨td_w_in l1 p0 p1, td_w_in l2 p0 p2, td_w_in l3 p0 p3, td_w_in l9 p1 p2, td_w_in l10 p1 p3, td_w_in l17 p2 p3⟩
theorem td_tcAdd {a1 a4 : Nat → Int32} {c0 c1 c2 c3 c4 c5 : Bool} {tc x : Int32} (hL : td_L a1) (hP : td_P 1600 a4) (h : tc.toInt = td_sum a1 a4 c0 c1 c2 c3 c4 c5) (hx : -3300 ≤ x.toInt ∧ x.toInt ≤ 3300) :
    (tc + x).toInt = td_sum a1 a4 c0 c1 c2 c3 c4 c5 + x.toInt := by
  obtain ⟨⟨_, w0⟩, ⟨_, w1⟩, ⟨_, w2⟩, ⟨_, w3⟩, ⟨_, w4⟩, ⟨_, w5⟩⟩ := td_ws hL hP
  have v0 := td_v_in (c := c0) w0
  have v1 := td_v_in (c := c1) w1
  have v2 := td_v_in (c := c2) w2
  have v3 := td_v_in (c := c3) w3
  have v4 := td_v_in (c := c4) w4
  have v5 := td_v_in (c := c5) w5
  rw [td_add]
  · rw [h]
  · rw [h]
    unfold td_sum
    omega
  · rw [h]
    unfold td_sum
    omega
end
section
section
variable {tc ls tk ts : Int32} {a1 a2 a3 a4 a5 a6 a7 a8 a9 a10 : Nat → Int32}
theorem td_pos (a b : Nat) : nI a * 7 + nI b = nI (a * 7 + b) := by
  rw [← nI_add, ← pk_mul]
  rfl
theorem td_merge {post : St2 → Prop} {x y : Int32} (H : ∀ g : Nat → Int32, (∀ j, j < 4 → g j = if a5 j = y then x.toInt8.toInt32 else a5 j) → post (4, tc, ls, tk, ts, a1, a2, a3, a4, g, a6, a7, a8, a9, a10)) : wpX_merge post (4, tc, ls, tk, ts, a1, a2, a3, a4, a5, a6, a7, a8, a9, a10) x y := by
  refine pk_loop (fun n i s => wX_merge_2 post x y 4 tc ls tk ts n (nI i) a1 a2 a3 a4 s a6 a7 a8 a9 a10)
    (fun i s => ∀ j, j < 4 → s j = if j < i then (if a5 j = y then x.toInt8.toInt32 else a5 j) else a5 j) 4 0 a5 (by omega) (fun j _ => by rw [if_neg (by omega)]) ?_ ?_
  · exact fun n s h => pk_le 4 4 (fun _ => H s (fun j hj => by rw [h j hj, if_pos hj])) (fun z => absurd z (by omega))
  · intro n i s hi h hw
    refine pk_le 4 i (fun z => absurd z (by omega)) (fun _ => ⟨pk_in i 7 (by omega), ?_⟩)
    have hs : s i = a5 i := by rw [h i hi, if_neg (by omega)]
    rw [nI_clamp (show i < 2 ^ 31 by omega)]
    refine br_c (fun e => ⟨pk_in i 7 (by omega), nm_e (nm_r (nI_1 i) (hw _ (fun j hj => ?_)))⟩) (fun e => nm_r (nI_1 i) (hw _ (fun j hj => ?_)))
    · by_cases ej : j = i
      · rw [ej, pk_us, if_pos (by omega), if_pos (by rw [← hs]; exact e)]
      · rw [pk_un ej, h j hj]
        by_cases q : j < i
        · rw [if_pos q, if_pos (show j < i + 1 by omega)]
        · rw [if_neg q, if_neg (show ¬ j < i + 1 by omega)]
    · by_cases ej : j = i
      · rw [ej, hs, if_pos (by omega), if_neg (by rw [← hs]; exact e)]
      · rw [h j hj]
        by_cases q : j < i
        · rw [if_pos q, if_pos (show j < i + 1 by omega)]
        · rw [if_neg q, if_neg (show ¬ j < i + 1 by omega)]
theorem td_weight {post : Int32 → Prop} {a b : Nat} (ha : a < 4) (hb : b < 4) (h : post (a1 (a * 7 + b) + a4 a + a4 b)) : wpX_weight post (4, tc, ls, tk, ts, a1, a2, a3, a4, a5, a6, a7, a8, a9, a10) (nI a) (nI b) := by
  unfold wpX_weight
  dsimp only
  rw [td_pos, nI_clamp (show a < 2 ^ 31 by omega), nI_clamp (show b < 2 ^ 31 by omega), nI_clamp (show a * 7 + b < 2 ^ 31 by omega)]
  exact ⟨pk_in (a * 7 + b) 49 (by omega), pk_in a 7 (by omega), pk_in b 7 (by omega), h⟩
theorem td_take {post : St2 → Prop} {a b : Nat} (ha : a < 4) (hb : b < 4)
    (H : ∀ g : Nat → Int32, (a = 0 → g = a5) → (a ≠ 0 → b ≠ 0 → ∀ j, j < 4 → g j = if a5 j = a5 b then (a5 a).toInt8.toInt32 else a5 j) → post (4, tc + (a1 (a * 7 + b) + a4 a + a4 b), ls, tk, ts, a1, a2, a3, a4, g, upd (upd a6 a ((a6 a + 1).toInt8.toInt32)) b ((upd a6 a ((a6 a + 1).toInt8.toInt32) b + 1).toInt8.toInt32), upd (upd a7 (a * 7 + b) 1) (b * 7 + a) 1, a8, a9, a10)) :
    wpX_take post (4, tc, ls, tk, ts, a1, a2, a3, a4, a5, a6, a7, a8, a9, a10) (nI a) (nI b) := by
  unfold wpX_take
  dsimp only
  rw [td_pos b a]
  refine nm_r (td_pos a b) ⟨pk_in (a * 7 + b) 49 (by omega), nm_e ⟨pk_in (b * 7 + a) 49 (by omega), nm_e ⟨pk_in a 7 (by omega), pk_in a 7 (by omega), nm_e ⟨pk_in b 7 (by omega), pk_in b 7 (by omega), nm_e (td_weight ha hb (nm_e ?_))⟩⟩⟩⟩
  rw [nI_clamp (show a < 2 ^ 31 by omega), nI_clamp (show b < 2 ^ 31 by omega), nI_clamp (show a * 7 + b < 2 ^ 31 by omega), nI_clamp (show b * 7 + a < 2 ^ 31 by omega)]
  refine pk_eq a 0 (fun z => H a5 (fun _ => rfl) (fun q => absurd z q)) (fun z => pk_eq b 0 (fun z2 => H a5 (fun _ => rfl) (fun _ q => absurd z2 q)) (fun z2 => ⟨pk_in a 7 (by omega), pk_in b 7 (by omega), td_merge (fun g hg => H g (fun q => absurd q z) (fun _ _ => hg))⟩))
theorem td_takeOne {post : Int32 → St2 → Prop} {a b : Nat} (ha : a < 4) (hb : b < 4)
    (H0 : (2 ≤ (a6 a).toInt ∨ 2 ≤ (a6 b).toInt ∨ (a ≠ 0 ∧ a5 a = a5 b)) → post 0 (4, tc, ls, tk, ts, a1, a2, a3, a4, a5, a6, a7, a8, a9, a10))
    (H1 : (a6 a).toInt < 2 → (a6 b).toInt < 2 → (a ≠ 0 → ¬ a5 a = a5 b) → wX_takeOne_43 post (nI a) (nI b) 4 tc ls tk ts a1 a2 a3 a4 a5 a6 a7 a8 a9 a10) :
    wpX_takeOne post (4, tc, ls, tk, ts, a1, a2, a3, a4, a5, a6, a7, a8, a9, a10) (nI a) (nI b) := by
  unfold wpX_takeOne
  dsimp only
  rw [nI_clamp (show a < 2 ^ 31 by omega), nI_clamp (show b < 2 ^ 31 by omega)]
  refine ⟨pk_in a 7 (by omega), br_c (fun z => H0 (Or.inl (td_le.mp z))) (fun z => ⟨pk_in b 7 (by omega), br_c (fun z2 => ?_) (fun z2 => H0 (Or.inr (Or.inl ?_)))⟩)⟩
  · have y : (a6 a).toInt < 2 := Int.not_le.mp (fun q => z (td_le.mpr q))
    have y2 : (a6 b).toInt < 2 := td_lt.mp z2
    exact pk_eq a 0 (fun q => H1 y y2 (fun q2 => absurd q q2)) (fun q => ⟨pk_in a 7 (by omega), pk_in b 7 (by omega), br_c (fun e => H0 (Or.inr (Or.inr ⟨q, e⟩))) (fun e => H1 y y2 (fun _ => e))⟩)
  · exact Int.not_lt.mp (fun q => z2 (td_lt.mpr q))
def td_r (N : Nat → Int32) (i : Nat) : Bool := decide (N i = 1)
theorem td_r_t {N : Nat → Int32} {i : Nat} (h : N i = 1) : td_r N i = true := decide_eq_true h
theorem td_r_f {N : Nat → Int32} {i : Nat} (h : ¬ N i = 1) : td_r N i = false := decide_eq_false h
theorem td_r_i {N : Nat → Int32} {i : Nat} : td_r N i = true ↔ N i = 1 := decide_eq_true_iff
theorem td_tk0 {post : St2 → Prop} {c1 c2 c3 c4 c5 : Bool} (hL : td_L a1) (hP : td_P 1600 a4) (h : td_B a1 a4 false c1 c2 c3 c4 c5 tc a5 a6 a7)
    (H : ∀ (t : Int32) (g d f : Nat → Int32), td_B a1 a4 true c1 c2 c3 c4 c5 t g d f → post (4, t, ls, tk, ts, a1, a2, a3, a4, g, d, f, a8, a9, a10)) :
    wpX_take post (4, tc, ls, tk, ts, a1, a2, a3, a4, a5, a6, a7, a8, a9, a10) (nI 0) (nI 1) := by
  obtain ⟨hT, ⟨⟨d0, d1, d2, d3⟩, ⟨f1, f7, f2, f14, f3, f21, f9, f15, f10, f22, f17, f23⟩, f8, f16, f24⟩, hG⟩ := h
  obtain ⟨w0, w1, w2, w3, w4, w5⟩ := td_ws hL hP
  have b1 := td_b_in c1
  have b2 := td_b_in c2
  have b3 := td_b_in c3
  have b4 := td_b_in c4
  have b5 := td_b_in c5
  rw [td_b_f] at d0 d1
  refine td_take (a := 0) (b := 1) (by omega) (by omega) (fun g hg0 hg1 => H _ _ _ _ ⟨?_, ⟨⟨?_, ?_, d2, d3⟩, ⟨rfl, rfl, f2, f14, f3, f21, f9, f15, f10, f22, f17, f23⟩, f8, f16, f24⟩, ?_⟩)
  · show (tc + (a1 1 + a4 0 + a4 1)).toInt = _
    rw [td_tcAdd hL hP hT (by rw [w0.1]; exact w0.2), w0.1]
    unfold td_sum
    rw [td_v_f, td_v_t]
    omega
  · show ((a6 0 + 1).toInt8.toInt32).toInt = _
    rw [td_inc (by omega) (by omega), td_b_t]
    omega
  · show ((a6 1 + 1).toInt8.toInt32).toInt = _
    rw [td_inc (by omega) (by omega), td_b_t]
    omega
  · rw [hg0 rfl]
    exact hG
theorem td_tr0 {post : Int32 → St2 → Prop} {J : Int32 → Int32 → Int32 → Int32 → Int32 → Int32 → (Nat → Int32) → (Nat → Int32) → (Nat → Int32) → (Nat → Int32) → (Nat → Int32) → (Nat → Int32) → (Nat → Int32) → (Nat → Int32) → (Nat → Int32) → (Nat → Int32) → Prop} {n : Nat} {c1 c2 c3 c4 c5 : Bool} (hL : td_L a1) (hP : td_P 1600 a4) (h : td_B a1 a4 false c1 c2 c3 c4 c5 tc a5 a6 a7)
    (H0 : a3 1 = 1 → (2 ≤ td_b c1 + td_b c2 ∨ 2 ≤ td_b c3 + td_b c4) → post 0 (4, tc, ls, tk, ts, a1, a2, a3, a4, a5, a6, a7, a8, a9, a10))
    (H1 : ∀ (t : Int32) (g d f : Nat → Int32), td_B a1 a4 (td_r a3 1) c1 c2 c3 c4 c5 t g d f → (a3 1 = 1 → td_b c1 + td_b c2 < 2 ∧ td_b c3 + td_b c4 < 2) → wX_takeRequired_14 post J (nI 0) n (nI 2) 4 t ls tk ts a1 a2 a3 a4 g d f a8 a9 a10) :
    wX_takeRequired_14 post J (nI 0) (n + 1) (nI 1) 4 tc ls tk ts a1 a2 a3 a4 a5 a6 a7 a8 a9 a10 := by
  have da : (a6 0).toInt = td_b c1 + td_b c2 := by
    have q := h.2.1.1.1
    rw [td_b_f] at q
    omega
  have db : (a6 1).toInt = td_b c3 + td_b c4 := by
    have q := h.2.1.1.2.1
    rw [td_b_f] at q
    omega
  refine pk_le 4 1 (fun z => absurd z (by omega)) (fun _ => ⟨pk_in 1 49 (by omega), br_c (fun e => ?_) (fun e => nm_r (nI_1 1) ?_)⟩)
  · have e' : a3 1 = 1 := e
    have hr : td_r a3 1 = true := td_r_t e'
    rw [hr] at H1
    refine td_takeOne (a := 0) (b := 1) (by omega) (by omega) (fun q => br_t rfl (H0 e' ?_)) (fun q1 q2 q3 => td_tk0 hL hP h (fun t g d f hB => br_f (by decide) (nm_r (nI_1 1) (H1 t g d f hB (fun _ => ⟨by omega, by omega⟩)))))
    rcases q with q | q | q
    · exact Or.inl (by omega)
    · exact Or.inr (by omega)
    · exact absurd rfl q.1
  · have e' : ¬ a3 1 = 1 := e
    have hr : td_r a3 1 = false := td_r_f e'
    rw [hr] at H1
    exact H1 tc a5 a6 a7 h (fun q => absurd q e')
theorem td_tk1 {post : St2 → Prop} {c0 c2 c3 c4 c5 : Bool} (hL : td_L a1) (hP : td_P 1600 a4) (h : td_B a1 a4 c0 false c2 c3 c4 c5 tc a5 a6 a7)
    (H : ∀ (t : Int32) (g d f : Nat → Int32), td_B a1 a4 c0 true c2 c3 c4 c5 t g d f → post (4, t, ls, tk, ts, a1, a2, a3, a4, g, d, f, a8, a9, a10)) :
    wpX_take post (4, tc, ls, tk, ts, a1, a2, a3, a4, a5, a6, a7, a8, a9, a10) (nI 0) (nI 2) := by
  obtain ⟨hT, ⟨⟨d0, d1, d2, d3⟩, ⟨f1, f7, f2, f14, f3, f21, f9, f15, f10, f22, f17, f23⟩, f8, f16, f24⟩, hG⟩ := h
  obtain ⟨w0, w1, w2, w3, w4, w5⟩ := td_ws hL hP
  have b0 := td_b_in c0
  have b2 := td_b_in c2
  have b3 := td_b_in c3
  have b4 := td_b_in c4
  have b5 := td_b_in c5
  rw [td_b_f] at d0 d2
  refine td_take (a := 0) (b := 2) (by omega) (by omega) (fun g hg0 hg1 => H _ _ _ _ ⟨?_, ⟨⟨?_, d1, ?_, d3⟩, ⟨f1, f7, rfl, rfl, f3, f21, f9, f15, f10, f22, f17, f23⟩, f8, f16, f24⟩, ?_⟩)
  · show (tc + (a1 2 + a4 0 + a4 2)).toInt = _
    rw [td_tcAdd hL hP hT (by rw [w1.1]; exact w1.2), w1.1]
    unfold td_sum
    rw [td_v_f, td_v_t]
    omega
  · show ((a6 0 + 1).toInt8.toInt32).toInt = _
    rw [td_inc (by omega) (by omega), td_b_t]
    omega
  · show ((a6 2 + 1).toInt8.toInt32).toInt = _
    rw [td_inc (by omega) (by omega), td_b_t]
    omega
  · rw [hg0 rfl]
    exact hG
theorem td_tr1 {post : Int32 → St2 → Prop} {J : Int32 → Int32 → Int32 → Int32 → Int32 → Int32 → (Nat → Int32) → (Nat → Int32) → (Nat → Int32) → (Nat → Int32) → (Nat → Int32) → (Nat → Int32) → (Nat → Int32) → (Nat → Int32) → (Nat → Int32) → (Nat → Int32) → Prop} {n : Nat} {c0 c2 c3 c4 c5 : Bool} (hL : td_L a1) (hP : td_P 1600 a4) (h : td_B a1 a4 c0 false c2 c3 c4 c5 tc a5 a6 a7)
    (H0 : a3 2 = 1 → (2 ≤ td_b c0 + td_b c2 ∨ 2 ≤ td_b c3 + td_b c5) → post 0 (4, tc, ls, tk, ts, a1, a2, a3, a4, a5, a6, a7, a8, a9, a10))
    (H1 : ∀ (t : Int32) (g d f : Nat → Int32), td_B a1 a4 c0 (td_r a3 2) c2 c3 c4 c5 t g d f → (a3 2 = 1 → td_b c0 + td_b c2 < 2 ∧ td_b c3 + td_b c5 < 2) → wX_takeRequired_14 post J (nI 0) n (nI 3) 4 t ls tk ts a1 a2 a3 a4 g d f a8 a9 a10) :
    wX_takeRequired_14 post J (nI 0) (n + 1) (nI 2) 4 tc ls tk ts a1 a2 a3 a4 a5 a6 a7 a8 a9 a10 := by
  have da : (a6 0).toInt = td_b c0 + td_b c2 := by
    have q := h.2.1.1.1
    rw [td_b_f] at q
    omega
  have db : (a6 2).toInt = td_b c3 + td_b c5 := by
    have q := h.2.1.1.2.2.1
    rw [td_b_f] at q
    omega
  refine pk_le 4 2 (fun z => absurd z (by omega)) (fun _ => ⟨pk_in 2 49 (by omega), br_c (fun e => ?_) (fun e => nm_r (nI_1 2) ?_)⟩)
  · have e' : a3 2 = 1 := e
    have hr : td_r a3 2 = true := td_r_t e'
    rw [hr] at H1
    refine td_takeOne (a := 0) (b := 2) (by omega) (by omega) (fun q => br_t rfl (H0 e' ?_)) (fun q1 q2 q3 => td_tk1 hL hP h (fun t g d f hB => br_f (by decide) (nm_r (nI_1 2) (H1 t g d f hB (fun _ => ⟨by omega, by omega⟩)))))
    rcases q with q | q | q
    · exact Or.inl (by omega)
    · exact Or.inr (by omega)
    · exact absurd rfl q.1
  · have e' : ¬ a3 2 = 1 := e
    have hr : td_r a3 2 = false := td_r_f e'
    rw [hr] at H1
    exact H1 tc a5 a6 a7 h (fun q => absurd q e')
theorem td_tk2 {post : St2 → Prop} {c0 c1 c3 c4 c5 : Bool} (hL : td_L a1) (hP : td_P 1600 a4) (h : td_B a1 a4 c0 c1 false c3 c4 c5 tc a5 a6 a7)
    (H : ∀ (t : Int32) (g d f : Nat → Int32), td_B a1 a4 c0 c1 true c3 c4 c5 t g d f → post (4, t, ls, tk, ts, a1, a2, a3, a4, g, d, f, a8, a9, a10)) :
    wpX_take post (4, tc, ls, tk, ts, a1, a2, a3, a4, a5, a6, a7, a8, a9, a10) (nI 0) (nI 3) := by
  obtain ⟨hT, ⟨⟨d0, d1, d2, d3⟩, ⟨f1, f7, f2, f14, f3, f21, f9, f15, f10, f22, f17, f23⟩, f8, f16, f24⟩, hG⟩ := h
  obtain ⟨w0, w1, w2, w3, w4, w5⟩ := td_ws hL hP
  have b0 := td_b_in c0
  have b1 := td_b_in c1
  have b3 := td_b_in c3
  have b4 := td_b_in c4
  have b5 := td_b_in c5
  rw [td_b_f] at d0 d3
  refine td_take (a := 0) (b := 3) (by omega) (by omega) (fun g hg0 hg1 => H _ _ _ _ ⟨?_, ⟨⟨?_, d1, d2, ?_⟩, ⟨f1, f7, f2, f14, rfl, rfl, f9, f15, f10, f22, f17, f23⟩, f8, f16, f24⟩, ?_⟩)
  · show (tc + (a1 3 + a4 0 + a4 3)).toInt = _
    rw [td_tcAdd hL hP hT (by rw [w2.1]; exact w2.2), w2.1]
    unfold td_sum
    rw [td_v_f, td_v_t]
    omega
  · show ((a6 0 + 1).toInt8.toInt32).toInt = _
    rw [td_inc (by omega) (by omega), td_b_t]
    omega
  · show ((a6 3 + 1).toInt8.toInt32).toInt = _
    rw [td_inc (by omega) (by omega), td_b_t]
    omega
  · rw [hg0 rfl]
    exact hG
theorem td_tr2 {post : Int32 → St2 → Prop} {J : Int32 → Int32 → Int32 → Int32 → Int32 → Int32 → (Nat → Int32) → (Nat → Int32) → (Nat → Int32) → (Nat → Int32) → (Nat → Int32) → (Nat → Int32) → (Nat → Int32) → (Nat → Int32) → (Nat → Int32) → (Nat → Int32) → Prop} {n : Nat} {c0 c1 c3 c4 c5 : Bool} (hL : td_L a1) (hP : td_P 1600 a4) (h : td_B a1 a4 c0 c1 false c3 c4 c5 tc a5 a6 a7)
    (H0 : a3 3 = 1 → (2 ≤ td_b c0 + td_b c1 ∨ 2 ≤ td_b c4 + td_b c5) → post 0 (4, tc, ls, tk, ts, a1, a2, a3, a4, a5, a6, a7, a8, a9, a10))
    (H1 : ∀ (t : Int32) (g d f : Nat → Int32), td_B a1 a4 c0 c1 (td_r a3 3) c3 c4 c5 t g d f → (a3 3 = 1 → td_b c0 + td_b c1 < 2 ∧ td_b c4 + td_b c5 < 2) → wX_takeRequired_14 post J (nI 0) n (nI 4) 4 t ls tk ts a1 a2 a3 a4 g d f a8 a9 a10) :
    wX_takeRequired_14 post J (nI 0) (n + 1) (nI 3) 4 tc ls tk ts a1 a2 a3 a4 a5 a6 a7 a8 a9 a10 := by
  have da : (a6 0).toInt = td_b c0 + td_b c1 := by
    have q := h.2.1.1.1
    rw [td_b_f] at q
    omega
  have db : (a6 3).toInt = td_b c4 + td_b c5 := by
    have q := h.2.1.1.2.2.2
    rw [td_b_f] at q
    omega
  refine pk_le 4 3 (fun z => absurd z (by omega)) (fun _ => ⟨pk_in 3 49 (by omega), br_c (fun e => ?_) (fun e => nm_r (nI_1 3) ?_)⟩)
  · have e' : a3 3 = 1 := e
    have hr : td_r a3 3 = true := td_r_t e'
    rw [hr] at H1
    refine td_takeOne (a := 0) (b := 3) (by omega) (by omega) (fun q => br_t rfl (H0 e' ?_)) (fun q1 q2 q3 => td_tk2 hL hP h (fun t g d f hB => br_f (by decide) (nm_r (nI_1 3) (H1 t g d f hB (fun _ => ⟨by omega, by omega⟩)))))
    rcases q with q | q | q
    · exact Or.inl (by omega)
    · exact Or.inr (by omega)
    · exact absurd rfl q.1
  · have e' : ¬ a3 3 = 1 := e
    have hr : td_r a3 3 = false := td_r_f e'
    rw [hr] at H1
    exact H1 tc a5 a6 a7 h (fun q => absurd q e')
theorem td_grp3 {g : Nat → Int32} {c4 c5 : Bool} (h : td_G false c4 c5 a5) (hg : ¬ a5 1 = a5 2)
    (g1 : g 1 = if a5 1 = a5 2 then (a5 1).toInt8.toInt32 else a5 1) (g2 : g 2 = if a5 2 = a5 2 then (a5 1).toInt8.toInt32 else a5 2) (g3 : g 3 = if a5 3 = a5 2 then (a5 1).toInt8.toInt32 else a5 3) : td_G true c4 c5 g := by
  obtain ⟨⟨s1, s2, s3⟩, e12, e13, e23⟩ := h
  rw [s1] at g1 g2 g3
  have x1 : a5 2 = a5 1 ↔ a5 1 = a5 2 := eq_comm
  have x2 : a5 3 = a5 1 ↔ a5 1 = a5 3 := eq_comm
  have x3 : a5 3 = a5 2 ↔ a5 2 = a5 3 := eq_comm
  by_cases q1 : a5 1 = a5 2 <;> by_cases q2 : a5 1 = a5 3 <;> by_cases q3 : a5 2 = a5 3 <;> cases c4 <;> cases c5 <;> simp_all [td_G]
theorem td_grp4 {g : Nat → Int32} {c3 c5 : Bool} (h : td_G c3 false c5 a5) (hg : ¬ a5 1 = a5 3)
    (g1 : g 1 = if a5 1 = a5 3 then (a5 1).toInt8.toInt32 else a5 1) (g2 : g 2 = if a5 2 = a5 3 then (a5 1).toInt8.toInt32 else a5 2) (g3 : g 3 = if a5 3 = a5 3 then (a5 1).toInt8.toInt32 else a5 3) : td_G c3 true c5 g := by
  obtain ⟨⟨s1, s2, s3⟩, e12, e13, e23⟩ := h
  rw [s1] at g1 g2 g3
  have x1 : a5 2 = a5 1 ↔ a5 1 = a5 2 := eq_comm
  have x2 : a5 3 = a5 1 ↔ a5 1 = a5 3 := eq_comm
  have x3 : a5 3 = a5 2 ↔ a5 2 = a5 3 := eq_comm
  by_cases q1 : a5 1 = a5 2 <;> by_cases q2 : a5 1 = a5 3 <;> by_cases q3 : a5 2 = a5 3 <;> cases c3 <;> cases c5 <;> simp_all [td_G]
theorem td_grp5 {g : Nat → Int32} {c3 c4 : Bool} (h : td_G c3 c4 false a5) (hg : ¬ a5 2 = a5 3)
    (g1 : g 1 = if a5 1 = a5 3 then (a5 2).toInt8.toInt32 else a5 1) (g2 : g 2 = if a5 2 = a5 3 then (a5 2).toInt8.toInt32 else a5 2) (g3 : g 3 = if a5 3 = a5 3 then (a5 2).toInt8.toInt32 else a5 3) : td_G c3 c4 true g := by
  obtain ⟨⟨s1, s2, s3⟩, e12, e13, e23⟩ := h
  rw [s2] at g1 g2 g3
  have x1 : a5 2 = a5 1 ↔ a5 1 = a5 2 := eq_comm
  have x2 : a5 3 = a5 1 ↔ a5 1 = a5 3 := eq_comm
  have x3 : a5 3 = a5 2 ↔ a5 2 = a5 3 := eq_comm
  by_cases q1 : a5 1 = a5 2 <;> by_cases q2 : a5 1 = a5 3 <;> by_cases q3 : a5 2 = a5 3 <;> cases c3 <;> cases c4 <;> simp_all [td_G]
theorem td_tk3 {post : St2 → Prop} {c0 c1 c2 c4 c5 : Bool} (hL : td_L a1) (hP : td_P 1600 a4) (h : td_B a1 a4 c0 c1 c2 false c4 c5 tc a5 a6 a7) (hg : ¬ a5 1 = a5 2)
    (H : ∀ (t : Int32) (g d f : Nat → Int32), td_B a1 a4 c0 c1 c2 true c4 c5 t g d f → post (4, t, ls, tk, ts, a1, a2, a3, a4, g, d, f, a8, a9, a10)) :
    wpX_take post (4, tc, ls, tk, ts, a1, a2, a3, a4, a5, a6, a7, a8, a9, a10) (nI 1) (nI 2) := by
  obtain ⟨hT, ⟨⟨d0, d1, d2, d3⟩, ⟨f1, f7, f2, f14, f3, f21, f9, f15, f10, f22, f17, f23⟩, f8, f16, f24⟩, hG⟩ := h
  obtain ⟨w0, w1, w2, w3, w4, w5⟩ := td_ws hL hP
  have b0 := td_b_in c0
  have b1 := td_b_in c1
  have b2 := td_b_in c2
  have b4 := td_b_in c4
  have b5 := td_b_in c5
  rw [td_b_f] at d1 d2
  refine td_take (a := 1) (b := 2) (by omega) (by omega) (fun g hg0 hg1 => H _ _ _ _ ⟨?_, ⟨⟨d0, ?_, ?_, d3⟩, ⟨f1, f7, f2, f14, f3, f21, rfl, rfl, f10, f22, f17, f23⟩, f8, f16, f24⟩, ?_⟩)
  · show (tc + (a1 9 + a4 1 + a4 2)).toInt = _
    rw [td_tcAdd hL hP hT (by rw [w3.1]; exact w3.2), w3.1]
    unfold td_sum
    rw [td_v_f, td_v_t]
    omega
  · show ((a6 1 + 1).toInt8.toInt32).toInt = _
    rw [td_inc (by omega) (by omega), td_b_t]
    omega
  · show ((a6 2 + 1).toInt8.toInt32).toInt = _
    rw [td_inc (by omega) (by omega), td_b_t]
    omega
  · exact td_grp3 hG hg (hg1 (by omega) (by omega) 1 (by omega)) (hg1 (by omega) (by omega) 2 (by omega)) (hg1 (by omega) (by omega) 3 (by omega))
theorem td_tr3 {post : Int32 → St2 → Prop} {J : Int32 → Int32 → Int32 → Int32 → Int32 → Int32 → (Nat → Int32) → (Nat → Int32) → (Nat → Int32) → (Nat → Int32) → (Nat → Int32) → (Nat → Int32) → (Nat → Int32) → (Nat → Int32) → (Nat → Int32) → (Nat → Int32) → Prop} {n : Nat} {c0 c1 c2 c4 c5 : Bool} (hL : td_L a1) (hP : td_P 1600 a4) (h : td_B a1 a4 c0 c1 c2 false c4 c5 tc a5 a6 a7)
    (H0 : a3 9 = 1 → (2 ≤ td_b c0 + td_b c4 ∨ 2 ≤ td_b c1 + td_b c5 ∨ a5 1 = a5 2) → post 0 (4, tc, ls, tk, ts, a1, a2, a3, a4, a5, a6, a7, a8, a9, a10))
    (H1 : ∀ (t : Int32) (g d f : Nat → Int32), td_B a1 a4 c0 c1 c2 (td_r a3 9) c4 c5 t g d f → (a3 9 = 1 → td_b c0 + td_b c4 < 2 ∧ td_b c1 + td_b c5 < 2 ∧ ¬ a5 1 = a5 2) → wX_takeRequired_14 post J (nI 1) n (nI 3) 4 t ls tk ts a1 a2 a3 a4 g d f a8 a9 a10) :
    wX_takeRequired_14 post J (nI 1) (n + 1) (nI 2) 4 tc ls tk ts a1 a2 a3 a4 a5 a6 a7 a8 a9 a10 := by
  have da : (a6 1).toInt = td_b c0 + td_b c4 := by
    have q := h.2.1.1.2.1
    rw [td_b_f] at q
    omega
  have db : (a6 2).toInt = td_b c1 + td_b c5 := by
    have q := h.2.1.1.2.2.1
    rw [td_b_f] at q
    omega
  refine pk_le 4 2 (fun z => absurd z (by omega)) (fun _ => ⟨pk_in 9 49 (by omega), br_c (fun e => ?_) (fun e => nm_r (nI_1 2) ?_)⟩)
  · have e' : a3 9 = 1 := e
    have hr : td_r a3 9 = true := td_r_t e'
    rw [hr] at H1
    refine td_takeOne (a := 1) (b := 2) (by omega) (by omega) (fun q => br_t rfl (H0 e' ?_)) (fun q1 q2 q3 => td_tk3 hL hP h (q3 (by omega)) (fun t g d f hB => br_f (by decide) (nm_r (nI_1 2) (H1 t g d f hB (fun _ => ⟨by omega, by omega, q3 (by omega)⟩)))))
    rcases q with q | q | q
    · exact Or.inl (by omega)
    · exact Or.inr (Or.inl (by omega))
    · exact Or.inr (Or.inr q.2)
  · have e' : ¬ a3 9 = 1 := e
    have hr : td_r a3 9 = false := td_r_f e'
    rw [hr] at H1
    exact H1 tc a5 a6 a7 h (fun q => absurd q e')
theorem td_tk4 {post : St2 → Prop} {c0 c1 c2 c3 c5 : Bool} (hL : td_L a1) (hP : td_P 1600 a4) (h : td_B a1 a4 c0 c1 c2 c3 false c5 tc a5 a6 a7) (hg : ¬ a5 1 = a5 3)
    (H : ∀ (t : Int32) (g d f : Nat → Int32), td_B a1 a4 c0 c1 c2 c3 true c5 t g d f → post (4, t, ls, tk, ts, a1, a2, a3, a4, g, d, f, a8, a9, a10)) :
    wpX_take post (4, tc, ls, tk, ts, a1, a2, a3, a4, a5, a6, a7, a8, a9, a10) (nI 1) (nI 3) := by
  obtain ⟨hT, ⟨⟨d0, d1, d2, d3⟩, ⟨f1, f7, f2, f14, f3, f21, f9, f15, f10, f22, f17, f23⟩, f8, f16, f24⟩, hG⟩ := h
  obtain ⟨w0, w1, w2, w3, w4, w5⟩ := td_ws hL hP
  have b0 := td_b_in c0
  have b1 := td_b_in c1
  have b2 := td_b_in c2
  have b3 := td_b_in c3
  have b5 := td_b_in c5
  rw [td_b_f] at d1 d3
  refine td_take (a := 1) (b := 3) (by omega) (by omega) (fun g hg0 hg1 => H _ _ _ _ ⟨?_, ⟨⟨d0, ?_, d2, ?_⟩, ⟨f1, f7, f2, f14, f3, f21, f9, f15, rfl, rfl, f17, f23⟩, f8, f16, f24⟩, ?_⟩)
  · show (tc + (a1 10 + a4 1 + a4 3)).toInt = _
    rw [td_tcAdd hL hP hT (by rw [w4.1]; exact w4.2), w4.1]
    unfold td_sum
    rw [td_v_f, td_v_t]
    omega
  · show ((a6 1 + 1).toInt8.toInt32).toInt = _
    rw [td_inc (by omega) (by omega), td_b_t]
    omega
  · show ((a6 3 + 1).toInt8.toInt32).toInt = _
    rw [td_inc (by omega) (by omega), td_b_t]
    omega
  · exact td_grp4 hG hg (hg1 (by omega) (by omega) 1 (by omega)) (hg1 (by omega) (by omega) 2 (by omega)) (hg1 (by omega) (by omega) 3 (by omega))
theorem td_tr4 {post : Int32 → St2 → Prop} {J : Int32 → Int32 → Int32 → Int32 → Int32 → Int32 → (Nat → Int32) → (Nat → Int32) → (Nat → Int32) → (Nat → Int32) → (Nat → Int32) → (Nat → Int32) → (Nat → Int32) → (Nat → Int32) → (Nat → Int32) → (Nat → Int32) → Prop} {n : Nat} {c0 c1 c2 c3 c5 : Bool} (hL : td_L a1) (hP : td_P 1600 a4) (h : td_B a1 a4 c0 c1 c2 c3 false c5 tc a5 a6 a7)
    (H0 : a3 10 = 1 → (2 ≤ td_b c0 + td_b c3 ∨ 2 ≤ td_b c2 + td_b c5 ∨ a5 1 = a5 3) → post 0 (4, tc, ls, tk, ts, a1, a2, a3, a4, a5, a6, a7, a8, a9, a10))
    (H1 : ∀ (t : Int32) (g d f : Nat → Int32), td_B a1 a4 c0 c1 c2 c3 (td_r a3 10) c5 t g d f → (a3 10 = 1 → td_b c0 + td_b c3 < 2 ∧ td_b c2 + td_b c5 < 2 ∧ ¬ a5 1 = a5 3) → wX_takeRequired_14 post J (nI 1) n (nI 4) 4 t ls tk ts a1 a2 a3 a4 g d f a8 a9 a10) :
    wX_takeRequired_14 post J (nI 1) (n + 1) (nI 3) 4 tc ls tk ts a1 a2 a3 a4 a5 a6 a7 a8 a9 a10 := by
  have da : (a6 1).toInt = td_b c0 + td_b c3 := by
    have q := h.2.1.1.2.1
    rw [td_b_f] at q
    omega
  have db : (a6 3).toInt = td_b c2 + td_b c5 := by
    have q := h.2.1.1.2.2.2
    rw [td_b_f] at q
    omega
  refine pk_le 4 3 (fun z => absurd z (by omega)) (fun _ => ⟨pk_in 10 49 (by omega), br_c (fun e => ?_) (fun e => nm_r (nI_1 3) ?_)⟩)
  · have e' : a3 10 = 1 := e
    have hr : td_r a3 10 = true := td_r_t e'
    rw [hr] at H1
    refine td_takeOne (a := 1) (b := 3) (by omega) (by omega) (fun q => br_t rfl (H0 e' ?_)) (fun q1 q2 q3 => td_tk4 hL hP h (q3 (by omega)) (fun t g d f hB => br_f (by decide) (nm_r (nI_1 3) (H1 t g d f hB (fun _ => ⟨by omega, by omega, q3 (by omega)⟩)))))
    rcases q with q | q | q
    · exact Or.inl (by omega)
    · exact Or.inr (Or.inl (by omega))
    · exact Or.inr (Or.inr q.2)
  · have e' : ¬ a3 10 = 1 := e
    have hr : td_r a3 10 = false := td_r_f e'
    rw [hr] at H1
    exact H1 tc a5 a6 a7 h (fun q => absurd q e')
theorem td_tk5 {post : St2 → Prop} {c0 c1 c2 c3 c4 : Bool} (hL : td_L a1) (hP : td_P 1600 a4) (h : td_B a1 a4 c0 c1 c2 c3 c4 false tc a5 a6 a7) (hg : ¬ a5 2 = a5 3)
    (H : ∀ (t : Int32) (g d f : Nat → Int32), td_B a1 a4 c0 c1 c2 c3 c4 true t g d f → post (4, t, ls, tk, ts, a1, a2, a3, a4, g, d, f, a8, a9, a10)) :
    wpX_take post (4, tc, ls, tk, ts, a1, a2, a3, a4, a5, a6, a7, a8, a9, a10) (nI 2) (nI 3) := by
  obtain ⟨hT, ⟨⟨d0, d1, d2, d3⟩, ⟨f1, f7, f2, f14, f3, f21, f9, f15, f10, f22, f17, f23⟩, f8, f16, f24⟩, hG⟩ := h
  obtain ⟨w0, w1, w2, w3, w4, w5⟩ := td_ws hL hP
  have b0 := td_b_in c0
  have b1 := td_b_in c1
  have b2 := td_b_in c2
  have b3 := td_b_in c3
  have b4 := td_b_in c4
  rw [td_b_f] at d2 d3
  refine td_take (a := 2) (b := 3) (by omega) (by omega) (fun g hg0 hg1 => H _ _ _ _ ⟨?_, ⟨⟨d0, d1, ?_, ?_⟩, ⟨f1, f7, f2, f14, f3, f21, f9, f15, f10, f22, rfl, rfl⟩, f8, f16, f24⟩, ?_⟩)
  · show (tc + (a1 17 + a4 2 + a4 3)).toInt = _
    rw [td_tcAdd hL hP hT (by rw [w5.1]; exact w5.2), w5.1]
    unfold td_sum
    rw [td_v_f, td_v_t]
    omega
  · show ((a6 2 + 1).toInt8.toInt32).toInt = _
    rw [td_inc (by omega) (by omega), td_b_t]
    omega
  · show ((a6 3 + 1).toInt8.toInt32).toInt = _
    rw [td_inc (by omega) (by omega), td_b_t]
    omega
  · exact td_grp5 hG hg (hg1 (by omega) (by omega) 1 (by omega)) (hg1 (by omega) (by omega) 2 (by omega)) (hg1 (by omega) (by omega) 3 (by omega))
theorem td_tr5 {post : Int32 → St2 → Prop} {J : Int32 → Int32 → Int32 → Int32 → Int32 → Int32 → (Nat → Int32) → (Nat → Int32) → (Nat → Int32) → (Nat → Int32) → (Nat → Int32) → (Nat → Int32) → (Nat → Int32) → (Nat → Int32) → (Nat → Int32) → (Nat → Int32) → Prop} {n : Nat} {c0 c1 c2 c3 c4 : Bool} (hL : td_L a1) (hP : td_P 1600 a4) (h : td_B a1 a4 c0 c1 c2 c3 c4 false tc a5 a6 a7)
    (H0 : a3 17 = 1 → (2 ≤ td_b c1 + td_b c3 ∨ 2 ≤ td_b c2 + td_b c4 ∨ a5 2 = a5 3) → post 0 (4, tc, ls, tk, ts, a1, a2, a3, a4, a5, a6, a7, a8, a9, a10))
    (H1 : ∀ (t : Int32) (g d f : Nat → Int32), td_B a1 a4 c0 c1 c2 c3 c4 (td_r a3 17) t g d f → (a3 17 = 1 → td_b c1 + td_b c3 < 2 ∧ td_b c2 + td_b c4 < 2 ∧ ¬ a5 2 = a5 3) → wX_takeRequired_14 post J (nI 2) n (nI 4) 4 t ls tk ts a1 a2 a3 a4 g d f a8 a9 a10) :
    wX_takeRequired_14 post J (nI 2) (n + 1) (nI 3) 4 tc ls tk ts a1 a2 a3 a4 a5 a6 a7 a8 a9 a10 := by
  have da : (a6 2).toInt = td_b c1 + td_b c3 := by
    have q := h.2.1.1.2.2.1
    rw [td_b_f] at q
    omega
  have db : (a6 3).toInt = td_b c2 + td_b c4 := by
    have q := h.2.1.1.2.2.2
    rw [td_b_f] at q
    omega
  refine pk_le 4 3 (fun z => absurd z (by omega)) (fun _ => ⟨pk_in 17 49 (by omega), br_c (fun e => ?_) (fun e => nm_r (nI_1 3) ?_)⟩)
  · have e' : a3 17 = 1 := e
    have hr : td_r a3 17 = true := td_r_t e'
    rw [hr] at H1
    refine td_takeOne (a := 2) (b := 3) (by omega) (by omega) (fun q => br_t rfl (H0 e' ?_)) (fun q1 q2 q3 => td_tk5 hL hP h (q3 (by omega)) (fun t g d f hB => br_f (by decide) (nm_r (nI_1 3) (H1 t g d f hB (fun _ => ⟨by omega, by omega, q3 (by omega)⟩)))))
    rcases q with q | q | q
    · exact Or.inl (by omega)
    · exact Or.inr (Or.inl (by omega))
    · exact Or.inr (Or.inr q.2)
  · have e' : ¬ a3 17 = 1 := e
    have hr : td_r a3 17 = false := td_r_f e'
    rw [hr] at H1
    exact H1 tc a5 a6 a7 h (fun q => absurd q e')
end
end
section
section
variable {tc ls tk ts : Int32} {a1 a2 a3 a4 a5 a6 a7 a8 a9 a10 : Nat → Int32}
def td_D (N : Nat → Int32) : Prop := ¬ (N 1 = 1 ∧ N 2 = 1 ∧ N 3 = 1) ∧ ¬ (N 1 = 1 ∧ N 9 = 1 ∧ N 10 = 1) ∧ ¬ (N 2 = 1 ∧ N 9 = 1 ∧ N 17 = 1) ∧ ¬ (N 3 = 1 ∧ N 10 = 1 ∧ N 17 = 1) ∧ ¬ (N 9 = 1 ∧ N 10 = 1 ∧ N 17 = 1)
theorem td_no3 {N : Nat → Int32} (h1 : N 1 = 1 ∨ N 17 = 1) (h2 : N 2 = 1 ∨ N 10 = 1) (h3 : N 3 = 1 ∨ N 9 = 1) : td_no N := by
  refine ⟨fun q => ?_, fun q => ?_, fun q => ?_⟩
  · rcases h1 with e | e
    · exact q.1 e
    · exact q.2.1 e
  · rcases h2 with e | e
    · exact q.1 e
    · exact q.2.1 e
  · rcases h3 with e | e
    · exact q.1 e
    · exact q.2.1 e
theorem td_b2 {N : Nat → Int32} {i j : Nat} (h : 2 ≤ td_b (td_r N i) + td_b (td_r N j)) : N i = 1 ∧ N j = 1 := by
  by_cases e1 : N i = 1 <;> by_cases e2 : N j = 1
  · exact ⟨e1, e2⟩
  · rw [td_r_f e2, td_b_f] at h
    have q := td_b_in (td_r N i)
    omega
  · rw [td_r_f e1, td_b_f] at h
    have q := td_b_in (td_r N j)
    omega
  · rw [td_r_f e1, td_b_f] at h
    have q := td_b_in (td_r N j)
    omega
theorem td_b2n {N : Nat → Int32} {i j : Nat} (h : td_b (td_r N i) + td_b (td_r N j) < 2) : ¬ (N i = 1 ∧ N j = 1) := by
  intro e
  rw [td_r_t e.1, td_r_t e.2, td_b_t] at h
  omega
theorem td_req {post : Int32 → St2 → Prop} (hL : td_L a1) (hP : td_P 1600 a4) (h : td_B a1 a4 false false false false false false tc a5 a6 a7)
    (H0 : td_no a3 → ∀ (t : Int32) (g d f : Nat → Int32), post 0 (4, t, ls, tk, ts, a1, a2, a3, a4, g, d, f, a8, a9, a10))
    (H1 : ∀ (t : Int32) (g d f : Nat → Int32), td_B a1 a4 (td_r a3 1) (td_r a3 2) (td_r a3 3) (td_r a3 9) (td_r a3 10) (td_r a3 17) t g d f → td_D a3 → post 1 (4, t, ls, tk, ts, a1, a2, a3, a4, g, d, f, a8, a9, a10)) :
    wpX_takeRequired post (4, tc, ls, tk, ts, a1, a2, a3, a4, a5, a6, a7, a8, a9, a10) := by
  have b1 := td_b_in (td_r a3 1)
  have b2 := td_b_in (td_r a3 2)
  have b3 := td_b_in (td_r a3 3)
  have b9 := td_b_in (td_r a3 9)
  have b10 := td_b_in (td_r a3 10)
  refine ⟨6, pk_le 4 0 (fun z => absurd z (by omega)) (fun _ => nm_r (nI_1 0) ⟨5, ?_⟩)⟩
  refine td_tr0 hL hP h (fun _ q => ?_) (fun t g d f h q0 => ?_)
  · simp only [td_b_f] at q
    omega
  refine td_tr1 hL hP h (fun _ q => ?_) (fun t g d f h q1 => ?_)
  · simp only [td_b_f] at q
    omega
  refine td_tr2 hL hP h (fun e q => ?_) (fun t g d f h q2 => ?_)
  · simp only [td_b_f] at q
    have q' := td_b2 (show 2 ≤ td_b (td_r a3 1) + td_b (td_r a3 2) by omega)
    exact H0 (td_no3 (Or.inl q'.1) (Or.inl q'.2) (Or.inl e)) _ _ _ _
  refine pk_le 4 4 (fun _ => nm_r (nI_1 0) ?_) (fun z => absurd z (by omega))
  refine pk_le 4 1 (fun z => absurd z (by omega)) (fun _ => nm_r (nI_1 1) ⟨5, ?_⟩)
  refine td_tr3 hL hP h (fun e q => ?_) (fun t g d f h q3 => ?_)
  · simp only [td_b_f] at q
    rcases q with q | q | q
    · omega
    · omega
    · have q' := h.2.2.2.1.mp q
      simp at q'
  refine td_tr4 hL hP h (fun e q => ?_) (fun t g d f h q4 => ?_)
  · simp only [td_b_f] at q
    rcases q with q | q | q
    · have q' := td_b2 q
      exact H0 (td_no3 (Or.inl q'.1) (Or.inr e) (Or.inr q'.2)) _ _ _ _
    · omega
    · have q' := h.2.2.2.2.1.mp q
      simp at q'
  refine pk_le 4 4 (fun _ => nm_r (nI_1 1) ?_) (fun z => absurd z (by omega))
  refine pk_le 4 2 (fun z => absurd z (by omega)) (fun _ => nm_r (nI_1 2) ⟨5, ?_⟩)
  have hG := h.2.2.2.2.2
  refine td_tr5 hL hP h (fun e q => ?_) (fun t g d f h q5 => ?_)
  · rcases q with q | q | q
    · have q' := td_b2 q
      exact H0 (td_no3 (Or.inr e) (Or.inl q'.1) (Or.inr q'.2)) _ _ _ _
    · have q' := td_b2 q
      exact H0 (td_no3 (Or.inr e) (Or.inr q'.2) (Or.inl q'.1)) _ _ _ _
    · have q' := hG.mp q
      rcases q' with q' | q'
      · exact absurd q' (by decide)
      · exact H0 (td_no3 (Or.inr e) (Or.inr (td_r_i.mp q'.2)) (Or.inr (td_r_i.mp q'.1))) _ _ _ _
  refine pk_le 4 4 (fun _ => nm_r (nI_1 2) ?_) (fun z => absurd z (by omega))
  refine pk_le 4 3 (fun z => absurd z (by omega)) (fun _ => nm_r (nI_1 3) ⟨5, ?_⟩)
  refine pk_le 4 4 (fun _ => nm_r (nI_1 3) ?_) (fun z => absurd z (by omega))
  refine pk_le 4 4 (fun _ => ?_) (fun z => absurd z (by omega))
  refine H1 t g d f h ⟨fun y => ?_, fun y => ?_, fun y => ?_, fun y => ?_, fun y => ?_⟩
  · exact td_b2n (q2 y.2.2).1 ⟨y.1, y.2.1⟩
  · exact td_b2n (q4 y.2.2).1 ⟨y.1, y.2.1⟩
  · exact td_b2n (q5 y.2.2).1 ⟨y.1, y.2.1⟩
  · exact td_b2n (q5 y.2.2).2.1 ⟨y.1, y.2.1⟩
  · exact (q5 y.2.2).2.2 (hG.mpr (Or.inr ⟨td_r_t y.1, td_r_t y.2.1⟩))
end
end
section
/-! two of three, the cheapest first -/
def td_pick (l : List (Prop × Int32 × Int32)) (x c : Int32) : Prop :=
  (x = -1 ∧ ∀ t, t ∈ l → ¬ t.1) ∨ (¬ x < 0 ∧ ∃ t, t ∈ l ∧ t.1 ∧ x = t.2.1 ∧ c = t.2.2 ∧ ∀ s, s ∈ l → s.1 → c ≤ s.2.2)
theorem td_pick0 {c : Int32} : td_pick [] (-1) c := Or.inl ⟨rfl, fun t ht => absurd ht (List.not_mem_nil)⟩
theorem td_pickK {l : List (Prop × Int32 × Int32)} {x c p w : Int32} {O : Prop} (h : td_pick l x c) (q : ¬ O ∨ (¬ x < 0 ∧ c ≤ w)) : td_pick ((O, p, w) :: l) x c := by
  rcases h with ⟨h1, h2⟩ | ⟨h1, t, h2, h3, h4, h5, h6⟩
  · refine Or.inl ⟨h1, fun t ht => ?_⟩
    rcases List.mem_cons.mp ht with e | e
    · rcases q with q | q
      · rw [e]
        exact q
      · exact absurd (show x < 0 by rw [h1]; decide) q.1
    · exact h2 t e
  · refine Or.inr ⟨h1, t, List.mem_cons_of_mem _ h2, h3, h4, h5, fun s hs ho => ?_⟩
    rcases List.mem_cons.mp hs with e | e
    · rw [e] at ho ⊢
      rcases q with q | q
      · exact absurd ho q
      · exact q.2
    · exact h6 s e ho
theorem td_pickN {l : List (Prop × Int32 × Int32)} {x c p w : Int32} {O : Prop} (h : td_pick l x c) (o : O) (q : x < 0 ∨ ¬ c ≤ w) (hp : ¬ p < 0) : td_pick ((O, p, w) :: l) p w := by
  refine Or.inr ⟨hp, (O, p, w), List.mem_cons_self, o, rfl, rfl, fun s hs ho => ?_⟩
  rcases List.mem_cons.mp hs with e | e
  · rw [e]
    exact td_le.mpr (Int.le_refl _)
  · rcases h with ⟨h1, h2⟩ | ⟨h1, t, h2, h3, h4, h5, h6⟩
    · exact absurd ho (h2 s e)
    · rcases q with q | q
      · exact absurd q h1
      · have y := h6 s e ho
        rw [td_le] at q y ⊢
        omega
theorem td_pick3 {O1 O2 O3 : Prop} {p1 p2 p3 w1 w2 w3 x c : Int32} (h : td_pick [(O1, p1, w1), (O2, p2, w2), (O3, p3, w3)] x c) :
    (x = -1 ∧ ¬ O1 ∧ ¬ O2 ∧ ¬ O3) ∨ (x = p1 ∧ O1 ∧ (O2 → w1.toInt ≤ w2.toInt) ∧ (O3 → w1.toInt ≤ w3.toInt)) ∨ (x = p2 ∧ O2 ∧ (O1 → w2.toInt ≤ w1.toInt) ∧ (O3 → w2.toInt ≤ w3.toInt)) ∨ (x = p3 ∧ O3 ∧ (O1 → w3.toInt ≤ w1.toInt) ∧ (O2 → w3.toInt ≤ w2.toInt)) := by
  have m1 : (O1, p1, w1) ∈ [(O1, p1, w1), (O2, p2, w2), (O3, p3, w3)] := List.mem_cons_self
  have m2 : (O2, p2, w2) ∈ [(O1, p1, w1), (O2, p2, w2), (O3, p3, w3)] := List.mem_cons_of_mem _ List.mem_cons_self
  have m3 : (O3, p3, w3) ∈ [(O1, p1, w1), (O2, p2, w2), (O3, p3, w3)] := List.mem_cons_of_mem _ (List.mem_cons_of_mem _ List.mem_cons_self)
  rcases h with ⟨h1, h2⟩ | ⟨h1, t, h2, h3, h4, h5, h6⟩
  · exact Or.inl ⟨h1, h2 _ m1, h2 _ m2, h2 _ m3⟩
  · have r1 := h6 _ m1
    have r2 := h6 _ m2
    have r3 := h6 _ m3
    rw [h5] at r1 r2 r3
    rcases List.mem_cons.mp h2 with e | e
    · subst e
      exact Or.inr (Or.inl ⟨h4, h3, fun o => td_le.mp (r2 o), fun o => td_le.mp (r3 o)⟩)
    · rcases List.mem_cons.mp e with e | e
      · subst e
        exact Or.inr (Or.inr (Or.inl ⟨h4, h3, fun o => td_le.mp (r1 o), fun o => td_le.mp (r3 o)⟩))
      · rcases List.mem_cons.mp e with e | e
        · subst e
          exact Or.inr (Or.inr (Or.inr ⟨h4, h3, fun o => td_le.mp (r1 o), fun o => td_le.mp (r2 o)⟩))
        · exact absurd e List.not_mem_nil
def td_Gr (n1 n2 n3 : Int32) (w1 w2 w3 : Int) (c1 c2 c3 : Bool) : Prop :=
  ((c1 = true → td_ok n1) ∧ (c2 = true → td_ok n2) ∧ (c3 = true → td_ok n3)) ∧
  ((n1 = 1 → c1 = true) ∧ (n2 = 1 → c2 = true) ∧ (n3 = 1 → c3 = true)) ∧
  ((c1 = true → c2 = false → n1 = 0 → n2 = 0 → w1 ≤ w2) ∧ (c1 = true → c3 = false → n1 = 0 → n3 = 0 → w1 ≤ w3)) ∧
  ((c2 = true → c1 = false → n2 = 0 → n1 = 0 → w2 ≤ w1) ∧ (c2 = true → c3 = false → n2 = 0 → n3 = 0 → w2 ≤ w3)) ∧
  ((c3 = true → c1 = false → n3 = 0 → n1 = 0 → w3 ≤ w1) ∧ (c3 = true → c2 = false → n3 = 0 → n2 = 0 → w3 ≤ w2))
def td_O (n1 n2 n3 : Int32) (w1 w2 w3 : Int) (c1 c2 c3 : Bool) : Prop :=
  td_b c1 + td_b c2 + td_b c3 = 2 ∧ ((c1 = true → td_ok n1) ∧ (c2 = true → td_ok n2) ∧ (c3 = true → td_ok n3)) ∧ ((c1 = false → n1 ≠ 1) ∧ (c2 = false → n2 ≠ 1) ∧ (c3 = false → n3 ≠ 1)) ∧
  (n1 ≠ 1 → td_ok n2 → td_ok n3 → td_v c1 w1 + td_v c2 w2 + td_v c3 w3 ≤ w2 + w3) ∧
  (n2 ≠ 1 → td_ok n1 → td_ok n3 → td_v c1 w1 + td_v c2 w2 + td_v c3 w3 ≤ w1 + w3) ∧
  (n3 ≠ 1 → td_ok n1 → td_ok n2 → td_v c1 w1 + td_v c2 w2 + td_v c3 w3 ≤ w1 + w2)
theorem td_GrI (N : Nat → Int32) (i j k : Nat) (w1 w2 w3 : Int) : td_Gr (N i) (N j) (N k) w1 w2 w3 (td_r N i) (td_r N j) (td_r N k) := by
  have z : ∀ x : Nat, td_r N x = true → N x = 0 → False := fun x h e => by
    rw [td_r_i.mp h] at e
    exact absurd e (by decide)
  exact ⟨⟨fun h => Or.inr (td_r_i.mp h), fun h => Or.inr (td_r_i.mp h), fun h => Or.inr (td_r_i.mp h)⟩, ⟨fun h => td_r_t h, fun h => td_r_t h, fun h => td_r_t h⟩,
    ⟨fun h _ e _ => (z _ h e).elim, fun h _ e _ => (z _ h e).elim⟩, ⟨fun h _ e _ => (z _ h e).elim, fun h _ e _ => (z _ h e).elim⟩, ⟨fun h _ e _ => (z _ h e).elim, fun h _ e _ => (z _ h e).elim⟩⟩
theorem td_Gr1 {n1 n2 n3 : Int32} {w1 w2 w3 : Int} {c2 c3 : Bool} (h : td_Gr n1 n2 n3 w1 w2 w3 false c2 c3) (e : n1 = 0) (q2 : c2 = false → n2 = 0 → w1 ≤ w2) (q3 : c3 = false → n3 = 0 → w1 ≤ w3) : td_Gr n1 n2 n3 w1 w2 w3 true c2 c3 := by
  obtain ⟨⟨h1, h2, h3⟩, ⟨h4, h5, h6⟩, ⟨h7, h8⟩, ⟨h9, h10⟩, h11, h12⟩ := h
  exact ⟨⟨fun _ => Or.inl e, h2, h3⟩, ⟨fun _ => rfl, h5, h6⟩, ⟨fun _ y _ z => q2 y z, fun _ y _ z => q3 y z⟩, ⟨fun _ y => absurd y (by decide), h10⟩, ⟨fun _ y => absurd y (by decide), h12⟩⟩
theorem td_Gr2 {n1 n2 n3 : Int32} {w1 w2 w3 : Int} {c1 c3 : Bool} (h : td_Gr n1 n2 n3 w1 w2 w3 c1 false c3) (e : n2 = 0) (q1 : c1 = false → n1 = 0 → w2 ≤ w1) (q3 : c3 = false → n3 = 0 → w2 ≤ w3) : td_Gr n1 n2 n3 w1 w2 w3 c1 true c3 := by
  obtain ⟨⟨h1, h2, h3⟩, ⟨h4, h5, h6⟩, ⟨h7, h8⟩, ⟨h9, h10⟩, h11, h12⟩ := h
  exact ⟨⟨h1, fun _ => Or.inl e, h3⟩, ⟨h4, fun _ => rfl, h6⟩, ⟨fun _ y => absurd y (by decide), h8⟩, ⟨fun _ y _ z => q1 y z, fun _ y _ z => q3 y z⟩, ⟨h11, fun _ y => absurd y (by decide)⟩⟩
theorem td_Gr3 {n1 n2 n3 : Int32} {w1 w2 w3 : Int} {c1 c2 : Bool} (h : td_Gr n1 n2 n3 w1 w2 w3 c1 c2 false) (e : n3 = 0) (q1 : c1 = false → n1 = 0 → w3 ≤ w1) (q2 : c2 = false → n2 = 0 → w3 ≤ w2) : td_Gr n1 n2 n3 w1 w2 w3 c1 c2 true := by
  obtain ⟨⟨h1, h2, h3⟩, ⟨h4, h5, h6⟩, ⟨h7, h8⟩, ⟨h9, h10⟩, h11, h12⟩ := h
  exact ⟨⟨h1, h2, fun _ => Or.inl e⟩, ⟨h4, h5, fun _ => rfl⟩, ⟨h7, fun _ y => absurd y (by decide)⟩, ⟨h9, fun _ y => absurd y (by decide)⟩, ⟨fun _ y _ z => q1 y z, fun _ y _ z => q2 y z⟩⟩
theorem td_ok0 {n : Int32} (h : n ≠ 1) (o : td_ok n) : n = 0 := by
  rcases o with o | o
  · exact o
  · exact absurd o h
theorem td_two {c1 c2 c3 : Bool} (h : td_b c1 + td_b c2 + td_b c3 = 2) : (c1 = true ∧ c2 = true ∧ c3 = false) ∨ (c1 = true ∧ c2 = false ∧ c3 = true) ∨ (c1 = false ∧ c2 = true ∧ c3 = true) := by
  revert h
  cases c1 <;> cases c2 <;> cases c3 <;> decide
theorem td_GrO {n1 n2 n3 : Int32} {w1 w2 w3 : Int} {c1 c2 c3 : Bool} (h : td_Gr n1 n2 n3 w1 w2 w3 c1 c2 c3) (hc : td_b c1 + td_b c2 + td_b c3 = 2) : td_O n1 n2 n3 w1 w2 w3 c1 c2 c3 := by
  obtain ⟨⟨h1, h2, h3⟩, ⟨h4, h5, h6⟩, ⟨h7, h8⟩, ⟨h9, h10⟩, h11, h12⟩ := h
  have k1 : c1 = false → n1 ≠ 1 := fun y e => absurd (h4 e) (by rw [y]; decide)
  have k2 : c2 = false → n2 ≠ 1 := fun y e => absurd (h5 e) (by rw [y]; decide)
  have k3 : c3 = false → n3 ≠ 1 := fun y e => absurd (h6 e) (by rw [y]; decide)
  refine ⟨hc, ⟨h1, h2, h3⟩, ⟨k1, k2, k3⟩, ?_, ?_, ?_⟩
  · intro e o2 o3
    rcases td_two hc with ⟨e1, e2, e3⟩ | ⟨e1, e2, e3⟩ | ⟨e1, e2, e3⟩
    · have q := h8 e1 e3 (td_ok0 e (h1 e1)) (td_ok0 (k3 e3) o3)
      rw [e1, e2, e3, td_v_t, td_v_t, td_v_f]
      omega
    · have q := h7 e1 e2 (td_ok0 e (h1 e1)) (td_ok0 (k2 e2) o2)
      rw [e1, e2, e3, td_v_t, td_v_t, td_v_f]
      omega
    · rw [e1, e2, e3, td_v_t, td_v_t, td_v_f]
      omega
  · intro e o1 o3
    rcases td_two hc with ⟨e1, e2, e3⟩ | ⟨e1, e2, e3⟩ | ⟨e1, e2, e3⟩
    · have q := h10 e2 e3 (td_ok0 e (h2 e2)) (td_ok0 (k3 e3) o3)
      rw [e1, e2, e3, td_v_t, td_v_t, td_v_f]
      omega
    · rw [e1, e2, e3, td_v_t, td_v_t, td_v_f]
      omega
    · have q := h9 e2 e1 (td_ok0 e (h2 e2)) (td_ok0 (k1 e1) o1)
      rw [e1, e2, e3, td_v_t, td_v_t, td_v_f]
      omega
  · intro e o1 o2
    rcases td_two hc with ⟨e1, e2, e3⟩ | ⟨e1, e2, e3⟩ | ⟨e1, e2, e3⟩
    · rw [e1, e2, e3, td_v_t, td_v_t, td_v_f]
      omega
    · have q := h12 e3 e2 (td_ok0 e (h3 e3)) (td_ok0 (k2 e2) o2)
      rw [e1, e2, e3, td_v_t, td_v_t, td_v_f]
      omega
    · have q := h11 e3 e1 (td_ok0 e (h3 e3)) (td_ok0 (k1 e1) o1)
      rw [e1, e2, e3, td_v_t, td_v_t, td_v_f]
      omega
/-- nothing is left to pick, and fewer than two are chosen: two are barred -/
theorem td_GrN {n1 n2 n3 : Int32} {w1 w2 w3 : Int} {c1 c2 c3 : Bool} (h : td_Gr n1 n2 n3 w1 w2 w3 c1 c2 c3) (hc : td_b c1 + td_b c2 + td_b c3 < 2) (o1 : c1 = false → n1 ≠ 0) (o2 : c2 = false → n2 ≠ 0) (o3 : c3 = false → n3 ≠ 0) :
    (¬ td_ok n1 ∧ ¬ td_ok n2) ∨ (¬ td_ok n1 ∧ ¬ td_ok n3) ∨ (¬ td_ok n2 ∧ ¬ td_ok n3) := by
  obtain ⟨_, ⟨h4, h5, h6⟩, _⟩ := h
  have k1 : c1 = false → ¬ td_ok n1 := fun y o => o1 y (td_ok0 (fun e => absurd (h4 e) (by rw [y]; decide)) o)
  have k2 : c2 = false → ¬ td_ok n2 := fun y o => o2 y (td_ok0 (fun e => absurd (h5 e) (by rw [y]; decide)) o)
  have k3 : c3 = false → ¬ td_ok n3 := fun y o => o3 y (td_ok0 (fun e => absurd (h6 e) (by rw [y]; decide)) o)
  have q : (c1 = false ∧ c2 = false) ∨ (c1 = false ∧ c3 = false) ∨ (c2 = false ∧ c3 = false) := by
    revert hc
    cases c1 <;> cases c2 <;> cases c3 <;> decide
  rcases q with q | q | q
  · exact Or.inl ⟨k1 q.1, k2 q.2⟩
  · exact Or.inr (Or.inl ⟨k1 q.1, k3 q.2⟩)
  · exact Or.inr (Or.inr ⟨k2 q.1, k3 q.2⟩)
theorem td_noT {N : Nat → Int32} (h : (¬ td_ok (N 9) ∧ ¬ td_ok (N 10)) ∨ (¬ td_ok (N 9) ∧ ¬ td_ok (N 17)) ∨ (¬ td_ok (N 10) ∧ ¬ td_ok (N 17))) : td_no N := by
  refine ⟨fun q => ?_, fun q => ?_, fun q => ?_⟩
  · obtain ⟨_, _, _, _, q1, q2⟩ := q
    rcases h with h | h | h
    · exact h.1 q1
    · exact h.1 q1
    · exact h.1 q2
  · obtain ⟨_, _, _, _, q1, q2⟩ := q
    rcases h with h | h | h
    · exact h.1 q1
    · exact h.1 q1
    · exact h.2 q2
  · obtain ⟨_, _, _, _, q1, q2⟩ := q
    rcases h with h | h | h
    · exact h.2 q1
    · exact h.2 q2
    · exact h.1 q1
theorem td_noZ {N : Nat → Int32} (h : (¬ td_ok (N 1) ∧ ¬ td_ok (N 2)) ∨ (¬ td_ok (N 1) ∧ ¬ td_ok (N 3)) ∨ (¬ td_ok (N 2) ∧ ¬ td_ok (N 3))) : td_no N := by
  refine ⟨fun q => ?_, fun q => ?_, fun q => ?_⟩
  · obtain ⟨_, _, q1, q2, _, _⟩ := q
    rcases h with h | h | h
    · exact h.2 q1
    · exact h.2 q2
    · exact h.1 q1
  · obtain ⟨_, _, q1, q2, _, _⟩ := q
    rcases h with h | h | h
    · exact h.1 q1
    · exact h.1 q1
    · exact h.2 q2
  · obtain ⟨_, _, q1, q2, _, _⟩ := q
    rcases h with h | h | h
    · exact h.1 q1
    · exact h.1 q1
    · exact h.1 q2
end
section
section
variable {tc ls tk ts : Int32} {a1 a2 a3 a4 a5 a6 a7 a8 a9 a10 : Nat → Int32}
theorem td_joined {post : Int32 → Prop} (H1 : a5 2 = a5 1 → a5 3 = a5 1 → post 1) (H0 : ¬ (a5 2 = a5 1 ∧ a5 3 = a5 1) → post 0) : wpX_joined post (4, tc, ls, tk, ts, a1, a2, a3, a4, a5, a6, a7, a8, a9, a10) :=
  ⟨3, pk_le 4 2 (fun z => absurd z (by omega)) (fun _ => ⟨pk_in 2 7 (by omega), br_c (fun e => nm_r (nI_1 2) (pk_le 4 3 (fun z => absurd z (by omega)) (fun _ => ⟨pk_in 3 7 (by omega), br_c (fun e2 => nm_r (nI_1 3) (pk_le 4 4 (fun _ => H1 e e2) (fun z => absurd z (by omega)))) (fun e2 => H0 (fun q => e2 q.2))⟩))) (fun e => H0 (fun q => e q.1))⟩)⟩
theorem td_cjs {post : Int32 → Prop} {J : Int32 → Int32 → Int32 → Prop} {a b n : Nat} {x c : Int32} (ha : a < 4) (hb : b < 4)
    (Hk : (¬ (a3 (a * 7 + b) = 0 ∧ ¬ a5 a = a5 b) ∨ (¬ x < 0 ∧ c ≤ a1 (a * 7 + b) + a4 a + a4 b)) → wX_cheapestJoin_19 post J (nI a) 4 tc ls tk ts a1 a2 a3 a4 a5 a6 a7 a8 a9 a10 n x c (nI (b + 1)))
    (Hn : (a3 (a * 7 + b) = 0 ∧ ¬ a5 a = a5 b) → (x < 0 ∨ ¬ c ≤ a1 (a * 7 + b) + a4 a + a4 b) → wX_cheapestJoin_19 post J (nI a) 4 tc ls tk ts a1 a2 a3 a4 a5 a6 a7 a8 a9 a10 n (nI (a * 7 + b)) (a1 (a * 7 + b) + a4 a + a4 b) (nI (b + 1))) :
    wX_cheapestJoin_19 post J (nI a) 4 tc ls tk ts a1 a2 a3 a4 a5 a6 a7 a8 a9 a10 (n + 1) x c (nI b) := by
  refine pk_le 4 b (fun z => absurd z (by omega)) (fun _ => td_weight ha hb ?_)
  rw [td_pos, nI_clamp (show a * 7 + b < 2 ^ 31 by omega), nI_clamp (show a < 2 ^ 31 by omega), nI_clamp (show b < 2 ^ 31 by omega)]
  refine ⟨pk_in (a * 7 + b) 49 (by omega), br_c (fun e => ⟨pk_in a 7 (by omega), pk_in b 7 (by omega), br_c (fun g => ?_) (fun g => ?_)⟩) (fun e => ?_)⟩
  · exact br_t rfl (nm_r (nI_1 b) (Hk (Or.inl (fun q => q.2 g))))
  · exact br_f (by decide) (br_c (fun y => nm_r (td_pos a b) (nm_r (nI_1 b) (Hn ⟨e, g⟩ (Or.inl y)))) (fun y => br_c (fun y2 => nm_r (nI_1 b) (Hk (Or.inr ⟨y, y2⟩))) (fun y2 => nm_r (td_pos a b) (nm_r (nI_1 b) (Hn ⟨e, g⟩ (Or.inr y2))))))
  · exact br_t rfl (nm_r (nI_1 b) (Hk (Or.inl (fun q => e q.1))))
theorem td_cj {post : Int32 → Prop}
    (H : ∀ x c, td_pick [((a3 17 = 0 ∧ ¬ a5 2 = a5 3), nI 17, a1 17 + a4 2 + a4 3), ((a3 10 = 0 ∧ ¬ a5 1 = a5 3), nI 10, a1 10 + a4 1 + a4 3), ((a3 9 = 0 ∧ ¬ a5 1 = a5 2), nI 9, a1 9 + a4 1 + a4 2)] x c → post x) :
    wpX_cheapestJoin post (4, tc, ls, tk, ts, a1, a2, a3, a4, a5, a6, a7, a8, a9, a10) := by
  have s5 : ∀ x c, td_pick [((a3 17 = 0 ∧ ¬ a5 2 = a5 3), nI 17, a1 17 + a4 2 + a4 3), ((a3 10 = 0 ∧ ¬ a5 1 = a5 3), nI 10, a1 10 + a4 1 + a4 3), ((a3 9 = 0 ∧ ¬ a5 1 = a5 2), nI 9, a1 9 + a4 1 + a4 2)] x c →
      wX_cheapestJoin_6 post 4 tc ls tk ts a1 a2 a3 a4 a5 a6 a7 a8 a9 a10 2 x c (nI 3) := fun x c h =>
    pk_le 4 3 (fun z => absurd z (by omega)) (fun _ => nm_r (nI_1 3) ⟨1, pk_le 4 4 (fun _ => nm_r (nI_1 3) (pk_le 4 4 (fun _ => H x c h) (fun z => absurd z (by omega)))) (fun z => absurd z (by omega))⟩)
  have s4 : ∀ x c, td_pick [((a3 10 = 0 ∧ ¬ a5 1 = a5 3), nI 10, a1 10 + a4 1 + a4 3), ((a3 9 = 0 ∧ ¬ a5 1 = a5 2), nI 9, a1 9 + a4 1 + a4 2)] x c →
      wX_cheapestJoin_6 post 4 tc ls tk ts a1 a2 a3 a4 a5 a6 a7 a8 a9 a10 3 x c (nI 2) := fun x c h =>
    pk_le 4 2 (fun z => absurd z (by omega)) (fun _ => nm_r (nI_1 2) ⟨2, td_cjs (a := 2) (b := 3) (by omega) (by omega)
      (fun q => pk_le 4 4 (fun _ => nm_r (nI_1 2) (s5 _ _ (td_pickK h q))) (fun z => absurd z (by omega)))
      (fun o q => pk_le 4 4 (fun _ => nm_r (nI_1 2) (s5 _ _ (td_pickN h o q (by decide)))) (fun z => absurd z (by omega)))⟩)
  have s3 : ∀ x c, td_pick [((a3 9 = 0 ∧ ¬ a5 1 = a5 2), nI 9, a1 9 + a4 1 + a4 2)] x c →
      wX_cheapestJoin_19 post (wX_cheapestJoin_6 post 4 tc ls tk ts a1 a2 a3 a4 a5 a6 a7 a8 a9 a10 3) (nI 1) 4 tc ls tk ts a1 a2 a3 a4 a5 a6 a7 a8 a9 a10 2 x c (nI 3) := fun x c h =>
    td_cjs (a := 1) (b := 3) (by omega) (by omega)
      (fun q => pk_le 4 4 (fun _ => nm_r (nI_1 1) (s4 _ _ (td_pickK h q))) (fun z => absurd z (by omega)))
      (fun o q => pk_le 4 4 (fun _ => nm_r (nI_1 1) (s4 _ _ (td_pickN h o q (by decide)))) (fun z => absurd z (by omega)))
  exact ⟨4, pk_le 4 1 (fun z => absurd z (by omega)) (fun _ => nm_r (nI_1 1) ⟨3, td_cjs (a := 1) (b := 2) (by omega) (by omega)
    (fun q => s3 _ _ (td_pickK td_pick0 q)) (fun o q => s3 _ _ (td_pickN td_pick0 o q (by decide)))⟩)⟩
theorem td_gop {c3 c4 c5 : Bool} (h : td_G c3 c4 c5 a5) (hc : td_b c3 + td_b c4 + td_b c5 < 2) : (¬ a5 1 = a5 2 ↔ c3 = false) ∧ (¬ a5 1 = a5 3 ↔ c4 = false) ∧ (¬ a5 2 = a5 3 ↔ c5 = false) := by
  obtain ⟨_, e1, e2, e3⟩ := h
  rw [e1, e2, e3]
  revert hc
  cases c3 <;> cases c4 <;> cases c5 <;> decide
theorem td_gcl {c3 c4 c5 : Bool} (h : td_G c3 c4 c5 a5) (hc : td_b c3 + td_b c4 + td_b c5 = 2) : a5 1 = a5 2 ∧ a5 1 = a5 3 ∧ a5 2 = a5 3 := by
  obtain ⟨_, e1, e2, e3⟩ := h
  rw [e1, e2, e3]
  revert hc
  cases c3 <;> cases c4 <;> cases c5 <;> decide
theorem td_grow {post : Int32 → St2 → Prop} {c0 c1 c2 : Bool} (hL : td_L a1) (hP : td_P 1600 a4)
    (H0 : td_no a3 → ∀ (t : Int32) (g d f : Nat → Int32), post 0 (4, t, ls, tk, ts, a1, a2, a3, a4, g, d, f, a8, a9, a10))
    (H1 : ∀ (c3 c4 c5 : Bool) (t : Int32) (g d f : Nat → Int32), td_B a1 a4 c0 c1 c2 c3 c4 c5 t g d f → td_O (a3 9) (a3 10) (a3 17) (td_w a1 a4 9 1 2) (td_w a1 a4 10 1 3) (td_w a1 a4 17 2 3) c3 c4 c5 → post 1 (4, t, ls, tk, ts, a1, a2, a3, a4, g, d, f, a8, a9, a10)) :
    ∀ (m k : Nat) (c3 c4 c5 : Bool) (t : Int32) (g d f : Nat → Int32), k + m ≤ 3 → td_b c3 + td_b c4 + td_b c5 + (m : Int) = 2 → td_B a1 a4 c0 c1 c2 c3 c4 c5 t g d f → td_Gr (a3 9) (a3 10) (a3 17) (td_w a1 a4 9 1 2) (td_w a1 a4 10 1 3) (td_w a1 a4 17 2 3) c3 c4 c5 →
      wX_growTree_2 post (m + 1) (nI k) 4 t ls tk ts a1 a2 a3 a4 g d f a8 a9 a10 := by
  obtain ⟨_, _, _, ⟨w3, _⟩, ⟨w4, _⟩, ⟨w5, _⟩⟩ := td_ws hL hP
  intro m
  induction m with
  | zero =>
    intro k c3 c4 c5 t g d f hk hc hB hG
    have hc' : td_b c3 + td_b c4 + td_b c5 = 2 := by omega
    obtain ⟨e12, e13, e23⟩ := td_gcl hB.2.2 hc'
    refine pk_le 4 k (fun z => absurd z (by omega)) (fun _ => td_cj (fun x c hp => ?_))
    rcases td_pick3 hp with q | q | q | q
    · obtain ⟨q, _⟩ := q
      subst q
      exact br_f (by decide) (td_joined (fun _ _ => ⟨rfl, H1 c3 c4 c5 t g d f hB (td_GrO hG hc')⟩) (fun q => absurd ⟨e12.symm, e13.symm⟩ q))
    · exact absurd e23 q.2.1.2
    · exact absurd e13 q.2.1.2
    · exact absurd e12 q.2.1.2
  | succ m ih =>
    intro k c3 c4 c5 t g d f hk hc hB hG
    have hlt : td_b c3 + td_b c4 + td_b c5 < 2 := by omega
    obtain ⟨o3, o4, o5⟩ := td_gop hB.2.2 hlt
    refine pk_le 4 k (fun z => absurd z (by omega)) (fun _ => td_cj (fun x c hp => ?_))
    rcases td_pick3 hp with ⟨q, q5, q4, q3⟩ | ⟨q, o, q4, q3⟩ | ⟨q, o, q5, q3⟩ | ⟨q, o, q5, q4⟩
    · subst q
      have hno : td_no a3 := td_noT (td_GrN hG hlt (fun y z => q3 ⟨z, o3.mpr y⟩) (fun y z => q4 ⟨z, o4.mpr y⟩) (fun y z => q5 ⟨z, o5.mpr y⟩))
      refine br_f (by decide) (td_joined (fun y1 y2 => ?_) (fun _ => ⟨rfl, H0 hno t g d f⟩))
      exfalso
      have z3 : ¬ c3 = false := fun y => o3.mpr y y1.symm
      have z4 : ¬ c4 = false := fun y => o4.mpr y y2.symm
      rw [eq_true_of_ne_false z3, eq_true_of_ne_false z4, td_b_t] at hlt
      have b5 := td_b_in c5
      omega
    · subst q
      have z := o5.mp o.2
      subst z
      refine br_t (by decide) ⟨by decide, by decide, ?_⟩
      rw [show nI 17 / 7 = nI 2 by decide, show nI 17 - nI 2 * 7 = nI 3 by decide]
      rw [w5, w4] at q4
      rw [w5, w3] at q3
      refine td_tk5 hL hP hB o.2 (fun t g d f hB' => nm_r (nI_1 k) (ih (k + 1) c3 c4 true t g d f (by omega) ?_ hB' (td_Gr3 hG o.1 (fun y z => q3 ⟨z, o3.mpr y⟩) (fun y z => q4 ⟨z, o4.mpr y⟩))))
      rw [td_b_f] at hc
      rw [td_b_t]
      omega
    · subst q
      have z := o4.mp o.2
      subst z
      refine br_t (by decide) ⟨by decide, by decide, ?_⟩
      rw [show nI 10 / 7 = nI 1 by decide, show nI 10 - nI 1 * 7 = nI 3 by decide]
      rw [w4, w5] at q5
      rw [w4, w3] at q3
      refine td_tk4 hL hP hB o.2 (fun t g d f hB' => nm_r (nI_1 k) (ih (k + 1) c3 true c5 t g d f (by omega) ?_ hB' (td_Gr2 hG o.1 (fun y z => q3 ⟨z, o3.mpr y⟩) (fun y z => q5 ⟨z, o5.mpr y⟩))))
      rw [td_b_f] at hc
      rw [td_b_t]
      omega
    · subst q
      have z := o3.mp o.2
      subst z
      refine br_t (by decide) ⟨by decide, by decide, ?_⟩
      rw [show nI 9 / 7 = nI 1 by decide, show nI 9 - nI 1 * 7 = nI 2 by decide]
      rw [w3, w5] at q5
      rw [w3, w4] at q4
      refine td_tk3 hL hP hB o.2 (fun t g d f hB' => nm_r (nI_1 k) (ih (k + 1) true c4 c5 t g d f (by omega) ?_ hB' (td_Gr1 hG o.1 (fun y z => q4 ⟨z, o4.mpr y⟩) (fun y z => q5 ⟨z, o5.mpr y⟩))))
      rw [td_b_f] at hc
      rw [td_b_t]
      omega
theorem td_czs {post : Int32 → St2 → Prop} {J : Int32 → Int32 → Int32 → Int32 → Int32 → Int32 → (Nat → Int32) → (Nat → Int32) → (Nat → Int32) → (Nat → Int32) → (Nat → Int32) → (Nat → Int32) → (Nat → Int32) → (Nat → Int32) → (Nat → Int32) → (Nat → Int32) → Prop} {b n : Nat} {k x c : Int32} (hb : b < 4)
    (Hk : (¬ (a3 b = 0 ∧ a7 b = 0) ∨ (¬ x < 0 ∧ c ≤ a1 b + a4 0 + a4 b)) → wX_closeAtZero_24 post J k 4 tc ls tk ts a1 a2 a3 a4 a5 a6 a7 a8 a9 a10 n x c (nI (b + 1)))
    (Hn : (a3 b = 0 ∧ a7 b = 0) → (x < 0 ∨ ¬ c ≤ a1 b + a4 0 + a4 b) → wX_closeAtZero_24 post J k 4 tc ls tk ts a1 a2 a3 a4 a5 a6 a7 a8 a9 a10 n (nI b) (a1 b + a4 0 + a4 b) (nI (b + 1))) :
    wX_closeAtZero_24 post J k 4 tc ls tk ts a1 a2 a3 a4 a5 a6 a7 a8 a9 a10 (n + 1) x c (nI b) := by
  refine pk_le 4 b (fun z => absurd z (by omega)) (fun _ => td_weight (a := 0) (by omega) hb ?_)
  rw [nI_clamp (show b < 2 ^ 31 by omega), show 0 * 7 + b = b by omega]
  refine ⟨pk_in b 49 (by omega), br_c (fun e => ⟨pk_in b 49 (by omega), br_c (fun g => ?_) (fun g => ?_)⟩) (fun e => ?_)⟩
  · exact br_f (by decide) (br_c (fun y => nm_r (nI_1 b) (Hn ⟨e, g⟩ (Or.inl y))) (fun y => br_c (fun y2 => nm_r (nI_1 b) (Hk (Or.inr ⟨y, y2⟩))) (fun y2 => nm_r (nI_1 b) (Hn ⟨e, g⟩ (Or.inr y2)))))
  · exact br_t rfl (nm_r (nI_1 b) (Hk (Or.inl (fun q => g q.2))))
  · exact br_t rfl (nm_r (nI_1 b) (Hk (Or.inl (fun q => e q.1))))
theorem td_cz {post : Int32 → St2 → Prop} {J : Int32 → Int32 → Int32 → Int32 → Int32 → Int32 → (Nat → Int32) → (Nat → Int32) → (Nat → Int32) → (Nat → Int32) → (Nat → Int32) → (Nat → Int32) → (Nat → Int32) → (Nat → Int32) → (Nat → Int32) → (Nat → Int32) → Prop} {k : Int32}
    (H : ∀ x c, td_pick [((a3 3 = 0 ∧ a7 3 = 0), nI 3, a1 3 + a4 0 + a4 3), ((a3 2 = 0 ∧ a7 2 = 0), nI 2, a1 2 + a4 0 + a4 2), ((a3 1 = 0 ∧ a7 1 = 0), nI 1, a1 1 + a4 0 + a4 1)] x c → wX_closeAtZero_24 post J k 4 tc ls tk ts a1 a2 a3 a4 a5 a6 a7 a8 a9 a10 1 x c (nI 4)) :
    ∃ n, wX_closeAtZero_24 post J k 4 tc ls tk ts a1 a2 a3 a4 a5 a6 a7 a8 a9 a10 n (-1) 0 1 := by
  have s2 : ∀ x c, td_pick [((a3 2 = 0 ∧ a7 2 = 0), nI 2, a1 2 + a4 0 + a4 2), ((a3 1 = 0 ∧ a7 1 = 0), nI 1, a1 1 + a4 0 + a4 1)] x c → wX_closeAtZero_24 post J k 4 tc ls tk ts a1 a2 a3 a4 a5 a6 a7 a8 a9 a10 2 x c (nI 3) := fun x c h =>
    td_czs (by omega) (fun q => H _ _ (td_pickK h q)) (fun o q => H _ _ (td_pickN h o q (by decide)))
  have s1 : ∀ x c, td_pick [((a3 1 = 0 ∧ a7 1 = 0), nI 1, a1 1 + a4 0 + a4 1)] x c → wX_closeAtZero_24 post J k 4 tc ls tk ts a1 a2 a3 a4 a5 a6 a7 a8 a9 a10 3 x c (nI 2) := fun x c h =>
    td_czs (by omega) (fun q => s2 _ _ (td_pickK h q)) (fun o q => s2 _ _ (td_pickN h o q (by decide)))
  exact ⟨4, td_czs (b := 1) (by omega) (fun q => s1 _ _ (td_pickK td_pick0 q)) (fun o q => s1 _ _ (td_pickN td_pick0 o q (by decide)))⟩
theorem td_i0 {c : Bool} {x : Int32} (h : x = td_i c) : x = 0 ↔ c = false := by
  rw [h]
  cases c <;> decide
theorem td_close {post : Int32 → St2 → Prop} {c3 c4 c5 : Bool} (hL : td_L a1) (hP : td_P 1600 a4)
    (H0 : td_no a3 → ∀ (t : Int32) (g d f : Nat → Int32), post 0 (4, t, ls, tk, ts, a1, a2, a3, a4, g, d, f, a8, a9, a10))
    (H1 : ∀ (c0 c1 c2 : Bool) (t : Int32) (g d f : Nat → Int32), td_B a1 a4 c0 c1 c2 c3 c4 c5 t g d f → td_O (a3 1) (a3 2) (a3 3) (td_w a1 a4 1 0 1) (td_w a1 a4 2 0 2) (td_w a1 a4 3 0 3) c0 c1 c2 → post 1 (4, t, ls, tk, ts, a1, a2, a3, a4, g, d, f, a8, a9, a10)) :
    ∀ (m k : Nat) (c0 c1 c2 : Bool) (t : Int32) (g d f : Nat → Int32), k + m ≤ 2 → td_b c0 + td_b c1 + td_b c2 + (m : Int) = 2 → td_B a1 a4 c0 c1 c2 c3 c4 c5 t g d f → td_Gr (a3 1) (a3 2) (a3 3) (td_w a1 a4 1 0 1) (td_w a1 a4 2 0 2) (td_w a1 a4 3 0 3) c0 c1 c2 →
      wX_closeAtZero_2 post (m + 1) (nI k) 4 t ls tk ts a1 a2 a3 a4 g d f a8 a9 a10 := by
  obtain ⟨⟨w0, _⟩, ⟨w1, _⟩, ⟨w2, _⟩, _, _, _⟩ := td_ws hL hP
  intro m
  induction m with
  | zero =>
    intro k c0 c1 c2 t g d f hk hc hB hG
    have hc' : td_b c0 + td_b c1 + td_b c2 = 2 := by omega
    have hd : (d 0).toInt = 2 := by
      rw [hB.2.1.1.1]
      exact hc'
    have hd2 : d 0 = 2 := Int32.toInt.inj hd
    have hp := H1 c0 c1 c2 t g d f hB (td_GrO hG hc')
    exact pk_le 2 k (fun _ => br_t hd2 hp) (fun _ => br_t (by rw [hd2]; decide) (br_t hd2 hp))
  | succ m ih =>
    intro k c0 c1 c2 t g d f hk hc hB hG
    have hlt : td_b c0 + td_b c1 + td_b c2 < 2 := by omega
    have hd : ¬ (2 : Int32) ≤ d 0 := by
      rw [td_le, hB.2.1.1.1]
      exact Int.not_le.mpr hlt
    have o0 := td_i0 hB.2.1.2.1.1
    have o1 := td_i0 hB.2.1.2.1.2.2.1
    have o2 := td_i0 hB.2.1.2.1.2.2.2.2.1
    refine pk_le 2 k (fun z => absurd z (by omega)) (fun _ => br_f hd (td_cz (fun x c hp => pk_le 4 4 (fun _ => ?_) (fun z => absurd z (by omega)))))
    rcases td_pick3 hp with ⟨q, q2, q1, q0⟩ | ⟨q, o, q1, q0⟩ | ⟨q, o, q2, q0⟩ | ⟨q, o, q2, q1⟩
    · subst q
      exact br_f (by decide) (H0 (td_noZ (td_GrN hG hlt (fun y z => q0 ⟨z, o0.mpr y⟩) (fun y z => q1 ⟨z, o1.mpr y⟩) (fun y z => q2 ⟨z, o2.mpr y⟩))) t g d f)
    · subst q
      have z := o2.mp o.2
      subst z
      rw [w2, w1] at q1
      rw [w2, w0] at q0
      refine br_t (by decide) (td_tk2 hL hP hB (fun t g d f hB' => nm_r (nI_1 k) (ih (k + 1) c0 c1 true t g d f (by omega) ?_ hB' (td_Gr3 hG o.1 (fun y z => q0 ⟨z, o0.mpr y⟩) (fun y z => q1 ⟨z, o1.mpr y⟩)))))
      rw [td_b_f] at hc
      rw [td_b_t]
      omega
    · subst q
      have z := o1.mp o.2
      subst z
      rw [w1, w2] at q2
      rw [w1, w0] at q0
      refine br_t (by decide) (td_tk1 hL hP hB (fun t g d f hB' => nm_r (nI_1 k) (ih (k + 1) c0 true c2 t g d f (by omega) ?_ hB' (td_Gr2 hG o.1 (fun y z => q0 ⟨z, o0.mpr y⟩) (fun y z => q2 ⟨z, o2.mpr y⟩)))))
      rw [td_b_f] at hc
      rw [td_b_t]
      omega
    · subst q
      have z := o0.mp o.2
      subst z
      rw [w0, w2] at q2
      rw [w0, w1] at q1
      refine br_t (by decide) (td_tk0 hL hP hB (fun t g d f hB' => nm_r (nI_1 k) (ih (k + 1) true c1 c2 t g d f (by omega) ?_ hB' (td_Gr1 hG o.1 (fun y z => q1 ⟨z, o1.mpr y⟩) (fun y z => q2 ⟨z, o2.mpr y⟩)))))
      rw [td_b_f] at hc
      rw [td_b_t]
      omega
theorem td_cnt {c1 c2 c3 : Bool} (h : ¬ (c1 = true ∧ c2 = true ∧ c3 = true)) : ∃ m : Nat, m ≤ 2 ∧ td_b c1 + td_b c2 + td_b c3 + (m : Int) = 2 := by
  revert h
  cases c1 <;> cases c2 <;> cases c3 <;> intro h
  · exact ⟨2, by decide, by decide⟩
  · exact ⟨1, by decide, by decide⟩
  · exact ⟨1, by decide, by decide⟩
  · exact ⟨0, by decide, by decide⟩
  · exact ⟨1, by decide, by decide⟩
  · exact ⟨0, by decide, by decide⟩
  · exact ⟨0, by decide, by decide⟩
  · exact absurd ⟨rfl, rfl, rfl⟩ h
theorem td_b8 : ∀ j, j < 4 → (nI j).toInt8.toInt32 = nI j := by decide
theorem td_start {g d f : Nat → Int32} (hg : ∀ j, j < 4 → g j = nI j ∧ d j = 0) (hf : ∀ j, j < 49 → f j = 0) : td_B a1 a4 false false false false false false 0 g d f := by
  have e1 := (hg 1 (by omega)).1
  have e2 := (hg 2 (by omega)).1
  have e3 := (hg 3 (by omega)).1
  refine ⟨rfl, ⟨⟨?_, ?_, ?_, ?_⟩, ⟨?_, ?_, ?_, ?_, ?_, ?_, ?_, ?_, ?_, ?_, ?_, ?_⟩, ?_, ?_, ?_⟩, ⟨?_, ?_, ?_⟩, ?_, ?_, ?_⟩
  · rw [(hg 0 (by omega)).2]; rfl
  · rw [(hg 1 (by omega)).2]; rfl
  · rw [(hg 2 (by omega)).2]; rfl
  · rw [(hg 3 (by omega)).2]; rfl
  · exact hf 1 (by omega)
  · exact hf 7 (by omega)
  · exact hf 2 (by omega)
  · exact hf 14 (by omega)
  · exact hf 3 (by omega)
  · exact hf 21 (by omega)
  · exact hf 9 (by omega)
  · exact hf 15 (by omega)
  · exact hf 10 (by omega)
  · exact hf 22 (by omega)
  · exact hf 17 (by omega)
  · exact hf 23 (by omega)
  · exact hf 8 (by omega)
  · exact hf 16 (by omega)
  · exact hf 24 (by omega)
  · rw [e1]; decide
  · rw [e2]; decide
  · rw [e3]; decide
  · rw [e1, e2]; decide
  · rw [e1, e3]; decide
  · rw [e2, e3]; decide
theorem td_build {post : Int32 → St2 → Prop} (hL : td_L a1) (hP : td_P 1600 a4)
    (H0 : td_no a3 → ∀ (t : Int32) (g d f : Nat → Int32), post 0 (4, t, ls, tk, ts, a1, a2, a3, a4, g, d, f, a8, a9, a10))
    (H1 : ∀ (c0 c1 c2 c3 c4 c5 : Bool) (t : Int32) (g d f : Nat → Int32), td_B a1 a4 c0 c1 c2 c3 c4 c5 t g d f → td_O (a3 1) (a3 2) (a3 3) (td_w a1 a4 1 0 1) (td_w a1 a4 2 0 2) (td_w a1 a4 3 0 3) c0 c1 c2 → td_O (a3 9) (a3 10) (a3 17) (td_w a1 a4 9 1 2) (td_w a1 a4 10 1 3) (td_w a1 a4 17 2 3) c3 c4 c5 → td_D a3 → post 1 (4, t, ls, tk, ts, a1, a2, a3, a4, g, d, f, a8, a9, a10)) :
    wpX_build post (4, tc, ls, tk, ts, a1, a2, a3, a4, a5, a6, a7, a8, a9, a10) := by
  refine pk_loop (σ := (Nat → Int32) × (Nat → Int32)) (fun n i s => wX_build_7 post 4 0 ls tk ts n (nI i) a1 a2 a3 a4 s.1 s.2 a7 a8 a9 a10)
    (fun i s => ∀ j, j < i → s.1 j = nI j ∧ s.2 j = 0) 4 0 (a5, a6) (by omega) (fun j hj => absurd hj (by omega)) ?_ ?_
  rotate_left
  · intro n i s hi h hw
    refine pk_le 4 i (fun z => absurd z (by omega)) (fun _ => ?_)
    rw [nI_clamp (show i < 2 ^ 31 by omega)]
    refine ⟨pk_in i 7 (by omega), nm_e ⟨pk_in i 7 (by omega), nm_e (nm_r (nI_1 i) (hw (upd s.1 i (nI i).toInt8.toInt32, upd s.2 i 0) (fun j hj => ?_)))⟩⟩
    show upd s.1 i (nI i).toInt8.toInt32 j = nI j ∧ upd s.2 i 0 j = 0
    by_cases ej : j = i
    · rw [ej, pk_us, pk_us]
      exact ⟨td_b8 i hi, rfl⟩
    · rw [pk_un ej, pk_un ej]
      exact h j (by omega)
  · intro n s hs
    obtain ⟨g, d⟩ := s
    refine pk_le 4 4 (fun _ => ?_) (fun z => absurd z (by omega))
    refine pk_loop (fun n i s => wX_build_38 post 4 0 ls tk ts n (nI i) a1 a2 a3 a4 g d s a8 a9 a10)
      (fun i s => ∀ j, j < i → s j = 0) 49 0 a7 (by omega) (fun j hj => absurd hj (by omega)) ?_ ?_
    rotate_left
    · intro n i s hi h hw
      refine pk_le 49 i (fun z => absurd z (by omega)) (fun _ => ⟨pk_in i 49 (by omega), nm_e (nm_r (nI_1 i) (hw _ (fun j hj => ?_)))⟩)
      rw [nI_clamp (show i < 2 ^ 31 by omega)]
      by_cases ej : j = i
      · rw [ej, pk_us]
      · rw [pk_un ej]
        exact h j (by omega)
    · intro n f hf
      refine pk_le 49 49 (fun _ => ?_) (fun z => absurd z (by omega))
      refine td_req hL hP (td_start hs hf) (fun q t g d f => br_t rfl (H0 q t g d f)) (fun t g d f hB hD => br_f (by decide) ?_)
      obtain ⟨m, hm, hc⟩ := td_cnt (c1 := td_r a3 9) (c2 := td_r a3 10) (c3 := td_r a3 17) (fun y => hD.2.2.2.2 ⟨td_r_i.mp y.1, td_r_i.mp y.2.1, td_r_i.mp y.2.2⟩)
      refine ⟨m + 1, td_grow hL hP (fun q t g d f => br_t rfl (H0 q t g d f)) (fun c3 c4 c5 t g d f hB hO => br_f (by decide) ?_) m 1 _ _ _ t g d f (by omega) hc hB (td_GrI a3 9 10 17 _ _ _)⟩
      obtain ⟨m2, hm2, hc2⟩ := td_cnt (c1 := td_r a3 1) (c2 := td_r a3 2) (c3 := td_r a3 3) (fun y => hD.1 ⟨td_r_i.mp y.1, td_r_i.mp y.2.1, td_r_i.mp y.2.2⟩)
      exact ⟨m2 + 1, td_close hL hP (fun q t g d f => br_t rfl (H0 q t g d f)) (fun c0 c1 c2 t g d f hB hO2 => br_f (by decide) (H1 c0 c1 c2 c3 c4 c5 t g d f hB hO2 hO hD)) m2 0 _ _ _ t g d f (by omega) hc2 hB (td_GrI a3 1 2 3 _ _ _)⟩
end
end
section
section
variable {tc ls tk ts : Int32} {a1 a2 a3 a4 a5 a6 a7 a8 a9 a10 : Nat → Int32}
theorem td_twice {post : Int32 → Prop} (H : post (2 * (0 + a4 0 + a4 1 + a4 2 + a4 3))) : wpX_twicePenalties post (4, tc, ls, tk, ts, a1, a2, a3, a4, a5, a6, a7, a8, a9, a10) :=
  ⟨5, pk_le 4 0 (fun z => absurd z (by omega)) (fun _ => ⟨pk_in 0 7 (by omega), nm_e (nm_r (nI_1 0) (pk_le 4 1 (fun z => absurd z (by omega)) (fun _ => ⟨pk_in 1 7 (by omega), nm_e (nm_r (nI_1 1) (pk_le 4 2 (fun z => absurd z (by omega)) (fun _ => ⟨pk_in 2 7 (by omega), nm_e (nm_r (nI_1 2) (pk_le 4 3 (fun z => absurd z (by omega)) (fun _ => ⟨pk_in 3 7 (by omega), nm_e (nm_r (nI_1 3) (pk_le 4 4 (fun _ => H) (fun z => absurd z (by omega))))⟩)))⟩)))⟩)))⟩)⟩
theorem td_isTour {post : Int32 → Prop} (H1 : a6 0 = 2 → a6 1 = 2 → a6 2 = 2 → a6 3 = 2 → post 1) (H0 : ¬ (a6 0 = 2 ∧ a6 1 = 2 ∧ a6 2 = 2 ∧ a6 3 = 2) → post 0) : wpX_isTour post (4, tc, ls, tk, ts, a1, a2, a3, a4, a5, a6, a7, a8, a9, a10) :=
  ⟨5, pk_le 4 0 (fun z => absurd z (by omega)) (fun _ => ⟨pk_in 0 7 (by omega), br_c (fun e0 => nm_r (nI_1 0) (pk_le 4 1 (fun z => absurd z (by omega)) (fun _ => ⟨pk_in 1 7 (by omega), br_c (fun e1 => nm_r (nI_1 1) (pk_le 4 2 (fun z => absurd z (by omega)) (fun _ => ⟨pk_in 2 7 (by omega), br_c (fun e2 => nm_r (nI_1 2) (pk_le 4 3 (fun z => absurd z (by omega)) (fun _ => ⟨pk_in 3 7 (by omega), br_c (fun e3 => nm_r (nI_1 3) (pk_le 4 4 (fun _ => H1 e0 e1 e2 e3) (fun z => absurd z (by omega)))) (fun e => H0 (fun q => e q.2.2.2))⟩))) (fun e => H0 (fun q => e q.2.2.1))⟩))) (fun e => H0 (fun q => e q.2.1))⟩))) (fun e => H0 (fun q => e q.1))⟩)⟩
theorem td_bend {post : St2 → Prop} {x : Int32} (H : ∀ p : Nat → Int32, (∀ j, j < 4 → p j = a4 j + x * (a6 j - 2)) → post (4, tc, ls, tk, ts, a1, a2, a3, p, a5, a6, a7, a8, a9, a10)) : wpX_bend post (4, tc, ls, tk, ts, a1, a2, a3, a4, a5, a6, a7, a8, a9, a10) x := by
  refine pk_loop (fun n i s => wX_bend_2 post x 4 tc ls tk ts n (nI i) a1 a2 a3 s a5 a6 a7 a8 a9 a10)
    (fun i s => ∀ j, j < 4 → s j = if j < i then a4 j + x * (a6 j - 2) else a4 j) 4 0 a4 (by omega) (fun j _ => by rw [if_neg (by omega)]) ?_ ?_
  · exact fun n s h => pk_le 4 4 (fun _ => H s (fun j hj => by rw [h j hj, if_pos hj])) (fun z => absurd z (by omega))
  · intro n i s hi h hw
    refine pk_le 4 i (fun z => absurd z (by omega)) (fun _ => ⟨pk_in i 7 (by omega), pk_in i 7 (by omega), pk_in i 7 (by omega), nm_e (nm_r (nI_1 i) (hw _ (fun j hj => ?_)))⟩)
    have hs : s i = a4 i := by rw [h i hi, if_neg (by omega)]
    rw [nI_clamp (show i < 2 ^ 31 by omega)]
    by_cases ej : j = i
    · rw [ej, pk_us, if_pos (by omega), hs]
    · rw [pk_un ej, h j hj]
      by_cases q : j < i
      · rw [if_pos q, if_pos (show j < i + 1 by omega)]
      · rw [if_neg q, if_neg (show ¬ j < i + 1 by omega)]
def td_lk (a b : Nat) : Prop := 1 ≤ a ∧ a < 4 ∧ b < 4 ∧ a ≠ b
theorem td_lb1 {post J : Int32 → Prop} {a b n : Nat} (ha : a < 4) (hb : b < 4)
    (H0 : (a6 a ≤ 2 ∨ a7 (a * 7 + b) = 0 ∨ ¬ a3 (a * 7 + b) = 0) → wX_linkToBranch_12 post J (nI a) 4 tc ls tk ts a1 a2 a3 a4 a5 a6 a7 a8 a9 a10 n (nI (b + 1)))
    (H1 : ¬ a6 a ≤ 2 → ¬ a7 (a * 7 + b) = 0 → a3 (a * 7 + b) = 0 → post (nI (a * 7 + b))) :
    wX_linkToBranch_12 post J (nI a) 4 tc ls tk ts a1 a2 a3 a4 a5 a6 a7 a8 a9 a10 (n + 1) (nI b) := by
  refine pk_le 4 b (fun z => absurd z (by omega)) (fun _ => nm_r (td_pos a b) ?_)
  rw [nI_clamp (show a < 2 ^ 31 by omega), nI_clamp (show a * 7 + b < 2 ^ 31 by omega)]
  exact ⟨pk_in a 7 (by omega), br_c (fun e => nm_r (nI_1 b) (H0 (Or.inl e))) (fun e => ⟨pk_in (a * 7 + b) 49 (by omega), br_c (fun e2 => nm_r (nI_1 b) (H0 (Or.inr (Or.inl e2)))) (fun e2 => ⟨pk_in (a * 7 + b) 49 (by omega), br_c (fun e3 => H1 e e2 e3) (fun e3 => nm_r (nI_1 b) (H0 (Or.inr (Or.inr e3))))⟩)⟩)⟩
theorem td_lbr {post J : Int32 → Prop} {a : Nat} (ha : a < 4) (hd : (a6 a).toInt ≤ 2) (H : J (nI (a + 1))) :
    ∃ n, wX_linkToBranch_12 post J (nI a) 4 tc ls tk ts a1 a2 a3 a4 a5 a6 a7 a8 a9 a10 n 0 := by
  have h : a6 a ≤ 2 := td_le.mpr hd
  exact ⟨5, td_lb1 (b := 0) ha (by omega) (fun _ => td_lb1 (b := 1) ha (by omega) (fun _ => td_lb1 (b := 2) ha (by omega) (fun _ => td_lb1 (b := 3) ha (by omega) (fun _ => pk_le 4 4 (fun _ => nm_r (nI_1 a) H) (fun z => absurd z (by omega))) (fun q => absurd h q)) (fun q => absurd h q)) (fun q => absurd h q)) (fun q => absurd h q)⟩
/-- the row of the city with three links -/
theorem td_lbg {post J : Int32 → Prop} {a : Nat} (ha : a < 4) (ha1 : 1 ≤ a) (hd : 2 < (a6 a).toInt) (hs : a7 (a * 7 + a) = 0) (hf : ∀ b, b < 4 → b ≠ a → ¬ a7 (a * 7 + b) = 0) (hn : ¬ ∀ b, b < 4 → b ≠ a → ¬ a3 (a * 7 + b) = 0)
    (H : ∀ a b : Nat, td_lk a b → a3 (a * 7 + b) = 0 → post (nI (a * 7 + b))) :
    ∃ n, wX_linkToBranch_12 post J (nI a) 4 tc ls tk ts a1 a2 a3 a4 a5 a6 a7 a8 a9 a10 n 0 := by
  have h : ¬ a6 a ≤ 2 := fun q => absurd (td_le.mp q) (Int.not_le.mpr hd)
  have K : ∀ b, b < 4 → ¬ a7 (a * 7 + b) = 0 → a3 (a * 7 + b) = 0 → post (nI (a * 7 + b)) := fun b hb q z => H a b ⟨ha1, ha, hb, fun e => q (by rw [← e]; exact hs)⟩ z
  have Z : ∀ b, b < 4 → (a6 a ≤ 2 ∨ a7 (a * 7 + b) = 0 ∨ ¬ a3 (a * 7 + b) = 0) → b ≠ a → ¬ a3 (a * 7 + b) = 0 := fun b hb q e => by
    rcases q with q | q | q
    · exact absurd q h
    · exact absurd q (hf b hb e)
    · exact q
  refine ⟨5, td_lb1 (b := 0) ha (by omega) (fun z0 => td_lb1 (b := 1) ha (by omega) (fun z1 => td_lb1 (b := 2) ha (by omega) (fun z2 => td_lb1 (b := 3) ha (by omega) (fun z3 => absurd ?_ hn) (fun _ => K 3 (by omega))) (fun _ => K 2 (by omega))) (fun _ => K 1 (by omega))) (fun _ => K 0 (by omega))⟩
  intro b hb e
  exact co_4 (P := fun b => b ≠ a → ¬ a3 (a * 7 + b) = 0) (Z 0 (by omega) z0) (Z 1 (by omega) z1) (Z 2 (by omega) z2) (Z 3 (by omega) z3) hb e
def td_Z (N d f : Nat → Int32) : Prop := ∃ c0 c1 c2 c3 c4 c5 : Bool, td_C c0 c1 c2 c3 c4 c5 d f ∧ td_b c0 + td_b c1 + td_b c2 = 2 ∧ td_b c3 + td_b c4 + td_b c5 = 2 ∧
  ((c0 = true → td_ok (N 1)) ∧ (c1 = true → td_ok (N 2)) ∧ (c2 = true → td_ok (N 3))) ∧ ((c3 = true → td_ok (N 9)) ∧ (c4 = true → td_ok (N 10)) ∧ (c5 = true → td_ok (N 17))) ∧ td_D N ∧ ¬ (d 0 = 2 ∧ d 1 = 2 ∧ d 2 = 2 ∧ d 3 = 2)
theorem td_ok1 {n : Int32} (h : td_ok n) (e : ¬ n = 0) : n = 1 := by
  rcases h with h | h
  · exact absurd h e
  · exact h
theorem td_b0 : td_b true = 1 ∧ td_b false = 0 := ⟨rfl, rfl⟩
theorem td_ne0 {x : Int32} (h : x = td_i true) : ¬ x = 0 := by
  rw [h]
  decide
theorem td_lb {post : Int32 → Prop} (hS : td_S a3) (hZ : td_Z a3 a6 a7)
    (H : ∀ a b : Nat, td_lk a b → a3 (a * 7 + b) = 0 → post (nI (a * 7 + b))) :
    wpX_linkToBranch post (4, tc, ls, tk, ts, a1, a2, a3, a4, a5, a6, a7, a8, a9, a10) := by
  obtain ⟨c0, c1, c2, c3, c4, c5, ⟨⟨d0, d1, d2, d3⟩, ⟨f1, f7, f2, f14, f3, f21, f9, f15, f10, f22, f17, f23⟩, f8, f16, f24⟩, n1, n2, ⟨k0, k1, k2⟩, ⟨k3, k4, k5⟩, ⟨_, D1, D2, D3, _⟩, hn⟩ := hZ
  obtain ⟨s7, s14, s21, s15, s22, s23⟩ := hS
  have T : d0 = d0 := rfl
  have G1 : 2 < (a6 1).toInt → c0 = true → c3 = true → c4 = true → ∀ J : Int32 → Prop, ∃ n, wX_linkToBranch_12 post J (nI 1) 4 tc ls tk ts a1 a2 a3 a4 a5 a6 a7 a8 a9 a10 n 0 := by
    intro hd e0 e3 e4 J
    subst e0 e3 e4
    refine td_lbg (a := 1) (by omega) (by omega) hd f8 ?_ ?_ H
    · intro b hb e
      exact co_4 (P := fun b => b ≠ 1 → ¬ a7 (1 * 7 + b) = 0) (fun _ => td_ne0 f7) (fun e => absurd rfl e) (fun _ => td_ne0 f9) (fun _ => td_ne0 f10) hb e
    · intro q
      have q0 : ¬ a3 7 = 0 := q 0 (by omega) (by omega)
      have q2 : ¬ a3 9 = 0 := q 2 (by omega) (by omega)
      have q3 : ¬ a3 10 = 0 := q 3 (by omega) (by omega)
      rw [s7] at q0
      exact D1 ⟨td_ok1 (k0 rfl) q0, td_ok1 (k3 rfl) q2, td_ok1 (k4 rfl) q3⟩
  have G2 : 2 < (a6 2).toInt → c1 = true → c3 = true → c5 = true → ∀ J : Int32 → Prop, ∃ n, wX_linkToBranch_12 post J (nI 2) 4 tc ls tk ts a1 a2 a3 a4 a5 a6 a7 a8 a9 a10 n 0 := by
    intro hd e0 e3 e4 J
    subst e0 e3 e4
    refine td_lbg (a := 2) (by omega) (by omega) hd f16 ?_ ?_ H
    · intro b hb e
      exact co_4 (P := fun b => b ≠ 2 → ¬ a7 (2 * 7 + b) = 0) (fun _ => td_ne0 f14) (fun _ => td_ne0 f15) (fun e => absurd rfl e) (fun _ => td_ne0 f17) hb e
    · intro q
      have q0 : ¬ a3 14 = 0 := q 0 (by omega) (by omega)
      have q2 : ¬ a3 15 = 0 := q 1 (by omega) (by omega)
      have q3 : ¬ a3 17 = 0 := q 3 (by omega) (by omega)
      rw [s14] at q0
      rw [s15] at q2
      exact D2 ⟨td_ok1 (k1 rfl) q0, td_ok1 (k3 rfl) q2, td_ok1 (k5 rfl) q3⟩
  have G3 : 2 < (a6 3).toInt → c2 = true → c4 = true → c5 = true → ∀ J : Int32 → Prop, ∃ n, wX_linkToBranch_12 post J (nI 3) 4 tc ls tk ts a1 a2 a3 a4 a5 a6 a7 a8 a9 a10 n 0 := by
    intro hd e0 e3 e4 J
    subst e0 e3 e4
    refine td_lbg (a := 3) (by omega) (by omega) hd f24 ?_ ?_ H
    · intro b hb e
      exact co_4 (P := fun b => b ≠ 3 → ¬ a7 (3 * 7 + b) = 0) (fun _ => td_ne0 f21) (fun _ => td_ne0 f22) (fun _ => td_ne0 f23) (fun e => absurd rfl e) hb e
    · intro q
      have q0 : ¬ a3 21 = 0 := q 0 (by omega) (by omega)
      have q2 : ¬ a3 22 = 0 := q 1 (by omega) (by omega)
      have q3 : ¬ a3 23 = 0 := q 2 (by omega) (by omega)
      rw [s21] at q0
      rw [s22] at q2
      rw [s23] at q3
      exact D3 ⟨td_ok1 (k2 rfl) q0, td_ok1 (k4 rfl) q2, td_ok1 (k5 rfl) q3⟩
  have R0 : (a6 0).toInt ≤ 2 := by omega
  have E1 : 2 < (a6 1).toInt → c0 = true → c3 = true → c4 = true → wpX_linkToBranch post (4, tc, ls, tk, ts, a1, a2, a3, a4, a5, a6, a7, a8, a9, a10) := fun hd e0 e3 e4 =>
    ⟨2, pk_le 4 0 (fun z => absurd z (by omega)) (fun _ => td_lbr (a := 0) (by omega) R0 (pk_le 4 1 (fun z => absurd z (by omega)) (fun _ => G1 hd e0 e3 e4 _)))⟩
  have E2 : (a6 1).toInt ≤ 2 → 2 < (a6 2).toInt → c1 = true → c3 = true → c5 = true → wpX_linkToBranch post (4, tc, ls, tk, ts, a1, a2, a3, a4, a5, a6, a7, a8, a9, a10) := fun h1 hd e0 e3 e4 =>
    ⟨3, pk_le 4 0 (fun z => absurd z (by omega)) (fun _ => td_lbr (a := 0) (by omega) R0 (pk_le 4 1 (fun z => absurd z (by omega)) (fun _ => td_lbr (a := 1) (by omega) h1 (pk_le 4 2 (fun z => absurd z (by omega)) (fun _ => G2 hd e0 e3 e4 _)))))⟩
  have E3 : (a6 1).toInt ≤ 2 → (a6 2).toInt ≤ 2 → 2 < (a6 3).toInt → c2 = true → c4 = true → c5 = true → wpX_linkToBranch post (4, tc, ls, tk, ts, a1, a2, a3, a4, a5, a6, a7, a8, a9, a10) := fun h1 h2 hd e0 e3 e4 =>
    ⟨4, pk_le 4 0 (fun z => absurd z (by omega)) (fun _ => td_lbr (a := 0) (by omega) R0 (pk_le 4 1 (fun z => absurd z (by omega)) (fun _ => td_lbr (a := 1) (by omega) h1 (pk_le 4 2 (fun z => absurd z (by omega)) (fun _ => td_lbr (a := 2) (by omega) h2 (pk_le 4 3 (fun z => absurd z (by omega)) (fun _ => G3 hd e0 e3 e4 _)))))))⟩
  have t := td_b0.1
  have u := td_b0.2
  have X : ∀ x : Int32, x.toInt = 2 → x = 2 := fun x h => Int32.toInt.inj h
  rcases td_two n1 with ⟨e0, e1, e2⟩ | ⟨e0, e1, e2⟩ | ⟨e0, e1, e2⟩ <;> rcases td_two n2 with ⟨e3, e4, e5⟩ | ⟨e3, e4, e5⟩ | ⟨e3, e4, e5⟩ <;> rw [e0, e1, e2] at d0 <;> rw [e0, e3, e4] at d1 <;> rw [e1, e3, e5] at d2 <;> rw [e2, e4, e5] at d3
  · exact E1 (by omega) e0 e3 e4
  · exact E2 (by omega) (by omega) e1 e3 e5
  · exact absurd ⟨X _ (by omega), X _ (by omega), X _ (by omega), X _ (by omega)⟩ hn
  · exact E1 (by omega) e0 e3 e4
  · exact absurd ⟨X _ (by omega), X _ (by omega), X _ (by omega), X _ (by omega)⟩ hn
  · exact E3 (by omega) (by omega) (by omega) e2 e4 e5
  · exact absurd ⟨X _ (by omega), X _ (by omega), X _ (by omega), X _ (by omega)⟩ hn
  · exact E2 (by omega) (by omega) e1 e3 e5
  · exact E3 (by omega) (by omega) (by omega) e2 e4 e5
end
end
section
section
variable {tc ls tk ts : Int32} {a1 a2 a3 a4 a5 a6 a7 a8 a9 a10 : Nat → Int32}
theorem td_Pm {k l : Int} {p : Nat → Int32} (h : td_P k p) (hl : k ≤ l) : td_P l p := by
  obtain ⟨h0, h1, h2, h3⟩ := h
  exact ⟨by omega, by omega, by omega, by omega⟩
theorem td_Rno {l : Int} (h : td_no a3) : td_R a1 a3 l l := ⟨Int.le_refl l, fun q => absurd q h.1, fun q => absurd q h.2.1, fun q => absurd q h.2.2, Or.inl rfl⟩
theorem td_2P (hP : td_P 1600 a4) : (2 * (0 + a4 0 + a4 1 + a4 2 + a4 3)).toInt = 2 * ((a4 0).toInt + (a4 1).toInt + (a4 2).toInt + (a4 3).toInt) := by
  obtain ⟨h0, h1, h2, h3⟩ := hP
  have z : (0 : Int32).toInt = 0 := rfl
  have w : (2 : Int32).toInt = 2 := rfl
  have e0 : ((0 : Int32) + a4 0).toInt = (a4 0).toInt := by
    rw [td_add (by omega) (by omega)]
    omega
  have e1 : ((0 : Int32) + a4 0 + a4 1).toInt = (a4 0).toInt + (a4 1).toInt := by
    rw [td_add (by omega) (by omega)]
    omega
  have e2 : ((0 : Int32) + a4 0 + a4 1 + a4 2).toInt = (a4 0).toInt + (a4 1).toInt + (a4 2).toInt := by
    rw [td_add (by omega) (by omega)]
    omega
  have e3 : ((0 : Int32) + a4 0 + a4 1 + a4 2 + a4 3).toInt = (a4 0).toInt + (a4 1).toInt + (a4 2).toInt + (a4 3).toInt := by
    rw [td_add (by omega) (by omega)]
    omega
  rw [td_mul (by rw [w, e3]; omega) (by rw [w, e3]; omega), w, e3]
/-- the tree's bound: below every tour that is allowed, and the cost of one where every city has two links -/
theorem td_bd {c0 c1 c2 c3 c4 c5 : Bool} {t : Int32} {g d f : Nat → Int32} (hL : td_L a1) (hP : td_P 1600 a4) (hB : td_B a1 a4 c0 c1 c2 c3 c4 c5 t g d f)
    (hO1 : td_O (a3 1) (a3 2) (a3 3) (td_w a1 a4 1 0 1) (td_w a1 a4 2 0 2) (td_w a1 a4 3 0 3) c0 c1 c2) (hO2 : td_O (a3 9) (a3 10) (a3 17) (td_w a1 a4 9 1 2) (td_w a1 a4 10 1 3) (td_w a1 a4 17 2 3) c3 c4 c5) :
    (td_al1 a3 → (t - 2 * (0 + a4 0 + a4 1 + a4 2 + a4 3)).toInt ≤ td_c1 a1) ∧ (td_al2 a3 → (t - 2 * (0 + a4 0 + a4 1 + a4 2 + a4 3)).toInt ≤ td_c2 a1) ∧ (td_al3 a3 → (t - 2 * (0 + a4 0 + a4 1 + a4 2 + a4 3)).toInt ≤ td_c3 a1) ∧
    (d 0 = 2 → d 1 = 2 → d 2 = 2 → d 3 = 2 → (td_al1 a3 ∧ (t - 2 * (0 + a4 0 + a4 1 + a4 2 + a4 3)).toInt = td_c1 a1) ∨ (td_al2 a3 ∧ (t - 2 * (0 + a4 0 + a4 1 + a4 2 + a4 3)).toInt = td_c2 a1) ∨ (td_al3 a3 ∧ (t - 2 * (0 + a4 0 + a4 1 + a4 2 + a4 3)).toInt = td_c3 a1)) := by
  have hS := td_2P hP
  obtain ⟨⟨_, w0⟩, ⟨_, w1⟩, ⟨_, w2⟩, ⟨_, w3⟩, ⟨_, w4⟩, ⟨_, w5⟩⟩ := td_ws hL hP
  obtain ⟨p0, p1, p2, p3⟩ := hP
  obtain ⟨hT, ⟨⟨d0, d1, d2, d3⟩, _⟩, _⟩ := hB
  have v0 := td_v_in (c := c0) w0
  have v1 := td_v_in (c := c1) w1
  have v2 := td_v_in (c := c2) w2
  have v3 := td_v_in (c := c3) w3
  have v4 := td_v_in (c := c4) w4
  have v5 := td_v_in (c := c5) w5
  unfold td_sum at hT
  have hX : (t - 2 * (0 + a4 0 + a4 1 + a4 2 + a4 3)).toInt = t.toInt - 2 * ((a4 0).toInt + (a4 1).toInt + (a4 2).toInt + (a4 3).toInt) := by
    rw [td_sub (by rw [hS]; omega) (by rw [hS]; omega), hS]
  rw [hX, hT]
  obtain ⟨m1, ⟨k0, k1, k2⟩, ⟨n0, n1, n2⟩, x1, x2, x3⟩ := hO1
  obtain ⟨m2, ⟨k3, k4, k5⟩, ⟨n3, n4, n5⟩, y1, y2, y3⟩ := hO2
  unfold td_c1 td_c2 td_c3
  refine ⟨fun q => ?_, fun q => ?_, fun q => ?_, fun e0 e1 e2 e3 => ?_⟩
  · obtain ⟨q1, q2, q3, q4, q5, q6⟩ := q
    have z1 := x1 q1 q3 q4
    have z2 := y3 q2 q5 q6
    unfold td_w at *
    omega
  · obtain ⟨q1, q2, q3, q4, q5, q6⟩ := q
    have z1 := x2 q1 q3 q4
    have z2 := y2 q2 q5 q6
    unfold td_w at *
    omega
  · obtain ⟨q1, q2, q3, q4, q5, q6⟩ := q
    have z1 := x3 q1 q3 q4
    have z2 := y1 q2 q5 q6
    unfold td_w at *
    omega
  · have t := td_b0.1
    have u := td_b0.2
    have w : (2 : Int32).toInt = 2 := rfl
    rw [e1, w] at d1
    rw [e2, w] at d2
    rw [e3, w] at d3
    rcases td_two m1 with ⟨r0, r1, r2⟩ | ⟨r0, r1, r2⟩ | ⟨r0, r1, r2⟩ <;> rcases td_two m2 with ⟨r3, r4, r5⟩ | ⟨r3, r4, r5⟩ | ⟨r3, r4, r5⟩ <;> rw [r0, r3, r4] at d1 <;> rw [r1, r3, r5] at d2 <;> rw [r2, r4, r5] at d3
    · omega
    · omega
    · refine Or.inr (Or.inr ⟨⟨n2 r2, n3 r3, k0 r0, k1 r1, k4 r4, k5 r5⟩, ?_⟩)
      rw [r0, r1, r2, r3, r4, r5, td_v_t, td_v_t, td_v_f, td_v_f, td_v_t, td_v_t]
      unfold td_w
      omega
    · omega
    · refine Or.inr (Or.inl ⟨⟨n1 r1, n4 r4, k0 r0, k2 r2, k3 r3, k5 r5⟩, ?_⟩)
      rw [r0, r1, r2, r3, r4, r5, td_v_t, td_v_f, td_v_t, td_v_t, td_v_f, td_v_t]
      unfold td_w
      omega
    · omega
    · refine Or.inl ⟨⟨n0 r0, n5 r5, k1 r1, k2 r2, k3 r3, k4 r4⟩, ?_⟩
      rw [r0, r1, r2, r3, r4, r5, td_v_f, td_v_t, td_v_t, td_v_t, td_v_t, td_v_f]
      unfold td_w
      omega
    · omega
    · omega
theorem td_step {s : Int32} (h : 0 ≤ s.toInt ∧ s.toInt ≤ 32) (h2 : ¬ s ≤ 2) : 0 ≤ (s - (s >>> ((2 : Int32) &&& 31))).toInt ∧ (s - (s >>> ((2 : Int32) &&& 31))).toInt ≤ 32 := by
  have e : (s >>> ((2 : Int32) &&& 31)).toInt = s.toInt / 4 := by
    rw [pk_shr s _ 2 (by decide), Int.shiftRight_eq_div_pow]
    rfl
  rw [td_sub (by rw [e]; omega) (by rw [e]; omega), e]
  omega
/-- the penalties after a round -/
theorem td_pen {x : Int32} {p d : Nat → Int32} {k : Int} {j : Nat} (hx : 0 ≤ x.toInt ∧ x.toInt ≤ 32) (hk : 0 ≤ k ∧ k ≤ 1600) (hp : -k ≤ (p j).toInt ∧ (p j).toInt ≤ k) (hd : 0 ≤ (d j).toInt ∧ (d j).toInt ≤ 3) :
    -(k + 64) ≤ (p j + x * (d j - 2)).toInt ∧ (p j + x * (d j - 2)).toInt ≤ k + 64 := by
  have w : (2 : Int32).toInt = 2 := rfl
  have e1 : (d j - 2).toInt = (d j).toInt - 2 := by
    rw [td_sub (by rw [w]; omega) (by rw [w]; omega), w]
  have b1 : -64 ≤ x.toInt * ((d j).toInt - 2) ∧ x.toInt * ((d j).toInt - 2) ≤ 32 := by
    have c : (d j).toInt = 0 ∨ (d j).toInt = 1 ∨ (d j).toInt = 2 ∨ (d j).toInt = 3 := by omega
    rcases c with c | c | c | c <;> rw [c] <;> omega
  have e2 : (x * (d j - 2)).toInt = x.toInt * ((d j).toInt - 2) := by
    rw [td_mul (by rw [e1]; omega) (by rw [e1]; omega), e1]
  rw [td_add (by rw [e2]; omega) (by rw [e2]; omega), e2]
  omega
theorem td_ex28 {post : Int32 → St2 → Prop} (hL : td_L a1) (hS : td_S a3)
    (H1 : ∀ (l t : Int32) (p g d f : Nat → Int32), td_R a1 a3 ls.toInt l.toInt → post (-1) (4, t, l, tk, ts, a1, a2, a3, p, g, d, f, a8, a9, a10))
    (H2 : ∀ (a b : Nat) (t : Int32) (p g d f : Nat → Int32), td_lk a b → a3 (a * 7 + b) = 0 → post (nI (a * 7 + b)) (4, t, ls, tk, ts, a1, a2, a3, p, g, d, f, a8, a9, a10)) :
    ∀ (r k : Nat) (s t : Int32) (p g d f : Nat → Int32), k + r = 24 → (0 ≤ s.toInt ∧ s.toInt ≤ 32) → td_P (64 * (k : Int)) p → (r = 0 → td_Z a3 d f) →
      wX_examine_28 post (r + 1) s (nI k) 4 t ls tk ts a1 a2 a3 p g d f a8 a9 a10 := by
  intro r
  induction r with
  | zero =>
    intro k s t p g d f hk hs hP hZ
    exact pk_le 24 k (fun _ => td_lb hS (hZ rfl) (fun a b h e => H2 a b t p g d f h e)) (fun z => absurd z (by omega))
  | succ r ih =>
    intro k s t p g d f hk hs hP hZ
    have hP' : td_P 1600 p := td_Pm hP (by omega)
    refine pk_le 24 k (fun z => absurd z (by omega)) (fun _ => td_build hL hP' (fun q t g d f => br_t rfl (H1 ls t p g d f (td_Rno q))) (fun c0 c1 c2 c3 c4 c5 t g d f hB hO1 hO2 hD => br_f (by decide) (td_twice (nm_e ?_))))
    obtain ⟨B1, B2, B3, B4⟩ := td_bd hL hP' hB hO1 hO2
    refine br_c (fun y => td_isTour (fun e0 e1 e2 e3 => br_f (by decide) (H1 _ t p g d f ⟨?_, B1, B2, B3, Or.inr (B4 e0 e1 e2 e3)⟩)) (fun e => br_t rfl ?_)) (fun y => H1 ls t p g d f ?_)
    · have y' := td_lt.mp y
      omega
    · have hZ' : td_Z a3 d f := ⟨c0, c1, c2, c3, c4, c5, hB.2.1, hO1.1, hO2.1, hO1.2.1, hO2.2.1, hD, e⟩
      refine pk_le 23 k (fun z => nm_r (nI_1 k) (ih (k + 1) s t p g d f (by omega) hs (td_Pm hP (by omega)) (fun _ => hZ'))) (fun z => td_bend (fun p' hp' => ?_))
      have hP2 : td_P (64 * ((k + 1 : Nat) : Int)) p' := by
        have b0 := td_b_in c0
        have b1 := td_b_in c1
        have b2 := td_b_in c2
        have b3 := td_b_in c3
        have b4 := td_b_in c4
        have b5 := td_b_in c5
        obtain ⟨⟨d0, d1, d2, d3⟩, _⟩ := hB.2.1
        obtain ⟨p0, p1, p2, p3⟩ := hP
        refine ⟨?_, ?_, ?_, ?_⟩
        · rw [hp' 0 (by omega)]
          have q := td_pen (d := d) (j := 0) hs (show 0 ≤ 64 * (k : Int) ∧ 64 * (k : Int) ≤ 1600 by omega) p0 (by omega)
          omega
        · rw [hp' 1 (by omega)]
          have q := td_pen (d := d) (j := 1) hs (show 0 ≤ 64 * (k : Int) ∧ 64 * (k : Int) ≤ 1600 by omega) p1 (by omega)
          omega
        · rw [hp' 2 (by omega)]
          have q := td_pen (d := d) (j := 2) hs (show 0 ≤ 64 * (k : Int) ∧ 64 * (k : Int) ≤ 1600 by omega) p2 (by omega)
          omega
        · rw [hp' 3 (by omega)]
          have q := td_pen (d := d) (j := 3) hs (show 0 ≤ 64 * (k : Int) ∧ 64 * (k : Int) ≤ 1600 by omega) p3 (by omega)
          omega
      exact br_c (fun y => nm_r (nI_1 k) (ih (k + 1) 1 t p' g d f (by omega) (by decide) hP2 (fun _ => hZ'))) (fun y => nm_e (nm_r (nI_1 k) (ih (k + 1) _ t p' g d f (by omega) (td_step hs y) hP2 (fun _ => hZ'))))
    · have y' : ls.toInt ≤ (t - 2 * (0 + p 0 + p 1 + p 2 + p 3)).toInt := Int.not_lt.mp (fun q => y (td_lt.mpr q))
      exact ⟨Int.le_refl _, fun q => Int.le_trans y' (B1 q), fun q => Int.le_trans y' (B2 q), fun q => Int.le_trans y' (B3 q), Or.inl rfl⟩
theorem td_exam {post : Int32 → St2 → Prop} (hL : td_L a1) (hS : td_S a3)
    (H1 : ∀ (l t : Int32) (p g d f : Nat → Int32), td_R a1 a3 ls.toInt l.toInt → post (-1) (4, t, l, tk, ts, a1, a2, a3, p, g, d, f, a8, a9, a10))
    (H2 : ∀ (a b : Nat) (t : Int32) (p g d f : Nat → Int32), td_lk a b → a3 (a * 7 + b) = 0 → post (nI (a * 7 + b)) (4, t, ls, tk, ts, a1, a2, a3, p, g, d, f, a8, a9, a10)) :
    wpX_examine post (4, tc, ls, tk, ts, a1, a2, a3, a4, a5, a6, a7, a8, a9, a10) := by
  refine pk_loop (fun n i s => wX_examine_2 post 4 tc ls tk ts n (nI i) a1 a2 a3 s a5 a6 a7 a8 a9 a10)
    (fun i s => ∀ j, j < i → s j = 0) 4 0 a4 (by omega) (fun j hj => absurd hj (by omega)) ?_ ?_
  · intro n s h
    refine pk_le 4 4 (fun _ => ⟨25, td_ex28 hL hS H1 H2 24 0 32 tc s a5 a6 a7 (by omega) (by decide) ?_ (fun z => absurd z (by omega))⟩) (fun z => absurd z (by omega))
    refine ⟨?_, ?_, ?_, ?_⟩
    · rw [h 0 (by omega)]; decide
    · rw [h 1 (by omega)]; decide
    · rw [h 2 (by omega)]; decide
    · rw [h 3 (by omega)]; decide
  · intro n i s hi h hw
    refine pk_le 4 i (fun z => absurd z (by omega)) (fun _ => ⟨pk_in i 7 (by omega), nm_e (nm_r (nI_1 i) (hw _ (fun j hj => ?_)))⟩)
    rw [nI_clamp (show i < 2 ^ 31 by omega)]
    by_cases ej : j = i
    · rw [ej, pk_us]
    · rw [pk_un ej]
      exact h j (by omega)
end
end
section
section
variable {tc ls tk ts : Int32} {a1 a2 a3 a4 a5 a6 a7 a8 a9 a10 : Nat → Int32}
theorem td_decide {post : St2 → Prop} {a b : Nat} {v : Int32} (ha : a < 4) (hb : b < 4) (hv : v.toInt8.toInt32 = v) (H : post (4, tc, ls, tk, ts, a1, a2, upd (upd a3 (a * 7 + b) v) (b * 7 + a) v, a4, a5, a6, a7, a8, a9, a10)) :
    wpX_decide post (4, tc, ls, tk, ts, a1, a2, a3, a4, a5, a6, a7, a8, a9, a10) (nI a) (nI b) v := by
  unfold wpX_decide
  dsimp only
  rw [td_pos, td_pos, hv, nI_clamp (show a * 7 + b < 2 ^ 31 by omega), nI_clamp (show b * 7 + a < 2 ^ 31 by omega)]
  exact ⟨pk_in (a * 7 + b) 49 (by omega), nm_e ⟨pk_in (b * 7 + a) 49 (by omega), nm_e H⟩⟩
theorem td_dv1 {a b : Nat} (ha : a < 4) (hb : b < 4) : nI (a * 7 + b) / 7 = nI a := by
  have h := pk_div (a := a * 7 + b) (d := 7) (by omega) (by omega) (by omega)
  rw [show (a * 7 + b) / 7 = a by omega] at h
  exact h
theorem td_dv2 {a b : Nat} (ha : a < 4) (hb : b < 4) : nI (a * 7 + b) - nI (a * 7 + b) / 7 * 7 = nI b := by
  have h := pk_rem (a := a * 7 + b) (d := 7) (by omega) (by omega) (by omega)
  rw [show (a * 7 + b) % 7 = b by omega] at h
  exact h
theorem td_b49 : ∀ j, j < 49 → (nI j).toInt8.toInt32 = nI j := by decide +kernel
def td_fz (v : Int32) : Nat := if v = 0 then 1 else 0
def td_fr (N : Nat → Int32) : Nat := td_fz (N 1) + td_fz (N 2) + td_fz (N 3) + td_fz (N 9) + td_fz (N 10) + td_fz (N 17)
theorem td_fz0 : td_fz 0 = 1 ∧ td_fz 1 = 0 ∧ td_fz 2 = 0 := ⟨rfl, rfl, rfl⟩
theorem td_fz1 (v : Int32) : td_fz v ≤ 1 := by
  unfold td_fz
  split <;> omega
theorem td_fr6 (N : Nat → Int32) : td_fr N ≤ 6 := by
  have h1 := td_fz1 (N 1)
  have h2 := td_fz1 (N 2)
  have h3 := td_fz1 (N 3)
  have h4 := td_fz1 (N 9)
  have h5 := td_fz1 (N 10)
  have h6 := td_fz1 (N 17)
  unfold td_fr
  omega
theorem td_up3 {N : Nat → Int32} {i j : Nat} {v w : Int32} : upd (upd (upd (upd N i v) j v) i w) j w = upd (upd N i w) j w := by
  funext k
  unfold upd
  by_cases h1 : k = j <;> by_cases h2 : k = i <;> simp [h1, h2]
theorem td_up0 {N : Nat → Int32} {i j : Nat} {v w : Int32} (h1 : N i = w) (h2 : N j = w) : upd (upd (upd (upd N i v) j v) i w) j w = N := by
  rw [td_up3]
  funext k
  unfold upd
  by_cases e1 : k = j
  · rw [if_pos e1, e1, h2]
  · rw [if_neg e1]
    by_cases e2 : k = i
    · rw [if_pos e2, e2, h1]
    · rw [if_neg e2]
/-- the nine links that a branch can name -/
theorem td_nine {P : Nat → Nat → Prop} {a b : Nat} (h : td_lk a b) (p10 : P 1 0) (p12 : P 1 2) (p13 : P 1 3) (p20 : P 2 0) (p21 : P 2 1) (p23 : P 2 3) (p30 : P 3 0) (p31 : P 3 1) (p32 : P 3 2) : P a b := by
  obtain ⟨h1, h2, h3, h4⟩ := h
  have ha : a = 1 ∨ a = 2 ∨ a = 3 := by omega
  have hb : b = 0 ∨ b = 1 ∨ b = 2 ∨ b = 3 := by omega
  rcases ha with rfl | rfl | rfl <;> rcases hb with rfl | rfl | rfl | rfl <;> first | assumption | exact absurd rfl h4
theorem td_decS {N : Nat → Int32} {v : Int32} (hS : td_S N) {a b : Nat} (h : td_lk a b) : td_S (upd (upd N (a * 7 + b) v) (b * 7 + a) v) := by
  obtain ⟨s1, s2, s3, s4, s5, s6⟩ := hS
  refine td_nine (P := fun a b => td_S (upd (upd N (a * 7 + b) v) (b * 7 + a) v)) h ?_ ?_ ?_ ?_ ?_ ?_ ?_ ?_ ?_
  · exact ⟨rfl, s2, s3, s4, s5, s6⟩
  · exact ⟨s1, s2, s3, rfl, s5, s6⟩
  · exact ⟨s1, s2, s3, s4, rfl, s6⟩
  · exact ⟨s1, rfl, s3, s4, s5, s6⟩
  · exact ⟨s1, s2, s3, rfl, s5, s6⟩
  · exact ⟨s1, s2, s3, s4, s5, rfl⟩
  · exact ⟨s1, s2, rfl, s4, s5, s6⟩
  · exact ⟨s1, s2, s3, s4, rfl, s6⟩
  · exact ⟨s1, s2, s3, s4, s5, rfl⟩
/-- the link both ways is free -/
theorem td_decJ {N : Nat → Int32} (hS : td_S N) {a b : Nat} (h : td_lk a b) (e : N (a * 7 + b) = 0) : N (b * 7 + a) = 0 := by
  obtain ⟨s1, s2, s3, s4, s5, s6⟩ := hS
  revert e
  exact td_nine (P := fun a b => N (a * 7 + b) = 0 → N (b * 7 + a) = 0) h (fun e => s1.symm.trans e) (fun e => s4.trans e) (fun e => s5.trans e) (fun e => s2.symm.trans e) (fun e => s4.symm.trans e) (fun e => s6.trans e) (fun e => s3.symm.trans e) (fun e => s5.symm.trans e) (fun e => s6.symm.trans e)
theorem td_decF {N : Nat → Int32} {v : Int32} (hv : td_fz v = 0) (hS : td_S N) {a b : Nat} (h : td_lk a b) (e : N (a * 7 + b) = 0) : td_fr (upd (upd N (a * 7 + b) v) (b * 7 + a) v) + 1 = td_fr N := by
  have e2 := td_decJ hS h e
  have z : td_fz 0 = 1 := rfl
  revert e e2
  refine td_nine (P := fun a b => N (a * 7 + b) = 0 → N (b * 7 + a) = 0 → td_fr (upd (upd N (a * 7 + b) v) (b * 7 + a) v) + 1 = td_fr N) h ?_ ?_ ?_ ?_ ?_ ?_ ?_ ?_ ?_
  · intro e e2
    show td_fz v + td_fz (N 2) + td_fz (N 3) + td_fz (N 9) + td_fz (N 10) + td_fz (N 17) + 1 = td_fz (N 1) + td_fz (N 2) + td_fz (N 3) + td_fz (N 9) + td_fz (N 10) + td_fz (N 17)
    rw [show N 1 = 0 from e2]
    omega
  · intro e e2
    show td_fz (N 1) + td_fz (N 2) + td_fz (N 3) + td_fz v + td_fz (N 10) + td_fz (N 17) + 1 = td_fz (N 1) + td_fz (N 2) + td_fz (N 3) + td_fz (N 9) + td_fz (N 10) + td_fz (N 17)
    rw [show N 9 = 0 from e]
    omega
  · intro e e2
    show td_fz (N 1) + td_fz (N 2) + td_fz (N 3) + td_fz (N 9) + td_fz v + td_fz (N 17) + 1 = td_fz (N 1) + td_fz (N 2) + td_fz (N 3) + td_fz (N 9) + td_fz (N 10) + td_fz (N 17)
    rw [show N 10 = 0 from e]
    omega
  · intro e e2
    show td_fz (N 1) + td_fz v + td_fz (N 3) + td_fz (N 9) + td_fz (N 10) + td_fz (N 17) + 1 = td_fz (N 1) + td_fz (N 2) + td_fz (N 3) + td_fz (N 9) + td_fz (N 10) + td_fz (N 17)
    rw [show N 2 = 0 from e2]
    omega
  · intro e e2
    show td_fz (N 1) + td_fz (N 2) + td_fz (N 3) + td_fz v + td_fz (N 10) + td_fz (N 17) + 1 = td_fz (N 1) + td_fz (N 2) + td_fz (N 3) + td_fz (N 9) + td_fz (N 10) + td_fz (N 17)
    rw [show N 9 = 0 from e2]
    omega
  · intro e e2
    show td_fz (N 1) + td_fz (N 2) + td_fz (N 3) + td_fz (N 9) + td_fz (N 10) + td_fz v + 1 = td_fz (N 1) + td_fz (N 2) + td_fz (N 3) + td_fz (N 9) + td_fz (N 10) + td_fz (N 17)
    rw [show N 17 = 0 from e]
    omega
  · intro e e2
    show td_fz (N 1) + td_fz (N 2) + td_fz v + td_fz (N 9) + td_fz (N 10) + td_fz (N 17) + 1 = td_fz (N 1) + td_fz (N 2) + td_fz (N 3) + td_fz (N 9) + td_fz (N 10) + td_fz (N 17)
    rw [show N 3 = 0 from e2]
    omega
  · intro e e2
    show td_fz (N 1) + td_fz (N 2) + td_fz (N 3) + td_fz (N 9) + td_fz v + td_fz (N 17) + 1 = td_fz (N 1) + td_fz (N 2) + td_fz (N 3) + td_fz (N 9) + td_fz (N 10) + td_fz (N 17)
    rw [show N 10 = 0 from e2]
    omega
  · intro e e2
    show td_fz (N 1) + td_fz (N 2) + td_fz (N 3) + td_fz (N 9) + td_fz (N 10) + td_fz v + 1 = td_fz (N 1) + td_fz (N 2) + td_fz (N 3) + td_fz (N 9) + td_fz (N 10) + td_fz (N 17)
    rw [show N 17 = 0 from e2]
    omega
/-- a free link is barred or required in every tour -/
def td_half (N N2 N1 : Nat → Int32) : Prop := (td_al1 N ↔ (td_al1 N2 ∨ td_al1 N1)) ∧ (td_al2 N ↔ (td_al2 N2 ∨ td_al2 N1)) ∧ (td_al3 N ↔ (td_al3 N2 ∨ td_al3 N1))
theorem td_Rc {N N2 N1 : Nat → Int32} {l m1 m : Int} (h : td_half N N2 N1) (r2 : td_R a1 N2 l m1) (r1 : td_R a1 N1 m1 m) : td_R a1 N l m := by
  obtain ⟨h1, h2, h3⟩ := h
  obtain ⟨p0, p1, p2, p3, p4⟩ := r2
  obtain ⟨q0, q1, q2, q3, q4⟩ := r1
  refine ⟨Int.le_trans q0 p0, fun x => ?_, fun x => ?_, fun x => ?_, ?_⟩
  · rcases h1.mp x with y | y
    · exact Int.le_trans q0 (p1 y)
    · exact q1 y
  · rcases h2.mp x with y | y
    · exact Int.le_trans q0 (p2 y)
    · exact q2 y
  · rcases h3.mp x with y | y
    · exact Int.le_trans q0 (p3 y)
    · exact q3 y
  · rcases q4 with y | y | y | y
    · rw [y]
      rcases p4 with z | z | z | z
      · exact Or.inl z
      · exact Or.inr (Or.inl ⟨h1.mpr (Or.inl z.1), z.2⟩)
      · exact Or.inr (Or.inr (Or.inl ⟨h2.mpr (Or.inl z.1), z.2⟩))
      · exact Or.inr (Or.inr (Or.inr ⟨h3.mpr (Or.inl z.1), z.2⟩))
    · exact Or.inr (Or.inl ⟨h1.mpr (Or.inr y.1), y.2⟩)
    · exact Or.inr (Or.inr (Or.inl ⟨h2.mpr (Or.inr y.1), y.2⟩))
    · exact Or.inr (Or.inr (Or.inr ⟨h3.mpr (Or.inr y.1), y.2⟩))
theorem td_decA {N : Nat → Int32} (hS : td_S N) {a b : Nat} (h : td_lk a b) (e : N (a * 7 + b) = 0) : td_half N (upd (upd N (a * 7 + b) 2) (b * 7 + a) 2) (upd (upd N (a * 7 + b) 1) (b * 7 + a) 1) := by
  have e2 := td_decJ hS h e
  revert e e2
  refine td_nine (P := fun a b => N (a * 7 + b) = 0 → N (b * 7 + a) = 0 → td_half N (upd (upd N (a * 7 + b) 2) (b * 7 + a) 2) (upd (upd N (a * 7 + b) 1) (b * 7 + a) 1)) h ?_ ?_ ?_ ?_ ?_ ?_ ?_ ?_ ?_ <;>
  · intro e e2
    simp at e e2
    simp [td_half, td_al1, td_al2, td_al3, td_ok, upd, e, e2]
/-- the answer of a question -/
def td_V (a1 N : Nat → Int32) (v : Int) : Prop := (td_no N ∧ v = -1) ∨ ((td_al1 N → v ≤ td_c1 a1) ∧ (td_al2 N → v ≤ td_c2 a1) ∧ (td_al3 N → v ≤ td_c3 a1) ∧ ((td_al1 N ∧ v = td_c1 a1) ∨ (td_al2 N ∧ v = td_c2 a1) ∨ (td_al3 N ∧ v = td_c3 a1)))
end
end
section
section
variable {tc ls tk ts : Int32} {a1 a2 a3 a4 a5 a6 a7 a8 a9 a10 : Nat → Int32}
theorem td_m1 (k : Nat) : nI k + (-1) = nI k - 1 := by
  rw [Int32.sub_eq_add_neg]
theorem td_pw (q : Nat) : 2 ≤ 2 ^ (q + 1) := by
  have h : 1 ≤ 2 ^ q := Nat.one_le_two_pow
  rw [Nat.pow_succ]
  omega
/-- a node's whole branch: what it leaves behind -/
theorem td_sub1 {post : Int32 → St2 → Prop} (hL : td_L a1) : ∀ (q v n x : Nat) (ls t : Int32) (N p g d f bl bb : Nat → Int32), td_S N → td_fr N ≤ q → v + q ≤ 6 → n + x = 200 → x + 2 ^ (q + 1) ≤ 200 →
    (∀ (n' x' : Nat) (l t : Int32) (p g d f bl' bb' : Nat → Int32), n' + x' = 200 → x' + 2 ≤ x + 2 ^ (q + 1) → (∀ j, j < v → bl' j = bl j) → (∀ j, j < v → bb' j = bb j) → td_R a1 N ls.toInt l.toInt →
      wX_solve_34 post (wX_solve_12 post n') (nI v) 1 (nI x') (-1) 4 t l tk ts a1 a2 N p g d f bl' bb' a10) →
    wX_solve_12 post (n + 1) (nI v) 1 (nI x) 4 t ls tk ts a1 a2 N p g d f bl bb a10 := by
  intro q
  induction q with
  | zero =>
    intro v n x ls t N p g d f bl bb hS hF hv hn hx H
    refine pk_le 4194304 x (fun z => absurd z (by omega)) (fun _ => pk_lt v 0 (fun z => absurd z (by omega)) (fun _ => br_f (by decide) (td_exam hL hS (fun l t p g d f hR => ?_) (fun a b t p g d f hlk e => ?_))))
    · exact H n x l t p g d f bl bb hn (by omega) (fun _ _ => rfl) (fun _ _ => rfl) hR
    · have z := td_decF (v := 1) rfl hS hlk e
      omega
  | succ q ih =>
    intro v n x ls t N p g d f bl bb hS hF hv hn hx H
    have hpw := td_pw q
    have hpp : 2 ^ (q + 1 + 1) = 2 * 2 ^ (q + 1) := by rw [Nat.pow_succ 2 (q + 1)]; omega
    rw [hpp] at hx H
    refine pk_le 4194304 x (fun z => absurd z (by omega)) (fun _ => pk_lt v 0 (fun z => absurd z (by omega)) (fun _ => br_f (by decide) (td_exam hL hS (fun l t p g d f hR => ?_) (fun a b t p g d f hlk e => ?_))))
    · exact H n x l t p g d f bl bb hn (by omega) (fun _ _ => rfl) (fun _ _ => rfl) hR
    · have ha : a < 4 := hlk.2.1
      have hb : b < 4 := hlk.2.2.1
      have e' := td_decJ hS hlk e
      have hN : nI (a * 7 + b) / 7 = nI a := td_dv1 ha hb
      have hM : nI (a * 7 + b) - nI (a * 7 + b) / 7 * 7 = nI b := td_dv2 ha hb
      have hF2 := td_decF (v := 2) rfl hS hlk e
      have hF1 := td_decF (v := 1) rfl hS hlk e
      obtain ⟨n0, rfl⟩ : ∃ n0, n = n0 + 1 := ⟨n - 1, by omega⟩
      refine br_f (nI_pos (by omega)) ?_
      rw [hM, hN, nI_clamp (show v < 2 ^ 31 by omega), td_b49 (a * 7 + b) (by omega)]
      refine ⟨pk_in v 24 (by omega), nm_e ⟨pk_in v 24 (by omega), nm_e ⟨by decide, by decide, td_decide ha hb (by decide) (nm_r (nI_1 v) (nm_r (nI_1 x) ?_))⟩⟩⟩
      refine ih (v + 1) n0 (x + 1) ls t _ p g d f _ _ (td_decS hS hlk) (by omega) (by omega) (by omega) (by omega) ?_
      intro n' x' l t p g d f bl' bb' hn' hx' hbl hbb hR
      have q1 : bl' v = nI (a * 7 + b) := by rw [hbl v (by omega), pk_us]
      have q2 : bb' v = 0 := by rw [hbb v (by omega), pk_us]
      obtain ⟨n1, rfl⟩ : ∃ n1, n' = n1 + 1 := ⟨n' - 1, by omega⟩
      refine br_t (by decide) (nm_r (nI_pred v) ⟨1, pk_lt v 0 (fun z => absurd z (by omega)) (fun _ => ⟨pk_in v 24 (by omega), ?_⟩)⟩)
      rw [nI_clamp (show v < 2 ^ 31 by omega)]
      refine br_t q2 (pk_le 0 v (fun _ => ?_) (fun z => absurd z (by omega)))
      rw [nI_clamp (show v < 2 ^ 31 by omega), q1, hM, hN]
      refine ⟨pk_in v 24 (by omega), nm_e ⟨pk_in v 24 (by omega), by decide, pk_in v 24 (by omega), by decide, td_decide ha hb (by decide) ?_⟩⟩
      rw [td_up3, nI_1 v]
      refine br_f (nI_pos (by omega)) (nm_r (nI_1 x') ?_)
      refine ih (v + 1) n1 (x' + 1) l t _ p g d f _ _ (td_decS hS hlk) (by omega) (by omega) (by omega) (by omega) ?_
      intro n'' x'' l2 t p g d f bl2 bb2 hn2 hx2 hbl2 hbb2 hR2
      have q3 : bl2 v = nI (a * 7 + b) := by rw [hbl2 v (by omega), q1]
      have q4 : ¬ bb2 v = 0 := by
        rw [hbb2 v (by omega), pk_us]
        decide
      have hH := And.left (H n'' x'' l2 t p g d f bl2 bb2 hn2 (by omega)
        (fun j hj => by rw [hbl2 j (by omega), hbl j (by omega), pk_un (by omega)])
        (fun j hj => by rw [hbb2 j (by omega), pk_un (by omega), hbb j (by omega), pk_un (by omega)])
        (td_Rc (td_decA hS hlk e) hR hR2)) (by decide)
      obtain ⟨fu, hfu⟩ := hH (nI v - 1) rfl
      refine br_t (by decide) (nm_r (nI_pred v) ⟨fu + 1, pk_lt v 0 (fun z => absurd z (by omega)) (fun _ => ⟨pk_in v 24 (by omega), ?_⟩)⟩)
      rw [nI_clamp (show v < 2 ^ 31 by omega)]
      refine br_f q4 ⟨pk_in v 24 (by omega), by decide, pk_in v 24 (by omega), by decide, ?_⟩
      rw [q3, hM, hN]
      refine td_decide ha hb (by decide) (nm_r (td_m1 v) ?_)
      rw [td_up0 e e']
      exact hfu
theorem td_RV {l : Int} (hL : td_L a1) (h : td_R a1 a3 1000000 l) : (l = 1000000 → td_V a1 a3 (-1)) ∧ (l ≠ 1000000 → td_V a1 a3 l) := by
  obtain ⟨h0, h1, h2, h3, h4⟩ := h
  have z1 : td_c1 a1 < 1000000 := by
    obtain ⟨l1, l2, l3, l9, l10, l17⟩ := hL
    unfold td_c1
    omega
  have z2 : td_c2 a1 < 1000000 := by
    obtain ⟨l1, l2, l3, l9, l10, l17⟩ := hL
    unfold td_c2
    omega
  have z3 : td_c3 a1 < 1000000 := by
    obtain ⟨l1, l2, l3, l9, l10, l17⟩ := hL
    unfold td_c3
    omega
  refine ⟨fun e => Or.inl ⟨⟨fun q => ?_, fun q => ?_, fun q => ?_⟩, rfl⟩, fun e => Or.inr ⟨h1, h2, h3, ?_⟩⟩
  · have y := h1 q
    omega
  · have y := h2 q
    omega
  · have y := h3 q
    omega
  · rcases h4 with y | y
    · exact absurd y e
    · exact y
theorem td_solve {post : Int32 → St2 → Prop} (hL : td_L a1) (hS : td_S a3)
    (H : ∀ (r l t : Int32) (p g d f bl bb : Nat → Int32), td_V a1 a3 r.toInt → post r (4, t, l, tk, ts, a1, a2, a3, p, g, d, f, bl, bb, a10)) :
    wpX_solve post (4, tc, ls, tk, ts, a1, a2, a3, a4, a5, a6, a7, a8, a9, a10) := by
  refine ⟨201, td_sub1 hL 6 0 200 0 1000000 tc a3 a4 a5 a6 a7 a8 a9 hS (td_fr6 a3) (by omega) (by omega) (by omega) ?_⟩
  intro n' x' l t p g d f bl bb hn' hx' _ _ hR
  obtain ⟨n1, rfl⟩ : ∃ n1, n' = n1 + 1 := ⟨n' - 1, by omega⟩
  obtain ⟨V1, V2⟩ := td_RV hL hR
  refine br_t (by decide) (nm_r (show nI 0 - 1 = -1 by decide) ⟨1, br_t (by decide) (br_f (by decide) (br_t (by decide) (nm_r (nI_1 x') (pk_le 4194304 (x' + 1) (fun z => absurd z (by omega)) (fun _ => br_t (by decide) ?_)))))⟩)
  refine br_c (fun e => H (-1) l t p g d f bl bb (V1 ?_)) (fun e => H l l t p g d f bl bb (V2 ?_))
  · rw [e]
    rfl
  · intro y
    exact e (Int32.toInt.inj y)
end
end
section
section
variable {tc ls tk ts : Int32} {a1 a2 a3 a4 a5 a6 a7 a8 a9 a10 : Nat → Int32}
/-- the rules of the law's object: one link has the rule w -/
def td_Ru (N : Nat → Int32) (w : Int32) : Prop := (N 1 = 0 ∧ N 7 = 0) ∧ (N 2 = 0 ∧ N 14 = 0) ∧ (N 3 = w ∧ N 21 = w) ∧ (N 9 = 0 ∧ N 15 = 0) ∧ (N 10 = 0 ∧ N 22 = 0) ∧ (N 17 = 0 ∧ N 23 = 0)
def td_w3 (w : Int32) : Prop := w = 0 ∨ w = 1 ∨ w = 2
theorem td_RuS {N : Nat → Int32} {w : Int32} (h : td_Ru N w) : td_S N := by
  obtain ⟨⟨x1, y1⟩, ⟨x2, y2⟩, ⟨x3, y3⟩, ⟨x4, y4⟩, ⟨x5, y5⟩, ⟨x6, y6⟩⟩ := h
  exact ⟨by rw [x1, y1], by rw [x2, y2], by rw [x3, y3], by rw [x4, y4], by rw [x5, y5], by rw [x6, y6]⟩
theorem td_nar0 : vp_nar .byte 0 = 0 := by
  rw [vp_nar_byte]
  decide
theorem td_narw {w : Int32} (h : td_w3 w) : vp_nar .byte w = w := by
  rw [vp_nar_byte]
  rcases h with h | h | h <;> rw [h] <;> decide
theorem td_ask {post : St2 → Prop} {w : Int32} (hA : td_Ru a2 w) (hw : td_w3 w) (H : ∀ N : Nat → Int32, td_Ru N w → post (4, tc, ls, tk, ts, a1, a2, N, a4, a5, a6, a7, a8, a9, a10)) :
    wpX_askPlainly post (4, tc, ls, tk, ts, a1, a2, a3, a4, a5, a6, a7, a8, a9, a10) := by
  refine pk_loop (fun n i s => wX_askPlainly_2 post 4 tc ls tk ts n (nI i) a1 a2 s a4 a5 a6 a7 a8 a9 a10)
    (fun i s => ∀ j, j < i → s j = vp_nar .byte (a2 j)) 49 0 a3 (by omega) (fun j hj => absurd hj (by omega)) ?_ ?_
  · intro n s h
    refine pk_le 49 49 (fun _ => H s ?_) (fun z => absurd z (by omega))
    obtain ⟨⟨x1, y1⟩, ⟨x2, y2⟩, ⟨x3, y3⟩, ⟨x4, y4⟩, ⟨x5, y5⟩, ⟨x6, y6⟩⟩ := hA
    have z := td_nar0
    have zw := td_narw hw
    exact ⟨⟨by rw [h 1 (by omega), x1, z], by rw [h 7 (by omega), y1, z]⟩, ⟨by rw [h 2 (by omega), x2, z], by rw [h 14 (by omega), y2, z]⟩, ⟨by rw [h 3 (by omega), x3, zw], by rw [h 21 (by omega), y3, zw]⟩,
      ⟨by rw [h 9 (by omega), x4, z], by rw [h 15 (by omega), y4, z]⟩, ⟨by rw [h 10 (by omega), x5, z], by rw [h 22 (by omega), y5, z]⟩, ⟨by rw [h 17 (by omega), x6, z], by rw [h 23 (by omega), y6, z]⟩⟩
  · intro n i s hi h hw
    refine pk_le 49 i (fun z => absurd z (by omega)) (fun _ => ?_)
    rw [nI_clamp (show i < 2 ^ 31 by omega)]
    refine ⟨pk_in i 49 (by omega), pk_in i 49 (by omega), nm_e (nm_r (nI_1 i) (hw _ (fun j hj => ?_)))⟩
    by_cases ej : j = i
    · rw [ej, pk_us]
    · rw [pk_un ej]
      exact h j (by omega)
theorem td_twelve {P : Nat → Nat → Prop} {a b : Nat} (h1 : a < 4) (h2 : b < 4) (h4 : a ≠ b) (p01 : P 0 1) (p02 : P 0 2) (p03 : P 0 3) (p10 : P 1 0) (p12 : P 1 2) (p13 : P 1 3) (p20 : P 2 0) (p21 : P 2 1) (p23 : P 2 3) (p30 : P 3 0) (p31 : P 3 1) (p32 : P 3 2) : P a b := by
  have ha : a = 0 ∨ a = 1 ∨ a = 2 ∨ a = 3 := by omega
  have hb : b = 0 ∨ b = 1 ∨ b = 2 ∨ b = 3 := by omega
  rcases ha with rfl | rfl | rfl | rfl <;> rcases hb with rfl | rfl | rfl | rfl <;> first | assumption | exact absurd rfl h4
theorem td_putS {N : Nat → Int32} {v : Int32} (hS : td_S N) {a b : Nat} (ha : a < 4) (hb : b < 4) (hab : a ≠ b) : td_S (upd (upd N (a * 7 + b) v) (b * 7 + a) v) := by
  obtain ⟨s1, s2, s3, s4, s5, s6⟩ := hS
  refine td_twelve (P := fun a b => td_S (upd (upd N (a * 7 + b) v) (b * 7 + a) v)) ha hb hab ?_ ?_ ?_ ?_ ?_ ?_ ?_ ?_ ?_ ?_ ?_ ?_
  · exact ⟨rfl, s2, s3, s4, s5, s6⟩
  · exact ⟨s1, rfl, s3, s4, s5, s6⟩
  · exact ⟨s1, s2, rfl, s4, s5, s6⟩
  · exact ⟨rfl, s2, s3, s4, s5, s6⟩
  · exact ⟨s1, s2, s3, rfl, s5, s6⟩
  · exact ⟨s1, s2, s3, s4, rfl, s6⟩
  · exact ⟨s1, rfl, s3, s4, s5, s6⟩
  · exact ⟨s1, s2, s3, rfl, s5, s6⟩
  · exact ⟨s1, s2, s3, s4, s5, rfl⟩
  · exact ⟨s1, s2, rfl, s4, s5, s6⟩
  · exact ⟨s1, s2, s3, s4, rfl, s6⟩
  · exact ⟨s1, s2, s3, s4, s5, rfl⟩
theorem td_symJ {N : Nat → Int32} (hS : td_S N) {a b : Nat} (ha : a < 4) (hb : b < 4) (hab : a ≠ b) : N (b * 7 + a) = N (a * 7 + b) := by
  obtain ⟨s1, s2, s3, s4, s5, s6⟩ := hS
  exact td_twelve (P := fun a b => N (b * 7 + a) = N (a * 7 + b)) ha hb hab s1 s2 s3 s1.symm s4 s5 s2.symm s4.symm s6 s3.symm s5.symm s6.symm
theorem td_isLink {post : Int32 → Prop} {a b : Nat} (ha : a < 4) (hb : b < 4) (H1 : a ≠ b → post 1) (H0 : a = b → post 0) :
    wpX_isLink post (4, tc, ls, tk, ts, a1, a2, a3, a4, a5, a6, a7, a8, a9, a10) (nI a) (nI b) :=
  pk_lt a 0 (fun z => absurd z (by omega)) (fun _ => pk_le 4 a (fun z => absurd z (by omega)) (fun _ => pk_lt b 0 (fun z => absurd z (by omega)) (fun _ => pk_le 4 b (fun z => absurd z (by omega)) (fun _ => pk_eq a b H0 H1))))
theorem td_with {post : Int32 → St2 → Prop} {w : Int32} {a b : Nat} (hL : td_L a1) (hA : td_Ru a2 w) (hw : td_w3 w) (ha : a < 4) (hb : b < 4)
    (H0 : (a = b ∨ a2 (a * 7 + b) = 2) → post (-1) (4, tc, ls, tk, ts, a1, a2, a3, a4, a5, a6, a7, a8, a9, a10))
    (H1 : a ≠ b → ¬ a2 (a * 7 + b) = 2 → ∀ (N : Nat → Int32), td_Ru N w → ∀ (r l t : Int32) (p g d f bl bb : Nat → Int32), td_V a1 (upd (upd N (a * 7 + b) 1) (b * 7 + a) 1) r.toInt → post r (4, t, l, tk, ts, a1, a2, upd (upd N (a * 7 + b) 1) (b * 7 + a) 1, p, g, d, f, bl, bb, a10)) :
    wpX_bestWith post (4, tc, ls, tk, ts, a1, a2, a3, a4, a5, a6, a7, a8, a9, a10) (nI a) (nI b) := by
  unfold wpX_bestWith
  dsimp only
  rw [td_pos, nI_clamp (show a * 7 + b < 2 ^ 31 by omega)]
  refine td_isLink ha hb (fun hab => br_f (by decide) ⟨pk_in (a * 7 + b) 49 (by omega), br_c (fun e => H0 (Or.inr e)) (fun e => td_ask hA hw (fun N hN => td_decide ha hb (by decide) (td_solve hL (td_putS (td_RuS hN) ha hb hab) (fun r l t p g d f bl bb hV => H1 hab e N hN r l t p g d f bl bb hV))))⟩) (fun e => br_t rfl (H0 (Or.inl e)))
theorem td_without {post : Int32 → St2 → Prop} {w : Int32} {a b : Nat} (hL : td_L a1) (hA : td_Ru a2 w) (hw : td_w3 w) (ha : a < 4) (hb : b < 4)
    (H0 : (a = b ∨ a2 (a * 7 + b) = 1) → post (-1) (4, tc, ls, tk, ts, a1, a2, a3, a4, a5, a6, a7, a8, a9, a10))
    (H1 : a ≠ b → ¬ a2 (a * 7 + b) = 1 → ∀ (N : Nat → Int32), td_Ru N w → ∀ (r l t : Int32) (p g d f bl bb : Nat → Int32), td_V a1 (upd (upd N (a * 7 + b) 2) (b * 7 + a) 2) r.toInt → post r (4, t, l, tk, ts, a1, a2, upd (upd N (a * 7 + b) 2) (b * 7 + a) 2, p, g, d, f, bl, bb, a10)) :
    wpX_bestWithout post (4, tc, ls, tk, ts, a1, a2, a3, a4, a5, a6, a7, a8, a9, a10) (nI a) (nI b) := by
  unfold wpX_bestWithout
  dsimp only
  rw [td_pos, nI_clamp (show a * 7 + b < 2 ^ 31 by omega)]
  refine td_isLink ha hb (fun hab => br_f (by decide) ⟨pk_in (a * 7 + b) 49 (by omega), br_c (fun e => H0 (Or.inr e)) (fun e => td_ask hA hw (fun N hN => td_decide ha hb (by decide) (td_solve hL (td_putS (td_RuS hN) ha hb hab) (fun r l t p g d f bl bb hV => H1 hab e N hN r l t p g d f bl bb hV))))⟩) (fun e => br_t rfl (H0 (Or.inl e)))
/-- one candidate for the next city -/
theorem td_ncs {post : Int32 → St2 → Prop} {sn : Int32} {a b n : Nat} (hL : td_L a1) (hS : td_S a3) (hv : ((sn >>> (nI b &&& 31)) &&& 1) = 0 → (a3 (a * 7 + b)).toInt8.toInt32 = a3 (a * 7 + b)) (ha : a < 4) (hb : b < 4)
    (hs : ((sn >>> (nI b &&& 31)) &&& 1) = 0 → a ≠ b)
    (H0 : (¬ ((sn >>> (nI b &&& 31)) &&& 1) = 0 ∨ a3 (a * 7 + b) = 2) → wX_nextCity_2 post (nI a) sn n (nI (b + 1)) 4 tc ls tk ts a1 a2 a3 a4 a5 a6 a7 a8 a9 a10)
    (H1 : ((sn >>> (nI b &&& 31)) &&& 1) = 0 → ¬ a3 (a * 7 + b) = 2 → ∀ (r l t : Int32) (p g d f bl bb : Nat → Int32), td_V a1 (upd (upd a3 (a * 7 + b) 1) (b * 7 + a) 1) r.toInt →
      (r = ts → post (nI b) (4, t, l, tk, ts, a1, a2, a3, p, g, d, f, bl, bb, a10)) ∧ (¬ r = ts → wX_nextCity_2 post (nI a) sn n (nI (b + 1)) 4 t l tk ts a1 a2 a3 p g d f bl bb a10)) :
    wX_nextCity_2 post (nI a) sn (n + 1) (nI b) 4 tc ls tk ts a1 a2 a3 a4 a5 a6 a7 a8 a9 a10 := by
  refine pk_le 4 b (fun z => absurd z (by omega)) (fun _ => ?_)
  rw [td_pos, nI_clamp (show a * 7 + b < 2 ^ 31 by omega)]
  refine ⟨pk_in (a * 7 + b) 49 (by omega), nm_e (br_c (fun e => br_c (fun e2 => nm_r (nI_1 b) (H0 (Or.inr e2))) (fun e2 => ?_)) (fun e => nm_r (nI_1 b) (H0 (Or.inl e))))⟩
  refine td_decide ha hb (by decide) (td_solve hL (td_putS hS ha hb (hs e)) (fun r l t p g d f bl bb hV => td_decide ha hb (hv e) ?_))
  rw [td_up0 rfl (td_symJ hS ha hb (hs e))]
  obtain ⟨K1, K2⟩ := H1 e e2 r l t p g d f bl bb hV
  exact br_c K1 (fun z => nm_r (nI_1 b) (K2 z))
end
end
section
section
variable {tc ls tk ts : Int32} {a1 a2 a3 a4 a5 a6 a7 a8 a9 a10 : Nat → Int32}
def td_T (M : Nat → Int32) (p q r : Prop) : Prop := (td_al1 M ↔ p) ∧ (td_al2 M ↔ q) ∧ (td_al3 M ↔ r)
def td_W (p q r : Prop) (c1 c2 c3 v : Int) : Prop := (¬ p ∧ ¬ q ∧ ¬ r ∧ v = -1) ∨ ((p → v ≤ c1) ∧ (q → v ≤ c2) ∧ (r → v ≤ c3) ∧ ((p ∧ v = c1) ∨ (q ∧ v = c2) ∨ (r ∧ v = c3)))
theorem td_VW {M : Nat → Int32} {p q r : Prop} {v : Int} (hT : td_T M p q r) (h : td_V a1 M v) : td_W p q r (td_c1 a1) (td_c2 a1) (td_c3 a1) v := by
  obtain ⟨h1, h2, h3⟩ := hT
  unfold td_V td_no at h
  rw [h1, h2, h3] at h
  rcases h with ⟨⟨x1, x2, x3⟩, x4⟩ | h
  · exact Or.inl ⟨x1, x2, x3, x4⟩
  · exact Or.inr h
theorem td_t0 {N : Nat → Int32} {w : Int32} (h : td_Ru N w) (hw : td_w3 w) : td_T N (w ≠ 2) (w ≠ 2) (w ≠ 1) := by
  obtain ⟨⟨x1, y1⟩, ⟨x2, y2⟩, ⟨x3, y3⟩, ⟨x4, y4⟩, ⟨x5, y5⟩, ⟨x6, y6⟩⟩ := h
  rcases hw with rfl | rfl | rfl <;> simp [td_T, td_al1, td_al2, td_al3, td_ok, x1, x2, x3, x4, x5, x6]
theorem td_t01 {N : Nat → Int32} {w : Int32} (h : td_Ru N w) (hw : td_w3 w) : td_T (upd (upd N 1 1) 7 1) False (w ≠ 2) (w ≠ 1) := by
  obtain ⟨⟨x1, y1⟩, ⟨x2, y2⟩, ⟨x3, y3⟩, ⟨x4, y4⟩, ⟨x5, y5⟩, ⟨x6, y6⟩⟩ := h
  rcases hw with rfl | rfl | rfl <;> simp [td_T, td_al1, td_al2, td_al3, td_ok, upd, x1, x2, x3, x4, x5, x6]
theorem td_t02 {N : Nat → Int32} {w : Int32} (h : td_Ru N w) (hw : td_w3 w) : td_T (upd (upd N 2 1) 14 1) (w ≠ 2) False (w ≠ 1) := by
  obtain ⟨⟨x1, y1⟩, ⟨x2, y2⟩, ⟨x3, y3⟩, ⟨x4, y4⟩, ⟨x5, y5⟩, ⟨x6, y6⟩⟩ := h
  rcases hw with rfl | rfl | rfl <;> simp [td_T, td_al1, td_al2, td_al3, td_ok, upd, x1, x2, x3, x4, x5, x6]
theorem td_t03 {N : Nat → Int32} {w : Int32} (h : td_Ru N w) (hw : td_w3 w) : td_T (upd (upd N 3 1) 21 1) True True False := by
  obtain ⟨⟨x1, y1⟩, ⟨x2, y2⟩, ⟨x3, y3⟩, ⟨x4, y4⟩, ⟨x5, y5⟩, ⟨x6, y6⟩⟩ := h
  rcases hw with rfl | rfl | rfl <;> simp [td_T, td_al1, td_al2, td_al3, td_ok, upd, x1, x2, x3, x4, x5, x6]
theorem td_t12 {N : Nat → Int32} {w : Int32} (h : td_Ru N w) (hw : td_w3 w) : td_T (upd (upd N 9 1) 15 1) (w ≠ 2) (w ≠ 2) False := by
  obtain ⟨⟨x1, y1⟩, ⟨x2, y2⟩, ⟨x3, y3⟩, ⟨x4, y4⟩, ⟨x5, y5⟩, ⟨x6, y6⟩⟩ := h
  rcases hw with rfl | rfl | rfl <;> simp [td_T, td_al1, td_al2, td_al3, td_ok, upd, x1, x2, x3, x4, x5, x6]
theorem td_t01n {N : Nat → Int32} {w : Int32} (h : td_Ru N w) (hw : td_w3 w) : td_T (upd (upd N 1 2) 7 2) (w ≠ 2) False False := by
  obtain ⟨⟨x1, y1⟩, ⟨x2, y2⟩, ⟨x3, y3⟩, ⟨x4, y4⟩, ⟨x5, y5⟩, ⟨x6, y6⟩⟩ := h
  rcases hw with rfl | rfl | rfl <;> simp [td_T, td_al1, td_al2, td_al3, td_ok, upd, x1, x2, x3, x4, x5, x6]
theorem td_t03n {N : Nat → Int32} {w : Int32} (h : td_Ru N w) (hw : td_w3 w) : td_T (upd (upd N 3 2) 21 2) False False True := by
  obtain ⟨⟨x1, y1⟩, ⟨x2, y2⟩, ⟨x3, y3⟩, ⟨x4, y4⟩, ⟨x5, y5⟩, ⟨x6, y6⟩⟩ := h
  rcases hw with rfl | rfl | rfl <;> simp [td_T, td_al1, td_al2, td_al3, td_ok, upd, x1, x2, x3, x4, x5, x6]
theorem td_t0112 {N : Nat → Int32} {w : Int32} (h : td_Ru N w) (hw : td_w3 w) : td_T (upd (upd (upd (upd N 1 1) 7 1) 9 1) 15 1) False (w ≠ 2) False := by
  obtain ⟨⟨x1, y1⟩, ⟨x2, y2⟩, ⟨x3, y3⟩, ⟨x4, y4⟩, ⟨x5, y5⟩, ⟨x6, y6⟩⟩ := h
  rcases hw with rfl | rfl | rfl <;> simp [td_T, td_al1, td_al2, td_al3, td_ok, upd, x1, x2, x3, x4, x5, x6]
theorem td_t0113 {N : Nat → Int32} {w : Int32} (h : td_Ru N w) (hw : td_w3 w) : td_T (upd (upd (upd (upd N 1 1) 7 1) 10 1) 22 1) False False (w ≠ 1) := by
  obtain ⟨⟨x1, y1⟩, ⟨x2, y2⟩, ⟨x3, y3⟩, ⟨x4, y4⟩, ⟨x5, y5⟩, ⟨x6, y6⟩⟩ := h
  rcases hw with rfl | rfl | rfl <;> simp [td_T, td_al1, td_al2, td_al3, td_ok, upd, x1, x2, x3, x4, x5, x6]
theorem td_t0221 {N : Nat → Int32} {w : Int32} (h : td_Ru N w) (hw : td_w3 w) : td_T (upd (upd (upd (upd N 2 1) 14 1) 15 1) 9 1) (w ≠ 2) False False := by
  obtain ⟨⟨x1, y1⟩, ⟨x2, y2⟩, ⟨x3, y3⟩, ⟨x4, y4⟩, ⟨x5, y5⟩, ⟨x6, y6⟩⟩ := h
  rcases hw with rfl | rfl | rfl <;> simp [td_T, td_al1, td_al2, td_al3, td_ok, upd, x1, x2, x3, x4, x5, x6]
/-- the best tour is the ring, the cross, the pair -/
def td_Fr (w : Int32) (c v : Int) : Prop := w ≠ 2 ∧ c = v
def td_Fx (w : Int32) (c v : Int) : Prop := w ≠ 1 ∧ c = v
theorem td_bs0 {w : Int32} {c1 c2 c3 v : Int} (hw : td_w3 w) (h1 : 0 ≤ c1) (h2 : 0 ≤ c2) (h3 : 0 ≤ c3) (h : td_W (w ≠ 2) (w ≠ 2) (w ≠ 1) c1 c2 c3 v) : 0 ≤ v := by
  rcases hw with rfl | rfl | rfl <;> simp [td_W] at h <;> omega
theorem td_bsF {w : Int32} {c1 c2 c3 v : Int} (hw : td_w3 w) (h : td_W (w ≠ 2) (w ≠ 2) (w ≠ 1) c1 c2 c3 v) (n2 : ¬ td_Fr w c2 v) (n3 : ¬ td_Fx w c3 v) : td_Fr w c1 v := by
  rcases hw with rfl | rfl | rfl <;> simp [td_W, td_Fr, td_Fx] at h n2 n3 ⊢ <;> omega
theorem td_k01 {w : Int32} {c1 c2 c3 b v : Int} (hw : td_w3 w) (h1 : 0 ≤ c1) (h2 : 0 ≤ c2) (h3 : 0 ≤ c3) (h : td_W (w ≠ 2) (w ≠ 2) (w ≠ 1) c1 c2 c3 b) (hv : td_W False (w ≠ 2) (w ≠ 1) c1 c2 c3 v) : v = b ↔ (td_Fr w c2 b ∨ td_Fx w c3 b) := by
  rcases hw with rfl | rfl | rfl <;> simp [td_W, td_Fr, td_Fx] at h hv ⊢ <;> omega
theorem td_k02 {w : Int32} {c1 c2 c3 b v : Int} (hw : td_w3 w) (h1 : 0 ≤ c1) (h2 : 0 ≤ c2) (h3 : 0 ≤ c3) (h : td_W (w ≠ 2) (w ≠ 2) (w ≠ 1) c1 c2 c3 b) (hv : td_W (w ≠ 2) False (w ≠ 1) c1 c2 c3 v) : v = b ↔ (td_Fx w c3 b ∨ td_Fr w c1 b) := by
  rcases hw with rfl | rfl | rfl <;> simp [td_W, td_Fr, td_Fx] at h hv ⊢ <;> omega
theorem td_k03 {w : Int32} {c1 c2 c3 b v : Int} (hw : td_w3 w) (h1 : 0 ≤ c1) (h2 : 0 ≤ c2) (h3 : 0 ≤ c3) (h : td_W (w ≠ 2) (w ≠ 2) (w ≠ 1) c1 c2 c3 b) (h22 : w ≠ 2) (hv : td_W True True False c1 c2 c3 v) : v = b ↔ (td_Fr w c2 b ∨ td_Fr w c1 b) := by
  rcases hw with rfl | rfl | rfl
  · simp [td_W, td_Fr, td_Fx] at h hv ⊢ <;> omega
  · simp [td_W, td_Fr, td_Fx] at h hv ⊢ <;> omega
  · exact absurd rfl h22
theorem td_k0112 {w : Int32} {c1 c2 c3 b v : Int} (hw : td_w3 w) (h1 : 0 ≤ c1) (h2 : 0 ≤ c2) (h3 : 0 ≤ c3) (h : td_W (w ≠ 2) (w ≠ 2) (w ≠ 1) c1 c2 c3 b) (hv : td_W False (w ≠ 2) False c1 c2 c3 v) : v = b ↔ td_Fr w c2 b := by
  rcases hw with rfl | rfl | rfl <;> simp [td_W, td_Fr, td_Fx] at h hv ⊢ <;> omega
theorem td_k0113 {w : Int32} {c1 c2 c3 b v : Int} (hw : td_w3 w) (h1 : 0 ≤ c1) (h2 : 0 ≤ c2) (h3 : 0 ≤ c3) (h : td_W (w ≠ 2) (w ≠ 2) (w ≠ 1) c1 c2 c3 b) (hv : td_W False False (w ≠ 1) c1 c2 c3 v) : v = b ↔ td_Fx w c3 b := by
  rcases hw with rfl | rfl | rfl <;> simp [td_W, td_Fr, td_Fx] at h hv ⊢ <;> omega
theorem td_k0221 {w : Int32} {c1 c2 c3 b v : Int} (hw : td_w3 w) (h1 : 0 ≤ c1) (h2 : 0 ≤ c2) (h3 : 0 ≤ c3) (h : td_W (w ≠ 2) (w ≠ 2) (w ≠ 1) c1 c2 c3 b) (hv : td_W (w ≠ 2) False False c1 c2 c3 v) : v = b ↔ td_Fr w c1 b := by
  rcases hw with rfl | rfl | rfl <;> simp [td_W, td_Fr, td_Fx] at h hv ⊢ <;> omega
theorem td_c0 (hL : td_L a1) : 0 ≤ td_c1 a1 ∧ 0 ≤ td_c2 a1 ∧ 0 ≤ td_c3 a1 := by
  obtain ⟨l1, l2, l3, l9, l10, l17⟩ := hL
  unfold td_c1 td_c2 td_c3
  omega
end
end
section
section
variable {tc ls tk ts : Int32} {a1 a2 a3 a4 a5 a6 a7 a8 a9 a10 : Nat → Int32}
theorem td_eqI {x y : Int32} : x = y ↔ x.toInt = y.toInt := Int32.toInt_inj.symm
/-- bytes in every link's cell -/
def td_By (N : Nat → Int32) : Prop := ∀ a b : Nat, a < 4 → b < 4 → a ≠ b → (N (a * 7 + b)).toInt8.toInt32 = N (a * 7 + b)
theorem td_RuB {N : Nat → Int32} {w : Int32} (h : td_Ru N w) (hw : td_w3 w) : td_By N := by
  obtain ⟨⟨x1, y1⟩, ⟨x2, y2⟩, ⟨x3, y3⟩, ⟨x4, y4⟩, ⟨x5, y5⟩, ⟨x6, y6⟩⟩ := h
  have z : ∀ i : Nat, N i = 0 → (N i).toInt8.toInt32 = N i := fun i e => by
    rw [e]
    decide
  have zw : ∀ i : Nat, N i = w → (N i).toInt8.toInt32 = N i := fun i e => by
    rw [e]
    rcases hw with h | h | h <;> rw [h] <;> decide
  intro a b ha hb hab
  exact td_twelve (P := fun a b => (N (a * 7 + b)).toInt8.toInt32 = N (a * 7 + b)) ha hb hab (z _ x1) (z _ x2) (zw _ x3) (z _ y1) (z _ x4) (z _ x5) (z _ y2) (z _ y4) (z _ x6) (zw _ y3) (z _ y5) (z _ y6)
theorem td_putB {N : Nat → Int32} {i j : Nat} (h : td_By N) : td_By (upd (upd N i 1) j 1) := by
  intro a b ha hb hab
  unfold upd
  split
  · decide
  · split
    · decide
    · exact h a b ha hb hab
theorem td_ncA {post : Int32 → St2 → Prop} {sn : Int32} {a : Nat} (hL : td_L a1) (hS : td_S a3) (hB : td_By a3) (ha : a < 4) (hs : ∀ b, b < 4 → ((sn >>> (nI b &&& 31)) &&& 1) = 0 → a ≠ b)
    (H : ∀ b : Nat, b < 4 → ∀ (l t : Int32) (p g d f bl bb : Nat → Int32), post (nI b) (4, t, l, tk, ts, a1, a2, a3, p, g, d, f, bl, bb, a10)) :
    ∀ (m b : Nat) (l t : Int32) (p g d f bl bb : Nat → Int32), b + m = 4 → wX_nextCity_2 post (nI a) sn (m + 1) (nI b) 4 t l tk ts a1 a2 a3 p g d f bl bb a10 := by
  intro m
  induction m with
  | zero =>
    intro b l t p g d f bl bb hb
    exact pk_le 4 b (fun _ => H 0 (by omega) l t p g d f bl bb) (fun z => absurd z (by omega))
  | succ m ih =>
    intro b l t p g d f bl bb hb
    exact td_ncs hL hS (fun e => hB a b ha (by omega) (hs b (by omega) e)) ha (by omega) (hs b (by omega)) (fun _ => ih (b + 1) l t p g d f bl bb (by omega))
      (fun _ _ r l t p g d f bl bb _ => br_c (fun _ => H b (by omega) l t p g d f bl bb) (fun _ => ih (b + 1) l t p g d f bl bb (by omega)))
theorem td_nc1 {post : Int32 → St2 → Prop} {w : Int32} (hL : td_L a1) (hN : td_Ru a3 w) (hw : td_w3 w) (hW : td_W (w ≠ 2) (w ≠ 2) (w ≠ 1) (td_c1 a1) (td_c2 a1) (td_c3 a1) ts.toInt)
    (H : ∀ b : Nat, b < 4 → ((b = 1 ∧ (td_Fr w (td_c2 a1) ts.toInt ∨ td_Fx w (td_c3 a1) ts.toInt)) ∨ (b = 2 ∧ ¬ (td_Fr w (td_c2 a1) ts.toInt ∨ td_Fx w (td_c3 a1) ts.toInt))) → ∀ (l t : Int32) (p g d f bl bb : Nat → Int32), post (nI b) (4, t, l, tk, ts, a1, a2, a3, p, g, d, f, bl, bb, a10)) :
    wpX_nextCity post (4, tc, ls, tk, ts, a1, a2, a3, a4, a5, a6, a7, a8, a9, a10) (nI 0) 1 := by
  have hS := td_RuS hN
  have hB := td_RuB hN hw
  obtain ⟨z1, z2, z3⟩ := td_c0 hL
  refine ⟨5, td_ncs (a := 0) (b := 0) hL hS (fun e => absurd e (by decide)) (by omega) (by omega) (fun e => absurd e (by decide)) (fun _ => ?_) (fun e => absurd e (by decide))⟩
  refine td_ncs (a := 0) (b := 1) hL hS (fun e => hB 0 1 (by omega) (by omega) (by omega)) (by omega) (by omega) (fun e => by omega) (fun q => ?_) (fun _ _ r l t p g d f bl bb hV => ?_)
  · rcases q with q | q
    · exact absurd (by decide) q
    · have q' : a3 1 = 2 := q
      rw [hN.1.1] at q'
      exact absurd q' (by decide)
  · have k := td_k01 hw z1 z2 z3 hW (td_VW (td_t01 hN hw) hV)
    refine br_c (fun e => H 1 (by omega) (Or.inl ⟨rfl, k.mp (td_eqI.mp e)⟩) l t p g d f bl bb) (fun e => ?_)
    have n := fun q => e (td_eqI.mpr (k.mpr q))
    refine td_ncs (a := 0) (b := 2) hL hS (fun e => hB 0 2 (by omega) (by omega) (by omega)) (by omega) (by omega) (fun e => by omega) (fun q => ?_) (fun _ _ r l t p g d f bl bb hV => ?_)
    · rcases q with q | q
      · exact absurd (by decide) q
      · have q' : a3 2 = 2 := q
        rw [hN.2.1.1] at q'
        exact absurd q' (by decide)
    · have k2 := td_k02 hw z1 z2 z3 hW (td_VW (td_t02 hN hw) hV)
      have e2 : r = ts := td_eqI.mpr (k2.mpr (Or.inr (td_bsF hw hW (fun q => n (Or.inl q)) (fun q => n (Or.inr q)))))
      exact br_t e2 (H 2 (by omega) (Or.inr ⟨rfl, n⟩) l t p g d f bl bb)
theorem td_nc2 {post : Int32 → St2 → Prop} {w : Int32} {N : Nat → Int32} (hL : td_L a1) (hN : td_Ru N w) (hw : td_w3 w) (hW : td_W (w ≠ 2) (w ≠ 2) (w ≠ 1) (td_c1 a1) (td_c2 a1) (td_c3 a1) ts.toInt)
    (hF : td_Fr w (td_c2 a1) ts.toInt ∨ td_Fx w (td_c3 a1) ts.toInt)
    (H : ∀ b : Nat, b < 4 → ((b = 2 ∧ td_Fr w (td_c2 a1) ts.toInt) ∨ (b = 3 ∧ ¬ td_Fr w (td_c2 a1) ts.toInt)) → ∀ (l t : Int32) (p g d f bl bb : Nat → Int32), post (nI b) (4, t, l, tk, ts, a1, a2, upd (upd N 1 1) 7 1, p, g, d, f, bl, bb, a10)) :
    wpX_nextCity post (4, tc, ls, tk, ts, a1, a2, upd (upd N 1 1) 7 1, a4, a5, a6, a7, a8, a9, a10) (nI 1) 3 := by
  have hS : td_S (upd (upd N 1 1) 7 1) := td_putS (a := 0) (b := 1) (td_RuS hN) (by omega) (by omega) (by omega)
  have hB : td_By (upd (upd N 1 1) 7 1) := td_putB (td_RuB hN hw)
  obtain ⟨z1, z2, z3⟩ := td_c0 hL
  refine ⟨5, td_ncs (a := 1) (b := 0) hL hS (fun e => absurd e (by decide)) (by omega) (by omega) (fun e => absurd e (by decide)) (fun _ => ?_) (fun e => absurd e (by decide))⟩
  refine td_ncs (a := 1) (b := 1) hL hS (fun e => absurd e (by decide)) (by omega) (by omega) (fun e => absurd e (by decide)) (fun _ => ?_) (fun e => absurd e (by decide))
  refine td_ncs (a := 1) (b := 2) hL hS (fun e => hB 1 2 (by omega) (by omega) (by omega)) (by omega) (by omega) (fun e => by omega) (fun q => ?_) (fun _ _ r l t p g d f bl bb hV => ?_)
  · rcases q with q | q
    · exact absurd (by decide) q
    · have q' : N 9 = 2 := q
      rw [hN.2.2.2.1.1] at q'
      exact absurd q' (by decide)
  · have k := td_k0112 hw z1 z2 z3 hW (td_VW (td_t0112 hN hw) hV)
    refine br_c (fun e => H 2 (by omega) (Or.inl ⟨rfl, k.mp (td_eqI.mp e)⟩) l t p g d f bl bb) (fun e => ?_)
    have n := fun q => e (td_eqI.mpr (k.mpr q))
    refine td_ncs (a := 1) (b := 3) hL hS (fun e => hB 1 3 (by omega) (by omega) (by omega)) (by omega) (by omega) (fun e => by omega) (fun q => ?_) (fun _ _ r l t p g d f bl bb hV => ?_)
    · rcases q with q | q
      · exact absurd (by decide) q
      · have q' : N 10 = 2 := q
        rw [hN.2.2.2.2.1.1] at q'
        exact absurd q' (by decide)
    · have k2 := td_k0113 hw z1 z2 z3 hW (td_VW (td_t0113 hN hw) hV)
      have e2 : r = ts := td_eqI.mpr (k2.mpr (hF.resolve_left n))
      exact br_t e2 (H 3 (by omega) (Or.inr ⟨rfl, n⟩) l t p g d f bl bb)
theorem td_nc3 {post : Int32 → St2 → Prop} {w : Int32} {N : Nat → Int32} (hL : td_L a1) (hN : td_Ru N w) (hw : td_w3 w) (hW : td_W (w ≠ 2) (w ≠ 2) (w ≠ 1) (td_c1 a1) (td_c2 a1) (td_c3 a1) ts.toInt)
    (hF : td_Fr w (td_c1 a1) ts.toInt)
    (H : ∀ b : Nat, b < 4 → b = 1 → ∀ (l t : Int32) (p g d f bl bb : Nat → Int32), post (nI b) (4, t, l, tk, ts, a1, a2, upd (upd N 2 1) 14 1, p, g, d, f, bl, bb, a10)) :
    wpX_nextCity post (4, tc, ls, tk, ts, a1, a2, upd (upd N 2 1) 14 1, a4, a5, a6, a7, a8, a9, a10) (nI 2) 5 := by
  have hS : td_S (upd (upd N 2 1) 14 1) := td_putS (a := 0) (b := 2) (td_RuS hN) (by omega) (by omega) (by omega)
  have hB : td_By (upd (upd N 2 1) 14 1) := td_putB (td_RuB hN hw)
  obtain ⟨z1, z2, z3⟩ := td_c0 hL
  refine ⟨5, td_ncs (a := 2) (b := 0) hL hS (fun e => absurd e (by decide)) (by omega) (by omega) (fun e => absurd e (by decide)) (fun _ => ?_) (fun e => absurd e (by decide))⟩
  refine td_ncs (a := 2) (b := 1) hL hS (fun e => hB 2 1 (by omega) (by omega) (by omega)) (by omega) (by omega) (fun e => by omega) (fun q => ?_) (fun _ _ r l t p g d f bl bb hV => ?_)
  · rcases q with q | q
    · exact absurd (by decide) q
    · have q' : N 15 = 2 := q
      rw [hN.2.2.2.1.2] at q'
      exact absurd q' (by decide)
  · have k := td_k0221 hw z1 z2 z3 hW (td_VW (td_t0221 hN hw) hV)
    exact br_t (td_eqI.mpr (k.mpr hF)) (H 1 (by omega) rfl l t p g d f bl bb)
/-- one step of the tour -/
theorem td_fts {post : St2 → Prop} {n k a : Nat} {sn : Int32} (R : Nat → Prop) (hk : 1 ≤ k) (hk4 : k < 4) (ha : a < 4) (hto : a10 (k - 1) = nI a)
    (HN : ∀ Q : Int32 → St2 → Prop, (∀ b : Nat, b < 4 → R b → ∀ (l t : Int32) (p g d f bl bb : Nat → Int32), Q (nI b) (4, t, l, tk, ts, a1, a2, a3, p, g, d, f, bl, bb, a10)) → wpX_nextCity Q (4, tc, ls, tk, ts, a1, a2, a3, a4, a5, a6, a7, a8, a9, a10) (nI a) sn)
    (H : ∀ b : Nat, b < 4 → R b → ∀ (l t : Int32) (p g d f bl bb : Nat → Int32), wX_findTour_44 post n (sn ||| ((1 : Int32) <<< (nI b &&& 31))) (nI (k + 1)) 4 t l tk ts a1 a2 (upd (upd a3 (a * 7 + b) 1) (b * 7 + a) 1) p g d f bl bb (upd a10 k (nI b))) :
    wX_findTour_44 post (n + 1) sn (nI k) 4 tc ls tk ts a1 a2 a3 a4 a5 a6 a7 a8 a9 a10 := by
  have hk1 : nI k - 1 = nI (k - 1) := by
    have h := nI_pred (k - 1)
    rw [show k - 1 + 1 = k by omega] at h
    exact h
  refine pk_le 4 k (fun z => absurd z (by omega)) (fun _ => ?_)
  rw [hk1, nI_clamp (show k - 1 < 2 ^ 31 by omega), nI_clamp (show k < 2 ^ 31 by omega), hto]
  refine ⟨pk_in (k - 1) 7 (by omega), HN _ (fun b hb hR l t p g d f bl bb => ⟨pk_in k 7 (by omega), nm_r (e' := upd a10 k (nI b)) (by rw [td_b8 b hb]) ⟨pk_in (k - 1) 7 (by omega), ?_⟩⟩)⟩
  rw [pk_un (show k - 1 ≠ k by omega), hto]
  exact td_decide ha hb (by decide) (nm_e (nm_r (nI_1 k) (H b hb hR l t p g d f bl bb)))
theorem td_find {post : St2 → Prop} {w : Int32} (hL : td_L a1) (hA : td_Ru a2 w) (hw : td_w3 w)
    (H : ∀ (bs l t : Int32) (N p g d f bl bb to : Nat → Int32), td_W (w ≠ 2) (w ≠ 2) (w ≠ 1) (td_c1 a1) (td_c2 a1) (td_c3 a1) bs.toInt →
      ((td_Fr w (td_c2 a1) bs.toInt ∧ to 1 = 1 ∧ to 2 = 2) ∨ (¬ td_Fr w (td_c2 a1) bs.toInt ∧ td_Fx w (td_c3 a1) bs.toInt ∧ to 1 = 1 ∧ to 2 = 3) ∨ (¬ td_Fr w (td_c2 a1) bs.toInt ∧ ¬ td_Fx w (td_c3 a1) bs.toInt ∧ to 1 = 2 ∧ to 2 = 1)) →
      post (4, t, l, 1, bs, a1, a2, N, p, g, d, f, bl, bb, to)) :
    wpX_findTour post (4, tc, ls, 0, ts, a1, a2, a3, a4, a5, a6, a7, a8, a9, a10) := by
  obtain ⟨z1, z2, z3⟩ := td_c0 hL
  refine br_t rfl (td_ask hA hw (fun N hN => td_solve hL (td_RuS hN) (fun r l t p g d f bl bb hV => ?_)))
  have hW := td_VW (td_t0 hN hw) hV
  have h0 := td_bs0 hw z1 z2 z3 hW
  refine br_t (td_le.mpr h0) (nm_e ⟨4, ?_⟩)
  refine td_fts (k := 1) (a := 0) (fun b => (b = 1 ∧ (td_Fr w (td_c2 a1) r.toInt ∨ td_Fx w (td_c3 a1) r.toInt)) ∨ (b = 2 ∧ ¬ (td_Fr w (td_c2 a1) r.toInt ∨ td_Fx w (td_c3 a1) r.toInt))) (by omega) (by omega) (by omega) rfl (fun Q HQ => td_nc1 hL hN hw hW HQ) ?_
  intro b hb hR l t p g d f bl bb
  rcases hR with ⟨rfl, hF⟩ | ⟨rfl, hF⟩
  · rw [show (1 : Int32) ||| ((1 : Int32) <<< (nI 1 &&& 31)) = 3 by decide]
    refine td_fts (k := 2) (a := 1) (fun b => (b = 2 ∧ td_Fr w (td_c2 a1) r.toInt) ∨ (b = 3 ∧ ¬ td_Fr w (td_c2 a1) r.toInt)) (by omega) (by omega) (by omega) rfl (fun Q HQ => td_nc2 hL hN hw hW hF HQ) ?_
    intro b hb hR l t p g d f bl bb
    have hS : td_S (upd (upd N (0 * 7 + 1) 1) (1 * 7 + 0) 1) := td_putS (td_RuS hN) (by omega) (by omega) (by omega)
    have hB : td_By (upd (upd N (0 * 7 + 1) 1) (1 * 7 + 0) 1) := td_putB (td_RuB hN hw)
    rcases hR with ⟨rfl, hF2⟩ | ⟨rfl, hF2⟩
    · rw [show (3 : Int32) ||| ((1 : Int32) <<< (nI 2 &&& 31)) = 7 by decide]
      refine td_fts (k := 3) (a := 2) (fun _ => True) (by omega) (by omega) (by omega) rfl (fun Q HQ => ⟨5, td_ncA (a := 2) hL (td_putS hS (by omega) (by omega) (by omega)) (td_putB hB) (by omega) ?_ (fun b hb => HQ b hb trivial) 4 0 l t p g d f bl bb (by omega)⟩) ?_
      · intro b hb e
        exact co_4 (P := fun b => (((7 : Int32) >>> (nI b &&& 31)) &&& 1) = 0 → 2 ≠ b) (fun _ => by omega) (fun _ => by omega) (fun e => absurd e (by decide)) (fun _ => by omega) hb e
      · intro b hb _ l t p g d f bl bb
        exact pk_le 4 4 (fun _ => H r l t _ p g d f bl bb _ hW (Or.inl ⟨hF2, rfl, rfl⟩)) (fun z => absurd z (by omega))
    · rw [show (3 : Int32) ||| ((1 : Int32) <<< (nI 3 &&& 31)) = 11 by decide]
      refine td_fts (k := 3) (a := 3) (fun _ => True) (by omega) (by omega) (by omega) rfl (fun Q HQ => ⟨5, td_ncA (a := 3) hL (td_putS hS (by omega) (by omega) (by omega)) (td_putB hB) (by omega) ?_ (fun b hb => HQ b hb trivial) 4 0 l t p g d f bl bb (by omega)⟩) ?_
      · intro b hb e
        exact co_4 (P := fun b => (((11 : Int32) >>> (nI b &&& 31)) &&& 1) = 0 → 3 ≠ b) (fun _ => by omega) (fun _ => by omega) (fun _ => by omega) (fun e => absurd e (by decide)) hb e
      · intro b hb _ l t p g d f bl bb
        exact pk_le 4 4 (fun _ => H r l t _ p g d f bl bb _ hW (Or.inr (Or.inl ⟨hF2, hF.resolve_left hF2, rfl, rfl⟩))) (fun z => absurd z (by omega))
  · rw [show (1 : Int32) ||| ((1 : Int32) <<< (nI 2 &&& 31)) = 5 by decide]
    have n1 : ¬ td_Fr w (td_c2 a1) r.toInt := fun q => hF (Or.inl q)
    have n2 : ¬ td_Fx w (td_c3 a1) r.toInt := fun q => hF (Or.inr q)
    refine td_fts (k := 2) (a := 2) (fun b => b = 1) (by omega) (by omega) (by omega) rfl (fun Q HQ => td_nc3 hL hN hw hW (td_bsF hw hW n1 n2) HQ) ?_
    intro b hb hR l t p g d f bl bb
    have hS : td_S (upd (upd N (0 * 7 + 2) 1) (2 * 7 + 0) 1) := td_putS (td_RuS hN) (by omega) (by omega) (by omega)
    have hB : td_By (upd (upd N (0 * 7 + 2) 1) (2 * 7 + 0) 1) := td_putB (td_RuB hN hw)
    subst hR
    rw [show (5 : Int32) ||| ((1 : Int32) <<< (nI 1 &&& 31)) = 7 by decide]
    refine td_fts (k := 3) (a := 1) (fun _ => True) (by omega) (by omega) (by omega) rfl (fun Q HQ => ⟨5, td_ncA (a := 1) hL (td_putS hS (by omega) (by omega) (by omega)) (td_putB hB) (by omega) ?_ (fun b hb => HQ b hb trivial) 4 0 l t p g d f bl bb (by omega)⟩) ?_
    · intro b hb e
      exact co_4 (P := fun b => (((7 : Int32) >>> (nI b &&& 31)) &&& 1) = 0 → 1 ≠ b) (fun _ => by omega) (fun e => absurd e (by decide)) (fun _ => by omega) (fun _ => by omega) hb e
    · intro b hb _ l t p g d f bl bb
      exact pk_le 4 4 (fun _ => H r l t _ p g d f bl bb _ hW (Or.inr (Or.inr ⟨n1, n2, rfl, rfl⟩))) (fun z => absurd z (by omega))
end
end
section
section
variable {tc ls tk ts : Int32} {a1 a2 a3 a4 a5 a6 a7 a8 a9 a10 : Nat → Int32}
theorem td_q01 {post : Int32 → St2 → Prop} {w : Int32} (hL : td_L a1) (hA : td_Ru a2 w) (hw : td_w3 w)
    (H : ∀ (r l t : Int32) (N p g d f bl bb : Nat → Int32), td_W False (w ≠ 2) (w ≠ 1) (td_c1 a1) (td_c2 a1) (td_c3 a1) r.toInt → post r (4, t, l, tk, ts, a1, a2, N, p, g, d, f, bl, bb, a10)) :
    wpX_bestWith post (4, tc, ls, tk, ts, a1, a2, a3, a4, a5, a6, a7, a8, a9, a10) 0 1 := by
  refine td_with (a := 0) (b := 1) hL hA hw (by omega) (by omega) (fun q => ?_) (fun _ _ N hN r l t p g d f bl bb hV => H r l t _ p g d f bl bb (td_VW (td_t01 hN hw) hV))
  rcases q with q | q
  · omega
  · have q' : a2 1 = 2 := q
    rw [hA.1.1] at q'
    exact absurd q' (by decide)
theorem td_q02 {post : Int32 → St2 → Prop} {w : Int32} (hL : td_L a1) (hA : td_Ru a2 w) (hw : td_w3 w)
    (H : ∀ (r l t : Int32) (N p g d f bl bb : Nat → Int32), td_W (w ≠ 2) False (w ≠ 1) (td_c1 a1) (td_c2 a1) (td_c3 a1) r.toInt → post r (4, t, l, tk, ts, a1, a2, N, p, g, d, f, bl, bb, a10)) :
    wpX_bestWith post (4, tc, ls, tk, ts, a1, a2, a3, a4, a5, a6, a7, a8, a9, a10) 0 2 := by
  refine td_with (a := 0) (b := 2) hL hA hw (by omega) (by omega) (fun q => ?_) (fun _ _ N hN r l t p g d f bl bb hV => H r l t _ p g d f bl bb (td_VW (td_t02 hN hw) hV))
  rcases q with q | q
  · omega
  · have q' : a2 2 = 2 := q
    rw [hA.2.1.1] at q'
    exact absurd q' (by decide)
theorem td_q03 {post : Int32 → St2 → Prop} {w : Int32} (hL : td_L a1) (hA : td_Ru a2 w) (hw : td_w3 w)
    (H : ∀ (r l t : Int32) (N p g d f bl bb : Nat → Int32), (w = 2 ∧ r.toInt = -1) ∨ (w ≠ 2 ∧ td_W True True False (td_c1 a1) (td_c2 a1) (td_c3 a1) r.toInt) → post r (4, t, l, tk, ts, a1, a2, N, p, g, d, f, bl, bb, a10)) :
    wpX_bestWith post (4, tc, ls, tk, ts, a1, a2, a3, a4, a5, a6, a7, a8, a9, a10) 0 3 := by
  refine td_with (a := 0) (b := 3) hL hA hw (by omega) (by omega) (fun q => H _ _ _ _ _ _ _ _ _ _ (Or.inl ⟨?_, by decide⟩)) (fun _ e N hN r l t p g d f bl bb hV => H r l t _ p g d f bl bb (Or.inr ⟨?_, td_VW (td_t03 hN hw) hV⟩))
  · rcases q with q | q
    · omega
    · have q' : a2 3 = 2 := q
      rw [hA.2.2.1.1] at q'
      exact q'
  · have e' : ¬ a2 3 = 2 := e
    rw [hA.2.2.1.1] at e'
    exact e'
theorem td_q12 {post : Int32 → St2 → Prop} {w : Int32} (hL : td_L a1) (hA : td_Ru a2 w) (hw : td_w3 w)
    (H : ∀ (r l t : Int32) (N p g d f bl bb : Nat → Int32), td_W (w ≠ 2) (w ≠ 2) False (td_c1 a1) (td_c2 a1) (td_c3 a1) r.toInt → post r (4, t, l, tk, ts, a1, a2, N, p, g, d, f, bl, bb, a10)) :
    wpX_bestWith post (4, tc, ls, tk, ts, a1, a2, a3, a4, a5, a6, a7, a8, a9, a10) 1 2 := by
  refine td_with (a := 1) (b := 2) hL hA hw (by omega) (by omega) (fun q => ?_) (fun _ _ N hN r l t p g d f bl bb hV => H r l t _ p g d f bl bb (td_VW (td_t12 hN hw) hV))
  rcases q with q | q
  · omega
  · have q' : a2 9 = 2 := q
    rw [hA.2.2.2.1.1] at q'
    exact absurd q' (by decide)
theorem td_n01 {post : Int32 → St2 → Prop} {w : Int32} (hL : td_L a1) (hA : td_Ru a2 w) (hw : td_w3 w)
    (H : ∀ (r l t : Int32) (N p g d f bl bb : Nat → Int32), td_W (w ≠ 2) False False (td_c1 a1) (td_c2 a1) (td_c3 a1) r.toInt → post r (4, t, l, tk, ts, a1, a2, N, p, g, d, f, bl, bb, a10)) :
    wpX_bestWithout post (4, tc, ls, tk, ts, a1, a2, a3, a4, a5, a6, a7, a8, a9, a10) 0 1 := by
  refine td_without (a := 0) (b := 1) hL hA hw (by omega) (by omega) (fun q => ?_) (fun _ _ N hN r l t p g d f bl bb hV => H r l t _ p g d f bl bb (td_VW (td_t01n hN hw) hV))
  rcases q with q | q
  · omega
  · have q' : a2 1 = 1 := q
    rw [hA.1.1] at q'
    exact absurd q' (by decide)
theorem td_n03 {post : Int32 → St2 → Prop} {w : Int32} (hL : td_L a1) (hA : td_Ru a2 w) (hw : td_w3 w)
    (H : ∀ (r l t : Int32) (N p g d f bl bb : Nat → Int32), (w = 1 ∧ r.toInt = -1) ∨ (w ≠ 1 ∧ td_W False False True (td_c1 a1) (td_c2 a1) (td_c3 a1) r.toInt) → post r (4, t, l, tk, ts, a1, a2, N, p, g, d, f, bl, bb, a10)) :
    wpX_bestWithout post (4, tc, ls, tk, ts, a1, a2, a3, a4, a5, a6, a7, a8, a9, a10) 0 3 := by
  refine td_without (a := 0) (b := 3) hL hA hw (by omega) (by omega) (fun q => H _ _ _ _ _ _ _ _ _ _ (Or.inl ⟨?_, by decide⟩)) (fun _ e N hN r l t p g d f bl bb hV => H r l t _ p g d f bl bb (Or.inr ⟨?_, td_VW (td_t03n hN hw) hV⟩))
  · rcases q with q | q
    · omega
    · have q' : a2 3 = 1 := q
      rw [hA.2.2.1.1] at q'
      exact q'
  · have e' : ¬ a2 3 = 1 := e
    rw [hA.2.2.1.1] at e'
    exact e'
theorem td_best {post : Int32 → St2 → Prop} {w : Int32} (hL : td_L a1) (hA : td_Ru a2 w) (hw : td_w3 w)
    (H : ∀ (bs l t : Int32) (N p g d f bl bb to : Nat → Int32), td_W (w ≠ 2) (w ≠ 2) (w ≠ 1) (td_c1 a1) (td_c2 a1) (td_c3 a1) bs.toInt →
      ((td_Fr w (td_c2 a1) bs.toInt ∧ to 1 = 1 ∧ to 2 = 2) ∨ (¬ td_Fr w (td_c2 a1) bs.toInt ∧ td_Fx w (td_c3 a1) bs.toInt ∧ to 1 = 1 ∧ to 2 = 3) ∨ (¬ td_Fr w (td_c2 a1) bs.toInt ∧ ¬ td_Fx w (td_c3 a1) bs.toInt ∧ to 1 = 2 ∧ to 2 = 1)) →
      post bs (4, t, l, 1, bs, a1, a2, N, p, g, d, f, bl, bb, to)) :
    wpX_best post (4, tc, ls, 0, ts, a1, a2, a3, a4, a5, a6, a7, a8, a9, a10) := by
  unfold wpX_best
  dsimp only
  exact td_find hL hA hw H
theorem td_city {post : Int32 → St2 → Prop} {k : Nat} (hk : k < 4) (h0 : 0 ≤ ts.toInt) (H : post (a10 k) (4, tc, ls, 1, ts, a1, a2, a3, a4, a5, a6, a7, a8, a9, a10)) :
    wpX_cityAt post (4, tc, ls, 1, ts, a1, a2, a3, a4, a5, a6, a7, a8, a9, a10) (nI k) := by
  unfold wpX_cityAt
  dsimp only
  rw [nI_clamp (show k < 2 ^ 31 by omega)]
  refine br_f (by decide) (br_f (fun z => ?_) (pk_lt k 0 (fun z => absurd z (by omega)) (fun _ => pk_lt k 4 (fun _ => ⟨pk_in k 7 (by omega), H⟩) (fun z => absurd z (by omega)))))
  exact absurd (td_lt.mp z) (Int.not_lt.mpr h0)
def td_nr (b1 b2 b3 : Bool) : Int32 := (if b1 then 2 else 0) ||| (if b2 then 4 else 0) ||| (if b3 then 8 else 0)
theorem td_nbs {post : Int32 → St2 → Prop} {b n : Nat} {x : Int32} (hit : Prop) (hb : b < 4)
    (HB : ∀ Q : Int32 → St2 → Prop, (∀ r : Int32, (r = ts ↔ hit) → ∀ (l t : Int32) (N p g d f bl bb : Nat → Int32), Q r (4, t, l, tk, ts, a1, a2, N, p, g, d, f, bl, bb, a10)) → wpX_bestWith Q (4, tc, ls, tk, ts, a1, a2, a3, a4, a5, a6, a7, a8, a9, a10) 0 (nI b))
    (H1 : hit → ∀ (l t : Int32) (N p g d f bl bb : Nat → Int32), wX_neighbours_29 post 0 n (x ||| ((1 : Int32) <<< (nI b &&& 31))) (nI (b + 1)) 4 t l tk ts a1 a2 N p g d f bl bb a10)
    (H0 : ¬ hit → ∀ (l t : Int32) (N p g d f bl bb : Nat → Int32), wX_neighbours_29 post 0 n x (nI (b + 1)) 4 t l tk ts a1 a2 N p g d f bl bb a10) :
    wX_neighbours_29 post 0 (n + 1) x (nI b) 4 tc ls tk ts a1 a2 a3 a4 a5 a6 a7 a8 a9 a10 :=
  pk_le 4 b (fun z => absurd z (by omega)) (fun _ => HB _ (fun r hr l t N p g d f bl bb => br_c (fun e => nm_e (nm_r (nI_1 b) (H1 (hr.mp e) l t N p g d f bl bb))) (fun e => nm_r (nI_1 b) (H0 (fun q => e (hr.mpr q)) l t N p g d f bl bb))))
theorem td_bt {P : Prop} (h : P) : true = true ↔ P := ⟨fun _ => h, fun _ => rfl⟩
theorem td_bf {P : Prop} (h : ¬ P) : false = true ↔ P := ⟨fun q => absurd q (by decide), fun q => absurd q h⟩
theorem td_nbr {post : Int32 → St2 → Prop} {w : Int32} (hL : td_L a1) (hA : td_Ru a2 w) (hw : td_w3 w) (hW : td_W (w ≠ 2) (w ≠ 2) (w ≠ 1) (td_c1 a1) (td_c2 a1) (td_c3 a1) ts.toInt)
    (H : ∀ (b1 b2 b3 : Bool), (b1 = true ↔ (td_Fr w (td_c2 a1) ts.toInt ∨ td_Fx w (td_c3 a1) ts.toInt)) → (b2 = true ↔ (td_Fx w (td_c3 a1) ts.toInt ∨ td_Fr w (td_c1 a1) ts.toInt)) → (b3 = true ↔ (td_Fr w (td_c2 a1) ts.toInt ∨ td_Fr w (td_c1 a1) ts.toInt)) →
      ∀ (l t : Int32) (N p g d f bl bb : Nat → Int32), post (td_nr b1 b2 b3) (4, t, l, 1, ts, a1, a2, N, p, g, d, f, bl, bb, a10)) :
    wpX_neighbours post (4, tc, ls, 1, ts, a1, a2, a3, a4, a5, a6, a7, a8, a9, a10) 0 := by
  obtain ⟨z1, z2, z3⟩ := td_c0 hL
  have h0 := td_bs0 hw z1 z2 z3 hW
  have X : ∀ (b1 b2 b3 : Bool) (x : Int32), x = td_nr b1 b2 b3 → (b1 = true ↔ (td_Fr w (td_c2 a1) ts.toInt ∨ td_Fx w (td_c3 a1) ts.toInt)) → (b2 = true ↔ (td_Fx w (td_c3 a1) ts.toInt ∨ td_Fr w (td_c1 a1) ts.toInt)) → (b3 = true ↔ (td_Fr w (td_c2 a1) ts.toInt ∨ td_Fr w (td_c1 a1) ts.toInt)) →
      ∀ (l t : Int32) (N p g d f bl bb : Nat → Int32), wX_neighbours_29 post 0 1 x (nI 4) 4 t l 1 ts a1 a2 N p g d f bl bb a10 := by
    intro b1 b2 b3 x hx i1 i2 i3 l t N p g d f bl bb
    rw [hx]
    exact pk_le 4 4 (fun _ => H b1 b2 b3 i1 i2 i3 l t N p g d f bl bb) (fun z => absurd z (by omega))
  have X3 : ∀ (b1 b2 : Bool) (x : Int32), x = td_nr b1 b2 false → (b1 = true ↔ (td_Fr w (td_c2 a1) ts.toInt ∨ td_Fx w (td_c3 a1) ts.toInt)) → (b2 = true ↔ (td_Fx w (td_c3 a1) ts.toInt ∨ td_Fr w (td_c1 a1) ts.toInt)) →
      ∀ (l t : Int32) (N p g d f bl bb : Nat → Int32), wX_neighbours_29 post 0 2 x (nI 3) 4 t l 1 ts a1 a2 N p g d f bl bb a10 := by
    intro b1 b2 x hx i1 i2 l t N p g d f bl bb
    refine td_nbs (td_Fr w (td_c2 a1) ts.toInt ∨ td_Fr w (td_c1 a1) ts.toInt) (by omega) (fun Q HQ => td_q03 hL hA hw (fun r l t N p g d f bl bb hr => HQ r ?_ l t N p g d f bl bb)) (fun q => X b1 b2 true _ ?_ i1 i2 (td_bt q)) (fun q => X b1 b2 false x hx i1 i2 (td_bf q))
    · rw [td_eqI]
      rcases hr with ⟨e, q⟩ | ⟨e, q⟩
      · rw [q]
        exact ⟨fun y => by omega, fun y => by rcases y with y | y <;> exact absurd e y.1⟩
      · exact td_k03 hw z1 z2 z3 hW e q
    · rw [hx]
      cases b1 <;> cases b2 <;> decide
  have X2 : ∀ (b1 : Bool) (x : Int32), x = td_nr b1 false false → (b1 = true ↔ (td_Fr w (td_c2 a1) ts.toInt ∨ td_Fx w (td_c3 a1) ts.toInt)) →
      ∀ (l t : Int32) (N p g d f bl bb : Nat → Int32), wX_neighbours_29 post 0 3 x (nI 2) 4 t l 1 ts a1 a2 N p g d f bl bb a10 := by
    intro b1 x hx i1 l t N p g d f bl bb
    refine td_nbs (td_Fx w (td_c3 a1) ts.toInt ∨ td_Fr w (td_c1 a1) ts.toInt) (by omega) (fun Q HQ => td_q02 hL hA hw (fun r l t N p g d f bl bb hr => HQ r ?_ l t N p g d f bl bb)) (fun q => X3 b1 true _ ?_ i1 (td_bt q)) (fun q => X3 b1 false x hx i1 (td_bf q))
    · rw [td_eqI]
      exact td_k02 hw z1 z2 z3 hW hr
    · rw [hx]
      cases b1 <;> decide
  have X1 : ∀ (l t : Int32) (N p g d f bl bb : Nat → Int32), wX_neighbours_29 post 0 4 0 (nI 1) 4 t l 1 ts a1 a2 N p g d f bl bb a10 := by
    intro l t N p g d f bl bb
    refine td_nbs (td_Fr w (td_c2 a1) ts.toInt ∨ td_Fx w (td_c3 a1) ts.toInt) (by omega) (fun Q HQ => td_q01 hL hA hw (fun r l t N p g d f bl bb hr => HQ r ?_ l t N p g d f bl bb)) (fun q => X2 true _ (by decide) (td_bt q)) (fun q => X2 false 0 (by decide) (td_bf q))
    rw [td_eqI]
    exact td_k01 hw z1 z2 z3 hW hr
  unfold wpX_neighbours
  dsimp only
  refine br_f (by decide) (br_f (by decide) (br_f (show ¬ (4 : Int32) ≤ 0 by decide) (br_t (td_le.mpr h0) ⟨5, ?_⟩)))
  refine td_nbs (b := 0) False (by omega) (fun Q HQ => td_with (a := 0) (b := 0) hL hA hw (by omega) (by omega) (fun _ => HQ _ ?_ _ _ _ _ _ _ _ _ _) (fun q => absurd rfl q)) (fun q => absurd q (fun q => q)) (fun _ => X1)
  rw [td_eqI]
  refine ⟨fun y => ?_, fun q => q.elim⟩
  rw [← y] at h0
  exact absurd h0 (by decide)
end
end
section
section
variable {tc ls tk ts : Int32} {a1 a2 a3 a4 a5 a6 a7 a8 a9 a10 : Nat → Int32}
/-- the law's least of two answers, a negative one being none -/
def td_ls (u v r : Int) : Prop := (u < 0 → r = v) ∧ (0 ≤ u → v < 0 → r = u) ∧ (0 ≤ u → 0 ≤ v → r ≤ u ∧ r ≤ v ∧ (r = u ∨ r = v))
theorem td_least {post : Int32 → Prop} {u v : Int32} (H : ∀ r : Int32, td_ls u.toInt v.toInt r.toInt → post r) : wpL_least post () u v := by
  have z : (0 : Int32).toInt = 0 := rfl
  refine br_c (fun h1 => br_c (fun h2 => br_c (fun h3 => H v ?_) (fun h3 => H u ?_)) (fun h2 => H u ?_)) (fun h1 => H v ?_)
  · rw [td_le, z] at h1 h2
    rw [td_le] at h3
    unfold td_ls
    omega
  · rw [td_le, z] at h1 h2
    rw [td_le] at h3
    unfold td_ls
    omega
  · rw [td_le, z] at h1 h2
    unfold td_ls
    omega
  · rw [td_le, z] at h1
    unfold td_ls
    omega
/-- what the law reckons for a tour: its cost, or none -/
def td_Y (n : Prop) (c v : Int) : Prop := (n ∧ v = -1) ∨ (¬ n ∧ v = c)
theorem td_Wu {w : Int32} {c1 c2 c3 v u : Int} (hw : td_w3 w) (h : td_W (w ≠ 2) (w ≠ 2) (w ≠ 1) c1 c2 c3 v) (h' : td_W (w ≠ 2) (w ≠ 2) (w ≠ 1) c1 c2 c3 u) : v = u := by
  rcases hw with rfl | rfl | rfl <;> simp [td_W] at h h' <;> omega
theorem td_Wb {w : Int32} {c1 c2 c3 r x q s b : Int} (hw : td_w3 w) (h1 : 0 ≤ c1) (h2 : 0 ≤ c2) (h3 : 0 ≤ c3) (hR : td_Y (w = 2) c2 r) (hX : td_Y (w = 1) c3 x) (hP : td_Y (w = 2) c1 q) (l1 : td_ls r x s) (l2 : td_ls s q b) : td_W (w ≠ 2) (w ≠ 2) (w ≠ 1) c1 c2 c3 b := by
  unfold td_ls at l1 l2
  rcases hw with rfl | rfl | rfl <;> simp [td_W, td_Y] at hR hX hP ⊢ <;> omega
theorem td_e01 {w : Int32} {c1 c2 c3 r x v u : Int} (hw : td_w3 w) (h1 : 0 ≤ c1) (h2 : 0 ≤ c2) (h3 : 0 ≤ c3) (hR : td_Y (w = 2) c2 r) (hX : td_Y (w = 1) c3 x) (h : td_W False (w ≠ 2) (w ≠ 1) c1 c2 c3 v) (l : td_ls r x u) : v = u := by
  unfold td_ls at l
  rcases hw with rfl | rfl | rfl <;> simp [td_W, td_Y] at hR hX h <;> omega
theorem td_e03 {w : Int32} {c1 c2 c3 r q v u : Int} (hw : td_w3 w) (h1 : 0 ≤ c1) (h2 : 0 ≤ c2) (h3 : 0 ≤ c3) (hR : td_Y (w = 2) c2 r) (hP : td_Y (w = 2) c1 q) (h : (w = 2 ∧ v = -1) ∨ (w ≠ 2 ∧ td_W True True False c1 c2 c3 v)) (l : td_ls r q u) : v = u := by
  unfold td_ls at l
  rcases hw with rfl | rfl | rfl <;> simp [td_W, td_Y] at hR hP h <;> omega
theorem td_e12 {w : Int32} {c1 c2 c3 r q v u : Int} (hw : td_w3 w) (h1 : 0 ≤ c1) (h2 : 0 ≤ c2) (h3 : 0 ≤ c3) (hR : td_Y (w = 2) c2 r) (hP : td_Y (w = 2) c1 q) (h : td_W (w ≠ 2) (w ≠ 2) False c1 c2 c3 v) (l : td_ls r q u) : v = u := by
  unfold td_ls at l
  rcases hw with rfl | rfl | rfl <;> simp [td_W, td_Y] at hR hP h <;> omega
theorem td_en1 {w : Int32} {c1 c2 c3 q v : Int} (hw : td_w3 w) (h1 : 0 ≤ c1) (h2 : 0 ≤ c2) (h3 : 0 ≤ c3) (hP : td_Y (w = 2) c1 q) (h : td_W (w ≠ 2) False False c1 c2 c3 v) : v = q := by
  rcases hw with rfl | rfl | rfl <;> simp [td_W, td_Y] at hP h <;> omega
theorem td_en3 {w : Int32} {c1 c2 c3 x v : Int} (hw : td_w3 w) (h1 : 0 ≤ c1) (h2 : 0 ≤ c2) (h3 : 0 ≤ c3) (hX : td_Y (w = 1) c3 x) (h : (w = 1 ∧ v = -1) ∨ (w ≠ 1 ∧ td_W False False True c1 c2 c3 v)) : v = x := by
  rcases hw with rfl | rfl | rfl <;> simp [td_W, td_Y] at hX h <;> omega
theorem td_bb {b c : Bool} {P : Prop} (h : b = true ↔ P) (h' : c = true ↔ P) : b = c := by
  have q : b = true ↔ c = true := h.trans h'.symm
  revert q
  cases b <;> cases c <;> decide
/-- a flag of the law -/
theorem td_flag {w k : Int32} {c b : Int} {x y : Int32} (hc : 0 ≤ c) (hY : td_Y (w = k) c x.toInt) (hb : y.toInt = b) : (¬ x < 0 ∧ x = y) ↔ (w ≠ k ∧ c = b) := by
  have z : (0 : Int32).toInt = 0 := rfl
  rw [td_lt, td_eqI, z, hb]
  rcases hY with ⟨e, q⟩ | ⟨e, q⟩
  · rw [q]
    exact ⟨fun y => by omega, fun y => absurd e y.1⟩
  · rw [q]
    exact ⟨fun y => ⟨e, y.2⟩, fun y => ⟨by omega, y.2⟩⟩
theorem td_l344 {post : Int32 → St0 → Prop} {mc ms kc ks : Nat} {x13 x14 x15 x16 x20 x21 z0 z1 w : Int32} (B1 B2 B3 : Bool) (hL : td_L a1) (hA : td_Ru a2 w) (hw : td_w3 w)
    (hR : td_Y (w = 2) (td_c2 a1) x13.toInt) (hX : td_Y (w = 1) (td_c3 a1) x14.toInt) (hP : td_Y (w = 2) (td_c1 a1) x15.toInt) (hW : td_W (w ≠ 2) (w ≠ 2) (w ≠ 1) (td_c1 a1) (td_c2 a1) (td_c3 a1) x16.toInt)
    (i1 : B1 = true ↔ (td_Fr w (td_c2 a1) x16.toInt ∨ td_Fx w (td_c3 a1) x16.toInt)) (i2 : B2 = true ↔ (td_Fx w (td_c3 a1) x16.toInt ∨ td_Fr w (td_c1 a1) x16.toInt)) (i3 : B3 = true ↔ (td_Fr w (td_c2 a1) x16.toInt ∨ td_Fr w (td_c1 a1) x16.toInt))
    (hT : (td_Fr w (td_c2 a1) x16.toInt → x20 = 1 ∧ x21 = 2) ∧ (¬ td_Fr w (td_c2 a1) x16.toInt → td_Fx w (td_c3 a1) x16.toInt → x20 = 1 ∧ x21 = 3) ∧ (¬ td_Fr w (td_c2 a1) x16.toInt → ¬ td_Fx w (td_c3 a1) x16.toInt → x20 = 2 ∧ x21 = 1))
    (hN : z1 ||| z0 = td_nr B1 B2 B3) (H : post 1 ()) :
    wL_lawOf_344 post mc ms x13 x14 x15 x16 x20 x21 z0 z1 kc ks 4 tc ls 0 ts a1 a2 a3 a4 a5 a6 a7 a8 a9 a10 := by
  obtain ⟨k1, k2, k3⟩ := td_c0 hL
  unfold wL_lawOf_344
  refine nm_r hN (td_best hL hA hw (fun bs l t N p g d f bl bb to hW' hto => ?_))
  have e : bs = x16 := td_eqI.mpr (td_Wu hw hW' hW)
  subst e
  have h0 := td_bs0 hw k1 k2 k3 hW
  have ht : to 1 = x20 ∧ to 2 = x21 := by
    rcases hto with ⟨q, q1, q2⟩ | ⟨q, q', q1, q2⟩ | ⟨q, q', q1, q2⟩
    · rw [q1, q2, (hT.1 q).1, (hT.1 q).2]
      exact ⟨rfl, rfl⟩
    · rw [q1, q2, (hT.2.1 q q').1, (hT.2.1 q q').2]
      exact ⟨rfl, rfl⟩
    · rw [q1, q2, (hT.2.2 q q').1, (hT.2.2 q q').2]
      exact ⟨rfl, rfl⟩
  refine br_t rfl (td_city (k := 1) (by omega) h0 (br_t ht.1 (td_city (k := 2) (by omega) h0 (br_t ht.2 (td_nbr hL hA hw hW (fun b1 b2 b3 j1 j2 j3 l t N p g d f bl bb => ?_))))))
  have f1 := td_bb j1 i1
  have f2 := td_bb j2 i2
  have f3 := td_bb j3 i3
  subst f1 f2 f3
  refine br_t rfl (td_q01 hL hA hw (fun r l t N p g d f bl bb hr => td_least (fun u hu => br_t (td_eqI.mpr (td_e01 hw k1 k2 k3 hR hX hr hu)) ?_)))
  refine td_n01 hL hA hw (fun r l t N p g d f bl bb hr => br_t (td_eqI.mpr (td_en1 hw k1 k2 k3 hP hr)) ?_)
  refine td_q03 hL hA hw (fun r l t N p g d f bl bb hr => td_least (fun u hu => br_t (td_eqI.mpr (td_e03 hw k1 k2 k3 hR hP hr hu)) ?_))
  refine td_n03 hL hA hw (fun r l t N p g d f bl bb hr => br_t (td_eqI.mpr (td_en3 hw k1 k2 k3 hX hr)) ?_)
  exact td_q12 hL hA hw (fun r l t N p g d f bl bb hr => td_least (fun u hu => br_t (td_eqI.mpr (td_e12 hw k1 k2 k3 hR hP hr hu)) H))
theorem td_l257_111 {post : Int32 → St0 → Prop} {mc ms kc ks : Nat} {x13 x14 x15 x16 w : Int32} (hL : td_L a1) (hA : td_Ru a2 w) (hw : td_w3 w)
    (hR : td_Y (w = 2) (td_c2 a1) x13.toInt) (hX : td_Y (w = 1) (td_c3 a1) x14.toInt) (hP : td_Y (w = 2) (td_c1 a1) x15.toInt) (hW : td_W (w ≠ 2) (w ≠ 2) (w ≠ 1) (td_c1 a1) (td_c2 a1) (td_c3 a1) x16.toInt)
    (hr : td_Fr w (td_c2 a1) x16.toInt) (hx : td_Fx w (td_c3 a1) x16.toInt) (hp : td_Fr w (td_c1 a1) x16.toInt) (H : post 1 ()) :
    wL_lawOf_257 post mc ms x13 x14 x15 x16 1 1 1 kc ks 4 tc ls 0 ts a1 a2 a3 a4 a5 a6 a7 a8 a9 a10 :=
  br_f (by decide) (br_f (by decide) (br_f (by decide) (br_f (by decide) (br_f (by decide) (td_l344 true true true hL hA hw hR hX hP hW (td_bt (Or.inl hr)) (td_bt (Or.inl hx)) (td_bt (Or.inl hr)) ⟨fun _ => ⟨rfl, rfl⟩, fun q => absurd hr q, fun q => absurd hr q⟩ (by decide) H)))))
theorem td_l257_110 {post : Int32 → St0 → Prop} {mc ms kc ks : Nat} {x13 x14 x15 x16 w : Int32} (hL : td_L a1) (hA : td_Ru a2 w) (hw : td_w3 w)
    (hR : td_Y (w = 2) (td_c2 a1) x13.toInt) (hX : td_Y (w = 1) (td_c3 a1) x14.toInt) (hP : td_Y (w = 2) (td_c1 a1) x15.toInt) (hW : td_W (w ≠ 2) (w ≠ 2) (w ≠ 1) (td_c1 a1) (td_c2 a1) (td_c3 a1) x16.toInt)
    (hr : td_Fr w (td_c2 a1) x16.toInt) (hx : td_Fx w (td_c3 a1) x16.toInt) (hp : ¬ td_Fr w (td_c1 a1) x16.toInt) (H : post 1 ()) :
    wL_lawOf_257 post mc ms x13 x14 x15 x16 1 1 0 kc ks 4 tc ls 0 ts a1 a2 a3 a4 a5 a6 a7 a8 a9 a10 :=
  br_f (by decide) (br_f (by decide) (br_f (by decide) (br_f (by decide) (br_f (by decide) (td_l344 true true true hL hA hw hR hX hP hW (td_bt (Or.inl hr)) (td_bt (Or.inl hx)) (td_bt (Or.inl hr)) ⟨fun _ => ⟨rfl, rfl⟩, fun q => absurd hr q, fun q => absurd hr q⟩ (by decide) H)))))
theorem td_l257_101 {post : Int32 → St0 → Prop} {mc ms kc ks : Nat} {x13 x14 x15 x16 w : Int32} (hL : td_L a1) (hA : td_Ru a2 w) (hw : td_w3 w)
    (hR : td_Y (w = 2) (td_c2 a1) x13.toInt) (hX : td_Y (w = 1) (td_c3 a1) x14.toInt) (hP : td_Y (w = 2) (td_c1 a1) x15.toInt) (hW : td_W (w ≠ 2) (w ≠ 2) (w ≠ 1) (td_c1 a1) (td_c2 a1) (td_c3 a1) x16.toInt)
    (hr : td_Fr w (td_c2 a1) x16.toInt) (hx : ¬ td_Fx w (td_c3 a1) x16.toInt) (hp : td_Fr w (td_c1 a1) x16.toInt) (H : post 1 ()) :
    wL_lawOf_257 post mc ms x13 x14 x15 x16 1 0 1 kc ks 4 tc ls 0 ts a1 a2 a3 a4 a5 a6 a7 a8 a9 a10 :=
  br_f (by decide) (br_f (by decide) (br_f (by decide) (br_t rfl (br_f (by decide) (br_f (by decide) (td_l344 true true true hL hA hw hR hX hP hW (td_bt (Or.inl hr)) (td_bt (Or.inr hp)) (td_bt (Or.inl hr)) ⟨fun _ => ⟨rfl, rfl⟩, fun q => absurd hr q, fun q => absurd hr q⟩ (by decide) H))))))
theorem td_l257_100 {post : Int32 → St0 → Prop} {mc ms kc ks : Nat} {x13 x14 x15 x16 w : Int32} (hL : td_L a1) (hA : td_Ru a2 w) (hw : td_w3 w)
    (hR : td_Y (w = 2) (td_c2 a1) x13.toInt) (hX : td_Y (w = 1) (td_c3 a1) x14.toInt) (hP : td_Y (w = 2) (td_c1 a1) x15.toInt) (hW : td_W (w ≠ 2) (w ≠ 2) (w ≠ 1) (td_c1 a1) (td_c2 a1) (td_c3 a1) x16.toInt)
    (hr : td_Fr w (td_c2 a1) x16.toInt) (hx : ¬ td_Fx w (td_c3 a1) x16.toInt) (hp : ¬ td_Fr w (td_c1 a1) x16.toInt) (H : post 1 ()) :
    wL_lawOf_257 post mc ms x13 x14 x15 x16 1 0 0 kc ks 4 tc ls 0 ts a1 a2 a3 a4 a5 a6 a7 a8 a9 a10 :=
  br_f (by decide) (br_f (by decide) (br_f (by decide) (br_t rfl (br_t rfl (br_f (by decide) (td_l344 true false true hL hA hw hR hX hP hW (td_bt (Or.inl hr)) (td_bf (fun q => q.elim hx hp)) (td_bt (Or.inl hr)) ⟨fun _ => ⟨rfl, rfl⟩, fun q => absurd hr q, fun q => absurd hr q⟩ (by decide) H))))))
theorem td_l257_011 {post : Int32 → St0 → Prop} {mc ms kc ks : Nat} {x13 x14 x15 x16 w : Int32} (hL : td_L a1) (hA : td_Ru a2 w) (hw : td_w3 w)
    (hR : td_Y (w = 2) (td_c2 a1) x13.toInt) (hX : td_Y (w = 1) (td_c3 a1) x14.toInt) (hP : td_Y (w = 2) (td_c1 a1) x15.toInt) (hW : td_W (w ≠ 2) (w ≠ 2) (w ≠ 1) (td_c1 a1) (td_c2 a1) (td_c3 a1) x16.toInt)
    (hr : ¬ td_Fr w (td_c2 a1) x16.toInt) (hx : td_Fx w (td_c3 a1) x16.toInt) (hp : td_Fr w (td_c1 a1) x16.toInt) (H : post 1 ()) :
    wL_lawOf_257 post mc ms x13 x14 x15 x16 0 1 1 kc ks 4 tc ls 0 ts a1 a2 a3 a4 a5 a6 a7 a8 a9 a10 :=
  br_t rfl (br_f (by decide) (br_t rfl (br_f (by decide) (br_t rfl (br_f (by decide) (br_f (by decide) (br_t rfl (br_f (by decide) (td_l344 true true true hL hA hw hR hX hP hW (td_bt (Or.inr hx)) (td_bt (Or.inl hx)) (td_bt (Or.inr hp)) ⟨fun q => absurd q hr, fun _ _ => ⟨rfl, rfl⟩, fun _ q => absurd hx q⟩ (by decide) H)))))))))
theorem td_l257_010 {post : Int32 → St0 → Prop} {mc ms kc ks : Nat} {x13 x14 x15 x16 w : Int32} (hL : td_L a1) (hA : td_Ru a2 w) (hw : td_w3 w)
    (hR : td_Y (w = 2) (td_c2 a1) x13.toInt) (hX : td_Y (w = 1) (td_c3 a1) x14.toInt) (hP : td_Y (w = 2) (td_c1 a1) x15.toInt) (hW : td_W (w ≠ 2) (w ≠ 2) (w ≠ 1) (td_c1 a1) (td_c2 a1) (td_c3 a1) x16.toInt)
    (hr : ¬ td_Fr w (td_c2 a1) x16.toInt) (hx : td_Fx w (td_c3 a1) x16.toInt) (hp : ¬ td_Fr w (td_c1 a1) x16.toInt) (H : post 1 ()) :
    wL_lawOf_257 post mc ms x13 x14 x15 x16 0 1 0 kc ks 4 tc ls 0 ts a1 a2 a3 a4 a5 a6 a7 a8 a9 a10 :=
  br_t rfl (br_f (by decide) (br_t rfl (br_f (by decide) (br_t rfl (br_f (by decide) (br_f (by decide) (br_t rfl (br_t rfl (td_l344 true true false hL hA hw hR hX hP hW (td_bt (Or.inr hx)) (td_bt (Or.inl hx)) (td_bf (fun q => q.elim hr hp)) ⟨fun q => absurd q hr, fun _ _ => ⟨rfl, rfl⟩, fun _ q => absurd hx q⟩ (by decide) H)))))))))
theorem td_l257_001 {post : Int32 → St0 → Prop} {mc ms kc ks : Nat} {x13 x14 x15 x16 w : Int32} (hL : td_L a1) (hA : td_Ru a2 w) (hw : td_w3 w)
    (hR : td_Y (w = 2) (td_c2 a1) x13.toInt) (hX : td_Y (w = 1) (td_c3 a1) x14.toInt) (hP : td_Y (w = 2) (td_c1 a1) x15.toInt) (hW : td_W (w ≠ 2) (w ≠ 2) (w ≠ 1) (td_c1 a1) (td_c2 a1) (td_c3 a1) x16.toInt)
    (hr : ¬ td_Fr w (td_c2 a1) x16.toInt) (hx : ¬ td_Fx w (td_c3 a1) x16.toInt) (hp : td_Fr w (td_c1 a1) x16.toInt) (H : post 1 ()) :
    wL_lawOf_257 post mc ms x13 x14 x15 x16 0 0 1 kc ks 4 tc ls 0 ts a1 a2 a3 a4 a5 a6 a7 a8 a9 a10 :=
  br_t rfl (br_t rfl (br_t rfl (br_t rfl (br_t rfl (br_t rfl (br_t rfl (br_f (by decide) (br_t rfl (br_f (by decide) (td_l344 false true true hL hA hw hR hX hP hW (td_bf (fun q => q.elim hr hx)) (td_bt (Or.inr hp)) (td_bt (Or.inr hp)) ⟨fun q => absurd q hr, fun _ q => absurd q hx, fun _ _ => ⟨rfl, rfl⟩⟩ (by decide) H))))))))))
theorem td_l257 {post : Int32 → St0 → Prop} {mc ms kc ks : Nat} {x13 x14 x15 x16 w : Int32} (hL : td_L a1) (hA : td_Ru a2 w) (hw : td_w3 w)
    (hR : td_Y (w = 2) (td_c2 a1) x13.toInt) (hX : td_Y (w = 1) (td_c3 a1) x14.toInt) (hP : td_Y (w = 2) (td_c1 a1) x15.toInt) (hW : td_W (w ≠ 2) (w ≠ 2) (w ≠ 1) (td_c1 a1) (td_c2 a1) (td_c3 a1) x16.toInt)
    {f1 f2 f3 : Int32} (h1 : (f1 = 1 ∧ td_Fr w (td_c2 a1) x16.toInt) ∨ (f1 = 0 ∧ ¬ td_Fr w (td_c2 a1) x16.toInt)) (h2 : (f2 = 1 ∧ td_Fx w (td_c3 a1) x16.toInt) ∨ (f2 = 0 ∧ ¬ td_Fx w (td_c3 a1) x16.toInt)) (h3 : (f3 = 1 ∧ td_Fr w (td_c1 a1) x16.toInt) ∨ (f3 = 0 ∧ ¬ td_Fr w (td_c1 a1) x16.toInt)) (H : post 1 ()) :
    wL_lawOf_257 post mc ms x13 x14 x15 x16 f1 f2 f3 kc ks 4 tc ls 0 ts a1 a2 a3 a4 a5 a6 a7 a8 a9 a10 := by
  rcases h1 with ⟨rfl, hr⟩ | ⟨rfl, hr⟩ <;> rcases h2 with ⟨rfl, hx⟩ | ⟨rfl, hx⟩ <;> rcases h3 with ⟨rfl, hp⟩ | ⟨rfl, hp⟩
  · exact td_l257_111 hL hA hw hR hX hP hW hr hx hp H
  · exact td_l257_110 hL hA hw hR hX hP hW hr hx hp H
  · exact td_l257_101 hL hA hw hR hX hP hW hr hx hp H
  · exact td_l257_100 hL hA hw hR hX hP hW hr hx hp H
  · exact td_l257_011 hL hA hw hR hX hP hW hr hx hp H
  · exact td_l257_010 hL hA hw hR hX hP hW hr hx hp H
  · exact td_l257_001 hL hA hw hR hX hP hW hr hx hp H
  · exact absurd (td_bsF hw hW hr hx) hp
theorem td_l186 {post : Int32 → St0 → Prop} {mc ms kc ks : Nat} {x13 x14 x15 w : Int32} (hL : td_L a1) (hA : td_Ru a2 w) (hw : td_w3 w)
    (hR : td_Y (w = 2) (td_c2 a1) x13.toInt) (hX : td_Y (w = 1) (td_c3 a1) x14.toInt) (hP : td_Y (w = 2) (td_c1 a1) x15.toInt) (H : post 1 ()) :
    wL_lawOf_186 post mc ms x13 x14 x15 kc ks 4 tc ls 0 ts a1 a2 a3 a4 a5 a6 a7 a8 a9 a10 := by
  obtain ⟨k1, k2, k3⟩ := td_c0 hL
  unfold wL_lawOf_186
  refine td_least (fun s hs => td_least (fun x16 hb => ?_))
  have hW := td_Wb hw k1 k2 k3 hR hX hP hs hb
  have F1 := td_flag (y := x16) k2 hR rfl
  have F2 := td_flag (y := x16) k3 hX rfl
  have F3 := td_flag (y := x16) k1 hP rfl
  have K3 : ∀ f1 f2 f3 : Int32, ((f1 = 1 ∧ td_Fr w (td_c2 a1) x16.toInt) ∨ (f1 = 0 ∧ ¬ td_Fr w (td_c2 a1) x16.toInt)) → ((f2 = 1 ∧ td_Fx w (td_c3 a1) x16.toInt) ∨ (f2 = 0 ∧ ¬ td_Fx w (td_c3 a1) x16.toInt)) → ((f3 = 1 ∧ td_Fr w (td_c1 a1) x16.toInt) ∨ (f3 = 0 ∧ ¬ td_Fr w (td_c1 a1) x16.toInt)) → wL_lawOf_257 post mc ms x13 x14 x15 x16 f1 f2 f3 kc ks 4 tc ls 0 ts a1 a2 a3 a4 a5 a6 a7 a8 a9 a10 :=
    fun f1 f2 f3 h1 h2 h3 => td_l257 hL hA hw hR hX hP hW h1 h2 h3 H
  have K2 : ∀ f1 f2 : Int32, ((f1 = 1 ∧ td_Fr w (td_c2 a1) x16.toInt) ∨ (f1 = 0 ∧ ¬ td_Fr w (td_c2 a1) x16.toInt)) → ((f2 = 1 ∧ td_Fx w (td_c3 a1) x16.toInt) ∨ (f2 = 0 ∧ ¬ td_Fx w (td_c3 a1) x16.toInt)) → wL_lawOf_238 post mc ms x13 x14 x15 x16 f1 f2 kc ks 4 tc ls 0 ts a1 a2 a3 a4 a5 a6 a7 a8 a9 a10 :=
    fun f1 f2 h1 h2 => br_c (fun y => K3 f1 f2 0 h1 h2 (Or.inr ⟨rfl, fun q => (F3.mpr q).1 y⟩)) (fun y => br_c (fun e => K3 f1 f2 1 h1 h2 (Or.inl ⟨rfl, F3.mp ⟨y, e⟩⟩)) (fun e => K3 f1 f2 0 h1 h2 (Or.inr ⟨rfl, fun q => e (F3.mpr q).2⟩)))
  have K1 : ∀ f1 : Int32, ((f1 = 1 ∧ td_Fr w (td_c2 a1) x16.toInt) ∨ (f1 = 0 ∧ ¬ td_Fr w (td_c2 a1) x16.toInt)) → wL_lawOf_219 post mc ms x13 x14 x15 x16 f1 kc ks 4 tc ls 0 ts a1 a2 a3 a4 a5 a6 a7 a8 a9 a10 :=
    fun f1 h1 => br_c (fun y => K2 f1 0 h1 (Or.inr ⟨rfl, fun q => (F2.mpr q).1 y⟩)) (fun y => br_c (fun e => K2 f1 1 h1 (Or.inl ⟨rfl, F2.mp ⟨y, e⟩⟩)) (fun e => K2 f1 0 h1 (Or.inr ⟨rfl, fun q => e (F2.mpr q).2⟩)))
  exact br_c (fun y => K1 0 (Or.inr ⟨rfl, fun q => (F1.mpr q).1 y⟩)) (fun y => br_c (fun e => K1 1 (Or.inl ⟨rfl, F1.mp ⟨y, e⟩⟩)) (fun e => K1 0 (Or.inr ⟨rfl, fun q => e (F1.mpr q).2⟩)))
end
end
section
section
variable {tc ls tk ts : Int32} {a1 a2 a3 a4 a5 a6 a7 a8 a9 a10 : Nat → Int32}
theorem td_init {post : St2 → Prop} (H : ∀ a1 : Nat → Int32, (∀ j, j < 49 → a1 j = 20) → post (4, 0, 0, 0, 0, a1, (fun _ => 0), (fun _ => 0), (fun _ => 0), (fun _ => 0), (fun _ => 0), (fun _ => 0), (fun _ => 0), (fun _ => 0), (fun _ => 0))) :
    wpX_init post 10 272 (0, 0, 0, 0, 0) 4 20 := by
  have L : ∃ n, wX_init_133 post 10 272 20 10 272 4 0 0 0 0 n 0 (fun _ => 0) (fun _ => 0) (fun _ => 0) (fun _ => 0) (fun _ => 0) (fun _ => 0) (fun _ => 0) (fun _ => 0) (fun _ => 0) (fun _ => 0) := by
    refine pk_loop (fun n i s => wX_init_133 post 10 272 20 10 272 4 0 0 0 0 n (nI i) s (fun _ => 0) (fun _ => 0) (fun _ => 0) (fun _ => 0) (fun _ => 0) (fun _ => 0) (fun _ => 0) (fun _ => 0) (fun _ => 0))
      (fun i s => ∀ j, j < i → s j = 20) 49 0 (fun _ => 0) (by omega) (fun j hj => absurd hj (by omega)) ?_ ?_
    · exact fun n s h => pk_le 49 49 (fun _ => H s h) (fun z => absurd z (by omega))
    · intro n i s hi h hw
      refine pk_le 49 i (fun z => absurd z (by omega)) (fun _ => ?_)
      rw [nI_clamp (show i < 2 ^ 31 by omega)]
      refine ⟨pk_in i 49 (by omega), nm_e (nm_r (nI_1 i) (hw _ (fun j hj => ?_)))⟩
      by_cases ej : j = i
      · rw [ej, pk_us]
        decide
      · rw [pk_un ej]
        exact h j (by omega)
  exact ⟨by omega, by omega, by omega, by omega, by omega, by omega, by omega, by omega, by omega, by omega, by omega, by omega, by omega, by omega, by omega, by omega, by omega, by omega, by omega, by omega, br_t (by decide) (br_t (by decide) (br_t (by decide) (br_t (by decide) L)))⟩
theorem td_setLen {post : Int32 → St2 → Prop} {a b : Nat} {v : Int32} (ha : a < 4) (hb : b < 4) (hab : a ≠ b) (hv : 0 ≤ v.toInt ∧ v.toInt ≤ 99)
    (H : post 1 (4, tc, ls, 0, ts, upd (upd a1 (a * 7 + b) v) (b * 7 + a) v, a2, a3, a4, a5, a6, a7, a8, a9, a10)) :
    wpX_setLength post (4, tc, ls, tk, ts, a1, a2, a3, a4, a5, a6, a7, a8, a9, a10) (nI a) (nI b) v := by
  unfold wpX_setLength
  dsimp only
  refine td_isLink ha hb (fun _ => br_f (by decide) (br_f (fun z => absurd (td_lt.mp z) (Int.not_lt.mpr hv.1)) (br_t (td_le.mpr hv.2) ?_))) (fun e => absurd e hab)
  unfold wpX_putLength
  dsimp only
  rw [td_pos, td_pos, td_i8 (by omega) (by omega), nI_clamp (show a * 7 + b < 2 ^ 31 by omega), nI_clamp (show b * 7 + a < 2 ^ 31 by omega)]
  exact ⟨pk_in (a * 7 + b) 49 (by omega), nm_e ⟨pk_in (b * 7 + a) 49 (by omega), nm_e H⟩⟩
theorem td_setRul {post : Int32 → St2 → Prop} {a b : Nat} {v : Int32} (ha : a < 4) (hb : b < 4) (hab : a ≠ b) (hv : 0 ≤ v.toInt ∧ v.toInt ≤ 2)
    (H : post 1 (4, tc, ls, 0, ts, a1, upd (upd a2 (a * 7 + b) v) (b * 7 + a) v, a3, a4, a5, a6, a7, a8, a9, a10)) :
    wpX_setRule post (4, tc, ls, tk, ts, a1, a2, a3, a4, a5, a6, a7, a8, a9, a10) (nI a) (nI b) v := by
  unfold wpX_setRule
  dsimp only
  rw [td_pos, td_pos, td_i8 (by omega) (by omega), nI_clamp (show a * 7 + b < 2 ^ 31 by omega), nI_clamp (show b * 7 + a < 2 ^ 31 by omega)]
  exact td_isLink ha hb (fun _ => br_f (by decide) (br_f (fun z => absurd (td_lt.mp z) (Int.not_lt.mpr hv.1)) (br_t (td_le.mpr hv.2) ⟨pk_in (a * 7 + b) 49 (by omega), nm_e ⟨pk_in (b * 7 + a) 49 (by omega), nm_e H⟩⟩))) (fun e => absurd e hab)
theorem td_mod (x : Int32) (d : Nat) (h0 : 0 < d) (hd : d < 2 ^ 31) : ∃ k : Nat, k < d ∧ (x &&& 65535) - (x &&& 65535) / nI d * nI d = nI k := by
  obtain ⟨j, hj, e⟩ := pk_andE x (m := 65535) 16 (by decide)
  refine ⟨j % d, Nat.mod_lt _ h0, ?_⟩
  rw [e, pk_rem (by omega) h0 hd]
theorem td_l134 {post : Int32 → St0 → Prop} {mc ms kc ks : Nat} {x5 x6 x7 x8 z0 : Int32} (h5 : 0 ≤ x5.toInt ∧ x5.toInt ≤ 99) (h6 : 0 ≤ x6.toInt ∧ x6.toInt ≤ 99) (h7 : 0 ≤ x7.toInt ∧ x7.toInt ≤ 99) (hw : td_w3 x8) (hA : td_Ru a2 x8)
    (e1 : a1 1 = x5) (e2 : a1 2 = x7) (e3 : a1 3 = 20) (e9 : a1 9 = 20) (e10 : a1 10 = 20) (e17 : a1 17 = x6) (hR : td_Y (x8 = 2) (td_c2 a1) z0.toInt) (H : post 1 ()) :
    wL_lawOf_134 post mc ms x5 x6 x7 x8 z0 kc ks 4 tc ls 0 ts a1 a2 a3 a4 a5 a6 a7 a8 a9 a10 := by
  have t : (20 : Int32).toInt = 20 := rfl
  have hL : td_L a1 := by
    unfold td_L
    rw [e1, e2, e3, e9, e10, e17, t]
    omega
  have hc1 : td_c1 a1 = x7.toInt + 60 := by
    unfold td_c1
    rw [e2, e3, e9, e10, t]
    omega
  have hc3 : td_c3 a1 = x5.toInt + x7.toInt + 20 + x6.toInt := by
    unfold td_c3
    rw [e1, e2, e10, e17, t]
  have s1 : (x7 + 20 + 20 + 20).toInt = x7.toInt + 60 := by
    have p1 : (x7 + 20).toInt = x7.toInt + 20 := td_add (by rw [t]; omega) (by rw [t]; omega)
    have p2 : (x7 + 20 + 20).toInt = x7.toInt + 20 + 20 := by
      rw [td_add (by rw [p1, t]; omega) (by rw [p1, t]; omega), p1, t]
    rw [td_add (by rw [p2, t]; omega) (by rw [p2, t]; omega), p2, t]
    omega
  have s3 : (x5 + 20 + x6 + x7 - 20 + 20).toInt = x5.toInt + x7.toInt + 20 + x6.toInt := by
    have p1 : (x5 + 20).toInt = x5.toInt + 20 := td_add (by rw [t]; omega) (by rw [t]; omega)
    have p2 : (x5 + 20 + x6).toInt = x5.toInt + 20 + x6.toInt := by
      rw [td_add (by rw [p1]; omega) (by rw [p1]; omega), p1]
    have p3 : (x5 + 20 + x6 + x7).toInt = x5.toInt + 20 + x6.toInt + x7.toInt := by
      rw [td_add (by rw [p2]; omega) (by rw [p2]; omega), p2]
    have p4 : (x5 + 20 + x6 + x7 - 20).toInt = x5.toInt + 20 + x6.toInt + x7.toInt - 20 := by
      rw [td_sub (by rw [p3, t]; omega) (by rw [p3, t]; omega), p3, t]
    rw [td_add (by rw [p4, t]; omega) (by rw [p4, t]; omega), p4, t]
    omega
  have K : ∀ x : Int32, td_Y (x8 = 1) (td_c3 a1) x.toInt → wL_lawOf_163 post mc ms x7 x8 z0 x kc ks 4 tc ls 0 ts a1 a2 a3 a4 a5 a6 a7 a8 a9 a10 := fun x hX =>
    br_c (fun e => td_l186 hL hA hw hR hX (Or.inl ⟨e, by decide⟩) H) (fun e => td_l186 hL hA hw hR hX (Or.inr ⟨e, by rw [hc1]; exact s1⟩) H)
  exact br_c (fun e => K _ (Or.inl ⟨e, by decide⟩)) (fun e => K _ (Or.inr ⟨e, by rw [hc3]; exact s3⟩))
theorem td_nIb {k n : Nat} (h : k ≤ n) (hn : n < 1000) : 0 ≤ (nI k).toInt ∧ (nI k).toInt ≤ (n : Int) := by
  rw [nI_toInt (by omega)]
  omega
theorem td_wI : ∀ k, k < 3 → td_w3 (nI k) := by
  intro k hk
  have h : k = 0 ∨ k = 1 ∨ k = 2 := by omega
  rcases h with rfl | rfl | rfl
  · exact Or.inl rfl
  · exact Or.inr (Or.inl rfl)
  · exact Or.inr (Or.inr rfl)
theorem td_lawOf {post : Int32 → St0 → Prop} {mc ms : Nat} {p0 p1 p2 p3 : Int32} (hm : 11 ≤ mc) (hs : 287 ≤ ms) (H : post 1 ()) : wpL_lawOf post mc ms () p0 p1 p2 p3 := by
  refine ⟨by omega, by omega, 10, 272, by omega, by omega, td_init (fun b hb => ?_)⟩
  obtain ⟨x, hx, ex⟩ := td_mod p0 100 (by omega) (by omega)
  obtain ⟨y, hy, ey⟩ := td_mod p1 100 (by omega) (by omega)
  obtain ⟨z, hz, ez⟩ := td_mod p2 100 (by omega) (by omega)
  obtain ⟨w, hw, ew⟩ := td_mod p3 3 (by omega) (by omega)
  have bx := td_nIb (show x ≤ 99 by omega) (by omega)
  have by' := td_nIb (show y ≤ 99 by omega) (by omega)
  have bz := td_nIb (show z ≤ 99 by omega) (by omega)
  have bw := td_nIb (show w ≤ 2 by omega) (by omega)
  refine ⟨by decide, nm_r ex ⟨by decide, nm_r ey ⟨by decide, nm_r ez ⟨by decide, nm_r ew ?_⟩⟩⟩⟩
  refine td_setLen (a := 0) (b := 1) (by omega) (by omega) (by omega) bx ?_
  refine td_setLen (a := 2) (b := 3) (by omega) (by omega) (by omega) by' ?_
  refine td_setLen (a := 0) (b := 2) (by omega) (by omega) (by omega) bz ?_
  refine td_setRul (a := 0) (b := 3) (by omega) (by omega) (by omega) bw ?_
  refine br_f (by decide) (br_f (by decide) (br_f (by decide) (br_f (by decide) ?_)))
  have t : (20 : Int32).toInt = 20 := rfl
  have s2 : (nI x + 20 + nI y + 20).toInt = (nI x).toInt + 20 + 20 + (nI y).toInt := by
    have q1 : (nI x + 20).toInt = (nI x).toInt + 20 := td_add (by rw [t]; omega) (by rw [t]; omega)
    have q2 : (nI x + 20 + nI y).toInt = (nI x).toInt + 20 + (nI y).toInt := by
      rw [td_add (by rw [q1]; omega) (by rw [q1]; omega), q1]
    rw [td_add (by rw [q2, t]; omega) (by rw [q2, t]; omega), q2, t]
    omega
  have K : ∀ r : Int32, ((nI w = 2 ∧ r.toInt = -1) ∨ (¬ nI w = 2 ∧ r.toInt = (nI x).toInt + 20 + 20 + (nI y).toInt)) →
      wL_lawOf_134 post mc ms (nI x) (nI y) (nI z) (nI w) r (1 + 10) (15 + 272) 4 0 0 0 0 (upd (upd (upd (upd (upd (upd b (0 * 7 + 1) (nI x)) (1 * 7 + 0) (nI x)) (2 * 7 + 3) (nI y)) (3 * 7 + 2) (nI y)) (0 * 7 + 2) (nI z)) (2 * 7 + 0) (nI z)) (upd (upd (fun _ => 0) (0 * 7 + 3) (nI w)) (3 * 7 + 0) (nI w)) (fun _ => 0) (fun _ => 0) (fun _ => 0) (fun _ => 0) (fun _ => 0) (fun _ => 0) (fun _ => 0) (fun _ => 0) := by
    intro r hr
    have g3 := hb 3 (by omega)
    have g9 := hb 9 (by omega)
    have g10 := hb 10 (by omega)
    refine td_l134 bx by' bz (td_wI w hw) ⟨⟨rfl, rfl⟩, ⟨rfl, rfl⟩, ⟨rfl, rfl⟩, ⟨rfl, rfl⟩, ⟨rfl, rfl⟩, ⟨rfl, rfl⟩⟩ rfl rfl g3 g9 g10 rfl ?_ H
    rcases hr with q | q
    · exact Or.inl q
    · refine Or.inr ⟨q.1, ?_⟩
      rw [q.2]
      show _ = (nI x).toInt + (b 3).toInt + (b 9).toInt + (nI y).toInt
      rw [g3, g9, t]
  exact br_c (fun e => K _ (Or.inl ⟨e, by decide⟩)) (fun e => K _ (Or.inr ⟨e, s2⟩))
end
theorem td_cell {post : Int32 → Prop} {L k : Nat} {xs : Nat → Int32} (hL : L ≤ 4) (hk : k < 4) (H : ∀ x : Int32, post x) : wpL_cellAt post L xs () (nI k) :=
  pk_le L k (fun _ => H 0) (fun h => ⟨pk_in k L h, H _⟩)
theorem i_vc (xs : Nat → Int32) (L : Nat) (hL : L ≤ 4) : wpL_law (fun r => r = 1) L xs := by
  unfold wpL_law
  exact td_cell (k := 0) hL (by omega) (fun r1 => td_cell (k := 1) hL (by omega) (fun r2 => td_cell (k := 2) hL (by omega) (fun r3 => td_cell (k := 3) hL (by omega) (fun r4 => ⟨70, 1120, by omega, by omega, td_lawOf (by omega) (by omega) rfl⟩))))
end
