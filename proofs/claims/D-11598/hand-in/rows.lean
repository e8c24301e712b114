section
/-- an answer of a check, as an int -/
def gv_b (b : Bool) : Int32 := match b with
  | true => 1
  | false => 0
/-- where a side can move to from position p: false Left, true Right; position 8 is {i | j} -/
def gv_m (i j : Nat) (s : Bool) (p : Nat) : List Nat := match s with
  | false => [[], [0], [1], [2], [3], [], [], [0], [i], [0, 1, 2, 3, 4, 5, 6, 7, 8]].getD p []
  | true => [[], [], [], [], [], [0], [5], [1], [j], [0, 1, 2, 3, 4, 5, 6, 7, 8]].getD p []
/-- the same as a set of bits, as the class keeps it -/
def gv_s (i j : Nat) (s : Bool) (p : Nat) : Nat := match s with
  | false => [0, 1, 2, 4, 8, 0, 0, 1, 2 ^ i, 511].getD p 0
  | true => [0, 0, 0, 0, 0, 1, 32, 2, 2 ^ j, 511].getD p 0
/-- the tables (true: at least, false: at most), with fuel -/
def gv_g (i j : Nat) : Nat → Bool → Nat → Nat → Nat → Bool
  | 0, _, _, _, _ => true
  | n + 1, s, p, q, r => !((gv_m i j s p).any (fun x => gv_g i j n (!s) x q r) || ((gv_m i j s q).any (fun x => gv_g i j n (!s) p x r) || (gv_m i j (!s) r).any (fun x => gv_g i j n (!s) p q x)))
def gv_T (i j : Nat) (s : Bool) (p q r : Nat) : Bool := gv_g i j 40 s p q r
theorem gv_g1 (i j n : Nat) (s : Bool) (p q r : Nat) : gv_g i j (n + 1) s p q r = !((gv_m i j s p).any (fun x => gv_g i j n (!s) x q r) || ((gv_m i j s q).any (fun x => gv_g i j n (!s) p x r) || (gv_m i j (!s) r).any (fun x => gv_g i j n (!s) p q x))) := rfl
theorem gv_lt0 : ∀ i, i < 5 → ∀ j, j < 5 → ∀ p, p < 10 → (∀ x, x ∈ gv_m i j false p → x < p) ∧ (∀ x, x ∈ gv_m i j true p → x < p) := by decide +kernel
theorem gv_lt {i j p x : Nat} {s : Bool} (hi : i < 5) (hj : j < 5) (hp : p < 10) (h : x ∈ gv_m i j s p) : x < p := by
  cases s
  · exact (gv_lt0 i hi j hj p hp).1 x h
  · exact (gv_lt0 i hi j hj p hp).2 x h
theorem gv_anyc {l : List Nat} {f g : Nat → Bool} (h : ∀ x, x ∈ l → f x = g x) : l.any f = l.any g := by
  induction l with
  | nil => rfl
  | cons a l ih => rw [List.any_cons, List.any_cons, h a (by simp), ih (fun x hx => h x (by simp [hx]))]
theorem gv_gi {i j : Nat} (hi : i < 5) (hj : j < 5) : ∀ (n m : Nat) (s : Bool) (p q r : Nat), p < 10 → q < 10 → r < 10 → p + q + r < n → p + q + r < m → gv_g i j n s p q r = gv_g i j m s p q r := by
  intro n
  induction n with
  | zero => intro m s p q r _ _ _ h _; exact absurd h (by omega)
  | succ n ih =>
    intro m s p q r hp hq hr hn hm
    cases m with
    | zero => exact absurd hm (by omega)
    | succ m =>
      rw [gv_g1, gv_g1]
      rw [gv_anyc (fun x hx => ih m (!s) x q r (by have := gv_lt hi hj hp hx; omega) hq hr (by have := gv_lt hi hj hp hx; omega) (by have := gv_lt hi hj hp hx; omega))]
      rw [gv_anyc (fun x hx => ih m (!s) p x r hp (by have := gv_lt hi hj hq hx; omega) hr (by have := gv_lt hi hj hq hx; omega) (by have := gv_lt hi hj hq hx; omega))]
      rw [gv_anyc (fun x hx => ih m (!s) p q x hp hq (by have := gv_lt hi hj hr hx; omega) (by have := gv_lt hi hj hr hx; omega) (by have := gv_lt hi hj hr hx; omega))]
theorem gv_Teq {i j : Nat} (hi : i < 5) (hj : j < 5) {s : Bool} {p q r : Nat} (hp : p < 10) (hq : q < 10) (hr : r < 10) : gv_T i j s p q r = !((gv_m i j s p).any (fun x => gv_T i j (!s) x q r) || ((gv_m i j s q).any (fun x => gv_T i j (!s) p x r) || (gv_m i j (!s) r).any (fun x => gv_T i j (!s) p q x))) := by
  show gv_g i j (39 + 1) s p q r = _
  rw [gv_g1]
  rw [gv_anyc (g := fun x => gv_T i j (!s) x q r) (fun x hx => gv_gi hi hj 39 40 (!s) x q r (by have := gv_lt hi hj hp hx; omega) hq hr (by have := gv_lt hi hj hp hx; omega) (by have := gv_lt hi hj hp hx; omega))]
  rw [gv_anyc (g := fun x => gv_T i j (!s) p x r) (fun x hx => gv_gi hi hj 39 40 (!s) p x r hp (by have := gv_lt hi hj hq hx; omega) hr (by have := gv_lt hi hj hq hx; omega) (by have := gv_lt hi hj hq hx; omega))]
  rw [gv_anyc (g := fun x => gv_T i j (!s) p q x) (fun x hx => gv_gi hi hj 39 40 (!s) p q x hp hq (by have := gv_lt hi hj hr hx; omega) (by have := gv_lt hi hj hr hx; omega) (by have := gv_lt hi hj hr hx; omega))]
/-- x is a move that spoils it -/
def gv_hit (i j : Nat) (s : Bool) (p q r x : Nat) : Bool := (((gv_m i j s p).contains x && gv_T i j (!s) x q r) || ((gv_m i j s q).contains x && gv_T i j (!s) p x r)) || ((gv_m i j (!s) r).contains x && gv_T i j (!s) p q x)
theorem gv_T1 {i j c : Nat} (hi : i < 5) (hj : j < 5) (hc : c ≤ 10) {s : Bool} {p q r : Nat} (hp : p < c) (hq : q < c) (hr : r < c) (h : ∀ x, x < c → gv_hit i j s p q r x = false) : gv_T i j s p q r = true := by
  rw [gv_Teq hi hj (by omega) (by omega) (by omega)]
  have k1 : (gv_m i j s p).any (fun x => gv_T i j (!s) x q r) = false := by
    rw [List.any_eq_false]
    intro x hx ht
    have := h x (by have := gv_lt hi hj (by omega) hx; omega)
    simp [gv_hit, hx, ht] at this
  have k2 : (gv_m i j s q).any (fun x => gv_T i j (!s) p x r) = false := by
    rw [List.any_eq_false]
    intro x hx ht
    have := h x (by have := gv_lt hi hj (by omega) hx; omega)
    simp [gv_hit, hx, ht] at this
  have k3 : (gv_m i j (!s) r).any (fun x => gv_T i j (!s) p q x) = false := by
    rw [List.any_eq_false]
    intro x hx ht
    have := h x (by have := gv_lt hi hj (by omega) hx; omega)
    simp [gv_hit, hx, ht] at this
  rw [k1, k2, k3]
  rfl
theorem gv_T0 {i j c : Nat} (hi : i < 5) (hj : j < 5) (hc : c ≤ 10) {s : Bool} {p q r x : Nat} (hp : p < c) (hq : q < c) (hr : r < c) (h : gv_hit i j s p q r x = true) : gv_T i j s p q r = false := by
  rw [gv_Teq hi hj (by omega) (by omega) (by omega)]
  unfold gv_hit at h
  rw [Bool.or_eq_true, Bool.or_eq_true, Bool.and_eq_true, Bool.and_eq_true, Bool.and_eq_true, List.contains_iff_mem, List.contains_iff_mem, List.contains_iff_mem] at h
  rcases h with (⟨h1, h2⟩ | ⟨h1, h2⟩) | ⟨h1, h2⟩
  · have k : (gv_m i j s p).any (fun x => gv_T i j (!s) x q r) = true := List.any_eq_true.mpr ⟨x, h1, h2⟩
    rw [k]
    rfl
  · have k : (gv_m i j s q).any (fun x => gv_T i j (!s) p x r) = true := List.any_eq_true.mpr ⟨x, h1, h2⟩
    rw [k, Bool.true_or, Bool.or_true]
    rfl
  · have k : (gv_m i j (!s) r).any (fun x => gv_T i j (!s) p q x) = true := List.any_eq_true.mpr ⟨x, h1, h2⟩
    rw [k, Bool.or_true, Bool.or_true]
    rfl
/-! the answers, out of the tables -/
def gv_cmp (i j p q r : Nat) : Int32 := match gv_T i j true p q r, gv_T i j false p q r with
  | true, true => 0
  | true, false => 1
  | false, true => 2
  | false, false => 3
def gv_abv (i j p : Nat) : Nat → Int32
  | 0 => 0
  | k + 1 => match gv_T i j true k 0 p with
    | true => gv_abv i j p k ||| ((1 : Int32) <<< (nI k &&& 31))
    | false => gv_abv i j p k ||| 0
def gv_f (i j p : Nat) : Nat → Nat → Nat
  | 0, k => k
  | n + 1, k => match gv_T i j true p 0 k && gv_T i j true k 0 p with
    | true => k
    | false => gv_f i j p n (k + 1)
def gv_first (i j p : Nat) : Nat := gv_f i j p p 0
theorem gv_f_le (i j p : Nat) : ∀ n k, gv_f i j p n k ≤ k + n := by
  intro n
  induction n with
  | zero => intro k; exact Nat.le_refl k
  | succ n ih =>
    intro k
    show (match gv_T i j true p 0 k && gv_T i j true k 0 p with | true => k | false => gv_f i j p n (k + 1)) ≤ _
    cases gv_T i j true p 0 k && gv_T i j true k 0 p
    · have := ih (k + 1)
      show gv_f i j p n (k + 1) ≤ _
      omega
    · show k ≤ _
      omega
theorem gv_first_le (i j p : Nat) : gv_first i j p ≤ p := by
  have := gv_f_le i j p p 0
  unfold gv_first
  omega
def gv_v (i j : Nat) : Nat → Nat
  | 0 => 0
  | k + 1 => if gv_first i j k = k then gv_v i j k + 1 else gv_v i j k
theorem gv_v_le (i j : Nat) : ∀ k, gv_v i j k ≤ k := by
  intro k
  induction k with
  | zero => exact Nat.le_refl 0
  | succ k ih =>
    show (if gv_first i j k = k then gv_v i j k + 1 else gv_v i j k) ≤ _
    split <;> omega
def gv_dn (i j : Nat) (re : Int32) : Nat → Int32
  | 0 => 0
  | k + 1 => if ((re >>> (nI k &&& 31)) &&& 1) = 0 then gv_dn i j re k ||| 0 else gv_dn i j re k ||| (nI (gv_s i j false k) ||| nI (gv_s i j true k))
def gv_d1 (x n : Int32) : Int32 := if x = 0 then n + 0 else n + 1
def gv_dd (i j c p : Nat) : Nat → Int32 × Int32
  | 0 => ((1 : Int32) <<< (nI p &&& 31), 0)
  | k + 1 => (gv_dn i j (gv_dd i j c p k).1 c, gv_d1 (gv_dn i j (gv_dd i j c p k).1 c) (gv_dd i j c p k).2)
def gv_depth (i j c p : Nat) : Int32 := (gv_dd i j c p 10).2
def gv_ord (x y : Int32) : Int32 := if x = y then 0 else if x ≤ y then 2 else 1
def gv_la (x i j : Int32) : Int32 :=
  let st : Int32 := (31 &&& ((((1 : Int32) <<< (x &&& 31)) - 1) ^^^ (-1))) ||| (if x = 0 then 128 else 0)
  let tw : Int32 := if j ≤ i + 1 then (2 * i) + 1 else (2 * i) + 2
  if j ≤ i then (if j ≤ x then st else st ||| 256) else (if tw < 2 * x then st else st ||| 256)
end
section
/-! facts of the tables, by running over all i, j, x below 5 -/
theorem gv_in0 : ∀ m, m < 5 → ∀ p, p < 10 → ∀ x, x < 10 → ((nI (gv_s m m false p) >>> (nI x &&& 31)) &&& 1) = gv_b ((gv_m m m false p).contains x) ∧ ((nI (gv_s m m true p) >>> (nI x &&& 31)) &&& 1) = gv_b ((gv_m m m true p).contains x) := by decide +kernel
theorem gv_in {i j p x : Nat} {s : Bool} (hi : i < 5) (hj : j < 5) (hp : p < 10) (hx : x < 10) : ((nI (gv_s i j s p) >>> (nI x &&& 31)) &&& 1) = gv_b ((gv_m i j s p).contains x) := by
  cases s
  · exact (gv_in0 i hi p hp x hx).1
  · exact (gv_in0 j hj p hp x hx).2
theorem gv_set0 : ∀ m, m < 5 → ∀ c, c < 10 → (c = 0 ∨ ((¬ nI (gv_s m m false c) < 0 ∧ ¬ ((1 : Int32) <<< (nI c &&& 31)) ≤ nI (gv_s m m false c) ∧ (nI (gv_s m m false c)).toInt16.toInt32 = nI (gv_s m m false c)) ∧ (¬ nI (gv_s m m true c) < 0 ∧ ¬ ((1 : Int32) <<< (nI c &&& 31)) ≤ nI (gv_s m m true c) ∧ (nI (gv_s m m true c)).toInt16.toInt32 = nI (gv_s m m true c)))) := by decide +kernel
theorem gv_set {i j c : Nat} {s : Bool} (hi : i < 5) (hj : j < 5) (h0 : 0 < c) (hc : c < 10) : ¬ nI (gv_s i j s c) < 0 ∧ ¬ ((1 : Int32) <<< (nI c &&& 31)) ≤ nI (gv_s i j s c) ∧ (nI (gv_s i j s c)).toInt16.toInt32 = nI (gv_s i j s c) := by
  cases s
  · exact ((gv_set0 i hi c hc).resolve_left (by omega)).1
  · exact ((gv_set0 j hj c hc).resolve_left (by omega)).2
/-- the first loop: the numbers 1 to 4 -/
theorem gv_F1 : ∀ i, i < 5 → ∀ j, j < 5 → ∀ k, k < 5 → (k = 0 ∨ (((1 : Int32) <<< ((nI k - 1) &&& 31)) = nI (gv_s i j false k) ∧ (0 : Int32) = nI (gv_s i j true k) ∧ gv_depth i j (k + 1) k = nI k ∧ gv_T i j false k 0 0 = false ∧ gv_T i j true k 0 0 = true)) := by decide +kernel
theorem gv_F2 : ∀ i, i < 5 → ∀ j, j < 5 → gv_cmp i j 1 5 0 = 0 ∧ gv_cmp i j 6 2 0 = 0 ∧ gv_cmp i j 7 5 0 = 2 ∧ gv_cmp i j 7 7 1 = 0 ∧ gv_cmp i j 7 0 0 = 1 := by decide +kernel
theorem gv_F3 : ∀ i, i < 5 → ∀ j, j < 5 → ∀ x, x < 5 → gv_cmp i j x 6 0 = gv_ord (nI x) 2 ∧ gv_abv i j x 9 = gv_la (nI x) (nI i) (nI j) ∧ gv_cmp i j 7 0 x = gv_ord 1 (2 * nI x) := by decide +kernel
def gv_due (i j k : Int32) : Int32 := if j ≤ i then (if j ≤ k then (if k ≤ i then 3 else 2) else 1) else gv_ord (if j ≤ i + 1 then (2 * i) + 1 else (2 * i) + 2) (2 * k)
theorem gv_F4 : ∀ i, i < 5 → ∀ j, j < 5 → ∀ k, k < 5 → gv_cmp i j 8 0 k = gv_due (nI i) (nI j) (nI k) := by decide +kernel
theorem gv_F4x : ∀ i, i < 5 → ∀ j, j < 5 → ∀ x, x < 5 → ∀ k, k < 5 → (x + k ≤ 4 → gv_cmp i j x k i = gv_ord (nI x + nI k) (nI i)) := by decide +kernel
theorem gv_F5 : ∀ i, i < 5 → ∀ j, j < 5 → gv_first i j 8 = (if i + 1 < j then i + 1 else if i = 0 ∧ j = 1 then 7 else 8) ∧ gv_v i j 9 = (if i + 1 < j ∨ (i = 0 ∧ j = 1) then 8 else 9) ∧ gv_depth i j 9 8 = 1 + (if i ≤ j then nI j else nI i) ∧ nI (gv_s i j true 8) = ((1 : Int32) <<< (nI j &&& 31)) ∧ gv_T i j false 8 0 0 = false ∧ gv_T i j true 8 0 0 = (!decide (j = 0)) := by decide +kernel
theorem gv_F6 : ∀ i, i < 5 → ∀ j, j < 5 → gv_T i j false 9 0 0 = false ∧ gv_T i j true 9 0 0 = false := by decide +kernel
theorem gv_F7 : ∀ i, i < 5 → (∀ x, x < 10 → ∀ y, y < 10 → (gv_m i i false 8).contains x = true → (gv_m i i false 8).contains y = true → x = y) ∧ 0 ≤ nI (gv_s i i false 8) := by decide +kernel
/-- what the law adds -/
theorem gv_F8 : ∀ i, i < 5 → ∀ j, j < 5 → (0 : Int32) = nI (gv_s i j false 5) ∧ (1 : Int32) = nI (gv_s i j true 5) ∧ (0 : Int32) = nI (gv_s i j false 6) ∧ (32 : Int32) = nI (gv_s i j true 6) ∧ (1 : Int32) = nI (gv_s i j false 7) ∧ (2 : Int32) = nI (gv_s i j true 7) ∧ ((1 : Int32) <<< (nI i &&& 31)) = nI (gv_s i j false 8) ∧ ((1 : Int32) <<< (nI j &&& 31)) = nI (gv_s i j true 8) ∧ (511 : Int32) = nI (gv_s i j false 9) ∧ (511 : Int32) = nI (gv_s i j true 9) := by decide +kernel
end
section
theorem gv_10 : ¬ (1 : Int32) = 0 := by decide
theorem gv_wpin {post : Int32 → Prop} {u : St0} {a p : Int32} (b : Bool) (h : ((a >>> (p &&& 31)) &&& 1) = gv_b b) (hp : post (gv_b b)) : wpX_in post u a p := by
  unfold wpX_in
  rw [h]
  cases b
  · exact br_t rfl hp
  · exact br_f gv_10 hp
theorem gv_cellE (p q r : Nat) : ((nI p * 10) + nI q) * 10 + nI r = nI ((p * 10 + q) * 10 + r) := by
  show ((nI p * nI 10) + nI q) * nI 10 + nI r = _
  rw [pk_mul, nI_add, pk_mul, nI_add]
theorem gv_cell {post : Int32 → Prop} {u : St0} {p q r : Nat} (h : post (nI ((p * 10 + q) * 10 + r))) : wpX_cell post u (nI p) (nI q) (nI r) := by
  unfold wpX_cell
  rw [gv_cellE]
  exact h
theorem gv_rd0 {a : Nat → Int32} {N : Nat} (h : a N = gv_b false) (hN : N < 1000) : a (nI N).toNatClampNeg = 0 := by
  rw [nI_clamp (show N < 2 ^ 31 by omega), h]
  rfl
theorem gv_rd1 {a : Nat → Int32} {N : Nat} (h : a N = gv_b true) (hN : N < 1000) : ¬ a (nI N).toNatClampNeg = 0 := by
  rw [nI_clamp (show N < 2 ^ 31 by omega), h]
  exact gv_10
theorem gv_ab118 {post : Int32 → Prop} {J3 : Int32 → Prop} {x1 x2 x3 cn kn : Int32} {a1 a2 a3 a4 : Nat → Int32} {x : Nat} (b1 b2 b3 : Bool) (h1 : ((b1 || b2) || b3) = true → post 0) (h0 : ((b1 || b2) || b3) = false → J3 (nI (x + 1))) : wX_staysAbove_118 post J3 x1 x2 x3 (nI x) (gv_b b1) (gv_b b2) (gv_b b3) cn kn a1 a2 a3 a4 := by
  unfold wX_staysAbove_118
  cases b1
  · cases b2
    · cases b3
      · exact br_t rfl (br_t rfl (br_t rfl (nm_r (nI_1 x) (h0 rfl))))
      · exact br_t rfl (br_t rfl (br_f gv_10 (h1 rfl)))
    · exact br_t rfl (br_f gv_10 (h1 rfl))
  · exact br_f gv_10 (h1 (by simp))
theorem gv_ab82 {post : Int32 → Prop} {J3 : Int32 → Prop} {cn kn : Int32} {a1 a2 a3 a4 : Nat → Int32} {p q r x : Nat} (b1 b2 m t : Bool) (hp : p < 10) (hq : q < 10) (hr : r < 10) (hx : x < 10) (hm : ((a1 r >>> (nI x &&& 31)) &&& 1) = gv_b m) (ht : m = true → a4 ((p * 10 + q) * 10 + x) = gv_b t) (h1 : ((b1 || b2) || (m && t)) = true → post 0) (h0 : ((b1 || b2) || (m && t)) = false → J3 (nI (x + 1))) : wX_staysAbove_82 post J3 (nI p) (nI q) (nI r) (nI x) (gv_b b1) (gv_b b2) cn kn a1 a2 a3 a4 := by
  unfold wX_staysAbove_82
  refine ⟨pk_in r 10 hr, ?_⟩
  rw [nI_clamp (show r < 2 ^ 31 by omega)]
  refine gv_wpin m hm ?_
  cases m
  · exact br_t rfl (gv_ab118 b1 b2 false h1 h0)
  · refine br_f gv_10 (gv_cell ⟨vp_in_nI (by omega) (by decide), ?_⟩)
    have e := ht rfl
    cases t
    · exact br_t (gv_rd0 e (by omega)) (gv_ab118 b1 b2 false h1 h0)
    · exact br_f (gv_rd1 e (by omega)) (gv_ab118 b1 b2 true h1 h0)
theorem gv_ab46 {post : Int32 → Prop} {J3 : Int32 → Prop} {cn kn : Int32} {a1 a2 a3 a4 : Nat → Int32} {p q r x : Nat} (b1 m2 t2 m t : Bool) (hp : p < 10) (hq : q < 10) (hr : r < 10) (hx : x < 10) (hm2 : ((a2 q >>> (nI x &&& 31)) &&& 1) = gv_b m2) (ht2 : m2 = true → a4 ((p * 10 + x) * 10 + r) = gv_b t2) (hm : ((a1 r >>> (nI x &&& 31)) &&& 1) = gv_b m) (ht : m = true → a4 ((p * 10 + q) * 10 + x) = gv_b t) (h1 : ((b1 || (m2 && t2)) || (m && t)) = true → post 0) (h0 : ((b1 || (m2 && t2)) || (m && t)) = false → J3 (nI (x + 1))) : wX_staysAbove_46 post J3 (nI p) (nI q) (nI r) (nI x) (gv_b b1) cn kn a1 a2 a3 a4 := by
  unfold wX_staysAbove_46
  refine ⟨pk_in q 10 hq, ?_⟩
  rw [nI_clamp (show q < 2 ^ 31 by omega)]
  refine gv_wpin m2 hm2 ?_
  cases m2
  · exact br_t rfl (gv_ab82 b1 false m t hp hq hr hx hm ht h1 h0)
  · refine br_f gv_10 (gv_cell ⟨vp_in_nI (by omega) (by decide), ?_⟩)
    have e := ht2 rfl
    cases t2
    · exact br_t (gv_rd0 e (by omega)) (gv_ab82 b1 false m t hp hq hr hx hm ht h1 h0)
    · exact br_f (gv_rd1 e (by omega)) (gv_ab82 b1 true m t hp hq hr hx hm ht h1 h0)
theorem gv_ab3 {post : Int32 → Prop} {kn : Int32} {a1 a2 a3 a4 : Nat → Int32} {c p q r x n : Nat} (m1 t1 m2 t2 m t : Bool) (hc : c ≤ 10) (hp : p < 10) (hq : q < 10) (hr : r < 10) (hx : x < c) (hm1 : ((a2 p >>> (nI x &&& 31)) &&& 1) = gv_b m1) (ht1 : m1 = true → a4 ((x * 10 + q) * 10 + r) = gv_b t1) (hm2 : ((a2 q >>> (nI x &&& 31)) &&& 1) = gv_b m2) (ht2 : m2 = true → a4 ((p * 10 + x) * 10 + r) = gv_b t2) (hm : ((a1 r >>> (nI x &&& 31)) &&& 1) = gv_b m) (ht : m = true → a4 ((p * 10 + q) * 10 + x) = gv_b t) (h1 : (((m1 && t1) || (m2 && t2)) || (m && t)) = true → post 0) (h0 : (((m1 && t1) || (m2 && t2)) || (m && t)) = false → wX_staysAbove_3 post (nI p) (nI q) (nI r) (nI c) kn a1 a2 a3 a4 n (nI (x + 1))) : wX_staysAbove_3 post (nI p) (nI q) (nI r) (nI c) kn a1 a2 a3 a4 (n + 1) (nI x) := by
  refine pk_le c x (fun z => absurd z (by omega)) (fun _ => ⟨pk_in p 10 hp, ?_⟩)
  rw [nI_clamp (show p < 2 ^ 31 by omega)]
  refine gv_wpin m1 hm1 ?_
  cases m1
  · exact br_t rfl (gv_ab46 false m2 t2 m t hp hq hr (by omega) hm2 ht2 hm ht h1 h0)
  · refine br_f gv_10 (gv_cell ⟨vp_in_nI (by omega) (by decide), ?_⟩)
    have e := ht1 rfl
    cases t1
    · exact br_t (gv_rd0 e (by omega)) (gv_ab46 false m2 t2 m t hp hq hr (by omega) hm2 ht2 hm ht h1 h0)
    · exact br_f (gv_rd1 e (by omega)) (gv_ab46 true m2 t2 m t hp hq hr (by omega) hm2 ht2 hm ht h1 h0)
theorem gv_ab {post : Int32 → Prop} {kn : Int32} {a1 a2 a3 a4 : Nat → Int32} {i j c p q r : Nat} (hi : i < 5) (hj : j < 5) (hc : c ≤ 10) (hp : p < c) (hq : q < c) (hr : r < c) (hA : ∀ y, y < c → a2 y = nI (gv_s i j true y)) (hB : ∀ y, y < c → a1 y = nI (gv_s i j false y)) (t1 : ∀ x, x < p → a4 ((x * 10 + q) * 10 + r) = gv_b (gv_T i j false x q r)) (t2 : ∀ x, x < q → a4 ((p * 10 + x) * 10 + r) = gv_b (gv_T i j false p x r)) (t3 : ∀ x, x < r → a4 ((p * 10 + q) * 10 + x) = gv_b (gv_T i j false p q x)) (h : post (gv_b (gv_T i j true p q r))) : wpX_staysAbove post (nI c, kn, a1, a2, a3, a4) (nI p) (nI q) (nI r) := by
  show ∃ fu3 : Nat, wX_staysAbove_3 post (nI p) (nI q) (nI r) (nI c) kn a1 a2 a3 a4 fu3 (nI 0)
  refine pk_loop (σ := Unit) (fun n k _ => wX_staysAbove_3 post (nI p) (nI q) (nI r) (nI c) kn a1 a2 a3 a4 n (nI k)) (fun k _ => ∀ x, x < k → gv_hit i j true p q r x = false) c 0 () (by omega) (fun x hx => absurd hx (by omega)) ?_ ?_
  · intro n _ I
    rw [gv_T1 hi hj hc hp hq hr I] at h
    exact pk_le c c (fun _ => h) (fun z => absurd z (by omega))
  · intro n k _ hk I hw
    refine gv_ab3 ((gv_m i j true p).contains k) (gv_T i j false k q r) ((gv_m i j true q).contains k) (gv_T i j false p k r) ((gv_m i j false r).contains k) (gv_T i j false p q k) hc (by omega) (by omega) (by omega) hk ?_ ?_ ?_ ?_ ?_ ?_ ?_ ?_
    · rw [hA p hp]
      exact gv_in hi hj (by omega) (by omega)
    · intro e
      exact t1 k (gv_lt hi hj (by omega) (List.contains_iff_mem.mp e))
    · rw [hA q hq]
      exact gv_in hi hj (by omega) (by omega)
    · intro e
      exact t2 k (gv_lt hi hj (by omega) (List.contains_iff_mem.mp e))
    · rw [hB r hr]
      exact gv_in hi hj (by omega) (by omega)
    · intro e
      exact t3 k (gv_lt hi hj (by omega) (List.contains_iff_mem.mp e))
    · intro e
      have e' : gv_hit i j true p q r k = true := e
      rw [gv_T0 hi hj hc hp hq hr e'] at h
      exact h
    · intro e
      have e' : gv_hit i j true p q r k = false := e
      exact hw () (lt_s (p := fun x => gv_hit i j true p q r x = false) I e')
theorem gv_be118 {post : Int32 → Prop} {J3 : Int32 → Prop} {x1 x2 x3 cn kn : Int32} {a1 a2 a3 a4 : Nat → Int32} {x : Nat} (b1 b2 b3 : Bool) (h1 : ((b1 || b2) || b3) = true → post 0) (h0 : ((b1 || b2) || b3) = false → J3 (nI (x + 1))) : wX_staysBelow_118 post J3 x1 x2 x3 (nI x) (gv_b b1) (gv_b b2) (gv_b b3) cn kn a1 a2 a3 a4 := by
  unfold wX_staysBelow_118
  cases b1
  · cases b2
    · cases b3
      · exact br_t rfl (br_t rfl (br_t rfl (nm_r (nI_1 x) (h0 rfl))))
      · exact br_t rfl (br_t rfl (br_f gv_10 (h1 rfl)))
    · exact br_t rfl (br_f gv_10 (h1 rfl))
  · exact br_f gv_10 (h1 (by simp))
theorem gv_be82 {post : Int32 → Prop} {J3 : Int32 → Prop} {cn kn : Int32} {a1 a2 a3 a4 : Nat → Int32} {p q r x : Nat} (b1 b2 m t : Bool) (hp : p < 10) (hq : q < 10) (hr : r < 10) (hx : x < 10) (hm : ((a2 r >>> (nI x &&& 31)) &&& 1) = gv_b m) (ht : m = true → a3 ((p * 10 + q) * 10 + x) = gv_b t) (h1 : ((b1 || b2) || (m && t)) = true → post 0) (h0 : ((b1 || b2) || (m && t)) = false → J3 (nI (x + 1))) : wX_staysBelow_82 post J3 (nI p) (nI q) (nI r) (nI x) (gv_b b1) (gv_b b2) cn kn a1 a2 a3 a4 := by
  unfold wX_staysBelow_82
  refine ⟨pk_in r 10 hr, ?_⟩
  rw [nI_clamp (show r < 2 ^ 31 by omega)]
  refine gv_wpin m hm ?_
  cases m
  · exact br_t rfl (gv_be118 b1 b2 false h1 h0)
  · refine br_f gv_10 (gv_cell ⟨vp_in_nI (by omega) (by decide), ?_⟩)
    have e := ht rfl
    cases t
    · exact br_t (gv_rd0 e (by omega)) (gv_be118 b1 b2 false h1 h0)
    · exact br_f (gv_rd1 e (by omega)) (gv_be118 b1 b2 true h1 h0)
theorem gv_be46 {post : Int32 → Prop} {J3 : Int32 → Prop} {cn kn : Int32} {a1 a2 a3 a4 : Nat → Int32} {p q r x : Nat} (b1 m2 t2 m t : Bool) (hp : p < 10) (hq : q < 10) (hr : r < 10) (hx : x < 10) (hm2 : ((a1 q >>> (nI x &&& 31)) &&& 1) = gv_b m2) (ht2 : m2 = true → a3 ((p * 10 + x) * 10 + r) = gv_b t2) (hm : ((a2 r >>> (nI x &&& 31)) &&& 1) = gv_b m) (ht : m = true → a3 ((p * 10 + q) * 10 + x) = gv_b t) (h1 : ((b1 || (m2 && t2)) || (m && t)) = true → post 0) (h0 : ((b1 || (m2 && t2)) || (m && t)) = false → J3 (nI (x + 1))) : wX_staysBelow_46 post J3 (nI p) (nI q) (nI r) (nI x) (gv_b b1) cn kn a1 a2 a3 a4 := by
  unfold wX_staysBelow_46
  refine ⟨pk_in q 10 hq, ?_⟩
  rw [nI_clamp (show q < 2 ^ 31 by omega)]
  refine gv_wpin m2 hm2 ?_
  cases m2
  · exact br_t rfl (gv_be82 b1 false m t hp hq hr hx hm ht h1 h0)
  · refine br_f gv_10 (gv_cell ⟨vp_in_nI (by omega) (by decide), ?_⟩)
    have e := ht2 rfl
    cases t2
    · exact br_t (gv_rd0 e (by omega)) (gv_be82 b1 false m t hp hq hr hx hm ht h1 h0)
    · exact br_f (gv_rd1 e (by omega)) (gv_be82 b1 true m t hp hq hr hx hm ht h1 h0)
theorem gv_be3 {post : Int32 → Prop} {kn : Int32} {a1 a2 a3 a4 : Nat → Int32} {c p q r x n : Nat} (m1 t1 m2 t2 m t : Bool) (hc : c ≤ 10) (hp : p < 10) (hq : q < 10) (hr : r < 10) (hx : x < c) (hm1 : ((a1 p >>> (nI x &&& 31)) &&& 1) = gv_b m1) (ht1 : m1 = true → a3 ((x * 10 + q) * 10 + r) = gv_b t1) (hm2 : ((a1 q >>> (nI x &&& 31)) &&& 1) = gv_b m2) (ht2 : m2 = true → a3 ((p * 10 + x) * 10 + r) = gv_b t2) (hm : ((a2 r >>> (nI x &&& 31)) &&& 1) = gv_b m) (ht : m = true → a3 ((p * 10 + q) * 10 + x) = gv_b t) (h1 : (((m1 && t1) || (m2 && t2)) || (m && t)) = true → post 0) (h0 : (((m1 && t1) || (m2 && t2)) || (m && t)) = false → wX_staysBelow_3 post (nI p) (nI q) (nI r) (nI c) kn a1 a2 a3 a4 n (nI (x + 1))) : wX_staysBelow_3 post (nI p) (nI q) (nI r) (nI c) kn a1 a2 a3 a4 (n + 1) (nI x) := by
  refine pk_le c x (fun z => absurd z (by omega)) (fun _ => ⟨pk_in p 10 hp, ?_⟩)
  rw [nI_clamp (show p < 2 ^ 31 by omega)]
  refine gv_wpin m1 hm1 ?_
  cases m1
  · exact br_t rfl (gv_be46 false m2 t2 m t hp hq hr (by omega) hm2 ht2 hm ht h1 h0)
  · refine br_f gv_10 (gv_cell ⟨vp_in_nI (by omega) (by decide), ?_⟩)
    have e := ht1 rfl
    cases t1
    · exact br_t (gv_rd0 e (by omega)) (gv_be46 false m2 t2 m t hp hq hr (by omega) hm2 ht2 hm ht h1 h0)
    · exact br_f (gv_rd1 e (by omega)) (gv_be46 true m2 t2 m t hp hq hr (by omega) hm2 ht2 hm ht h1 h0)
theorem gv_be {post : Int32 → Prop} {kn : Int32} {a1 a2 a3 a4 : Nat → Int32} {i j c p q r : Nat} (hi : i < 5) (hj : j < 5) (hc : c ≤ 10) (hp : p < c) (hq : q < c) (hr : r < c) (hA : ∀ y, y < c → a1 y = nI (gv_s i j false y)) (hB : ∀ y, y < c → a2 y = nI (gv_s i j true y)) (t1 : ∀ x, x < p → a3 ((x * 10 + q) * 10 + r) = gv_b (gv_T i j true x q r)) (t2 : ∀ x, x < q → a3 ((p * 10 + x) * 10 + r) = gv_b (gv_T i j true p x r)) (t3 : ∀ x, x < r → a3 ((p * 10 + q) * 10 + x) = gv_b (gv_T i j true p q x)) (h : post (gv_b (gv_T i j false p q r))) : wpX_staysBelow post (nI c, kn, a1, a2, a3, a4) (nI p) (nI q) (nI r) := by
  show ∃ fu3 : Nat, wX_staysBelow_3 post (nI p) (nI q) (nI r) (nI c) kn a1 a2 a3 a4 fu3 (nI 0)
  refine pk_loop (σ := Unit) (fun n k _ => wX_staysBelow_3 post (nI p) (nI q) (nI r) (nI c) kn a1 a2 a3 a4 n (nI k)) (fun k _ => ∀ x, x < k → gv_hit i j false p q r x = false) c 0 () (by omega) (fun x hx => absurd hx (by omega)) ?_ ?_
  · intro n _ I
    rw [gv_T1 hi hj hc hp hq hr I] at h
    exact pk_le c c (fun _ => h) (fun z => absurd z (by omega))
  · intro n k _ hk I hw
    refine gv_be3 ((gv_m i j false p).contains k) (gv_T i j true k q r) ((gv_m i j false q).contains k) (gv_T i j true p k r) ((gv_m i j true r).contains k) (gv_T i j true p q k) hc (by omega) (by omega) (by omega) hk ?_ ?_ ?_ ?_ ?_ ?_ ?_ ?_
    · rw [hA p hp]
      exact gv_in hi hj (by omega) (by omega)
    · intro e
      exact t1 k (gv_lt hi hj (by omega) (List.contains_iff_mem.mp e))
    · rw [hA q hq]
      exact gv_in hi hj (by omega) (by omega)
    · intro e
      exact t2 k (gv_lt hi hj (by omega) (List.contains_iff_mem.mp e))
    · rw [hB r hr]
      exact gv_in hi hj (by omega) (by omega)
    · intro e
      exact t3 k (gv_lt hi hj (by omega) (List.contains_iff_mem.mp e))
    · intro e
      have e' : gv_hit i j false p q r k = true := e
      rw [gv_T0 hi hj hc hp hq hr e'] at h
      exact h
    · intro e
      have e' : gv_hit i j false p q r k = false := e
      exact hw () (lt_s (p := fun x => gv_hit i j false p q r x = false) I e')
end
section
/-- the tables hold what they should, over c positions -/
def gv_tab (i j c : Nat) (a3 a4 : Nat → Int32) : Prop := ∀ p q r, p < c → q < c → r < c → a3 ((p * 10 + q) * 10 + r) = gv_b (gv_T i j true p q r) ∧ a4 ((p * 10 + q) * 10 + r) = gv_b (gv_T i j false p q r)
/-- a state of c positions: the first c of the picture -/
def gv_ok (i j c : Nat) (kn : Int32) (a1 a2 a3 a4 : Nat → Int32) : Prop := i < 5 ∧ j < 5 ∧ 0 < c ∧ c ≤ 10 ∧ (∀ y, y < c → a1 y = nI (gv_s i j false y)) ∧ (∀ y, y < c → a2 y = nI (gv_s i j true y)) ∧ (¬ kn = 0 → gv_tab i j c a3 a4)
theorem gv_nar (b : Bool) : vp_nar .boolean (gv_b b) = gv_b b := by cases b <;> decide
theorem gv_lx1 {c y p q r : Nat} (h0 : 0 < c) (h : y < p) : (y * c + q) * c + r < (p * c + q) * c + r := by
  have h1 : y * c < p * c := (Nat.mul_lt_mul_right h0).mpr h
  have h2 : y * c + q < p * c + q := by omega
  have h3 : (y * c + q) * c < (p * c + q) * c := (Nat.mul_lt_mul_right h0).mpr h2
  omega
theorem gv_lx2 {c y p q r : Nat} (h0 : 0 < c) (h : y < q) : (p * c + y) * c + r < (p * c + q) * c + r := by
  have h2 : p * c + y < p * c + q := by omega
  have h3 : (p * c + y) * c < (p * c + q) * c := (Nat.mul_lt_mul_right h0).mpr h2
  omega
theorem gv_idx {c p q r : Nat} (hp : p < c) (hq : q < c) (hr : r < c) : (p * c + q) * c + r < c * c * c := by
  have h1 : (p + 1) * c ≤ c * c := Nat.mul_le_mul_right c hp
  rw [Nat.add_mul, Nat.one_mul] at h1
  have h2 : p * c + q + 1 ≤ c * c := by omega
  have h3 : (p * c + q + 1) * c ≤ c * c * c := Nat.mul_le_mul_right c h2
  rw [Nat.add_mul, Nat.one_mul] at h3
  omega
theorem gv_dm {c a r : Nat} (hr : r < c) : (a * c + r) / c = a ∧ (a * c + r) % c = r := by
  have h0 : 0 < c := by omega
  constructor
  · rw [Nat.mul_comm, Nat.mul_add_div h0, Nat.div_eq_of_lt hr, Nat.add_zero]
  · rw [Nat.mul_comm, Nat.mul_add_mod, Nat.mod_eq_of_lt hr]
theorem gv_inj {c p q r p' q' r' : Nat} (hq : q < c) (hr : r < c) (hq' : q' < c) (hr' : r' < c) (h : (p' * c + q') * c + r' = (p * c + q) * c + r) : p' = p ∧ q' = q ∧ r' = r := by
  have e1 := gv_dm (a := p * c + q) hr
  have e2 := gv_dm (a := p' * c + q') hr'
  rw [h] at e2
  have e3 : p' * c + q' = p * c + q := e2.1.symm.trans e1.1
  have e4 := gv_dm (a := p) hq
  have e5 := gv_dm (a := p') hq'
  rw [e3] at e5
  exact ⟨e5.1.symm.trans e4.1, e5.2.symm.trans e4.2, e2.2.symm.trans e1.2⟩
theorem gv_split {c k : Nat} : (k / (c * c) * c + k / c % c) * c + k % c = k := by
  rw [← Nat.div_div_eq_div_mul, Nat.mul_comm (k / c / c) c, Nat.div_add_mod, Nat.mul_comm (k / c) c, Nat.div_add_mod]
/-- up to index k the tables hold what they should -/
def gv_upto (i j c k : Nat) (a3 a4 : Nat → Int32) : Prop := ∀ p q r, p < c → q < c → r < c → (p * c + q) * c + r < k → a3 ((p * 10 + q) * 10 + r) = gv_b (gv_T i j true p q r) ∧ a4 ((p * 10 + q) * 10 + r) = gv_b (gv_T i j false p q r)
theorem gv_learn1 {post : St2 → Prop} {i j c n k p q r : Nat} {a1 a2 a3 a4 : Nat → Int32} (hi : i < 5) (hj : j < 5) (h0 : 0 < c) (hc : c ≤ 10) (hA : ∀ y, y < c → a1 y = nI (gv_s i j false y)) (hB : ∀ y, y < c → a2 y = nI (gv_s i j true y)) (hp : p < c) (hq : q < c) (hr : r < c) (ek : (p * c + q) * c + r = k) (I : gv_upto i j c k a3 a4) (hw : ∀ a3' a4', gv_upto i j c (k + 1) a3' a4' → wX_learn_15 post (nI c) 1 n (nI (k + 1)) a1 a2 a3' a4') :
    wpX_staysAbove (fun r_11 => (vp_in (nI ((p * 10 + q) * 10 + r)) 1000 ∧ ∀ a3_13 : Nat → Int32, a3_13 = upd a3 (nI ((p * 10 + q) * 10 + r)).toNatClampNeg (vp_nar .boolean r_11) → (wpX_staysBelow (fun r_14 => (vp_in (nI ((p * 10 + q) * 10 + r)) 1000 ∧ ∀ a4_16 : Nat → Int32, a4_16 = upd a4 (nI ((p * 10 + q) * 10 + r)).toNatClampNeg (vp_nar .boolean r_14) → (∀ x1_17 : Int32, x1_17 = nI k + 1 → (wX_learn_15 post (nI c) 1 n x1_17 a1 a2 a3_13 a4_16)))) (nI c, 1, a1, a2, a3_13, a4) (nI p) (nI q) (nI r)))) (nI c, 1, a1, a2, a3, a4) (nI p) (nI q) (nI r) := by
  refine gv_ab hi hj hc hp hq hr hB hA (fun x hx => (I x q r (by omega) hq hr (by rw [← ek]; exact gv_lx1 h0 hx)).2) (fun x hx => (I p x r hp (by omega) hr (by rw [← ek]; exact gv_lx2 h0 hx)).2) (fun x hx => (I p q x hp hq (by omega) (by omega)).2) ⟨vp_in_nI (by omega) (by decide), nm_r (e' := upd a3 ((p * 10 + q) * 10 + r) (gv_b (gv_T i j true p q r))) (by rw [nI_clamp (show (p * 10 + q) * 10 + r < 2 ^ 31 by omega), gv_nar]) ?_⟩
  refine gv_be hi hj hc hp hq hr hA hB (fun x hx => ?_) (fun x hx => ?_) (fun x hx => ?_) ⟨vp_in_nI (by omega) (by decide), nm_r (e' := upd a4 ((p * 10 + q) * 10 + r) (gv_b (gv_T i j false p q r))) (by rw [nI_clamp (show (p * 10 + q) * 10 + r < 2 ^ 31 by omega), gv_nar]) (nm_r (nI_1 k) (hw _ _ ?_))⟩
  · rw [pk_un (by omega)]
    exact (I x q r (by omega) hq hr (by rw [← ek]; exact gv_lx1 h0 hx)).1
  · rw [pk_un (by omega)]
    exact (I p x r hp (by omega) hr (by rw [← ek]; exact gv_lx2 h0 hx)).1
  · rw [pk_un (by omega)]
    exact (I p q x hp hq (by omega) (by omega)).1
  · intro p' q' r' hp' hq' hr' hk
    by_cases e : (p' * c + q') * c + r' = (p * c + q) * c + r
    · obtain ⟨e1, e2, e3⟩ := gv_inj hq hr hq' hr' e
      rw [e1, e2, e3]
      exact ⟨pk_us, pk_us⟩
    · have d : (p' * 10 + q') * 10 + r' ≠ (p * 10 + q) * 10 + r := by
        intro d
        have d1 : p' = p := by omega
        have d2 : q' = q := by omega
        have d3 : r' = r := by omega
        rw [d1, d2, d3] at e
        exact e rfl
      rw [pk_un d, pk_un d]
      exact I p' q' r' hp' hq' hr' (by omega)
theorem gv_learnL {post : St2 → Prop} {i j c : Nat} {a1 a2 a3 a4 : Nat → Int32} (hi : i < 5) (hj : j < 5) (h0 : 0 < c) (hc : c ≤ 10) (hA : ∀ y, y < c → a1 y = nI (gv_s i j false y)) (hB : ∀ y, y < c → a2 y = nI (gv_s i j true y)) (H : ∀ a3' a4', gv_tab i j c a3' a4' → post (nI c, 1, a1, a2, a3', a4')) : ∃ fu : Nat, wX_learn_15 post (nI c) 1 fu (nI 0) a1 a2 a3 a4 := by
  have c2 : c * c ≤ 100 := Nat.mul_le_mul hc hc
  have c3 : c * c * c ≤ 1000 := Nat.mul_le_mul c2 hc
  have cp : 0 < c * c := Nat.mul_pos h0 h0
  have ne : ¬ nI c = 0 := nI_ne0 h0 (by omega)
  refine pk_loop (σ := (Nat → Int32) × (Nat → Int32)) (fun n k s => wX_learn_15 post (nI c) 1 n (nI k) a1 a2 s.1 s.2) (fun k s => gv_upto i j c k s.1 s.2) (c * c * c) 0 (a3, a4) (by omega) (fun p q r _ _ _ h => absurd h (by omega)) ?_ ?_
  · intro n s I
    exact pk_le (c * c * c) (c * c * c) (fun _ => H s.1 s.2 (fun p q r hp hq hr => I p q r hp hq hr (gv_idx hp hq hr))) (fun z => absurd z (by omega)) (by rw [pk_mul, pk_mul]) rfl (by omega) (by omega)
  · intro n k s hk I hw
    have hp : k / (c * c) < c := Nat.div_lt_of_lt_mul hk
    have hq : k / c % c < c := Nat.mod_lt _ h0
    have hr : k % c < c := Nat.mod_lt _ h0
    have ek : (k / (c * c) * c + k / c % c) * c + k % c = k := gv_split
    have e1 : nI k / (nI c * nI c) = nI (k / (c * c)) := by rw [pk_mul, pk_div (by omega) cp (by omega)]
    have e2 : (nI k / nI c) - (nI k / nI c) / nI c * nI c = nI (k / c % c) := by
      rw [pk_div (by omega) h0 (by omega)]
      exact pk_rem (Nat.lt_of_le_of_lt (Nat.div_le_self k c) (by omega)) h0 (by omega)
    have e3 : nI k - nI k / nI c * nI c = nI (k % c) := pk_rem (by omega) h0 (by omega)
    have L := gv_learn1 (post := post) (n := n) hi hj h0 hc hA hB hp hq hr ek I (fun a3' a4' h => hw (a3', a4') h)
    exact pk_le (c * c * c) k (fun z => absurd z (by omega)) (fun _ => ⟨by rw [pk_mul]; exact nI_ne0 cp (by omega), nm_r e1 ⟨ne, ne, nm_r e2 ⟨ne, nm_r e3 (gv_cell L)⟩⟩⟩) (by rw [pk_mul, pk_mul]) rfl (by omega) (by omega)
theorem gv_learn {post : St2 → Prop} {i j c : Nat} {kn : Int32} {a1 a2 a3 a4 : Nat → Int32} (ok : gv_ok i j c kn a1 a2 a3 a4) (H : ∀ kn' a3' a4', gv_ok i j c kn' a1 a2 a3' a4' → gv_tab i j c a3' a4' → post (nI c, kn', a1, a2, a3', a4')) : wpX_learn post (nI c, kn, a1, a2, a3, a4) := by
  obtain ⟨hi, hj, h0, hc, hA, hB, ht⟩ := ok
  exact br_c (fun _ => gv_learnL hi hj h0 hc hA hB (fun a3' a4' h => H 1 a3' a4' ⟨hi, hj, h0, hc, hA, hB, fun _ => h⟩ h)) (fun e => H kn a3 a4 ⟨hi, hj, h0, hc, hA, hB, ht⟩ (ht e))
end
section
theorem gv_nb (b : Bool) : narrow .boolean (.int (gv_b b)) = .int (gv_b b) := by cases b <;> rfl
theorem gv_has {post : Int32 → Prop} {c p : Nat} {kn : Int32} {a1 a2 a3 a4 : Nat → Int32} (hc : c ≤ 10) (hp : p < c) (h : post 1) : wpX_has post (nI c, kn, a1, a2, a3, a4) (nI p) :=
  br_f (nI_pos (by omega)) (br_f (nI_ge hp (by omega)) h)
theorem gv_hasnt {post : Int32 → Prop} {c p : Nat} {kn : Int32} {a1 a2 a3 a4 : Nat → Int32} (hc : p ≤ 10) (hp : c ≤ p) (h : post 0) : wpX_has post (nI c, kn, a1, a2, a3, a4) (nI p) :=
  br_f (nI_pos (by omega)) (br_t (nI_le hp (by omega)) h)
theorem gv_stand {post : Int32 → Prop} {i j c p q r : Nat} {kn : Int32} {a1 a2 a3 a4 : Nat → Int32} (ht : gv_tab i j c a3 a4) (hc : c ≤ 10) (hp : p < c) (hq : q < c) (hr : r < c) (h : post (gv_cmp i j p q r)) : wpX_standing post (nI c, kn, a1, a2, a3, a4) (nI ((p * 10 + q) * 10 + r)) := by
  unfold wpX_standing
  dsimp only
  obtain ⟨e3, e4⟩ := ht p q r hp hq hr
  refine ⟨vp_in_nI (by omega) (by decide), ?_⟩
  rw [nI_clamp (show (p * 10 + q) * 10 + r < 2 ^ 31 by omega), e3, e4]
  revert h
  unfold gv_cmp
  have V : vp_in (nI ((p * 10 + q) * 10 + r)) 1000 := vp_in_nI (by omega) (by decide)
  cases gv_T i j true p q r <;> cases gv_T i j false p q r <;> intro h
  · exact br_t rfl ⟨V, br_t rfl h⟩
  · exact br_t rfl ⟨V, br_f gv_10 h⟩
  · exact br_f gv_10 ⟨V, br_t rfl h⟩
  · exact br_f gv_10 ⟨V, br_f gv_10 h⟩
theorem gv_cs {post : Int32 → St2 → Prop} {i j c p q r : Nat} {kn : Int32} {a1 a2 a3 a4 : Nat → Int32} (ok : gv_ok i j c kn a1 a2 a3 a4) (hp : p < c) (hq : q < c) (hr : r < c) (H : ∀ kn' a3' a4', gv_ok i j c kn' a1 a2 a3' a4' → post (gv_cmp i j p q r) (nI c, kn', a1, a2, a3', a4')) : wpX_compareSum post (nI c, kn, a1, a2, a3, a4) (nI p) (nI q) (nI r) := by
  have hc : c ≤ 10 := ok.2.2.2.1
  unfold wpX_compareSum
  dsimp only
  refine gv_has hc hp (br_f gv_10 (gv_has hc hq (br_f gv_10 (gv_has hc hr (br_f gv_10 (gv_learn ok (fun kn' a3' a4' ok' ht => ?_)))))))
  exact gv_cell (gv_stand ht hc hp hq hr (H kn' a3' a4' ok'))
theorem gv_cp {post : Int32 → St2 → Prop} {i j c p r : Nat} {kn : Int32} {a1 a2 a3 a4 : Nat → Int32} (ok : gv_ok i j c kn a1 a2 a3 a4) (hp : p < c) (hr : r < c) (H : ∀ kn' a3' a4', gv_ok i j c kn' a1 a2 a3' a4' → post (gv_cmp i j p 0 r) (nI c, kn', a1, a2, a3', a4')) : wpX_compare post (nI c, kn, a1, a2, a3, a4) (nI p) (nI r) := by
  unfold wpX_compare
  dsimp only
  exact gv_cs (q := 0) ok hp ok.2.2.1 hr H
theorem gv_op {post : Int32 → St2 → Prop} {i j c p q : Nat} {kn : Int32} {a1 a2 a3 a4 : Nat → Int32} (ok : gv_ok i j c kn a1 a2 a3 a4) (hp : p < c) (hq : q < c) (H : ∀ kn' a3' a4', gv_ok i j c kn' a1 a2 a3' a4' → post (if gv_cmp i j p q 0 = 0 then 1 else 0) (nI c, kn', a1, a2, a3', a4')) : wpX_opposite post (nI c, kn, a1, a2, a3, a4) (nI p) (nI q) := by
  unfold wpX_opposite
  dsimp only
  refine gv_cs (r := 0) ok hp hq ok.2.2.1 (fun kn' a3' a4' ok' => ?_)
  have h := H kn' a3' a4' ok'
  exact br_c (fun e => by rw [if_pos e] at h; exact h) (fun e => by rw [if_neg e] at h; exact h)
theorem gv_wins0 {post : Int32 → St2 → Prop} {i j c p : Nat} {kn : Int32} {a1 a2 a3 a4 : Nat → Int32} (ok : gv_ok i j c kn a1 a2 a3 a4) (hp : p < c) (H : ∀ kn' a3' a4', gv_ok i j c kn' a1 a2 a3' a4' → post (gv_b (!gv_T i j false p 0 0)) (nI c, kn', a1, a2, a3', a4')) : wpX_wins post (nI c, kn, a1, a2, a3, a4) (nI p) 0 := by
  have hc : c ≤ 10 := ok.2.2.2.1
  unfold wpX_wins
  dsimp only
  unfold wpX_winsSum
  dsimp only
  refine gv_has hc hp (br_f gv_10 (gv_has (p := 0) hc ok.2.2.1 (br_f gv_10 (br_t rfl ?_))))
  unfold wX_winsSum_27
  refine gv_learn ok (fun kn' a3' a4' ok' ht => gv_cell (q := 0) (r := 0) (br_t rfl ⟨vp_in_nI (by omega) (by decide), ?_⟩))
  have e := (ht p 0 0 hp ok.2.2.1 ok.2.2.1).2
  have h := H kn' a3' a4' ok'
  rw [nI_clamp (show (p * 10 + 0) * 10 + 0 < 2 ^ 31 by omega), e]
  revert h
  cases gv_T i j false p 0 0 <;> intro h
  · exact br_t rfl ⟨gv_nb true, h⟩
  · exact br_f gv_10 ⟨gv_nb false, h⟩
theorem gv_wins1 {post : Int32 → St2 → Prop} {i j c p : Nat} {kn : Int32} {a1 a2 a3 a4 : Nat → Int32} (ok : gv_ok i j c kn a1 a2 a3 a4) (hp : p < c) (H : ∀ kn' a3' a4', gv_ok i j c kn' a1 a2 a3' a4' → post (gv_b (!gv_T i j true p 0 0)) (nI c, kn', a1, a2, a3', a4')) : wpX_wins post (nI c, kn, a1, a2, a3, a4) (nI p) 1 := by
  have hc : c ≤ 10 := ok.2.2.2.1
  unfold wpX_wins
  dsimp only
  unfold wpX_winsSum
  dsimp only
  refine gv_has hc hp (br_f gv_10 (gv_has (p := 0) hc ok.2.2.1 (br_f gv_10 (br_f gv_10 (br_t rfl ?_)))))
  unfold wX_winsSum_27
  refine gv_learn ok (fun kn' a3' a4' ok' ht => gv_cell (q := 0) (r := 0) (br_f gv_10 ⟨vp_in_nI (by omega) (by decide), ?_⟩))
  have e := (ht p 0 0 hp ok.2.2.1 ok.2.2.1).1
  have h := H kn' a3' a4' ok'
  rw [nI_clamp (show (p * 10 + 0) * 10 + 0 < 2 ^ 31 by omega), e]
  revert h
  cases gv_T i j true p 0 0 <;> intro h
  · exact br_t rfl ⟨gv_nb true, h⟩
  · exact br_f gv_10 ⟨gv_nb false, h⟩
theorem gv_isal {post : Int32 → Prop} {i j c p q : Nat} {cn kn : Int32} {a1 a2 a3 a4 : Nat → Int32} (ht : gv_tab i j c a3 a4) (hc : c ≤ 10) (hp : p < c) (hq : q < c) (h : post (gv_b (gv_T i j true p 0 q))) : wpX_isAtLeast post (cn, kn, a1, a2, a3, a4) (nI p) (nI q) := by
  unfold wpX_isAtLeast
  dsimp only
  have e : (nI p * 100) + nI q = nI ((p * 10 + 0) * 10 + q) := by
    show (nI p * nI 100) + nI q = _
    rw [pk_mul, nI_add]
    congr 1
    omega
  rw [e, nI_clamp (show (p * 10 + 0) * 10 + q < 2 ^ 31 by omega), (ht p 0 q hp (by omega) hq).1]
  exact ⟨vp_in_nI (by omega) (by decide), gv_nb _, h⟩
theorem gv_above {post : Int32 → St2 → Prop} {i j c p : Nat} {kn : Int32} {a1 a2 a3 a4 : Nat → Int32} (ok : gv_ok i j c kn a1 a2 a3 a4) (hp : p < c) (H : ∀ kn' a3' a4', gv_ok i j c kn' a1 a2 a3' a4' → post (gv_abv i j p c) (nI c, kn', a1, a2, a3', a4')) : wpX_above post (nI c, kn, a1, a2, a3, a4) (nI p) := by
  have hc : c ≤ 10 := ok.2.2.2.1
  unfold wpX_above
  dsimp only
  refine gv_has hc hp (br_f gv_10 (gv_learn ok (fun kn' a3' a4' ok' ht => ?_)))
  show ∃ fu18 : Nat, wX_above_18 post (nI p) (nI c) kn' a1 a2 a3' a4' fu18 0 (nI 0)
  refine pk_loop (σ := Int32) (fun n k s => wX_above_18 post (nI p) (nI c) kn' a1 a2 a3' a4' n s (nI k)) (fun k s => s = gv_abv i j p k) c 0 0 (by omega) rfl ?_ ?_
  · intro n s I
    exact pk_le c c (fun _ => by rw [I]; exact H kn' a3' a4' ok') (fun z => absurd z (by omega))
  · intro n k s hk I hw
    refine pk_le c k (fun z => absurd z (by omega)) (fun _ => gv_isal ht hc hk hp ?_)
    have I' : s = gv_abv i j p k := I
    cases e : gv_T i j true k 0 p
    · exact br_t rfl (nm_e (nm_r (nI_1 k) (hw _ (by show _ = (match gv_T i j true k 0 p with | true => gv_abv i j p k ||| ((1 : Int32) <<< (nI k &&& 31)) | false => gv_abv i j p k ||| 0); rw [e, I']))))
    · exact br_f gv_10 (nm_e (nm_r (nI_1 k) (hw _ (by show _ = (match gv_T i j true k 0 p with | true => gv_abv i j p k ||| ((1 : Int32) <<< (nI k &&& 31)) | false => gv_abv i j p k ||| 0); rw [e, I']))))
theorem gv_first16 {post : Int32 → St2 → Prop} {i j c p : Nat} {kn : Int32} {a1 a2 a3 a4 : Nat → Int32} (ht : gv_tab i j c a3 a4) (hc : c ≤ 10) (hp : p < c) : ∀ n k, k + n = p → post (nI (gv_f i j p n k)) (nI c, kn, a1, a2, a3, a4) → wX_first_16 post (nI p) (nI c) kn a1 a2 a3 a4 (n + 1) (nI k) := by
  intro n
  induction n with
  | zero =>
    intro k hk h
    exact pk_le p k (fun _ => h) (fun z => absurd z (by omega))
  | succ n ih =>
    intro k hk h
    have h' : post (nI (match gv_T i j true p 0 k && gv_T i j true k 0 p with | true => k | false => gv_f i j p n (k + 1))) (nI c, kn, a1, a2, a3, a4) := h
    refine pk_le p k (fun z => absurd z (by omega)) (fun _ => gv_isal ht hc hp (by omega) ?_)
    revert h'
    cases gv_T i j true p 0 k
    · intro h'
      exact br_t rfl (nm_r (nI_1 k) (ih (k + 1) (by omega) h'))
    · intro h'
      refine br_f gv_10 (gv_isal ht hc (by omega) hp ?_)
      revert h'
      cases gv_T i j true k 0 p
      · intro h'
        exact br_t rfl (nm_r (nI_1 k) (ih (k + 1) (by omega) h'))
      · intro h'
        exact br_f gv_10 h'
theorem gv_fst {post : Int32 → St2 → Prop} {i j c p : Nat} {kn : Int32} {a1 a2 a3 a4 : Nat → Int32} (ok : gv_ok i j c kn a1 a2 a3 a4) (hp : p < c) (H : ∀ kn' a3' a4', gv_ok i j c kn' a1 a2 a3' a4' → post (nI (gv_first i j p)) (nI c, kn', a1, a2, a3', a4')) : wpX_first post (nI c, kn, a1, a2, a3, a4) (nI p) := by
  have hc : c ≤ 10 := ok.2.2.2.1
  unfold wpX_first
  dsimp only
  refine gv_has hc hp (br_f gv_10 (gv_learn ok (fun kn' a3' a4' ok' ht => ?_)))
  exact ⟨p + 1, gv_first16 ht hc hp p 0 (by omega) (H kn' a3' a4' ok')⟩
theorem gv_values {post : Int32 → St2 → Prop} {i j c : Nat} {kn : Int32} {a1 a2 a3 a4 : Nat → Int32} (ok : gv_ok i j c kn a1 a2 a3 a4) (H : ∀ kn' a3' a4', gv_ok i j c kn' a1 a2 a3' a4' → post (nI (gv_v i j c)) (nI c, kn', a1, a2, a3', a4')) : wpX_values post (nI c, kn, a1, a2, a3, a4) := by
  have hc : c ≤ 10 := ok.2.2.2.1
  show ∃ fu4 : Nat, wX_values_4 post fu4 (nI 0) (nI 0) (nI c) kn a1 a2 a3 a4
  refine pk_loop (σ := Int32 × (Nat → Int32) × (Nat → Int32)) (fun n k s => wX_values_4 post n (nI (gv_v i j k)) (nI k) (nI c) s.1 a1 a2 s.2.1 s.2.2) (fun _ s => gv_ok i j c s.1 a1 a2 s.2.1 s.2.2) c 0 (kn, a3, a4) (by omega) ok ?_ ?_
  · intro n s I
    exact pk_le c c (fun _ => H _ _ _ I) (fun z => absurd z (by omega))
  · intro n k s hk I hw
    refine pk_le c k (fun z => absurd z (by omega)) (fun _ => gv_fst I hk (fun kn' a3' a4' ok' => ?_))
    have w : wX_values_4 post n (nI (if gv_first i j k = k then gv_v i j k + 1 else gv_v i j k)) (nI (k + 1)) (nI c) kn' a1 a2 a3' a4' := hw (kn', a3', a4') ok'
    have := gv_first_le i j k
    refine pk_eq (gv_first i j k) k (fun e => ?_) (fun e => ?_)
    · rw [if_pos e] at w
      exact nm_r (nI_1 _) (nm_r (nI_1 k) w)
    · rw [if_neg e] at w
      exact nm_r (nI_add _ 0) (nm_r (nI_1 k) w)
theorem gv_add {post : Int32 → St2 → Prop} {i j c : Nat} {kn l r : Int32} {a1 a2 a3 a4 : Nat → Int32} (ok : gv_ok i j c kn a1 a2 a3 a4) (hc : c < 10) (hl : l = nI (gv_s i j false c)) (hr : r = nI (gv_s i j true c)) (H : ∀ a1' a2', gv_ok i j (c + 1) 0 a1' a2' a3 a4 → post (nI c) (nI (c + 1), 0, a1', a2', a3, a4)) : wpX_add post (nI c, kn, a1, a2, a3, a4) l r := by
  obtain ⟨hi, hj, h0, _, hA, hB, _⟩ := ok
  have sl := gv_set (s := false) hi hj h0 hc
  have sr := gv_set (s := true) hi hj h0 hc
  rw [← hl] at sl
  rw [← hr] at sr
  unfold wpX_add
  dsimp only
  refine br_f sl.1 (br_f sl.2.1 (br_f gv_10 (br_f sr.1 (br_f sr.2.1 (br_f gv_10 (br_t (nI_lt (b := 10) hc (by decide)) ⟨pk_in c 10 hc, nm_r (e' := upd a1 c l) (by rw [nI_clamp (show c < 2 ^ 31 by omega), sl.2.2]) ⟨pk_in c 10 hc, nm_r (e' := upd a2 c r) (by rw [nI_clamp (show c < 2 ^ 31 by omega), sr.2.2]) (nm_r (nI_1 c) ?_)⟩⟩))))))
  rw [nI_pred]
  refine H _ _ ⟨hi, hj, by omega, by omega, fun y hy => ?_, fun y hy => ?_, fun z => absurd rfl z⟩
  · by_cases e : y = c
    · rw [e, pk_us, hl]
    · rw [pk_un e]
      exact hA y (by omega)
  · by_cases e : y = c
    · rw [e, pk_us, hr]
    · rw [pk_un e]
      exact hB y (by omega)
theorem gv_depth32 {post : Int32 → Prop} {J : Int32 → Int32 → Int32 → Prop} {i j c : Nat} {x2 x3 x4 kn : Int32} {a1 a2 a3 a4 : Nat → Int32} (hc : c ≤ 10) (hA : ∀ y, y < c → a1 y = nI (gv_s i j false y)) (hB : ∀ y, y < c → a2 y = nI (gv_s i j true y)) (h : J (gv_dn i j x2 c) (gv_d1 (gv_dn i j x2 c) x3) (x4 + 1)) : ∃ fu : Nat, wX_depth_32 post J x2 x3 x4 (nI c) kn a1 a2 a3 a4 fu 0 (nI 0) := by
  refine pk_loop (σ := Int32) (fun n k s => wX_depth_32 post J x2 x3 x4 (nI c) kn a1 a2 a3 a4 n s (nI k)) (fun k s => s = gv_dn i j x2 k) c 0 0 (by omega) rfl ?_ ?_
  · intro n s I
    have I' : s = gv_dn i j x2 c := I
    rw [I']
    unfold gv_d1 at h
    refine pk_le c c (fun _ => br_c (fun e => ?_) (fun e => ?_)) (fun z => absurd z (by omega))
    · rw [if_pos e] at h
      exact nm_e (nm_e h)
    · rw [if_neg e] at h
      exact nm_e (nm_e h)
  · intro n k s hk I hw
    have I' : s = gv_dn i j x2 k := I
    have D : gv_dn i j x2 (k + 1) = if ((x2 >>> (nI k &&& 31)) &&& 1) = 0 then gv_dn i j x2 k ||| 0 else gv_dn i j x2 k ||| (nI (gv_s i j false k) ||| nI (gv_s i j true k)) := rfl
    refine pk_le c k (fun z => absurd z (by omega)) (fun _ => br_c (fun e => br_t rfl (nm_e (nm_r (nI_1 k) (hw _ ?_)))) (fun e => br_f gv_10 ⟨pk_in k 10 (by omega), pk_in k 10 (by omega), nm_e (nm_r (nI_1 k) (hw _ ?_))⟩))
    · rw [if_pos e] at D
      exact (by rw [I', D])
    · rw [if_neg e] at D
      exact (by rw [I', D, nI_clamp (show k < 2 ^ 31 by omega), hA k hk, hB k hk])
theorem gv_dep {post : Int32 → Prop} {i j c p : Nat} {kn : Int32} {a1 a2 a3 a4 : Nat → Int32} (ok : gv_ok i j c kn a1 a2 a3 a4) (hp : p < c) (h : post (gv_depth i j c p)) : wpX_depth post (nI c, kn, a1, a2, a3, a4) (nI p) := by
  obtain ⟨hi, hj, h0, hc, hA, hB, _⟩ := ok
  unfold wpX_depth
  dsimp only
  refine gv_has hc hp (br_f gv_10 (nm_e ?_))
  show ∃ fu19 : Nat, wX_depth_19 post (nI c) kn a1 a2 a3 a4 fu19 ((1 : Int32) <<< (nI p &&& 31)) 0 (nI 0)
  refine pk_loop (σ := Int32 × Int32) (fun n k s => wX_depth_19 post (nI c) kn a1 a2 a3 a4 n s.1 s.2 (nI k)) (fun k s => s = gv_dd i j c p k) 10 0 ((1 : Int32) <<< (nI p &&& 31), 0) (by omega) rfl ?_ ?_
  · intro n s I
    have I' : s = gv_dd i j c p 10 := I
    rw [I']
    exact pk_le 10 10 (fun _ => h) (fun z => absurd z (by omega))
  · intro n k s hk I hw
    have I' : s = gv_dd i j c p k := I
    rw [I']
    have w : wX_depth_19 post (nI c) kn a1 a2 a3 a4 n (gv_dn i j (gv_dd i j c p k).1 c) (gv_d1 (gv_dn i j (gv_dd i j c p k).1 c) (gv_dd i j c p k).2) (nI (k + 1)) := hw (gv_dd i j c p (k + 1)) rfl
    rw [← nI_1] at w
    exact pk_le 10 k (fun z => absurd z (by omega)) (fun _ => gv_depth32 hc hA hB w)
theorem gv_mov0 {post : Int32 → Prop} {i j c p : Nat} {kn : Int32} {a1 a2 a3 a4 : Nat → Int32} (ok : gv_ok i j c kn a1 a2 a3 a4) (hp : p < c) (h : post (nI (gv_s i j false p))) : wpX_moves post (nI c, kn, a1, a2, a3, a4) (nI p) 0 := by
  obtain ⟨hi, hj, h0, hc, hA, hB, _⟩ := ok
  unfold wpX_moves
  dsimp only
  refine gv_has hc hp (br_f gv_10 (br_t rfl ?_))
  unfold wX_moves_17 wpX_movesOf
  dsimp only
  rw [nI_clamp (show p < 2 ^ 31 by omega), hA p hp]
  exact br_t rfl ⟨pk_in p 10 (by omega), h⟩
theorem gv_mov1 {post : Int32 → Prop} {i j c p : Nat} {kn : Int32} {a1 a2 a3 a4 : Nat → Int32} (ok : gv_ok i j c kn a1 a2 a3 a4) (hp : p < c) (h : post (nI (gv_s i j true p))) : wpX_moves post (nI c, kn, a1, a2, a3, a4) (nI p) 1 := by
  obtain ⟨hi, hj, h0, hc, hA, hB, _⟩ := ok
  unfold wpX_moves
  dsimp only
  refine gv_has hc hp (br_f gv_10 (br_f gv_10 (br_t rfl ?_)))
  unfold wX_moves_17 wpX_movesOf
  dsimp only
  rw [nI_clamp (show p < 2 ^ 31 by omega), hB p hp]
  exact br_f gv_10 ⟨pk_in p 10 (by omega), h⟩
theorem gv_dom35 {post : Int32 → St2 → Prop} {J : Int32 → Int32 → Prop} {i j c x : Nat} {kn : Int32} {a1 a2 a3 a4 : Nat → Int32} (hi : i < 5) (hj : j < 5) (hc : c ≤ 10) (hx : x < c) (h : J 0 (nI (x + 1))) : ∃ fu : Nat, wX_dominated_35 post J 0 (nI (gv_s i j false 8)) (nI x) (nI c) kn a1 a2 a3 a4 fu 0 (nI 0) := by
  refine pk_loop (σ := Unit) (fun n k _ => wX_dominated_35 post J 0 (nI (gv_s i j false 8)) (nI x) (nI c) kn a1 a2 a3 a4 n 0 (nI k)) (fun _ _ => True) c 0 () (by omega) trivial ?_ ?_
  · intro n _ _
    exact pk_le c c (fun _ => nm_r (nI_1 x) h) (fun z => absurd z (by omega))
  · intro n k _ hk _ hw
    have w := hw () trivial
    refine pk_le c k (fun z => absurd z (by omega)) (fun _ => pk_eq x k (fun _ => br_t rfl (nm_r (nI_1 k) w)) (fun ne => ?_))
    refine gv_wpin ((gv_m i j false 8).contains x) (gv_in hi hj (by omega) (by omega)) ?_
    cases e1 : (gv_m i j false 8).contains x
    · exact br_t rfl (br_t rfl (nm_r (nI_1 k) w))
    · refine br_f gv_10 (gv_wpin ((gv_m i j false 8).contains k) (gv_in hi hj (by omega) (by omega)) ?_)
      cases e2 : (gv_m i j false 8).contains k
      · exact br_t rfl (br_t rfl (nm_r (nI_1 k) w))
      · exact absurd ((gv_F7 i hi).1 x (by omega) k (by omega) e1 e2) ne
theorem gv_dom {post : Int32 → St2 → Prop} {i j c : Nat} {kn : Int32} {a1 a2 a3 a4 : Nat → Int32} (ok : gv_ok i j c kn a1 a2 a3 a4) (hp : 8 < c) (H : ∀ kn' a3' a4', gv_ok i j c kn' a1 a2 a3' a4' → post 0 (nI c, kn', a1, a2, a3', a4')) : wpX_dominated post (nI c, kn, a1, a2, a3, a4) 8 0 := by
  have hi : i < 5 := ok.1
  have hj : j < 5 := ok.2.1
  have hc : c ≤ 10 := ok.2.2.2.1
  unfold wpX_dominated
  dsimp only
  refine gv_mov0 (p := 8) ok hp (br_t (gv_F7 i hi).2 (gv_learn ok (fun kn' a3' a4' ok' ht => ?_)))
  show ∃ fu23 : Nat, wX_dominated_23 post 0 (nI (gv_s i j false 8)) (nI c) kn' a1 a2 a3' a4' fu23 0 (nI 0)
  refine pk_loop (σ := Unit) (fun n k _ => wX_dominated_23 post 0 (nI (gv_s i j false 8)) (nI c) kn' a1 a2 a3' a4' n 0 (nI k)) (fun _ _ => True) c 0 () (by omega) trivial ?_ ?_
  · intro n _ _
    exact pk_le c c (fun _ => H kn' a3' a4' ok') (fun z => absurd z (by omega))
  · intro n k _ hk _ hw
    exact pk_le c k (fun z => absurd z (by omega)) (fun _ => gv_dom35 hi hj hc hk (hw () trivial))
theorem gv_drop {post : Int32 → St2 → Prop} {i j c : Nat} {kn : Int32} {a1 a2 a3 a4 : Nat → Int32} (ok : gv_ok i j (c + 1) kn a1 a2 a3 a4) (hc : 0 < c) (H : gv_ok i j c 0 a1 a2 a3 a4 → post (nI c) (nI c, 0, a1, a2, a3, a4)) : wpX_drop post (nI (c + 1), kn, a1, a2, a3, a4) := by
  obtain ⟨hi, hj, h0, h1, hA, hB, _⟩ := ok
  exact pk_eq (c + 1) 1 (fun z => absurd z (by omega)) (fun _ => nm_r (nI_pred c) (H ⟨hi, hj, hc, by omega, fun y hy => hA y (by omega), fun y hy => hB y (by omega), fun z => absurd rfl z⟩))
theorem gv_order {post : Int32 → Prop} {u : St0} {x y : Int32} (h : post (gv_ord x y)) : wpL_order post u x y := by
  unfold gv_ord at h
  refine br_c (fun e => ?_) (fun e => br_c (fun e2 => ?_) (fun e2 => ?_))
  · rw [if_pos e] at h
    exact h
  · rw [if_neg e, if_pos e2] at h
    exact h
  · rw [if_neg e, if_neg e2] at h
    exact h
theorem gv_la76 {post : Int32 → Prop} {s : Int32} (b : Bool) (h : post (match b with | true => s ||| 256 | false => s)) : wL_above_76 post s (gv_b b) := by
  cases b
  · exact br_t rfl h
  · exact br_f gv_10 h
theorem gv_la43 {post : Int32 → Prop} {x i j s tw : Int32} (h : post (if j ≤ i then (if j ≤ x then s else s ||| 256) else (if tw < 2 * x then s else s ||| 256))) : wL_above_43 post x i j s tw := by
  refine br_c (fun e => ?_) (fun e => ?_)
  · rw [if_pos e] at h
    refine br_c (fun e2 => ?_) (fun e2 => ?_)
    · rw [if_pos e2] at h
      exact gv_la76 false h
    · rw [if_neg e2] at h
      exact gv_la76 true h
  · rw [if_neg e] at h
    refine br_c (fun e2 => ?_) (fun e2 => ?_)
    · rw [if_pos e2] at h
      exact gv_la76 false h
    · rw [if_neg e2] at h
      exact gv_la76 true h
theorem gv_la21 {post : Int32 → Prop} {x i j z0 z1 : Int32} (h : post (if j ≤ i then (if j ≤ x then z1 ||| z0 else (z1 ||| z0) ||| 256) else (if (if j ≤ i + 1 then (2 * i) + 1 else (2 * i) + 2) < 2 * x then z1 ||| z0 else (z1 ||| z0) ||| 256))) : wL_above_21 post x i j z0 z1 := by
  refine nm_e (br_c (fun e => ?_) (fun e => ?_))
  · simp only [if_pos e] at h
    exact gv_la43 h
  · simp only [if_neg e] at h
    exact gv_la43 h
theorem gv_lawAbove {post : Int32 → Prop} {u : St0} {x i j : Int32} (h : post (gv_la x i j)) : wpL_above post u x i j := by
  unfold gv_la at h
  refine br_c (fun e => ?_) (fun e => ?_)
  · simp only [if_pos e] at h
    exact gv_la21 h
  · simp only [if_neg e] at h
    exact gv_la21 h
end
section
theorem gv_csV {post : Int32 → St2 → Prop} {i j c p q r : Nat} {kn v : Int32} {a1 a2 a3 a4 : Nat → Int32} (ok : gv_ok i j c kn a1 a2 a3 a4) (hp : p < c) (hq : q < c) (hr : r < c) (hv : (gv_cmp i j p q r) = v) (H : ∀ kn' a3' a4', gv_ok i j c kn' a1 a2 a3' a4' → post v (nI c, kn', a1, a2, a3', a4')) : wpX_compareSum post (nI c, kn, a1, a2, a3, a4) (nI p) (nI q) (nI r) := by
  subst hv
  exact gv_cs ok hp hq hr H
theorem gv_cpV {post : Int32 → St2 → Prop} {i j c p r : Nat} {kn v : Int32} {a1 a2 a3 a4 : Nat → Int32} (ok : gv_ok i j c kn a1 a2 a3 a4) (hp : p < c) (hr : r < c) (hv : (gv_cmp i j p 0 r) = v) (H : ∀ kn' a3' a4', gv_ok i j c kn' a1 a2 a3' a4' → post v (nI c, kn', a1, a2, a3', a4')) : wpX_compare post (nI c, kn, a1, a2, a3, a4) (nI p) (nI r) := by
  subst hv
  exact gv_cp ok hp hr H
theorem gv_opV {post : Int32 → St2 → Prop} {i j c p q : Nat} {kn v : Int32} {a1 a2 a3 a4 : Nat → Int32} (ok : gv_ok i j c kn a1 a2 a3 a4) (hp : p < c) (hq : q < c) (hv : ((if gv_cmp i j p q 0 = 0 then 1 else 0 : Int32)) = v) (H : ∀ kn' a3' a4', gv_ok i j c kn' a1 a2 a3' a4' → post v (nI c, kn', a1, a2, a3', a4')) : wpX_opposite post (nI c, kn, a1, a2, a3, a4) (nI p) (nI q) := by
  subst hv
  exact gv_op ok hp hq H
theorem gv_wins0V {post : Int32 → St2 → Prop} {i j c p : Nat} {kn v : Int32} {a1 a2 a3 a4 : Nat → Int32} (ok : gv_ok i j c kn a1 a2 a3 a4) (hp : p < c) (hv : (gv_b (!gv_T i j false p 0 0)) = v) (H : ∀ kn' a3' a4', gv_ok i j c kn' a1 a2 a3' a4' → post v (nI c, kn', a1, a2, a3', a4')) : wpX_wins post (nI c, kn, a1, a2, a3, a4) (nI p) 0 := by
  subst hv
  exact gv_wins0 ok hp H
theorem gv_wins1V {post : Int32 → St2 → Prop} {i j c p : Nat} {kn v : Int32} {a1 a2 a3 a4 : Nat → Int32} (ok : gv_ok i j c kn a1 a2 a3 a4) (hp : p < c) (hv : (gv_b (!gv_T i j true p 0 0)) = v) (H : ∀ kn' a3' a4', gv_ok i j c kn' a1 a2 a3' a4' → post v (nI c, kn', a1, a2, a3', a4')) : wpX_wins post (nI c, kn, a1, a2, a3, a4) (nI p) 1 := by
  subst hv
  exact gv_wins1 ok hp H
theorem gv_aboveV {post : Int32 → St2 → Prop} {i j c p : Nat} {kn v : Int32} {a1 a2 a3 a4 : Nat → Int32} (ok : gv_ok i j c kn a1 a2 a3 a4) (hp : p < c) (hv : (gv_abv i j p c) = v) (H : ∀ kn' a3' a4', gv_ok i j c kn' a1 a2 a3' a4' → post v (nI c, kn', a1, a2, a3', a4')) : wpX_above post (nI c, kn, a1, a2, a3, a4) (nI p) := by
  subst hv
  exact gv_above ok hp H
theorem gv_fstV {post : Int32 → St2 → Prop} {i j c p : Nat} {kn v : Int32} {a1 a2 a3 a4 : Nat → Int32} (ok : gv_ok i j c kn a1 a2 a3 a4) (hp : p < c) (hv : (nI (gv_first i j p)) = v) (H : ∀ kn' a3' a4', gv_ok i j c kn' a1 a2 a3' a4' → post v (nI c, kn', a1, a2, a3', a4')) : wpX_first post (nI c, kn, a1, a2, a3, a4) (nI p) := by
  subst hv
  exact gv_fst ok hp H
theorem gv_valuesV {post : Int32 → St2 → Prop} {i j c : Nat} {kn v : Int32} {a1 a2 a3 a4 : Nat → Int32} (ok : gv_ok i j c kn a1 a2 a3 a4) (hv : (nI (gv_v i j c)) = v) (H : ∀ kn' a3' a4', gv_ok i j c kn' a1 a2 a3' a4' → post v (nI c, kn', a1, a2, a3', a4')) : wpX_values post (nI c, kn, a1, a2, a3, a4) := by
  subst hv
  exact gv_values ok H
theorem gv_depV {post : Int32 → Prop} {i j c p : Nat} {kn v : Int32} {a1 a2 a3 a4 : Nat → Int32} (ok : gv_ok i j c kn a1 a2 a3 a4) (hp : p < c) (hv : (gv_depth i j c p) = v) (h : post v) : wpX_depth post (nI c, kn, a1, a2, a3, a4) (nI p) := by
  subst hv
  exact gv_dep ok hp h
theorem gv_mov0V {post : Int32 → Prop} {i j c p : Nat} {kn v : Int32} {a1 a2 a3 a4 : Nat → Int32} (ok : gv_ok i j c kn a1 a2 a3 a4) (hp : p < c) (hv : (nI (gv_s i j false p)) = v) (h : post v) : wpX_moves post (nI c, kn, a1, a2, a3, a4) (nI p) 0 := by
  subst hv
  exact gv_mov0 ok hp h
theorem gv_mov1V {post : Int32 → Prop} {i j c p : Nat} {kn v : Int32} {a1 a2 a3 a4 : Nat → Int32} (ok : gv_ok i j c kn a1 a2 a3 a4) (hp : p < c) (hv : (nI (gv_s i j true p)) = v) (h : post v) : wpX_moves post (nI c, kn, a1, a2, a3, a4) (nI p) 1 := by
  subst hv
  exact gv_mov1 ok hp h
/-! calls that are refused -/
theorem gv_cpbad {post : Int32 → St2 → Prop} {c p : Nat} {kn y : Int32} {a1 a2 a3 a4 : Nat → Int32} (hp : p ≤ 10) (hc : c ≤ p) (h : post (-1) (nI c, kn, a1, a2, a3, a4)) : wpX_compare post (nI c, kn, a1, a2, a3, a4) (nI p) y := by
  unfold wpX_compare
  dsimp only
  unfold wpX_compareSum
  dsimp only
  exact gv_hasnt hp hc (br_t rfl h)
theorem gv_csbad {post : Int32 → St2 → Prop} {c p q r : Nat} {kn : Int32} {a1 a2 a3 a4 : Nat → Int32} (h10 : c ≤ 10) (hp : p < c) (hq : q < c) (hr : r ≤ 10) (hc : c ≤ r) (h : post (-1) (nI c, kn, a1, a2, a3, a4)) : wpX_compareSum post (nI c, kn, a1, a2, a3, a4) (nI p) (nI q) (nI r) := by
  unfold wpX_compareSum
  dsimp only
  exact gv_has h10 hp (br_f gv_10 (gv_has h10 hq (br_f gv_10 (gv_hasnt hr hc (br_t rfl h)))))
theorem gv_abvbad {post : Int32 → St2 → Prop} {c p : Nat} {kn : Int32} {a1 a2 a3 a4 : Nat → Int32} (hp : p ≤ 10) (hc : c ≤ p) (h : post (-1) (nI c, kn, a1, a2, a3, a4)) : wpX_above post (nI c, kn, a1, a2, a3, a4) (nI p) := by
  unfold wpX_above
  dsimp only
  exact gv_hasnt hp hc (br_t rfl h)
theorem gv_20 : ¬ (2 : Int32) = 0 := by decide
theorem gv_21 : ¬ (2 : Int32) = 1 := by decide
theorem gv_movbad {post : Int32 → Prop} {c p : Nat} {kn : Int32} {a1 a2 a3 a4 : Nat → Int32} (h10 : c ≤ 10) (hp : p < c) (h : post (-1)) : wpX_moves post (nI c, kn, a1, a2, a3, a4) (nI p) 2 := by
  unfold wpX_moves
  dsimp only
  exact gv_has h10 hp (br_f gv_10 (br_f gv_20 (br_f gv_21 h)))
theorem gv_winsbad {post : Int32 → St2 → Prop} {c p : Nat} {kn : Int32} {a1 a2 a3 a4 : Nat → Int32} (h10 : c ≤ 10) (hp : p < c) (h : post 0 (nI c, kn, a1, a2, a3, a4)) : wpX_wins post (nI c, kn, a1, a2, a3, a4) (nI p) 2 := by
  unfold wpX_wins
  dsimp only
  unfold wpX_winsSum
  dsimp only
  exact gv_has h10 hp (br_f gv_10 (gv_has (p := 0) h10 (by omega) (br_f gv_10 (br_f gv_20 (br_f gv_21 ⟨gv_nb false, h⟩)))))
theorem gv_full {post : Int32 → St2 → Prop} {kn : Int32} {a1 a2 a3 a4 : Nat → Int32} (h : post (-2) (nI 10, kn, a1, a2, a3, a4)) : wpX_add post (nI 10, kn, a1, a2, a3, a4) 1 1 := by
  unfold wpX_add
  dsimp only
  exact br_f (by decide) (br_f (by decide) (br_f gv_10 (br_f (by decide) (br_f (by decide) (br_f gv_10 (br_f (by decide) h))))))
theorem gv_addbad {post : Int32 → St2 → Prop} {kn y : Int32} {a1 a2 a3 a4 : Nat → Int32} (h : post (-1) (nI 10, kn, a1, a2, a3, a4)) : wpX_add post (nI 10, kn, a1, a2, a3, a4) 1024 y := by
  unfold wpX_add
  dsimp only
  exact br_f (by decide) (br_t (by decide) (br_t rfl h))
end
section
theorem gv_l745 {post : Int32 → St0 → Prop} {mc ms kc ks : Nat} {i j : Nat} {kn : Int32} {a1 a2 a3 a4 : Nat → Int32} (ok : gv_ok i j 10 kn a1 a2 a3 a4) (hp : post 1 ()) : wL_lawOf_745 post mc ms 1 kc ks (nI 10) kn a1 a2 a3 a4 := by
  unfold wL_lawOf_745
  refine gv_drop (c := 9) ok (by omega) (fun ok9 => br_f gv_10 (br_t rfl ?_))
  refine gv_cpbad (c := 9) (p := 9) (by omega) (by omega) (br_t rfl ?_)
  refine gv_movbad (c := 9) (p := 0) (by omega) (by omega) (br_t rfl ?_)
  refine gv_winsbad (c := 9) (p := 0) (by omega) (by omega) (br_t rfl ?_)
  refine gv_abvbad (c := 9) (p := 9) (by omega) (by omega) (br_t rfl ?_)
  exact gv_csbad (c := 9) (p := 0) (q := 0) (r := 9) (by omega) (by omega) (by omega) (by omega) (by omega) (br_t rfl hp)
theorem gv_l671 {post : Int32 → St0 → Prop} {mc ms kc ks : Nat} {i j : Nat} {kn : Int32} {a1 a2 a3 a4 : Nat → Int32} (ok : gv_ok i j 9 kn a1 a2 a3 a4) (hp : post 1 ()) : wL_lawOf_671 post mc ms 1 kc ks (nI 9) kn a1 a2 a3 a4 := by
  obtain ⟨_, _, _, _, _, _, _, _, f1, f2⟩ := gv_F8 i ok.1 j ok.2.1
  obtain ⟨g1, g2⟩ := gv_F6 i ok.1 j ok.2.1
  unfold wL_lawOf_671
  refine gv_add (c := 9) ok (by omega) f1 f2 (fun b1 b2 ok1 => br_f gv_10 (br_t rfl ?_))
  refine gv_full (br_t rfl ?_)
  refine gv_addbad (br_t rfl ?_)
  refine gv_wins0V (c := 10) (p := 9) (v := 1) ok1 (by omega) (by rw [g1]; rfl) (fun kn2 c3 c4 ok2 => br_f gv_10 ?_)
  refine gv_wins1V (c := 10) (p := 9) (v := 1) ok2 (by omega) (by rw [g2]; rfl) (fun kn3 d3 d4 ok3 => br_f gv_10 ?_)
  exact gv_l745 ok3 hp
theorem gv_l663 {post : Int32 → St0 → Prop} {mc ms kc ks : Nat} {i j : Nat} {kn z0 z1 : Int32} {a1 a2 a3 a4 : Nat → Int32} (ok : gv_ok i j 9 kn a1 a2 a3 a4) (hz : z1 = z0) (hp : post 1 ()) : wL_lawOf_663 post mc ms z0 z1 kc ks (nI 9) kn a1 a2 a3 a4 := br_t hz (gv_l671 ok hp)
theorem gv_l608 {post : Int32 → St0 → Prop} {mc ms kc ks : Nat} {i j : Nat} {kn z0 z1 z2 : Int32} {a1 a2 a3 a4 : Nat → Int32} (ok : gv_ok i j 9 kn a1 a2 a3 a4) (hz : z2 = z1 + z0) (hp : post 1 ()) : wL_lawOf_608 post mc ms (nI j) z0 z1 z2 kc ks (nI 9) kn a1 a2 a3 a4 := by
  obtain ⟨_, _, _, f1, f2, f3⟩ := gv_F5 i ok.1 j ok.2.1
  have hj : j < 5 := ok.2.1
  unfold wL_lawOf_608
  refine br_t hz (gv_mov1V (c := 9) (p := 8) ok (by omega) f1 (br_t rfl ?_))
  refine gv_dom (c := 9) ok (by omega) (fun kn1 b3 b4 ok1 => br_t rfl ?_)
  refine gv_wins0V (c := 9) (p := 8) (v := 1) ok1 (by omega) (by rw [f2]; rfl) (fun kn2 c3 c4 ok2 => br_f gv_10 ?_)
  refine gv_wins1V (c := 9) (p := 8) (v := gv_b (decide (j = 0))) ok2 (by omega) (by rw [f3, Bool.not_not]) (fun kn3 d3 d4 ok3 => ?_)
  refine pk_eq j 0 (fun e => gv_l663 ok3 ?_ hp) (fun e => gv_l663 ok3 ?_ hp)
  · rw [decide_eq_true e]
    rfl
  · rw [decide_eq_false e]
    rfl
theorem gv_l584 {post : Int32 → St0 → Prop} {mc ms kc ks : Nat} {i j : Nat} {kn z0 z1 : Int32} {a1 a2 a3 a4 : Nat → Int32} (ok : gv_ok i j 9 kn a1 a2 a3 a4) (hz : z1 = z0) (hp : post 1 ()) : wL_lawOf_584 post mc ms (nI i) (nI j) z0 z1 kc ks (nI 9) kn a1 a2 a3 a4 := by
  obtain ⟨_, _, f1, _, _, _⟩ := gv_F5 i ok.1 j ok.2.1
  have hi : i < 5 := ok.1
  have hj : j < 5 := ok.2.1
  unfold wL_lawOf_584
  refine br_t hz (gv_depV (c := 9) (p := 8) ok (by omega) f1 ?_)
  refine pk_le i j (fun e => gv_l608 ok ?_ hp) (fun e => gv_l608 ok ?_ hp)
  · rw [if_pos e]
  · rw [if_neg (by omega)]
theorem gv_l560 {post : Int32 → St0 → Prop} {mc ms kc ks : Nat} {i j : Nat} {kn z0 z1 : Int32} {a1 a2 a3 a4 : Nat → Int32} (w h : Bool) (hw : w = decide (i + 1 < j)) (hh : h = decide (i = 0 ∧ j = 1)) (ok : gv_ok i j 9 kn a1 a2 a3 a4) (hz : z1 = z0) (hp : post 1 ()) : wL_lawOf_560 post mc ms (nI i) (nI j) (gv_b w) (gv_b h) z0 z1 kc ks (nI 9) kn a1 a2 a3 a4 := by
  obtain ⟨_, f1, _, _, _, _⟩ := gv_F5 i ok.1 j ok.2.1
  unfold wL_lawOf_560
  refine br_t hz (gv_valuesV (c := 9) (v := if w || h then 8 else 9) ok ?_ (fun kn1 b3 b4 ok1 => ?_))
  · rw [f1, hw, hh]
    by_cases e1 : i + 1 < j <;> by_cases e2 : i = 0 ∧ j = 1 <;> simp [e1, e2] <;> rfl
  · cases w
    · cases h
      · exact br_t rfl (br_t rfl (gv_l584 ok1 rfl hp))
      · exact br_t rfl (br_f gv_10 (gv_l584 ok1 rfl hp))
    · cases h
      · exact br_f gv_10 (gv_l584 ok1 rfl hp)
      · exact br_f gv_10 (gv_l584 ok1 rfl hp)
theorem gv_l523 {post : Int32 → St0 → Prop} {mc ms kc ks : Nat} {i j : Nat} {kn : Int32} {a1 a2 a3 a4 : Nat → Int32} (w h : Bool) (hw : w = decide (i + 1 < j)) (hh : h = decide (i = 0 ∧ j = 1)) (ok : gv_ok i j 9 kn a1 a2 a3 a4) (hp : post 1 ()) : wL_lawOf_523 post mc ms (nI i) (nI j) 1 (gv_b w) (gv_b h) kc ks (nI 9) kn a1 a2 a3 a4 := by
  obtain ⟨f1, _, _, _, _, _⟩ := gv_F5 i ok.1 j ok.2.1
  unfold wL_lawOf_523
  refine br_f gv_10 (gv_fstV (c := 9) (p := 8) (v := if w then nI i + 1 else if h then 7 else 8) ok (by omega) ?_ (fun kn1 b3 b4 ok1 => ?_))
  · rw [f1, hw, hh]
    by_cases e1 : i + 1 < j <;> by_cases e2 : i = 0 ∧ j = 1 <;> simp [e1, e2, nI_succ] <;> rfl
  · cases w
    · cases h
      · exact br_t rfl (br_t rfl (gv_l560 false false hw hh ok1 rfl hp))
      · exact br_t rfl (br_f gv_10 (gv_l560 false true hw hh ok1 rfl hp))
    · exact br_f gv_10 (gv_l560 true h hw hh ok1 rfl hp)
theorem gv_l500 {post : Int32 → St0 → Prop} {mc ms kc ks : Nat} {i j : Nat} {kn : Int32} {a1 a2 a3 a4 : Nat → Int32} (w n : Bool) (hw : w = decide (i + 1 < j)) (hn : n = decide (i < j)) (ok : gv_ok i j 9 kn a1 a2 a3 a4) (hp : post 1 ()) : wL_lawOf_500 post mc ms (nI i) (nI j) 1 (gv_b n) (gv_b w) kc ks (nI 9) kn a1 a2 a3 a4 := by
  have hi : i < 5 := ok.1
  have hj : j < 5 := ok.2.1
  unfold wL_lawOf_500
  cases n
  · have z : ¬ i < j := of_decide_eq_false hn.symm
    exact br_t rfl (gv_l523 w false hw (decide_eq_false (by omega)).symm ok hp)
  · refine br_f gv_10 (pk_eq i 0 (fun e => pk_eq j 1 (fun e2 => ?_) (fun e2 => ?_)) (fun e => ?_))
    · exact gv_l523 w true hw (decide_eq_true ⟨e, e2⟩).symm ok hp
    · exact gv_l523 w false hw (decide_eq_false (by omega)).symm ok hp
    · exact gv_l523 w false hw (decide_eq_false (by omega)).symm ok hp
theorem gv_l424 {post : Int32 → St0 → Prop} {mc ms kc ks : Nat} {J : Int32 → Int32 → Int32 → Int32 → (Nat → Int32) → (Nat → Int32) → (Nat → Int32) → (Nat → Int32) → Prop} {i j x k : Nat} {kn x12 x13 due sum : Int32} {a1 a2 a3 a4 : Nat → Int32} (ok : gv_ok i j 9 kn a1 a2 a3 a4) (hx : x < 5) (hk : k < 5) (hd : due = gv_cmp i j 8 0 k) (hs : x + k ≤ 4 → sum = gv_cmp i j x k i) (H : ∀ kn' a3' a4', gv_ok i j 9 kn' a1 a2 a3' a4' → J 1 (nI (k + 1)) (nI 9) kn' a1 a2 a3' a4') : wL_lawOf_424 post mc ms J (nI i) (nI j) (nI x) 1 x12 x13 (nI k) due sum kc ks (nI 9) kn a1 a2 a3 a4 := by
  have hi : i < 5 := ok.1
  unfold wL_lawOf_424
  refine br_f gv_10 (gv_cpV (c := 9) (p := 8) (r := k) ok (by omega) (by omega) hd.symm (fun kn1 b3 b4 ok1 => br_t rfl ?_))
  refine pk_lt 4 (x + k) (fun _ => nm_r (nI_1 k) (H kn1 b3 b4 ok1)) (fun z => ?_) rfl (nI_add x k)
  exact gv_csV (c := 9) (p := x) (q := k) (r := i) ok1 (by omega) (by omega) (by omega) (hs z).symm (fun kn2 c3 c4 ok2 => br_t rfl (nm_r (nI_1 k) (H kn2 c3 c4 ok2)))
theorem gv_l399 {post : Int32 → St0 → Prop} {mc ms kc ks : Nat} {J : Int32 → Int32 → Int32 → Int32 → (Nat → Int32) → (Nat → Int32) → (Nat → Int32) → (Nat → Int32) → Prop} {i j x k : Nat} {kn x12 x13 due : Int32} {a1 a2 a3 a4 : Nat → Int32} (ok : gv_ok i j 9 kn a1 a2 a3 a4) (hx : x < 5) (hk : k < 5) (hd : due = gv_cmp i j 8 0 k) (H : ∀ kn' a3' a4', gv_ok i j 9 kn' a1 a2 a3' a4' → J 1 (nI (k + 1)) (nI 9) kn' a1 a2 a3' a4') : wL_lawOf_399 post mc ms J (nI i) (nI j) (nI x) 1 x12 x13 (nI k) due kc ks (nI 9) kn a1 a2 a3 a4 := by
  have hi : i < 5 := ok.1
  have hj : j < 5 := ok.2.1
  unfold wL_lawOf_399
  refine pk_lt 4 (x + k) (fun z => ?_) (fun z => ?_) rfl (nI_add x k)
  · exact gv_l424 ok hx hk hd (fun z2 => absurd z2 (by omega)) H
  · exact gv_order (gv_l424 ok hx hk hd (fun z2 => (gv_F4x i hi j hj x hx k hk z2).symm) H)
/-- 'twice', as the law reckons it -/
def gv_tw (i j : Int32) : Int32 := if j ≤ i + 1 then (2 * i) + 1 else (2 * i) + 2
theorem gv_l353 {post : Int32 → St0 → Prop} {mc ms kc ks : Nat} {i j x : Nat} {kn : Int32} {a1 a2 a3 a4 : Nat → Int32} (n : Bool) (hn : n = decide (i < j)) (hx : x < 5) (ok : gv_ok i j 9 kn a1 a2 a3 a4) (hp : post 1 ()) : ∃ fu : Nat, wL_lawOf_353 post mc ms (nI i) (nI j) (nI x) (gv_b n) (gv_tw (nI i) (nI j)) kc ks fu 1 (nI 0) (nI 9) kn a1 a2 a3 a4 := by
  have hi : i < 5 := ok.1
  have hj : j < 5 := ok.2.1
  refine pk_loop (σ := Int32 × (Nat → Int32) × (Nat → Int32)) (fun m k s => wL_lawOf_353 post mc ms (nI i) (nI j) (nI x) (gv_b n) (gv_tw (nI i) (nI j)) kc ks m 1 (nI k) (nI 9) s.1 a1 a2 s.2.1 s.2.2) (fun _ s => gv_ok i j 9 s.1 a1 a2 s.2.1 s.2.2) 5 0 (kn, a3, a4) (by omega) ok ?_ ?_
  · intro m s I
    refine pk_le 5 5 (fun _ => ?_) (fun z => absurd z (by omega))
    cases n
    · have z : ¬ i < j := of_decide_eq_false hn.symm
      exact br_t rfl (gv_l500 false false (decide_eq_false (by omega)).symm hn I hp)
    · refine br_f gv_10 (pk_le j (i + 1) (fun e => ?_) (fun e => ?_) rfl (nI_1 i))
      · exact gv_l500 false true (decide_eq_false (by omega)).symm hn I hp
      · exact gv_l500 true true (decide_eq_true e).symm hn I hp
  · intro m k s hk I hw
    have H : ∀ kn' a3' a4', gv_ok i j 9 kn' a1 a2 a3' a4' → wL_lawOf_353 post mc ms (nI i) (nI j) (nI x) (gv_b n) (gv_tw (nI i) (nI j)) kc ks m 1 (nI (k + 1)) (nI 9) kn' a1 a2 a3' a4' := fun kn' a3' a4' h => hw (kn', a3', a4') h
    have D := gv_F4 i hi j hj k hk
    unfold gv_due at D
    refine pk_le 5 k (fun z => absurd z (by omega)) (fun _ => ?_)
    cases n
    · have z : ¬ i < j := of_decide_eq_false hn.symm
      rw [if_pos (nI_le (by omega) (by omega))] at D
      refine br_t rfl (br_c (fun e => br_c (fun e2 => ?_) (fun e2 => ?_)) (fun e => ?_))
      · rw [if_pos e, if_pos e2] at D
        exact gv_l399 I hx hk D.symm H
      · rw [if_pos e, if_neg e2] at D
        exact gv_l399 I hx hk D.symm H
      · rw [if_neg e] at D
        exact gv_l399 I hx hk D.symm H
    · have z : i < j := of_decide_eq_true hn.symm
      rw [if_neg (nI_ge z (by omega))] at D
      exact br_f gv_10 (gv_order (gv_l399 I hx hk D.symm H))
theorem gv_l322 {post : Int32 → St0 → Prop} {mc ms kc ks : Nat} {i j x : Nat} {kn : Int32} {a1 a2 a3 a4 : Nat → Int32} (n : Bool) (hn : n = decide (i < j)) (hx : x < 5) (ok : gv_ok i j 9 kn a1 a2 a3 a4) (hp : post 1 ()) : wL_lawOf_322 post mc ms (nI i) (nI j) (nI x) 1 (gv_b n) kc ks (nI 9) kn a1 a2 a3 a4 := by
  have L := gv_l353 (mc := mc) (ms := ms) (kc := kc) (ks := ks) n hn hx ok hp
  unfold gv_tw at L
  unfold wL_lawOf_322
  refine br_c (fun e => nm_e ?_) (fun e => nm_e ?_)
  · rw [if_pos e] at L
    exact L
  · rw [if_neg e] at L
    exact L
theorem gv_l308 {post : Int32 → St0 → Prop} {mc ms kc ks : Nat} {i j x : Nat} {kn : Int32} {a1 a2 a3 a4 : Nat → Int32} (hx : x < 5) (ok : gv_ok i j 9 kn a1 a2 a3 a4) (hp : post 1 ()) : wL_lawOf_308 post mc ms (nI i) (nI j) (nI x) 1 kc ks (nI 9) kn a1 a2 a3 a4 := by
  have hi : i < 5 := ok.1
  have hj : j < 5 := ok.2.1
  unfold wL_lawOf_308
  refine pk_le j i (fun e => ?_) (fun e => ?_)
  · exact gv_l322 false (decide_eq_false (by omega)).symm hx ok hp
  · exact gv_l322 true (decide_eq_true e).symm hx ok hp
theorem gv_l38x {post : Int32 → St0 → Prop} {mc ms kc ks n : Nat} {i j x : Nat} {kn : Int32} {a1 a2 a3 a4 : Nat → Int32} (hx : x < 5) (ok : gv_ok i j 5 kn a1 a2 a3 a4) (hp : post 1 ()) : wL_lawOf_38 post mc ms (nI i) (nI j) (nI x) kc ks (n + 1) 1 (nI 5) (nI 5) kn a1 a2 a3 a4 := by
  have hi : i < 5 := ok.1
  have hj : j < 5 := ok.2.1
  obtain ⟨f1, f2, f3, f4, f5, f6, f7, f8, _, _⟩ := gv_F8 i hi j hj
  obtain ⟨g1, g2, g3, g4, g5⟩ := gv_F2 i hi j hj
  obtain ⟨k1, k2, k3⟩ := gv_F3 i hi j hj x hx
  refine pk_le 5 5 (fun _ => ?_) (fun z => absurd z (by omega))
  refine gv_add (c := 5) ok (by omega) f1 f2 (fun p1 p2 ok1 => ?_)
  refine gv_add (c := 6) ok1 (by omega) f3 f4 (fun q1 q2 ok2 => ?_)
  refine gv_add (c := 7) ok2 (by omega) f5 f6 (fun r1 r2 ok3 => ?_)
  refine gv_add (c := 8) ok3 (by omega) f7 f8 (fun s1 s2 ok4 => ?_)
  refine br_f gv_10 (br_t rfl (br_t rfl (br_t rfl (br_t rfl ?_))))
  refine gv_opV (c := 9) (p := 1) (q := 5) (v := 1) ok4 (by omega) (by omega) (by rw [g1]; rfl) (fun kn1 b3 b4 ok5 => br_f gv_10 ?_)
  refine gv_opV (c := 9) (p := 6) (q := 2) (v := 1) ok5 (by omega) (by omega) (by rw [g2]; rfl) (fun kn2 c3 c4 ok6 => br_f gv_10 ?_)
  refine gv_opV (c := 9) (p := 7) (q := 5) (v := 0) ok6 (by omega) (by omega) (by rw [g3]; rfl) (fun kn3 d3 d4 ok7 => br_t rfl ?_)
  refine gv_csV (c := 9) (p := 7) (q := 7) (r := 1) ok7 (by omega) (by omega) (by omega) g4 (fun kn4 e3 e4 ok8 => br_t rfl ?_)
  refine gv_csV (c := 9) (p := 7) (q := 5) (r := 0) ok8 (by omega) (by omega) (by omega) g3 (fun kn5 h3 h4 ok9 => br_t rfl ?_)
  refine gv_cpV (c := 9) (p := 7) (r := 0) ok9 (by omega) (by omega) g5 (fun kn6 l3 l4 ok10 => br_t rfl ?_)
  refine gv_csV (c := 9) (p := x) (q := 6) (r := 0) ok10 (by omega) (by omega) (by omega) k1 (fun kn7 m3 m4 ok11 => gv_order (br_t rfl ?_))
  refine gv_aboveV (c := 9) (p := x) ok11 (by omega) k2 (fun kn8 n3 n4 ok12 => gv_lawAbove (br_t rfl ?_))
  refine gv_cpV (c := 9) (p := 7) (r := x) ok12 (by omega) (by omega) k3 (fun kn9 o3 o4 ok13 => gv_order (br_t rfl ?_))
  exact gv_l308 hx ok13 hp
theorem gv_l38s {post : Int32 → St0 → Prop} {mc ms kc ks n : Nat} {i j x k : Nat} {kn : Int32} {a1 a2 a3 a4 : Nat → Int32} (hx : x < 5) (hk : k < 5) (ok : gv_ok i j k kn a1 a2 a3 a4) (hw : ∀ kn' a1' a2' a3' a4', gv_ok i j (k + 1) kn' a1' a2' a3' a4' → wL_lawOf_38 post mc ms (nI i) (nI j) (nI x) kc ks n 1 (nI (k + 1)) (nI (k + 1)) kn' a1' a2' a3' a4') : wL_lawOf_38 post mc ms (nI i) (nI j) (nI x) kc ks (n + 1) 1 (nI k) (nI k) kn a1 a2 a3 a4 := by
  have hi : i < 5 := ok.1
  have hj : j < 5 := ok.2.1
  obtain ⟨f1, f2, f3, f4, f5⟩ := (gv_F1 i hi j hj k hk).resolve_left (by have := ok.2.2.1; omega)
  refine pk_le 5 k (fun z => absurd z (by omega)) (fun _ => ?_)
  refine gv_add (c := k) ok (by omega) f1 f2 (fun p1 p2 ok1 => br_f gv_10 (br_t rfl ?_))
  refine gv_depV (c := k + 1) (p := k) ok1 (by omega) f3 (br_t rfl ?_)
  refine gv_wins0V (c := k + 1) (p := k) (v := 1) ok1 (by omega) (by rw [f4]; rfl) (fun kn1 b3 b4 ok2 => br_f gv_10 ?_)
  refine gv_wins1V (c := k + 1) (p := k) (v := 0) ok2 (by omega) (by rw [f5]; rfl) (fun kn2 c3 c4 ok3 => br_t rfl (nm_r (nI_1 k) ?_))
  exact hw _ _ _ _ _ ok3
theorem gv_l38 {post : Int32 → St0 → Prop} {mc ms kc ks : Nat} {i j x : Nat} {kn : Int32} {a1 a2 a3 a4 : Nat → Int32} (hx : x < 5) (ok : gv_ok i j 1 kn a1 a2 a3 a4) (hp : post 1 ()) : ∃ fu : Nat, wL_lawOf_38 post mc ms (nI i) (nI j) (nI x) kc ks fu 1 (nI 1) (nI 1) kn a1 a2 a3 a4 :=
  pk_loop (σ := Int32 × (Nat → Int32) × (Nat → Int32) × (Nat → Int32) × (Nat → Int32)) (fun n k s => wL_lawOf_38 post mc ms (nI i) (nI j) (nI x) kc ks n 1 (nI k) (nI k) s.1 s.2.1 s.2.2.1 s.2.2.2.1 s.2.2.2.2) (fun k s => gv_ok i j k s.1 s.2.1 s.2.2.1 s.2.2.2.1 s.2.2.2.2) 5 1 (kn, a1, a2, a3, a4) (by omega) ok
    (fun n s I => gv_l38x hx I hp)
    (fun n k s hk I hw => gv_l38s hx hk I (fun kn' a1' a2' a3' a4' h => hw (kn', a1', a2', a3', a4') h))
theorem gv_mod5 (p : Int32) : ∃ i : Nat, i < 5 ∧ (p &&& 65535) - (p &&& 65535) / 5 * 5 = nI i := by
  obtain ⟨k, hk, e⟩ := pk_andE p (m := 65535) 16 (by decide)
  rw [e]
  exact ⟨k % 5, by omega, pk_rem (d := 5) (by omega) (by omega) (by omega)⟩
theorem gv_ok1 {i j : Nat} (hi : i < 5) (hj : j < 5) : gv_ok i j 1 0 (fun _ => 0) (fun _ => 0) (fun _ => 0) (fun _ => 0) := by
  refine ⟨hi, hj, by omega, by omega, fun y hy => ?_, fun y hy => ?_, fun z => absurd rfl z⟩
  · rw [show y = 0 by omega]
    rfl
  · rw [show y = 0 by omega]
    rfl
theorem gv_lawOf {post : Int32 → St0 → Prop} {p0 p1 p2 : Int32} (hp : post 1 ()) : wpL_lawOf post 10 3000 () p0 p1 p2 := by
  obtain ⟨i, hi, ei⟩ := gv_mod5 p0
  obtain ⟨j, hj, ej⟩ := gv_mod5 p1
  obtain ⟨x, hx, ex⟩ := gv_mod5 p2
  have n5 : ¬ (5 : Int32) = 0 := by decide
  unfold wpL_lawOf
  refine ⟨by omega, by omega, 4, 2020, by omega, by omega, ?_⟩
  unfold wpX_init
  dsimp only
  refine ⟨by omega, by omega, by omega, by omega, by omega, by omega, by omega, by omega, n5, nm_r ei ⟨n5, nm_r ej ⟨n5, nm_r ex ?_⟩⟩⟩
  exact gv_l38 hx (gv_ok1 hi hj) hp
theorem gv_cellAt {post : Int32 → Prop} {L : Nat} {xs : Nat → Int32} {u : St0} (k : Nat) (hL : L ≤ 3) (hk : k ≤ 3) (h : ∀ y, post y) : wpL_cellAt post L xs u (nI k) :=
  pk_le L k (fun _ => h 0) (fun z => ⟨pk_in k L z, h _⟩)
end
section
theorem i_vc (xs : Nat → Int32) (L : Nat) (hL : L ≤ 3) : wpL_law (fun r => r = 1) L xs := by
  unfold wpL_law
  refine gv_cellAt 0 hL (by omega) (fun r1 => ?_)
  refine gv_cellAt 1 hL (by omega) (fun r2 => ?_)
  refine gv_cellAt 2 hL (by omega) (fun r3 => ?_)
  exact ⟨10, 3000, by omega, by omega, gv_lawOf rfl⟩
end
