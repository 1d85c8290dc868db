section
/-- one row of the elimination: (x * p - f * y) / b, place by place -/
def ps_comb (p f b : Int) (x y : List Int) : List Int := List.zipWith (fun u v => (u * p - f * v) / b) x y
def ps_at (M : List (List Int)) (s c : Nat) : Int := (M.getD s []).getD c 0
def ps_red (M : List (List Int)) (r k : Nat) (b : Int) : List (List Int) := M.set r (ps_comb (ps_at M k k) (ps_at M r k) b (M.getD r []) (M.getD k []))
/-- round k with divisor b: the matrix ahead of row r -/
def ps_in (M : List (List Int)) (k : Nat) (b : Int) : Nat → List (List Int)
  | 0 => M
  | r + 1 => if r = k then ps_in M k b r else ps_red (ps_in M k b r) r k b
/-- the matrix and the divisor ahead of round k -/
def ps_out (M : List (List Int)) : Nat → List (List Int) × Int
  | 0 => (M, 1)
  | k + 1 => (ps_in (ps_out M k).1 k (ps_out M k).2 4, ps_at (ps_in (ps_out M k).1 k (ps_out M k).2 4) k k)
/-- the equations: four coefficients, and the right side as a form in the four rewards -/
def ps_m0 (t : List Nat) : List (List Int) := (List.range 4).map fun s => ((List.range 4).map fun c => (if s = c then (8 : Int) else 0) - (if c = t.getD s 0 then 4 else 0)) ++ ((List.range 4).map fun j => if j = s then (8 : Int) else 0)
/-- a step of the elimination divides even and stays small -/
def ps_good (M : List (List Int)) (r k : Nat) (b : Int) : Bool :=
  decide (0 < b) && decide (b < 1048576) && decide (M.length = 4) && (List.range 8).all fun c => decide ((M.getD r []).getD c 0 * ps_at M k k - ps_at M r k * (M.getD k []).getD c 0 = b * ((ps_red M r k b).getD r []).getD c 0) && decide (-1048576 < ((ps_red M r k b).getD r []).getD c 0) && decide (((ps_red M r k b).getD r []).getD c 0 < 1048576)
/-- twice a form and one place more -/
def ps_dbl (l : List Int) (a : Nat) : List Int := (List.range 4).map fun j => 2 * l.getD j 0 + if j = a then 1 else 0
/-- the law's first walk: where it stands, and the sum as a form in the rewards -/
def ps_w1 (t : List Nat) (s : Nat) : Nat → Nat × List Int
  | 0 => (s, [0, 0, 0, 0])
  | i + 1 => (t.getD (ps_w1 t s i).1 0, ps_dbl (ps_w1 t s i).2 (ps_w1 t s i).1)
/-- the law's second walk, round the cycle from g -/
def ps_w2 (t : List Nat) (g : Nat) : Nat → Nat × List Int × Nat
  | 0 => (g, [0, 0, 0, 0], 0)
  | i + 1 => if i = (ps_w2 t g i).2.2 then (t.getD (ps_w2 t g i).1 0, ps_dbl (ps_w2 t g i).2.1 (ps_w2 t g i).1, if t.getD (ps_w2 t g i).1 0 = g then (ps_w2 t g i).2.2 else (ps_w2 t g i).2.2 + 1) else ps_w2 t g i
/-- the law's fraction from state s is the solution's -/
def ps_fin (t : List Nat) (s : Nat) : Bool :=
  decide (0 < (ps_out (ps_m0 t) 4).2) && decide ((ps_out (ps_m0 t) 4).2 < 1048576) && decide ((ps_w2 t (ps_w1 t s 4).1 4).2.2 < 4) && (List.range 4).all fun j =>
    decide (((ps_w1 t s 4).2.getD j 0 * 2 * (2 ^ ((ps_w2 t (ps_w1 t s 4).1 4).2.2 + 1) - 1) + (ps_w2 t (ps_w1 t s 4).1 4).2.1.getD j 0 * 2) * (ps_out (ps_m0 t) 4).2 = ((ps_out (ps_m0 t) 4).1.getD s []).getD (4 + j) 0 * (16 * (2 ^ ((ps_w2 t (ps_w1 t s 4).1 4).2.2 + 1) - 1)))
    && decide (-1048576 < ((ps_out (ps_m0 t) 4).1.getD s []).getD (4 + j) 0) && decide (((ps_out (ps_m0 t) 4).1.getD s []).getD (4 + j) 0 < 1048576)
def ps_all (t : List Nat) : Bool :=
  ((List.range 4).all fun k => (List.range 4).all fun r => decide (r = k) || ps_good (ps_in (ps_out (ps_m0 t) k).1 k (ps_out (ps_m0 t) k).2 r) r k (ps_out (ps_m0 t) k).2) && (List.range 4).all fun s => ps_fin t s
theorem ps_c00 : ∀ c, c < 4 → ∀ d, d < 4 → ps_all [0, 0, c, d] = true := by decide +kernel
theorem ps_c01 : ∀ c, c < 4 → ∀ d, d < 4 → ps_all [0, 1, c, d] = true := by decide +kernel
theorem ps_c02 : ∀ c, c < 4 → ∀ d, d < 4 → ps_all [0, 2, c, d] = true := by decide +kernel
theorem ps_c03 : ∀ c, c < 4 → ∀ d, d < 4 → ps_all [0, 3, c, d] = true := by decide +kernel
theorem ps_c10 : ∀ c, c < 4 → ∀ d, d < 4 → ps_all [1, 0, c, d] = true := by decide +kernel
theorem ps_c11 : ∀ c, c < 4 → ∀ d, d < 4 → ps_all [1, 1, c, d] = true := by decide +kernel
theorem ps_c12 : ∀ c, c < 4 → ∀ d, d < 4 → ps_all [1, 2, c, d] = true := by decide +kernel
theorem ps_c13 : ∀ c, c < 4 → ∀ d, d < 4 → ps_all [1, 3, c, d] = true := by decide +kernel
theorem ps_c20 : ∀ c, c < 4 → ∀ d, d < 4 → ps_all [2, 0, c, d] = true := by decide +kernel
theorem ps_c21 : ∀ c, c < 4 → ∀ d, d < 4 → ps_all [2, 1, c, d] = true := by decide +kernel
theorem ps_c22 : ∀ c, c < 4 → ∀ d, d < 4 → ps_all [2, 2, c, d] = true := by decide +kernel
theorem ps_c23 : ∀ c, c < 4 → ∀ d, d < 4 → ps_all [2, 3, c, d] = true := by decide +kernel
theorem ps_c30 : ∀ c, c < 4 → ∀ d, d < 4 → ps_all [3, 0, c, d] = true := by decide +kernel
theorem ps_c31 : ∀ c, c < 4 → ∀ d, d < 4 → ps_all [3, 1, c, d] = true := by decide +kernel
theorem ps_c32 : ∀ c, c < 4 → ∀ d, d < 4 → ps_all [3, 2, c, d] = true := by decide +kernel
theorem ps_c33 : ∀ c, c < 4 → ∀ d, d < 4 → ps_all [3, 3, c, d] = true := by decide +kernel
theorem ps_chk : ∀ a, a < 4 → ∀ b, b < 4 → ∀ c, c < 4 → ∀ d, d < 4 → ps_all [a, b, c, d] = true :=
  fun _ ha _ hb => co_4 (P := fun a => ∀ b, b < 4 → ∀ c, c < 4 → ∀ d, d < 4 → ps_all [a, b, c, d] = true)
    (fun _ h => co_4 (P := fun b => ∀ c, c < 4 → ∀ d, d < 4 → ps_all [0, b, c, d] = true) ps_c00 ps_c01 ps_c02 ps_c03 h)
    (fun _ h => co_4 (P := fun b => ∀ c, c < 4 → ∀ d, d < 4 → ps_all [1, b, c, d] = true) ps_c10 ps_c11 ps_c12 ps_c13 h)
    (fun _ h => co_4 (P := fun b => ∀ c, c < 4 → ∀ d, d < 4 → ps_all [2, b, c, d] = true) ps_c20 ps_c21 ps_c22 ps_c23 h)
    (fun _ h => co_4 (P := fun b => ∀ c, c < 4 → ∀ d, d < 4 → ps_all [3, b, c, d] = true) ps_c30 ps_c31 ps_c32 ps_c33 h)
    ha _ hb
end
section
/-- a form's value -/
def ps_ev (ρ : Nat → Int) (l : List Int) : Int := l.getD 0 0 * ρ 0 + l.getD 1 0 * ρ 1 + l.getD 2 0 * ρ 2 + l.getD 3 0 * ρ 3
/-- the value of a row's place: a coefficient, or the right side -/
def ps_val (ρ : Nat → Int) (x : List Int) (c : Nat) : Int := if c < 4 then x.getD c 0 else x.getD 4 0 * ρ 0 + x.getD 5 0 * ρ 1 + x.getD 6 0 * ρ 2 + x.getD 7 0 * ρ 3
theorem ps_valL {ρ : Nat → Int} {x : List Int} {c : Nat} (h : c < 4) : ps_val ρ x c = x.getD c 0 := if_pos h
theorem ps_val4 {ρ : Nat → Int} {x : List Int} : ps_val ρ x 4 = x.getD 4 0 * ρ 0 + x.getD 5 0 * ρ 1 + x.getD 6 0 * ρ 2 + x.getD 7 0 * ρ 3 := rfl
theorem ps_goodE {M : List (List Int)} {r k : Nat} {b : Int} (h : ps_good M r k b = true) : 0 < b ∧ b < 1048576 ∧ M.length = 4 ∧ ∀ c, c < 8 →
    (M.getD r []).getD c 0 * ps_at M k k - ps_at M r k * (M.getD k []).getD c 0 = b * ((ps_red M r k b).getD r []).getD c 0 ∧ -1048576 < ((ps_red M r k b).getD r []).getD c 0 ∧ ((ps_red M r k b).getD r []).getD c 0 < 1048576 := by
  unfold ps_good at h
  simp only [Bool.and_eq_true, decide_eq_true_eq, List.all_eq_true, List.mem_range] at h
  exact ⟨h.1.1.1, h.1.1.2, h.1.2, fun c hc => ⟨(h.2 c hc).1.1, (h.2 c hc).1.2, (h.2 c hc).2⟩⟩
theorem ps_mb {x y : Int} (h1 : -1048576 < x) (h2 : x < 1048576) (h3 : -20 ≤ y) (h4 : y ≤ 20) : -20971520 ≤ x * y ∧ x * y ≤ 20971520 := by
  have e := Int.natAbs_mul x y
  have e2 : x.natAbs * y.natAbs ≤ 1048576 * 20 := Nat.mul_le_mul (by omega) (by omega)
  omega
theorem ps_lin4 {x0 x1 x2 x3 y0 y1 y2 y3 z0 z1 z2 z3 p f b u0 u1 u2 u3 : Int} (h0 : x0 * p - f * y0 = b * z0) (h1 : x1 * p - f * y1 = b * z1) (h2 : x2 * p - f * y2 = b * z2) (h3 : x3 * p - f * y3 = b * z3) :
    (x0 * u0 + x1 * u1 + x2 * u2 + x3 * u3) * p - f * (y0 * u0 + y1 * u1 + y2 * u2 + y3 * u3) = b * (z0 * u0 + z1 * u1 + z2 * u2 + z3 * u3) := by
  have e : (x0 * u0 + x1 * u1 + x2 * u2 + x3 * u3) * p - f * (y0 * u0 + y1 * u1 + y2 * u2 + y3 * u3) = (x0 * p - f * y0) * u0 + (x1 * p - f * y1) * u1 + (x2 * p - f * y2) * u2 + (x3 * p - f * y3) * u3 := by grind
  rw [e, h0, h1, h2, h3]
  grind
theorem ps_fin4 {s0 s1 s2 s3 r0 r1 r2 r3 x0 x1 x2 x3 P D U u0 u1 u2 u3 : Int} (h0 : (s0 * 2 * P + r0 * 2) * D = x0 * U) (h1 : (s1 * 2 * P + r1 * 2) * D = x1 * U) (h2 : (s2 * 2 * P + r2 * 2) * D = x2 * U) (h3 : (s3 * 2 * P + r3 * 2) * D = x3 * U) :
    ((s0 * u0 + s1 * u1 + s2 * u2 + s3 * u3) * 2 * P + (r0 * u0 + r1 * u1 + r2 * u2 + r3 * u3) * 2) * D = (x0 * u0 + x1 * u1 + x2 * u2 + x3 * u3) * U := by
  have e : ((s0 * u0 + s1 * u1 + s2 * u2 + s3 * u3) * 2 * P + (r0 * u0 + r1 * u1 + r2 * u2 + r3 * u3) * 2) * D = ((s0 * 2 * P + r0 * 2) * D) * u0 + ((s1 * 2 * P + r1 * 2) * D) * u1 + ((s2 * 2 * P + r2 * 2) * D) * u2 + ((s3 * 2 * P + r3 * 2) * D) * u3 := by grind
  rw [e, h0, h1, h2, h3]
  grind
/-- the rewards are small -/
def ps_sm (ρ : Nat → Int) : Prop := ∀ s, s < 4 → -20 ≤ ρ s ∧ ρ s ≤ 20
theorem ps_vb {ρ : Nat → Int} (hρ : ps_sm ρ) {z : List Int} (h : ∀ j, j < 4 → -1048576 < z.getD (4 + j) 0 ∧ z.getD (4 + j) 0 < 1048576) : -100000000 < ps_val ρ z 4 ∧ ps_val ρ z 4 < 100000000 := by
  rw [ps_val4]
  have m0 := ps_mb (h 0 (by omega)).1 (h 0 (by omega)).2 (hρ 0 (by omega)).1 (hρ 0 (by omega)).2
  have m1 := ps_mb (h 1 (by omega)).1 (h 1 (by omega)).2 (hρ 1 (by omega)).1 (hρ 1 (by omega)).2
  have m2 := ps_mb (h 2 (by omega)).1 (h 2 (by omega)).2 (hρ 2 (by omega)).1 (hρ 2 (by omega)).2
  have m3 := ps_mb (h 3 (by omega)).1 (h 3 (by omega)).2 (hρ 3 (by omega)).1 (hρ 3 (by omega)).2
  simp only [Nat.add_zero, show 4 + 1 = 5 from rfl, show 4 + 2 = 6 from rfl, show 4 + 3 = 7 from rfl] at m0 m1 m2 m3
  omega
theorem ps_goodV {ρ : Nat → Int} (hρ : ps_sm ρ) {M : List (List Int)} {r k : Nat} {b : Int} (h : ps_good M r k b = true) (c : Nat) (hc : c < 5) :
    ps_val ρ (M.getD r []) c * ps_at M k k - ps_at M r k * ps_val ρ (M.getD k []) c = b * ps_val ρ ((ps_red M r k b).getD r []) c ∧ -100000000 < ps_val ρ ((ps_red M r k b).getD r []) c ∧ ps_val ρ ((ps_red M r k b).getD r []) c < 100000000 := by
  obtain ⟨_, _, _, h8⟩ := ps_goodE h
  by_cases h4 : c < 4
  · rw [ps_valL h4, ps_valL h4, ps_valL h4]
    have g := h8 c (by omega)
    exact ⟨g.1, by have := g.2.1; omega, by have := g.2.2; omega⟩
  · have e : c = 4 := by omega
    subst e
    refine ⟨?_, ps_vb hρ (fun j hj => (h8 (4 + j) (by omega)).2)⟩
    rw [ps_val4, ps_val4, ps_val4]
    exact ps_lin4 (h8 4 (by omega)).1 (h8 5 (by omega)).1 (h8 6 (by omega)).1 (h8 7 (by omega)).1
/-- an even division of longs -/
theorem ps_div {x y b : Int} (h0 : 0 < b) (hb : b < 1048576) (h1 : -100000000 < y) (h2 : y < 100000000) (h : x = b * y) : Int64.ofInt x / Int64.ofInt b = Int64.ofInt y := by
  have e := Int.natAbs_mul b y
  have e2 : b.natAbs * y.natAbs ≤ 1048576 * 100000000 := Nat.mul_le_mul (by omega) (by omega)
  have m1 : Int64.minValue.toInt = -9223372036854775808 := by decide
  have m2 : Int64.maxValue.toInt = 9223372036854775807 := by decide
  rw [← Int64.ofInt_tdiv (by rw [m1]; omega) (by rw [m2]; omega) (by rw [m1]; omega) (by rw [m2]; omega), h, Int.mul_tdiv_cancel_left _ (by omega)]
theorem ps_setE {M : List (List Int)} {r : Nat} {z : List Int} (h : r < M.length) : (M.set r z).getD r [] = z := by
  simp [List.getD_eq_getElem?_getD, List.getElem?_set, h]
theorem ps_setN {M : List (List Int)} {r s : Nat} {z : List Int} (h : s ≠ r) : (M.set r z).getD s [] = M.getD s [] := by
  simp [List.getD_eq_getElem?_getD, List.getElem?_set, Ne.symm h]
theorem ps_redN {M : List (List Int)} {r k s : Nat} {b : Int} (h : s ≠ r) : (ps_red M r k b).getD s [] = M.getD s [] := ps_setN h
theorem ps_dblE {ρ : Nat → Int} {l : List Int} {a : Nat} (h : a < 4) : ps_ev ρ (ps_dbl l a) = 2 * ps_ev ρ l + ρ a := by
  have e : ∀ j, j < 4 → (ps_dbl l a).getD j 0 = 2 * l.getD j 0 + if j = a then 1 else 0 := fun j hj => by
    unfold ps_dbl
    rcases j with _ | _ | _ | _ | j
    · rfl
    · rfl
    · rfl
    · rfl
    · omega
  unfold ps_ev
  rw [e 0 (by omega), e 1 (by omega), e 2 (by omega), e 3 (by omega)]
  rcases a with _ | _ | _ | _ | a
  · simp; grind
  · simp; grind
  · simp; grind
  · simp; grind
  · omega
theorem ps_allE {t : List Nat} (h : ps_all t = true) : (∀ k, k < 4 → ∀ r, r < 4 → r ≠ k → ps_good (ps_in (ps_out (ps_m0 t) k).1 k (ps_out (ps_m0 t) k).2 r) r k (ps_out (ps_m0 t) k).2 = true) ∧ ∀ s, s < 4 → ps_fin t s = true := by
  unfold ps_all at h
  simp only [Bool.and_eq_true, Bool.or_eq_true, decide_eq_true_eq, List.all_eq_true, List.mem_range] at h
  exact ⟨fun k hk r hr hn => (h.1 k hk r hr).resolve_left hn, h.2⟩
theorem ps_finE {t : List Nat} {s : Nat} (h : ps_fin t s = true) : 0 < (ps_out (ps_m0 t) 4).2 ∧ (ps_out (ps_m0 t) 4).2 < 1048576 ∧ (ps_w2 t (ps_w1 t s 4).1 4).2.2 < 4 ∧ ∀ j, j < 4 →
    ((ps_w1 t s 4).2.getD j 0 * 2 * (2 ^ ((ps_w2 t (ps_w1 t s 4).1 4).2.2 + 1) - 1) + (ps_w2 t (ps_w1 t s 4).1 4).2.1.getD j 0 * 2) * (ps_out (ps_m0 t) 4).2 = ((ps_out (ps_m0 t) 4).1.getD s []).getD (4 + j) 0 * (16 * (2 ^ ((ps_w2 t (ps_w1 t s 4).1 4).2.2 + 1) - 1))
    ∧ -1048576 < ((ps_out (ps_m0 t) 4).1.getD s []).getD (4 + j) 0 ∧ ((ps_out (ps_m0 t) 4).1.getD s []).getD (4 + j) 0 < 1048576 := by
  unfold ps_fin at h
  simp only [Bool.and_eq_true, decide_eq_true_eq, List.all_eq_true, List.mem_range] at h
  exact ⟨h.1.1.1, h.1.1.2, h.1.2, fun j hj => ⟨(h.2 j hj).1.1, (h.2 j hj).1.2, (h.2 j hj).2⟩⟩
/-- the law's fraction and the solution's -/
theorem ps_finV {ρ : Nat → Int} (hρ : ps_sm ρ) {t : List Nat} {s : Nat} (h : ps_fin t s = true) :
    (ps_ev ρ (ps_w1 t s 4).2 * 2 * (2 ^ ((ps_w2 t (ps_w1 t s 4).1 4).2.2 + 1) - 1) + ps_ev ρ (ps_w2 t (ps_w1 t s 4).1 4).2.1 * 2) * (ps_out (ps_m0 t) 4).2 = ps_val ρ ((ps_out (ps_m0 t) 4).1.getD s []) 4 * (16 * (2 ^ ((ps_w2 t (ps_w1 t s 4).1 4).2.2 + 1) - 1))
    ∧ -100000000 < ps_val ρ ((ps_out (ps_m0 t) 4).1.getD s []) 4 ∧ ps_val ρ ((ps_out (ps_m0 t) 4).1.getD s []) 4 < 100000000 := by
  obtain ⟨_, _, _, h4⟩ := ps_finE h
  refine ⟨?_, ps_vb hρ (fun j hj => (h4 j hj).2)⟩
  unfold ps_ev
  rw [ps_val4]
  exact ps_fin4 (h4 0 (by omega)).1 (h4 1 (by omega)).1 (h4 2 (by omega)).1 (h4 3 (by omega)).1
theorem ps_w2le (t : List Nat) (g i : Nat) : (ps_w2 t g i).2.2 ≤ i := by
  induction i with
  | zero => exact Nat.le_refl 0
  | succ i ih =>
    unfold ps_w2
    split
    · dsimp only
      split <;> omega
    · omega
theorem ps_w1lt {t : List Nat} {s : Nat} (hs : s < 4) (ht : ∀ j, j < 4 → t.getD j 0 < 4) (i : Nat) : (ps_w1 t s i).1 < 4 := by
  induction i with
  | zero => exact hs
  | succ i ih => exact ht _ ih
theorem ps_w2lt {t : List Nat} {g : Nat} (hg : g < 4) (ht : ∀ j, j < 4 → t.getD j 0 < 4) (i : Nat) : (ps_w2 t g i).1 < 4 := by
  induction i with
  | zero => exact hg
  | succ i ih =>
    unfold ps_w2
    split
    · exact ht _ ih
    · exact ih
end
section
/-- the array of the equations holds a matrix -/
def ps_R (ρ : Nat → Int) (M : List (List Int)) (a : Nat → Int64) : Prop := ∀ s, s < 4 → ∀ c, c < 5 → a (5 * s + c) = Int64.ofInt (ps_val ρ (M.getD s []) c)
/-- the object's actions: rewards R, and all shares of action k to state T k -/
def ps_K (R : Nat → Int) (T : Nat → Nat) (a1 a2 : Nat → Int32) : Prop := ∀ k, k < 8 → (-20 ≤ R k ∧ R k ≤ 20 ∧ T k < 4 ∧ a1 k = Int32.ofInt (R k)) ∧ ∀ c, c < 4 → a2 (4 * k + c) = if c = T k then 4 else 0
/-- the action of policy p in state s -/
def ps_q (p s : Nat) : Nat := 2 * s + p / 2 ^ s % 2
def ps_t (T : Nat → Nat) (p : Nat) : List Nat := [T (ps_q p 0), T (ps_q p 1), T (ps_q p 2), T (ps_q p 3)]
theorem ps_qI : ∀ p, p < 16 → ∀ s, s < 4 → (2 * nI s) + ((nI p >>> (nI s &&& 31)) &&& 1) = nI (ps_q p s) := by decide +kernel
theorem ps_q8 : ∀ p, p < 16 → ∀ s, s < 4 → ps_q p s < 8 := by decide +kernel
theorem ps_tD {T : Nat → Nat} {p s : Nat} (hs : s < 4) : (ps_t T p).getD s 0 = T (ps_q p s) := by
  rcases s with _ | _ | _ | _ | s
  · rfl
  · rfl
  · rfl
  · rfl
  · omega
theorem ps_ix (s c : Nat) : (5 * nI s) + nI c = nI (5 * s + c) := by
  rw [show (5 : Int32) = nI 5 from rfl, pk_mul, nI_add]
theorem ps_ixR (s : Nat) : (5 * nI s) + 4 = nI (5 * s + 4) := ps_ix s 4
theorem ps_ix4 (s c : Nat) : (4 * nI s) + nI c = nI (4 * s + c) := by
  rw [show (4 : Int32) = nI 4 from rfl, pk_mul, nI_add]
theorem ps_m0L {ρ : Nat → Int} {T : Nat → Nat} {p s c : Nat} (hs : s < 4) (hc : c < 4) : ps_val ρ ((ps_m0 (ps_t T p)).getD s []) c = (if s = c then 8 else 0) - (if c = T (ps_q p s) then 4 else 0) := by
  rw [ps_valL hc, ← ps_tD (T := T) (p := p) hs]
  rcases s with _ | _ | _ | _ | s
  · rcases c with _ | _ | _ | _ | c
    · rfl
    · rfl
    · rfl
    · rfl
    · omega
  · rcases c with _ | _ | _ | _ | c
    · rfl
    · rfl
    · rfl
    · rfl
    · omega
  · rcases c with _ | _ | _ | _ | c
    · rfl
    · rfl
    · rfl
    · rfl
    · omega
  · rcases c with _ | _ | _ | _ | c
    · rfl
    · rfl
    · rfl
    · rfl
    · omega
  · omega
theorem ps_m0R {ρ : Nat → Int} {t : List Nat} {s : Nat} (hs : s < 4) : ps_val ρ ((ps_m0 t).getD s []) 4 = 8 * ρ s := by
  rcases s with _ | _ | _ | _ | s
  · show (8 : Int) * ρ 0 + 0 * ρ 1 + 0 * ρ 2 + 0 * ρ 3 = 8 * ρ 0
    omega
  · show (0 : Int) * ρ 0 + 8 * ρ 1 + 0 * ρ 2 + 0 * ρ 3 = 8 * ρ 1
    omega
  · show (0 : Int) * ρ 0 + 0 * ρ 1 + 8 * ρ 2 + 0 * ρ 3 = 8 * ρ 2
    omega
  · show (0 : Int) * ρ 0 + 0 * ρ 1 + 0 * ρ 2 + 8 * ρ 3 = 8 * ρ 3
    omega
  · omega
/-- a small int made long -/
theorem ps_lg {x : Int} (h1 : -2147483648 ≤ x) (h2 : x ≤ 2147483647) : (Int32.ofInt x).toInt64 = Int64.ofInt x :=
  Int32.toInt64_ofInt (by have m : Int32.minValue.toInt = -2147483648 := by decide
                          rw [m]; exact h1) (by have m : Int32.maxValue.toInt = 2147483647 := by decide
                                                rw [m]; exact h2)
theorem ps_fz (T c s : Nat) (z : Int64) (hz : z = Int64.ofInt (if s = c then 8 else 0)) : z - (if c = T then (4 : Int32) else 0).toInt64 = Int64.ofInt ((if s = c then 8 else 0) - (if c = T then 4 else 0)) := by
  rw [hz, Int64.ofInt_sub]
  congr 1
  split
  · decide
  · decide
/-- all the places below m are filled -/
def ps_J (G : Nat → Int64) (m : Nat) (a : Nat → Int64) : Prop := ∀ j, j < m → a j = G j
theorem ps_Jadd {G : Nat → Int64} {m m' : Nat} {a : Nat → Int64} {x : Int64} (h : ps_J G m a) (hx : x = G m) (hm : m' = m + 1) : ps_J G m' (vp_updL a m x) := by
  intro j hj
  by_cases e : j = m
  · rw [e, pk_uLs, hx]
  · rw [pk_uLn e]
    exact h j (by omega)
section
variable {f0 f1 f4 : Int64} {f2 f3 : Int32} {a1 a2 a7 : Nat → Int32} {a3 a4 a5 a6 : Nat → Int64}
theorem ps_fill {post : St1 → Prop} {R : Nat → Int} {T : Nat → Nat} {p : Nat} (hK : ps_K R T a1 a2) (hp : p < 16)
    (H : ∀ a, ps_R (fun s => R (ps_q p s)) (ps_m0 (ps_t T p)) a → post (f0, f1, f2, f3, f4, a1, a2, a, a4, a5, a6, a7)) : wpX_fillRows post (f0, f1, f2, f3, f4, a1, a2, a3, a4, a5, a6, a7) (nI p) := by
  have hG : ∃ G : Nat → Int64, ∀ s c, c < 5 → G (5 * s + c) = Int64.ofInt (ps_val (fun s => R (ps_q p s)) ((ps_m0 (ps_t T p)).getD s []) c) :=
    ⟨fun j => Int64.ofInt (ps_val (fun s => R (ps_q p s)) ((ps_m0 (ps_t T p)).getD (j / 5) []) (j % 5)), fun s c hc => by
      dsimp only
      rw [show (5 * s + c) / 5 = s by omega, show (5 * s + c) % 5 = c by omega]⟩
  obtain ⟨G, hG⟩ := hG
  unfold wpX_fillRows
  dsimp only
  refine pk_loop (fun n i s => wX_fillRows_2 post (nI p) f0 f1 f2 f3 f4 n (nI i) a1 a2 s a4 a5 a6 a7) (fun i s => ps_J G (5 * i) s) 4 0 a3 (by omega) (fun j hj => absurd hj (by omega)) ?_ ?_
  · intro n s h
    refine pk_le 4 4 (fun _ => H s (fun i hi c hc => ?_)) (fun z => absurd z (by omega))
    rw [h (5 * i + c) (by omega), hG i c hc]
  · intro n i s hi h hw
    refine pk_le 4 i (fun z => absurd z (by omega)) (fun _ => nm_r (ps_qI p hp i hi) ?_)
    have hq := ps_q8 p hp i hi
    obtain ⟨⟨r1, r2, r3, r4⟩, r5⟩ := hK _ hq
    refine pk_loop (fun m c s => wX_fillRows_20 post (wX_fillRows_2 post (nI p) f0 f1 f2 f3 f4 n) (nI p) (nI i) (nI (ps_q p i)) f0 f1 f2 f3 f4 m (nI c) a1 a2 s a4 a5 a6 a7) (fun c s => ps_J G (5 * i + c) s) 4 0 s (by omega) h ?_ ?_
    · intro m s h
      refine pk_le 4 4 (fun _ => ⟨pk_in (ps_q p i) 8 hq, pk_in (5 * i + 4) 20 (by omega) (ps_ix i 4), ?_⟩) (fun z => absurd z (by omega))
      refine nm_r (e' := vp_updL s (5 * i + 4) (G (5 * i + 4))) ?_ (nm_r (nI_1 i) (hw _ (ps_Jadd h rfl (by omega))))
      rw [pk_cl (5 * i + 4) (ps_ixR i), pk_cl (ps_q p i) rfl, r4, ps_lg (by omega) (by omega), hG i 4 (by omega), ps_m0R hi, Int64.ofInt_mul]
      rfl
    · intro m c s hc h hv
      have key : ∀ z : Int64, z = Int64.ofInt (if i = c then 8 else 0) → wX_fillRows_49 post (wX_fillRows_2 post (nI p) f0 f1 f2 f3 f4 n) (wX_fillRows_20 post (wX_fillRows_2 post (nI p) f0 f1 f2 f3 f4 n) (nI p) (nI i) (nI (ps_q p i)) f0 f1 f2 f3 f4 m) (nI p) (nI i) (nI (ps_q p i)) (nI c) z ((5 * nI i) + nI c) f0 f1 f2 f3 f4 a1 a2 s a4 a5 a6 a7 := by
        intro z hz
        unfold wX_fillRows_49
        refine ⟨pk_in (4 * ps_q p i + c) 32 (by omega) (ps_ix4 _ c), pk_in (5 * i + c) 20 (by omega) (ps_ix i c), ?_⟩
        refine nm_r (e' := vp_updL s (5 * i + c) (G (5 * i + c))) ?_ (nm_r (nI_1 c) (hv _ (ps_Jadd h rfl (by omega))))
        rw [pk_cl (5 * i + c) (ps_ix i c), pk_cl (4 * ps_q p i + c) (ps_ix4 _ c), r5 c hc, hG i c (by omega), ps_m0L hi hc, ps_fz _ c i z hz]
      refine pk_le 4 c (fun z => absurd z (by omega)) (fun _ => pk_eq i c (fun e => key 8 ?_) (fun e => key 0 ?_))
      · rw [if_pos e]
        decide
      · rw [if_neg e]
        decide
theorem ps_reduce {post : St1 → Prop} {ρ : Nat → Int} (hρ : ps_sm ρ) {M : List (List Int)} {r k : Nat} {b : Int} (hr : r < 4) (hk : k < 4) (hn : r ≠ k) (hg : ps_good M r k b = true) (hR : ps_R ρ M a3)
    (H : ∀ a, ps_R ρ (ps_red M r k b) a → post (f0, f1, f2, f3, f4, a1, a2, a, a4, a5, a6, a7)) : wpX_reduce post (f0, f1, f2, f3, f4, a1, a2, a3, a4, a5, a6, a7) (nI r) (nI k) (Int64.ofInt b) := by
  obtain ⟨hb0, hb1, hl, _⟩ := ps_goodE hg
  have hb : ¬ Int64.ofInt b = 0 := by
    intro e
    have e1 := congrArg Int64.toInt e
    rw [Int64.toInt_ofInt_of_le (by omega) (by omega)] at e1
    have e2 : (0 : Int64).toInt = 0 := by decide
    omega
  unfold wpX_reduce
  dsimp only
  refine ⟨pk_in (5 * k + k) 20 (by omega) (ps_ix k k), nm_r (e' := Int64.ofInt (ps_at M k k)) ?_ ⟨pk_in (5 * r + k) 20 (by omega) (ps_ix r k), nm_r (e' := Int64.ofInt (ps_at M r k)) ?_ ?_⟩⟩
  · rw [pk_cl (5 * k + k) (ps_ix k k), hR k hk k (by omega), ps_valL hk]
    rfl
  · rw [pk_cl (5 * r + k) (ps_ix r k), hR r hr k (by omega), ps_valL hk]
    rfl
  refine pk_loop (fun n i s => wX_reduce_27 post (nI r) (nI k) (Int64.ofInt b) (Int64.ofInt (ps_at M k k)) (Int64.ofInt (ps_at M r k)) f0 f1 f2 f3 f4 n (nI i) a1 a2 s a4 a5 a6 a7)
    (fun i s => (∀ q, q < 4 → q ≠ r → ∀ c, c < 5 → s (5 * q + c) = Int64.ofInt (ps_val ρ (M.getD q []) c)) ∧ ∀ c, c < 5 → s (5 * r + c) = Int64.ofInt (if c < i then ps_val ρ ((ps_red M r k b).getD r []) c else ps_val ρ (M.getD r []) c)) 5 0 a3 (by omega) ⟨fun q hq _ c hc => hR q hq c hc, fun c hc => by rw [if_neg (by omega)]; exact hR r hr c hc⟩ ?_ ?_
  · intro n s h
    refine pk_le 5 5 (fun _ => H s (fun q hq c hc => ?_)) (fun z => absurd z (by omega))
    by_cases e : q = r
    · rw [e, h.2 c hc, if_pos hc]
    · rw [h.1 q hq e c hc, ps_redN e]
  · intro n i s hi h hw
    refine pk_le 5 i (fun z => absurd z (by omega)) (fun _ => ⟨pk_in (5 * r + i) 20 (by omega) (ps_ix r i), pk_in (5 * k + i) 20 (by omega) (ps_ix k i), hb, pk_in (5 * r + i) 20 (by omega) (ps_ix r i), ?_⟩)
    refine nm_r (e' := vp_updL s (5 * r + i) (Int64.ofInt (ps_val ρ ((ps_red M r k b).getD r []) i))) ?_ (nm_r (nI_1 i) (hw _ ⟨fun q hq e c hc => ?_, fun c hc => ?_⟩))
    · rw [pk_cl (5 * r + i) (ps_ix r i), pk_cl (5 * k + i) (ps_ix k i), h.2 i hi, if_neg (Nat.lt_irrefl i), h.1 k hk (Ne.symm hn) i hi, ← Int64.ofInt_mul, ← Int64.ofInt_mul, ← Int64.ofInt_sub]
      obtain ⟨g1, g2, g3⟩ := ps_goodV hρ hg i hi
      rw [ps_div hb0 hb1 g2 g3 g1]
    · rw [pk_uLn (by omega)]
      exact h.1 q hq e c hc
    · by_cases e : c = i
      · rw [e, pk_uLs, if_pos (by omega)]
      · rw [pk_uLn (by omega), h.2 c hc]
        by_cases e2 : c < i
        · rw [if_pos e2, if_pos (by omega)]
        · rw [if_neg e2, if_neg (by omega)]
theorem ps_eval {post : St1 → Prop} {R : Nat → Int} {T : Nat → Nat} {p : Nat} (hK : ps_K R T a1 a2) (hp : p < 16)
    (H : ∀ a b, (∀ s, s < 4 → b s = Int64.ofInt (ps_val (fun s => R (ps_q p s)) ((ps_out (ps_m0 (ps_t T p)) 4).1.getD s []) 4)) → post (Int64.ofInt (ps_out (ps_m0 (ps_t T p)) 4).2, f1, f2, f3, f4, a1, a2, a, b, a5, a6, a7)) :
    wpX_evaluate post (f0, f1, f2, f3, f4, a1, a2, a3, a4, a5, a6, a7) (nI p) := by
  have hρ : ps_sm (fun s => R (ps_q p s)) := fun s hs => ⟨(hK _ (ps_q8 p hp s hs)).1.1, (hK _ (ps_q8 p hp s hs)).1.2.1⟩
  have hT : ∀ s, s < 4 → T (ps_q p s) < 4 := fun s hs => (hK _ (ps_q8 p hp s hs)).1.2.2.1
  have hA := (ps_allE (ps_chk _ (hT 0 (by omega)) _ (hT 1 (by omega)) _ (hT 2 (by omega)) _ (hT 3 (by omega)))).1
  change ∀ k, k < 4 → ∀ r, r < 4 → r ≠ k → ps_good (ps_in (ps_out (ps_m0 (ps_t T p)) k).1 k (ps_out (ps_m0 (ps_t T p)) k).2 r) r k (ps_out (ps_m0 (ps_t T p)) k).2 = true at hA
  unfold wpX_evaluate
  dsimp only
  refine ps_fill hK hp (fun a ha => ?_)
  generalize ps_m0 (ps_t T p) = M at hA ha H
  dsimp only
  refine pk_loop (σ := Int64 × (Nat → Int64)) (fun n i s => wX_evaluate_10 post n s.1 (nI i) f0 f1 f2 f3 f4 a1 a2 s.2 a4 a5 a6 a7) (fun i s => s.1 = Int64.ofInt (ps_out M i).2 ∧ ps_R (fun s => R (ps_q p s)) (ps_out M i).1 s.2) 4 0 ((1 : Int64), a) (by omega) ⟨show (1 : Int64) = Int64.ofInt 1 from by decide, ha⟩ ?_ ?_
  · intro n s h
    obtain ⟨x, a⟩ := s
    obtain ⟨hx, ha⟩ := h
    dsimp only at hx ha
    subst hx
    refine pk_le 4 4 (fun _ => ?_) (fun z => absurd z (by omega))
    refine pk_loop (fun n i s => wX_evaluate_74 post (Int64.ofInt (ps_out M 4).2) f1 f2 f3 f4 n (nI i) a1 a2 a s a5 a6 a7) (fun i s => ∀ j, j < i → s j = Int64.ofInt (ps_val (fun s => R (ps_q p s)) ((ps_out M 4).1.getD j []) 4)) 4 0 a4 (by omega) (fun j hj => absurd hj (by omega)) ?_ ?_
    · intro n s h
      exact pk_le 4 4 (fun _ => H a s h) (fun z => absurd z (by omega))
    · intro n i s hi h hw
      refine pk_le 4 i (fun z => absurd z (by omega)) (fun _ => ⟨pk_in (5 * i + 4) 20 (by omega) (ps_ix i 4), pk_in i 4 hi, ?_⟩)
      refine nm_r (e' := vp_updL s i (Int64.ofInt (ps_val (fun s => R (ps_q p s)) ((ps_out M 4).1.getD i []) 4))) ?_ (nm_r (nI_1 i) (hw _ (fun j hj => ?_)))
      · rw [pk_cl i rfl, pk_cl (5 * i + 4) (ps_ixR i), ha i hi 4 (by omega)]
      · by_cases e : j = i
        · rw [e, pk_uLs]
        · rw [pk_uLn e]
          exact h j (by omega)
  · intro n k s hk h hw
    obtain ⟨x, a⟩ := s
    obtain ⟨hx, ha⟩ := h
    dsimp only at hx ha
    subst hx
    refine pk_le 4 k (fun z => absurd z (by omega)) (fun _ => ?_)
    refine pk_loop (fun m i s => wX_evaluate_19 post (wX_evaluate_10 post n) (Int64.ofInt (ps_out M k).2) (nI k) m (nI i) f0 f1 f2 f3 f4 a1 a2 s a4 a5 a6 a7) (fun i s => ps_R (fun s => R (ps_q p s)) (ps_in (ps_out M k).1 k (ps_out M k).2 i) s) 4 0 a (by omega) ha ?_ ?_
    · intro m s h
      refine pk_le 4 4 (fun _ => ⟨pk_in (5 * k + k) 20 (by omega) (ps_ix k k), nm_r (e' := Int64.ofInt (ps_out M (k + 1)).2) ?_ (nm_r (nI_1 k) (hw (Int64.ofInt (ps_out M (k + 1)).2, s) ⟨rfl, h⟩))⟩) (fun z => absurd z (by omega))
      rw [pk_cl (5 * k + k) (ps_ix k k), h k hk k (by omega), ps_valL hk]
      rfl
    · intro m i s hi h hv
      refine pk_le 4 i (fun z => absurd z (by omega)) (fun _ => pk_eq i k (fun e => nm_r (nI_1 i) (hv s ?_)) (fun e => ?_))
      · show ps_R _ (if i = k then _ else _) s
        rw [if_pos e]
        exact h
      · refine ps_reduce hρ hi hk e (hA k hk i hi e) h (fun a' h' => ?_)
        dsimp only
        refine nm_r (nI_1 i) (hv a' ?_)
        show ps_R _ (if i = k then _ else _) a'
        rw [if_neg e]
        exact h'
end
end
section
theorem ps_lN {x : Int} (h : 0 ≤ x) : Int64.ofInt x = lN x.natAbs := by
  have e : x = (x.natAbs : Int) := by omega
  rw [e, Int64.ofInt_eq_ofNat]
  rfl
theorem ps_lNn {x : Int} (h : x ≤ 0) : -Int64.ofInt x = lN x.natAbs := by
  rw [← Int64.ofInt_neg, ps_lN (by omega), Int.natAbs_neg]
section
variable {f0 f1 f4 : Int64} {f2 f3 : Int32} {a1 a2 a7 : Nat → Int32} {a3 a4 a5 a6 : Nat → Int64}
theorem ps_gcd {post : Int64 → Prop} : ∀ x y : Nat, x < 2 ^ 31 → y < 2 ^ 31 → post (lN (Nat.gcd x y)) → ∃ n, wX_commonDivisor_17 post f0 f1 f2 f3 f4 a1 a2 a3 a4 a5 a6 a7 n (lN x) (lN y) := by
  intro x
  induction x using Nat.strongRecOn with
  | _ x ih =>
    intro y hx hy hp
    by_cases h0 : x = 0
    · subst h0
      rw [Nat.gcd_zero_left] at hp
      exact ⟨1, br_t (by decide) hp⟩
    · have hne : ¬ lN x = 0 := fun e => h0 ((lN_eq (b := 0) hx (by decide)).mp e)
      have hm := Nat.mod_lt y (show x > 0 by omega)
      rw [Nat.gcd_rec] at hp
      obtain ⟨n, hn⟩ := ih (y % x) hm x (by omega) hx hp
      exact ⟨n + 1, br_f hne ⟨hne, nm_r (pk_lRem (by omega) (by omega) (by omega)) hn⟩⟩
theorem ps_cd {post : Int64 → Prop} {X D : Int} (h1 : -100000000 < X) (h2 : X < 100000000) (h3 : 0 < D) (h4 : D < 1048576) (H : post (lN (Nat.gcd X.natAbs D.natAbs))) :
    wpX_commonDivisor post (f0, f1, f2, f3, f4, a1, a2, a3, a4, a5, a6, a7) (Int64.ofInt X) (Int64.ofInt D) := by
  have g := ps_gcd (f0 := f0) (f1 := f1) (f2 := f2) (f3 := f3) (f4 := f4) (a1 := a1) (a2 := a2) (a3 := a3) (a4 := a4) (a5 := a5) (a6 := a6) (a7 := a7) (post := post) X.natAbs D.natAbs (by omega) (by omega) H
  rw [← ps_lN (show 0 ≤ D by omega)] at g
  have z : (0 : Int64).toInt = 0 := by decide
  have e : (Int64.ofInt X).toInt = X := Int64.toInt_ofInt_of_le (by omega) (by omega)
  by_cases h : 0 ≤ X
  · rw [← ps_lN h] at g
    exact br_t (Int64.le_iff_toInt_le.mpr (by omega)) g
  · refine br_f (fun q => h ?_) (nm_r (ps_lNn (by omega)) g)
    have q' := Int64.le_iff_toInt_le.mp q
    omega
/-- the divisor of X and D -/
def ps_g (X D : Int) : Int := (Nat.gcd X.natAbs D.natAbs : Int)
theorem ps_g1 {X D : Int} (h : 0 < D) : 0 < ps_g X D ∧ ps_g X D ≤ D := by
  unfold ps_g
  have h1 : 0 < Nat.gcd X.natAbs D.natAbs := Nat.gcd_pos_of_pos_right _ (by omega)
  have h2 : Nat.gcd X.natAbs D.natAbs ≤ D.natAbs := Nat.gcd_le_right _ (by omega)
  omega
theorem ps_gX (X D : Int) : X = ps_g X D * X.tdiv (ps_g X D) :=
  (Int.mul_tdiv_cancel' (Int.ofNat_dvd_left.mpr (Nat.gcd_dvd_left _ _))).symm
theorem ps_gD (X D : Int) : D = ps_g X D * D.tdiv (ps_g X D) :=
  (Int.mul_tdiv_cancel' (Int.ofNat_dvd_left.mpr (Nat.gcd_dvd_right _ _))).symm
theorem ps_gL (X D : Int) : lN (Nat.gcd X.natAbs D.natAbs) = Int64.ofInt (ps_g X D) := Int64.ofInt_eq_ofNat.symm
theorem ps_qb {x g q : Int} (hg : 0 < g) (h : x = g * q) (h1 : -100000000 < x) (h2 : x < 100000000) : -100000000 < q ∧ q < 100000000 := by
  have e := Int.natAbs_mul g q
  have e2 : 1 * q.natAbs ≤ g.natAbs * q.natAbs := Nat.mul_le_mul_right _ (by omega)
  rw [← h] at e
  omega
theorem ps_gne {g : Int} (h1 : 0 < g) (h2 : g < 1048576) : ¬ Int64.ofInt g = 0 := by
  intro e
  have e1 := congrArg Int64.toInt e
  rw [Int64.toInt_ofInt_of_le (by omega) (by omega)] at e1
  have e2 : (0 : Int64).toInt = 0 := by decide
  omega
theorem ps_lt {post : Int32 → Prop} {X D : Int} (h1 : -100000000 < X) (h2 : X < 100000000) (h3 : 0 < D) (h4 : D < 1048576) (H : post (Int32.ofInt (X.tdiv (ps_g X D)))) :
    wpX_lowestTop post (f0, f1, f2, f3, f4, a1, a2, a3, a4, a5, a6, a7) (Int64.ofInt X) (Int64.ofInt D) := by
  have g1 := ps_g1 (X := X) h3
  have b := ps_qb g1.1 (ps_gX X D) h1 h2
  unfold wpX_lowestTop
  dsimp only
  refine ps_cd h1 h2 h3 h4 ?_
  rw [ps_gL]
  refine ⟨ps_gne g1.1 (by omega), ?_⟩
  rw [ps_div g1.1 (by omega) b.1 b.2 (ps_gX X D), Int64.toInt32_ofInt]
  exact H
theorem ps_lb {post : Int32 → Prop} {X D : Int} (h1 : -100000000 < X) (h2 : X < 100000000) (h3 : 0 < D) (h4 : D < 1048576) (H : post (Int32.ofInt (D.tdiv (ps_g X D)))) :
    wpX_lowestBottom post (f0, f1, f2, f3, f4, a1, a2, a3, a4, a5, a6, a7) (Int64.ofInt X) (Int64.ofInt D) := by
  have g1 := ps_g1 (X := X) h3
  have b := ps_qb g1.1 (ps_gD X D) (by omega) (by omega)
  unfold wpX_lowestBottom
  dsimp only
  refine ps_cd h1 h2 h3 h4 ?_
  rw [ps_gL]
  refine ⟨ps_gne g1.1 (by omega), ?_⟩
  rw [ps_div g1.1 (by omega) b.1 b.2 (ps_gD X D), Int64.toInt32_ofInt]
  exact H
theorem ps_pol {post : Int32 → Prop} {p : Nat} (hp : p < 16) (H : post 1) : wpX_isPolicy post (f0, f1, f2, f3, f4, a1, a2, a3, a4, a5, a6, a7) (nI p) :=
  br_f (nI_pos (by omega)) (pk_lt 15 p (fun z => absurd z (by omega)) (fun _ => H))
theorem ps_sta {post : Int32 → Prop} {s : Nat} (hs : s < 4) (H : post 1) : wpX_isState post (f0, f1, f2, f3, f4, a1, a2, a3, a4, a5, a6, a7) (nI s) :=
  br_f (nI_pos (by omega)) (pk_le 4 s (fun z => absurd z (by omega)) (fun _ => H))
/-- the solution's numerator in state s, and its denominator -/
def ps_X (R : Nat → Int) (T : Nat → Nat) (p s : Nat) : Int := ps_val (fun s => R (ps_q p s)) ((ps_out (ps_m0 (ps_t T p)) 4).1.getD s []) 4
def ps_D (T : Nat → Nat) (p : Nat) : Int := (ps_out (ps_m0 (ps_t T p)) 4).2
theorem ps_fb {R : Nat → Int} {T : Nat → Nat} {p s : Nat} (hK : ps_K R T a1 a2) (hp : p < 16) (hs : s < 4) : ps_sm (fun s => R (ps_q p s)) ∧ ps_fin (ps_t T p) s = true ∧ ∀ s, s < 4 → T (ps_q p s) < 4 := by
  have hT : ∀ s, s < 4 → T (ps_q p s) < 4 := fun s hs => (hK _ (ps_q8 p hp s hs)).1.2.2.1
  exact ⟨fun s hs => ⟨(hK _ (ps_q8 p hp s hs)).1.1, (hK _ (ps_q8 p hp s hs)).1.2.1⟩, (ps_allE (ps_chk _ (hT 0 (by omega)) _ (hT 1 (by omega)) _ (hT 2 (by omega)) _ (hT 3 (by omega)))).2 s hs, hT⟩
theorem ps_XD {R : Nat → Int} {T : Nat → Nat} {p s : Nat} (hK : ps_K R T a1 a2) (hp : p < 16) (hs : s < 4) : -100000000 < ps_X R T p s ∧ ps_X R T p s < 100000000 ∧ 0 < ps_D T p ∧ ps_D T p < 1048576 := by
  obtain ⟨hρ, hf, _⟩ := ps_fb hK hp hs
  have h1 := ps_finE hf
  have h2 := ps_finV hρ hf
  exact ⟨h2.2.1, h2.2.2, h1.1, h1.2.1⟩
theorem ps_vt {post : Int32 → St1 → Prop} {R : Nat → Int} {T : Nat → Nat} {p s : Nat} (hK : ps_K R T a1 a2) (hp : p < 16) (hs : s < 4)
    (H : ∀ a b, post (Int32.ofInt ((ps_X R T p s).tdiv (ps_g (ps_X R T p s) (ps_D T p)))) (Int64.ofInt (ps_D T p), f1, f2, f3, f4, a1, a2, a, b, a5, a6, a7)) :
    wpX_valueTop post (f0, f1, f2, f3, f4, a1, a2, a3, a4, a5, a6, a7) (nI p) (nI s) := by
  obtain ⟨b1, b2, b3, b4⟩ := ps_XD hK hp hs
  unfold wpX_valueTop
  dsimp only
  refine ps_pol hp (br_f (by decide) (ps_sta hs (br_f (by decide) (ps_eval hK hp (fun a b hb => ?_)))))
  dsimp only
  refine ⟨pk_in s 4 hs, ?_⟩
  rw [pk_cl s rfl, hb s hs]
  exact ps_lt b1 b2 b3 b4 (H a b)
theorem ps_vbt {post : Int32 → St1 → Prop} {R : Nat → Int} {T : Nat → Nat} {p s : Nat} (hK : ps_K R T a1 a2) (hp : p < 16) (hs : s < 4)
    (H : ∀ a b, post (Int32.ofInt ((ps_D T p).tdiv (ps_g (ps_X R T p s) (ps_D T p)))) (Int64.ofInt (ps_D T p), f1, f2, f3, f4, a1, a2, a, b, a5, a6, a7)) :
    wpX_valueBottom post (f0, f1, f2, f3, f4, a1, a2, a3, a4, a5, a6, a7) (nI p) (nI s) := by
  obtain ⟨b1, b2, b3, b4⟩ := ps_XD hK hp hs
  unfold wpX_valueBottom
  dsimp only
  refine ps_pol hp (br_f (by decide) (ps_sta hs (br_f (by decide) (ps_eval hK hp (fun a b hb => ?_)))))
  dsimp only
  refine ⟨pk_in s 4 hs, ?_⟩
  rw [pk_cl s rfl, hb s hs]
  exact ps_lb b1 b2 b3 b4 (H a b)
end
end
section
theorem wb_tb (n : Nat) : (lN n).toBitVec = BitVec.ofNat 64 n := rfl
theorem wb_inj {a b : Int64} (h : a.toBitVec = b.toBitVec) : a = b := Int64.toBitVec_inj.mp h
theorem wb_tn {n : Nat} (h : n < 2 ^ 64) : (lN n).toBitVec.toNat = n := by rw [wb_tb, BitVec.toNat_ofNat, Nat.mod_eq_of_lt h]
theorem wb_of (x : Int64) : ∃ n, n < 2 ^ 64 ∧ x = lN n := ⟨x.toBitVec.toNat, x.toBitVec.isLt, wb_inj (by rw [wb_tb]; simp)⟩
theorem wb_c : ∀ k, k < 64 → ((nI k).toInt64 &&& 63) = lN k := by decide +kernel
theorem wb_cu : ∀ k, k < 64 → ((nI k).toInt64.toUInt64 &&& Int64.toUInt64 63) = UInt64.ofNat k := by decide +kernel
theorem wb_sm : ∀ k, k < 64 → (BitVec.ofNat 64 k).smod 64 = BitVec.ofNat 64 k := by decide +kernel
theorem wb_shr {n k : Nat} (hn : n < 2 ^ 64) (hk : k < 64) : ((lN n).toUInt64 >>> ((nI k).toInt64.toUInt64 &&& Int64.toUInt64 63)).toInt64 = lN (n / 2 ^ k) := by
  rw [wb_cu k hk]
  apply wb_inj
  apply BitVec.eq_of_toNat_eq
  show ((lN n).toUInt64 >>> UInt64.ofNat k).toNat = (BitVec.ofNat 64 _).toNat
  have h1 : (UInt64.ofNat k).toNat = k := by
    show (BitVec.ofNat 64 k).toNat = k
    rw [BitVec.toNat_ofNat, Nat.mod_eq_of_lt (by omega)]
  have h2 : (lN n).toUInt64.toNat = n := wb_tn hn
  rw [UInt64.toNat_shiftRight, h1, h2, Nat.mod_eq_of_lt hk, Nat.shiftRight_eq_div_pow, BitVec.toNat_ofNat, Nat.mod_eq_of_lt (Nat.lt_of_le_of_lt (Nat.div_le_self _ _) hn)]
/-- byte k of a word -/
def ps_by (N k : Nat) : Nat := N / 2 ^ (8 * k) % 256
/-- the law's word: byte k is T k + 4 (R k + 20) -/
def ps_W (R : Nat → Int) (T : Nat → Nat) (w : Int64) : Prop := ∀ k, k < 8 → ps_by w.toBitVec.toNat k = T k + 4 * (R k + 20).toNat
theorem ps_8 (k : Nat) : 8 * nI k = nI (8 * k) := by
  rw [show (8 : Int32) = nI 8 from rfl, pk_mul]
theorem ps_shB (n : Nat) {k : Nat} (hk : k < 64) : (lN n <<< lN k).toBitVec = BitVec.ofNat 64 n <<< k := by
  rw [Int64.toBitVec_shiftLeft, wb_tb, wb_tb, wb_sm k hk, BitVec.shiftLeft_eq', BitVec.toNat_ofNat, Nat.mod_eq_of_lt (show k < 2 ^ 64 by omega)]
theorem ps_255 (i : Nat) : Nat.testBit 255 i = decide (i < 8) := Nat.testBit_two_pow_sub_one 8 i
theorem ps_vbit {v i : Nat} (hv : v < 256) (hi : 8 ≤ i) : v.testBit i = false :=
  Nat.testBit_lt_two_pow (Nat.lt_of_lt_of_le hv (Nat.pow_le_pow_right (n := 2) (by decide) hi : 2 ^ 8 ≤ 2 ^ i))
theorem ps_byB (N k i : Nat) : (ps_by N k).testBit i = (decide (i < 8) && N.testBit (i + 8 * k)) := by
  unfold ps_by
  rw [show 256 = 2 ^ 8 from rfl, Nat.testBit_mod_two_pow, Nat.testBit_div_two_pow]
theorem ps_wr {w : Int64} {k v : Nat} (hk : k < 8) (hv : v < 256) (j : Nat) (hj : j < 8) :
    ps_by ((w &&& (((255 : Int64) <<< ((8 * nI k).toInt64 &&& 63)) ^^^ (-1))) ||| ((nI v).toInt64 <<< ((8 * nI k).toInt64 &&& 63))).toBitVec.toNat j = if j = k then v else ps_by w.toBitVec.toNat j := by
  rw [ps_8, wb_c (8 * k) (by omega), nI_l (show v < 2 ^ 31 by omega), show (255 : Int64) = lN 255 from rfl]
  apply Nat.eq_of_testBit_eq
  intro i
  rw [ps_byB]
  by_cases hi : i < 8
  · rw [BitVec.testBit_toNat, Int64.toBitVec_or, Int64.toBitVec_and, Int64.toBitVec_xor, ps_shB 255 (show 8 * k < 64 by omega), ps_shB v (show 8 * k < 64 by omega), show (-1 : Int64).toBitVec = BitVec.allOnes 64 from by decide, BitVec.getLsbD_or, BitVec.getLsbD_and, BitVec.getLsbD_xor, BitVec.getLsbD_shiftLeft, BitVec.getLsbD_shiftLeft, BitVec.getLsbD_ofNat, BitVec.getLsbD_ofNat, BitVec.getLsbD_allOnes, ps_255]
    by_cases e : j = k
    · subst e
      rw [if_pos rfl, show i + 8 * j - 8 * j = i by omega]
      simp [hi, show i + 8 * j < 64 by omega, show i < 64 by omega, show ¬ i + 8 * j < 8 * j by omega]
    · rw [if_neg e, ps_byB, BitVec.testBit_toNat]
      by_cases c : i + 8 * j < 8 * k
      · simp [hi, c, show i + 8 * j < 64 by omega]
      · simp [hi, c, show i + 8 * j < 64 by omega, show ¬ i + 8 * j - 8 * k < 8 by omega, ps_vbit hv (show 8 ≤ i + 8 * j - 8 * k by omega)]
  · have e1 : decide (i < 8) = false := decide_eq_false hi
    rw [e1, Bool.false_and]
    by_cases e : j = k
    · rw [if_pos e, ps_vbit hv (by omega)]
    · rw [if_neg e, ps_byB, e1, Bool.false_and]
theorem ps_n32 (n : Nat) : (nI n).toBitVec.toNat = n % 2 ^ 32 := by
  show (BitVec.ofNat 32 n).toNat = _
  rw [BitVec.toNat_ofNat]
theorem ps_rdT (w : Int64) {k : Nat} (hk : k < 8) : (((w.toUInt64 >>> ((8 * nI k).toInt64.toUInt64 &&& Int64.toUInt64 63)).toInt64).toInt32) &&& 3 = nI (ps_by w.toBitVec.toNat k % 4) := by
  obtain ⟨N, hN, rfl⟩ := wb_of w
  rw [wb_tn hN, ps_8, wb_shr hN (by omega), lN_i, pk_and (m := 3) _ 2 (by decide), ps_n32]
  unfold ps_by
  generalize N / 2 ^ (8 * k) = m
  congr 1
  omega
theorem ps_rdR (w : Int64) {k : Nat} (hk : k < 8) : ((((w.toUInt64 >>> (((8 * nI k) + 2).toInt64.toUInt64 &&& Int64.toUInt64 63)).toInt64).toInt32) &&& 63) - 20 = nI (ps_by w.toBitVec.toNat k / 4) - 20 := by
  obtain ⟨N, hN, rfl⟩ := wb_of w
  rw [wb_tn hN, ps_8, show nI (8 * k) + 2 = nI (8 * k + 2) from nI_add (8 * k) 2, wb_shr hN (by omega), lN_i, pk_and (m := 63) _ 6 (by decide), ps_n32]
  unfold ps_by
  rw [Nat.pow_add, ← Nat.div_div_eq_div_mul]
  generalize N / 2 ^ (8 * k) = m
  congr 2
  omega
theorem ps_m20 : ∀ m, m < 41 → nI m - 20 = Int32.ofInt ((m : Int) - 20) := by decide +kernel
theorem ps_vI : ∀ t : Nat, t < 4 → ∀ m : Nat, m < 41 → (nI t ||| ((Int32.ofInt ((m : Int) - 20) + 20) <<< ((2 : Int32) &&& 31))) = nI (t + 4 * m) := by decide +kernel
theorem ps_toL {post : Int32 → Prop} {R : Nat → Int} {T : Nat → Nat} {w : Int64} {k : Nat} (hW : ps_W R T w) (hk : k < 8) (hT : T k < 4) (H : post (nI (T k))) : wpL_to post () w (nI k) := by
  unfold wpL_to
  rw [ps_rdT w hk, hW k hk, show (T k + 4 * (R k + 20).toNat) % 4 = T k by omega]
  exact H
theorem ps_rwL {post : Int32 → Prop} {R : Nat → Int} {T : Nat → Nat} {w : Int64} {k : Nat} (hW : ps_W R T w) (hk : k < 8) (hT : T k < 4) (h1 : -20 ≤ R k) (h2 : R k ≤ 20) (H : post (Int32.ofInt (R k))) : wpL_reward post () w (nI k) := by
  unfold wpL_reward
  rw [ps_rdR w hk, hW k hk, show (T k + 4 * (R k + 20).toNat) / 4 = (R k + 20).toNat by omega, ps_m20 _ (by omega), show (((R k + 20).toNat : Nat) : Int) - 20 = R k by omega]
  exact H
/-- the law's word with byte k anew -/
theorem ps_wU {R : Nat → Int} {T : Nat → Nat} {w : Int64} {k t : Nat} {r : Int} (hW : ps_W R T w) (hk : k < 8) (ht : t < 4) (h1 : -20 ≤ r) (h2 : r ≤ 20) :
    ps_W (fun j => if j = k then r else R j) (fun j => if j = k then t else T j) ((w &&& (((255 : Int64) <<< ((8 * nI k).toInt64 &&& 63)) ^^^ (-1))) ||| (((nI t ||| ((Int32.ofInt r + 20) <<< ((2 : Int32) &&& 31))).toInt64) <<< ((8 * nI k).toInt64 &&& 63))) := by
  intro j hj
  have e : (nI t ||| ((Int32.ofInt r + 20) <<< ((2 : Int32) &&& 31))) = nI (t + 4 * (r + 20).toNat) := by
    have := ps_vI t ht (r + 20).toNat (by omega)
    rw [show (((r + 20).toNat : Nat) : Int) - 20 = r by omega] at this
    exact this
  rw [e, ps_wr hk (by omega) j hj]
  dsimp only
  by_cases z : j = k
  · rw [if_pos z, if_pos z, if_pos z]
  · rw [if_neg z, if_neg z, if_neg z]
    exact hW j hj
end
section
theorem ps_pw : ∀ m, m < 8 → (1 : Int64) <<< ((nI m).toInt64 &&& 63) = Int64.ofInt (2 ^ m) := by decide +kernel
theorem ps_fr {S X D U g t b : Int} (hg : 0 < g) (hX : X = g * t) (hD : D = g * b) (h : S * D = X * U) : S * b = t * U := by
  apply Int.eq_of_mul_eq_mul_left (show g ≠ 0 by omega)
  have e1 : g * (S * b) = S * (g * b) := by grind
  have e2 : g * (t * U) = g * t * U := by grind
  rw [e1, e2, ← hX, ← hD, h]
theorem ps_b1 {D g b : Int} (hg : 0 < g) (hD : D = g * b) (h : 0 < D) : 1 ≤ b := by
  rcases Int.lt_or_le b 1 with z | z
  · have q := Int.mul_le_mul_of_nonneg_left (show b ≤ 0 by omega) (show 0 ≤ g by omega)
    rw [Int.mul_zero] at q
    omega
  · exact z
theorem ps_nl {b : Int} (h1 : 1 ≤ b) (h2 : b < 100000000) : ¬ Int32.ofInt b < 1 := by
  intro z
  have z' := Int32.lt_iff_toInt_lt.mp z
  rw [Int32.toInt_ofInt_of_le (by omega) (by omega)] at z'
  have e : (1 : Int32).toInt = 1 := by decide
  omega
theorem ps_ev0 (ρ : Nat → Int) : Int64.ofInt (ps_ev ρ [0, 0, 0, 0]) = 0 := by
  have e : ps_ev ρ [0, 0, 0, 0] = 0 := by
    show (0 : Int) * ρ 0 + 0 * ρ 1 + 0 * ρ 2 + 0 * ρ 3 = 0
    omega
  rw [e]
  decide
theorem ps_dblL {ρ : Nat → Int} {l : List Int} {a : Nat} {r : Int} (ha : a < 4) (hr : ρ a = r) (h1 : -20 ≤ r) (h2 : r ≤ 20) : (2 * Int64.ofInt (ps_ev ρ l)) + (Int32.ofInt r).toInt64 = Int64.ofInt (ps_ev ρ (ps_dbl l a)) := by
  rw [ps_lg (by omega) (by omega), ps_dblE ha, Int64.ofInt_add, Int64.ofInt_mul, hr]
  rfl
section
variable {f0 f1 f4 : Int64} {f2 f3 : Int32} {a1 a2 a7 : Nat → Int32} {a3 a4 a5 a6 : Nat → Int64}
theorem ps_h72 {post : Int32 → St1 → Prop} {R : Nat → Int} {T : Nat → Nat} {w : Int64} {p s : Nat} (hK : ps_K R T a1 a2) (hW : ps_W R T w) (hp : p < 16) (hs : s < 4)
    (H : ∀ a b, post 1 (Int64.ofInt (ps_D T p), f1, f2, f3, f4, a1, a2, a, b, a5, a6, a7)) :
    ∃ n, wL_holds_72 post w (nI p) (nI s) (Int64.ofInt (ps_ev (fun s => R (ps_q p s)) (ps_w1 (ps_t T p) s 4).2)) (nI (ps_w1 (ps_t T p) s 4).1) f0 f1 f2 f3 f4 a1 a2 a3 a4 a5 a6 a7 n (nI (ps_w1 (ps_t T p) s 4).1) 0 0 0 := by
  obtain ⟨hρ, hf, hT⟩ := ps_fb hK hp hs
  obtain ⟨_, _, hl, _⟩ := ps_finE hf
  obtain ⟨hV, _, _⟩ := ps_finV hρ hf
  obtain ⟨b1, b2, b3, b4⟩ := ps_XD hK hp hs
  have ht : ∀ j, j < 4 → (ps_t T p).getD j 0 < 4 := fun j hj => by rw [ps_tD hj]; exact hT j hj
  have hg : (ps_w1 (ps_t T p) s 4).1 < 4 := ps_w1lt hs ht 4
  change _ * ps_D T p = ps_X R T p s * _ at hV
  generalize (ps_w1 (ps_t T p) s 4).1 = g at hg hl hV ⊢
  generalize (ps_w1 (ps_t T p) s 4).2 = S at hV ⊢
  refine pk_loop (σ := Int32 × Int64 × Int32) (fun n i s' => wL_holds_72 post w (nI p) (nI s) (Int64.ofInt (ps_ev (fun s => R (ps_q p s)) S)) (nI g) f0 f1 f2 f3 f4 a1 a2 a3 a4 a5 a6 a7 n s'.1 s'.2.1 s'.2.2 (nI i))
    (fun i s' => s' = (nI (ps_w2 (ps_t T p) g i).1, Int64.ofInt (ps_ev (fun s => R (ps_q p s)) (ps_w2 (ps_t T p) g i).2.1), nI (ps_w2 (ps_t T p) g i).2.2)) 4 0 (nI g, (0 : Int64), (0 : Int32)) (by omega) ?_ ?_ ?_
  · show (nI g, (0 : Int64), (0 : Int32)) = (nI g, Int64.ofInt (ps_ev (fun s => R (ps_q p s)) [0, 0, 0, 0]), nI 0)
    rw [ps_ev0]
    rfl
  · intro n s' h
    subst h
    dsimp only
    have hl' := ps_w2le (ps_t T p) g 4
    generalize (ps_w2 (ps_t T p) g 4).2.2 = ln at hl hV hl' ⊢
    generalize (ps_w2 (ps_t T p) g 4).2.1 = Q at hV ⊢
    refine pk_le 4 4 (fun _ => nm_r (nI_1 ln) (nm_r (ps_pw (ln + 1) (by omega)) ?_)) (fun z => absurd z (by omega))
    generalize (2 : Int) ^ (ln + 1) = P at hV ⊢
    refine nm_r (e' := Int64.ofInt (ps_ev (fun s => R (ps_q p s)) S * 2 * (P - 1) + ps_ev (fun s => R (ps_q p s)) Q * 2)) ?_ (nm_r (e' := Int64.ofInt (16 * (P - 1))) ?_ ?_)
    · rw [Int64.ofInt_add, Int64.ofInt_mul, Int64.ofInt_mul, Int64.ofInt_mul, Int64.ofInt_sub]
      rfl
    · rw [Int64.ofInt_mul, Int64.ofInt_sub]
      rfl
    refine ps_vt hK hp hs (fun a b => ?_)
    dsimp only
    refine ps_vbt hK hp hs (fun a' b' => ?_)
    dsimp only
    have g1 := ps_g1 (X := ps_X R T p s) b3
    have q1 := ps_qb g1.1 (ps_gX _ _) b1 b2
    have q2 := ps_qb g1.1 (ps_gD _ _) (by omega) (by omega)
    refine br_t ?_ (br_f (ps_nl (ps_b1 g1.1 (ps_gD _ _) b3) q2.2) (H a' b'))
    rw [ps_lg (by omega) (by omega), ps_lg (by omega) (by omega), ← Int64.ofInt_mul, ← Int64.ofInt_mul, ps_fr g1.1 (ps_gX _ _) (ps_gD _ _) hV]
  · intro n i s' hi h hw
    subst h
    dsimp only
    have hle := ps_w2le (ps_t T p) g i
    have hat := ps_w2lt hg ht i
    have E : ps_w2 (ps_t T p) g (i + 1) = if i = (ps_w2 (ps_t T p) g i).2.2 then ((ps_t T p).getD (ps_w2 (ps_t T p) g i).1 0, ps_dbl (ps_w2 (ps_t T p) g i).2.1 (ps_w2 (ps_t T p) g i).1, if (ps_t T p).getD (ps_w2 (ps_t T p) g i).1 0 = g then (ps_w2 (ps_t T p) g i).2.2 else (ps_w2 (ps_t T p) g i).2.2 + 1) else ps_w2 (ps_t T p) g i := rfl
    rw [E] at hw
    generalize ps_w2 (ps_t T p) g i = st at hle hat hw ⊢
    obtain ⟨sa, Q, ln⟩ := st
    dsimp only at hle hat hw ⊢
    rw [ps_tD hat] at hw
    have hq := ps_q8 p hp sa hat
    obtain ⟨⟨r1, r2, r3, r4⟩, _⟩ := hK _ hq
    refine pk_le 4 i (fun z => absurd z (by omega)) (fun _ => pk_eq i ln (fun e => ?_) (fun e => ?_))
    · rw [if_pos e] at hw
      refine nm_r (ps_qI p hp sa hat) (ps_rwL hW hq r3 r1 r2 (nm_r (ps_dblL (a := sa) hat rfl r1 r2) (ps_toL hW hq r3 ?_)))
      refine pk_eq (T (ps_q p sa)) g (fun e2 => nm_r (nI_1 i) ?_) (fun e2 => nm_r (nI_1 ln) (nm_r (nI_1 i) ?_))
      · rw [if_pos e2] at hw
        exact hw _ rfl
      · rw [if_neg e2] at hw
        exact hw _ rfl
    · rw [if_neg e] at hw
      exact nm_r (nI_1 i) (hw _ rfl)
theorem ps_holds {post : Int32 → St1 → Prop} {R : Nat → Int} {T : Nat → Nat} {w : Int64} {p s : Nat} (hK : ps_K R T a1 a2) (hW : ps_W R T w) (hp : p < 16) (hs : s < 4)
    (H : ∀ a b, post 1 (Int64.ofInt (ps_D T p), f1, f2, f3, f4, a1, a2, a, b, a5, a6, a7)) : wpL_holds post (f0, f1, f2, f3, f4, a1, a2, a3, a4, a5, a6, a7) w (nI p) (nI s) := by
  obtain ⟨hρ, hf, hT⟩ := ps_fb hK hp hs
  have ht : ∀ j, j < 4 → (ps_t T p).getD j 0 < 4 := fun j hj => by rw [ps_tD hj]; exact hT j hj
  unfold wpL_holds
  dsimp only
  refine pk_loop (σ := Int32 × Int64) (fun n i s' => wL_holds_10 post w (nI p) (nI s) f0 f1 f2 f3 f4 a1 a2 a3 a4 a5 a6 a7 n s'.1 s'.2 (nI i))
    (fun i s' => s' = (nI (ps_w1 (ps_t T p) s i).1, Int64.ofInt (ps_ev (fun s => R (ps_q p s)) (ps_w1 (ps_t T p) s i).2))) 4 0 (nI s, (0 : Int64)) (by omega) ?_ ?_ ?_
  · show (nI s, (0 : Int64)) = (nI s, Int64.ofInt (ps_ev (fun s => R (ps_q p s)) [0, 0, 0, 0]))
    rw [ps_ev0]
  · intro n s' h
    subst h
    exact pk_le 4 4 (fun _ => ps_h72 hK hW hp hs H) (fun z => absurd z (by omega))
  · intro n i s' hi h hw
    subst h
    dsimp only
    have hat := ps_w1lt hs ht i
    have E : ps_w1 (ps_t T p) s (i + 1) = ((ps_t T p).getD (ps_w1 (ps_t T p) s i).1 0, ps_dbl (ps_w1 (ps_t T p) s i).2 (ps_w1 (ps_t T p) s i).1) := rfl
    rw [E] at hw
    generalize ps_w1 (ps_t T p) s i = st at hat hw ⊢
    obtain ⟨sa, Q⟩ := st
    dsimp only at hat hw ⊢
    rw [ps_tD hat] at hw
    have hq := ps_q8 p hp sa hat
    obtain ⟨⟨r1, r2, r3, r4⟩, _⟩ := hK _ hq
    refine pk_le 4 i (fun z => absurd z (by omega)) (fun _ => ?_)
    exact nm_r (ps_qI p hp sa hat) (ps_rwL hW hq r3 r1 r2 (nm_r (ps_dblL (a := sa) hat rfl r1 r2) (ps_toL hW hq r3 (nm_r (nI_1 i) (hw _ rfl)))))
end
end
section
theorem ps_hf : ∀ k, k < 8 → nI k >>> ((1 : Int32) &&& 31) = nI (k / 2) := by decide +kernel
theorem ps_od : ∀ k, k < 8 → nI k &&& 1 = nI (k % 2) := by decide +kernel
theorem ps_k2 (k : Nat) : (2 * nI (k / 2)) + nI (k % 2) = nI k := by
  rw [show (2 : Int32) = nI 2 from rfl, pk_mul, nI_add]
  congr 1
  omega
theorem ps_k4 (k c : Nat) : (4 * ((2 * nI (k / 2)) + nI (k % 2))) + nI c = nI (4 * k + c) := by
  rw [ps_k2, ps_ix4]
theorem ps_rI0 : ∀ m : Nat, m < 41 → ¬ Int32.ofInt ((m : Int) - 20) < (-20) ∧ Int32.ofInt ((m : Int) - 20) ≤ 20 ∧ (Int32.ofInt ((m : Int) - 20)).toInt8.toInt32 = Int32.ofInt ((m : Int) - 20) := by decide +kernel
theorem ps_rI {r : Int} (h1 : -20 ≤ r) (h2 : r ≤ 20) : ¬ Int32.ofInt r < (-20) ∧ Int32.ofInt r ≤ 20 ∧ (Int32.ofInt r).toInt8.toInt32 = Int32.ofInt r := by
  have := ps_rI0 (r + 20).toNat (by omega)
  rw [show (((r + 20).toNat : Nat) : Int) - 20 = r by omega] at this
  exact this
/-- what the law hands to shares for target t -/
def ps_sh (t : Nat) : Nat := if t = 0 then 500 else if t = 1 then 100 else if t = 2 then 20 else 4
theorem ps_shD : ∀ t, t < 4 → ((((nI (ps_sh t) / 125) + ((nI (ps_sh t) / 25) - (nI (ps_sh t) / 25) / 5 * 5)) + ((nI (ps_sh t) / 5) - (nI (ps_sh t) / 5) / 5 * 5)) + (nI (ps_sh t) - nI (ps_sh t) / 5 * 5)) = 4
    ∧ ((nI (ps_sh t) - nI (ps_sh t) / 5 * 5).toInt8.toInt32) = (if 3 = t then 4 else 0)
    ∧ ((nI (ps_sh t) / 5 - nI (ps_sh t) / 5 / 5 * 5).toInt8.toInt32) = (if 2 = t then 4 else 0)
    ∧ ((nI (ps_sh t) / 5 / 5 - nI (ps_sh t) / 5 / 5 / 5 * 5).toInt8.toInt32) = (if 1 = t then 4 else 0)
    ∧ ((nI (ps_sh t) / 5 / 5 / 5 - nI (ps_sh t) / 5 / 5 / 5 / 5 * 5).toInt8.toInt32) = (if 0 = t then 4 else 0)
    ∧ ps_sh t ≤ 624 := by decide +kernel
section
variable {f0 f1 f4 : Int64} {f2 f3 : Int32} {a1 a2 a7 : Nat → Int32} {a3 a4 a5 a6 : Nat → Int64}
theorem ps_init {post : St1 → Prop} (H : ∀ a, (∀ k, k < 8 → ∀ c, c < 4 → a (4 * k + c) = if c = k / 2 then 4 else 0) → post (0, 0, 0, 0, 0, (fun _ => 0), a, (fun _ => 0), (fun _ => 0), (fun _ => 0), (fun _ => 0), (fun _ => 0))) : wpX_init post 7 76 (0, 0, 0, 0, 0) := by
  unfold wpX_init
  dsimp only
  refine ⟨by omega, by omega, by omega, by omega, by omega, by omega, by omega, by omega, by omega, by omega, by omega, by omega, by omega, by omega, 5, ?_⟩
  refine br_f (by decide) ⟨3, br_f (by decide) ⟨vp_in_iff.mpr (by decide), nm_e (nm_e (br_f (by decide) ⟨vp_in_iff.mpr (by decide), nm_e (nm_e (br_t (by decide) (nm_e ?_)))⟩))⟩⟩
  refine br_f (by decide) ⟨3, br_f (by decide) ⟨vp_in_iff.mpr (by decide), nm_e (nm_e (br_f (by decide) ⟨vp_in_iff.mpr (by decide), nm_e (nm_e (br_t (by decide) (nm_e ?_)))⟩))⟩⟩
  refine br_f (by decide) ⟨3, br_f (by decide) ⟨vp_in_iff.mpr (by decide), nm_e (nm_e (br_f (by decide) ⟨vp_in_iff.mpr (by decide), nm_e (nm_e (br_t (by decide) (nm_e ?_)))⟩))⟩⟩
  refine br_f (by decide) ⟨3, br_f (by decide) ⟨vp_in_iff.mpr (by decide), nm_e (nm_e (br_f (by decide) ⟨vp_in_iff.mpr (by decide), nm_e (nm_e (br_t (by decide) (nm_e ?_)))⟩))⟩⟩
  exact br_t (by decide) (H _ (by decide +kernel))
theorem ps_rew {post : Int32 → St1 → Prop} {k : Nat} {r : Int} (hk : k < 8) (h1 : -20 ≤ r) (h2 : r ≤ 20) (H : post 1 (f0, f1, 0, f3, f4, upd a1 k (Int32.ofInt r), a2, a3, a4, a5, a6, a7)) :
    wpX_reward post (f0, f1, f2, f3, f4, a1, a2, a3, a4, a5, a6, a7) (nI k >>> ((1 : Int32) &&& 31)) (nI k &&& 1) (Int32.ofInt r) := by
  obtain ⟨r1, r2, r3⟩ := ps_rI h1 h2
  rw [ps_hf k hk, ps_od k hk]
  unfold wpX_reward
  dsimp only
  refine ps_sta (by omega) (br_f (by decide) (br_f (nI_pos (by omega)) (pk_lt 1 (k % 2) (fun z => absurd z (by omega)) (fun _ => br_f r1 (br_t r2 ⟨pk_in k 8 hk (ps_k2 k), nm_r (e' := upd a1 k (Int32.ofInt r)) ?_ H⟩)))))
  rw [r3, pk_cl k (ps_k2 k)]
theorem ps_shr {post : Int32 → St1 → Prop} {k t : Nat} (hk : k < 8) (ht : t < 4) (H : ∀ a : Nat → Int32, (∀ c, c < 4 → a (4 * k + c) = if c = t then 4 else 0) → (∀ j, j < 4 * k ∨ 4 * k + 4 ≤ j → a j = a2 j) → post 1 (f0, f1, 0, f3, f4, a1, a, a3, a4, a5, a6, a7)) :
    wpX_shares post (f0, f1, f2, f3, f4, a1, a2, a3, a4, a5, a6, a7) (nI k >>> ((1 : Int32) &&& 31)) (nI k &&& 1) (nI (ps_sh t)) := by
  obtain ⟨d, d3, d2, d1, d0, dl⟩ := ps_shD t ht
  rw [ps_hf k hk, ps_od k hk]
  unfold wpX_shares
  dsimp only
  refine ps_sta (by omega) (br_f (by decide) (br_f (nI_pos (by omega)) (pk_lt 1 (k % 2) (fun z => absurd z (by omega)) (fun _ => br_f (nI_pos (by omega)) (pk_le (ps_sh t) 624 (fun _ => ⟨by decide, by decide, by decide, by decide, by decide, by decide, nm_r d (br_t rfl ⟨5, ?_⟩)⟩) (fun z => absurd z (by omega)))))))
  refine br_f (by decide) ⟨by decide, pk_in (4 * k + 3) 32 (by omega) (ps_k4 k 3), nm_r (e' := upd a2 (4 * k + 3) (if 3 = t then 4 else 0)) (by rw [d3, show (4 * (2 * nI (k / 2) + nI (k % 2)) + 3).toNatClampNeg = 4 * k + 3 from pk_cl (4 * k + 3) (ps_k4 k 3)]) ⟨by decide, nm_e (nm_r (e' := nI 2) (by decide) ?_)⟩⟩
  refine br_f (by decide) ⟨by decide, pk_in (4 * k + 2) 32 (by omega) (ps_k4 k 2), nm_r (e' := upd (upd a2 (4 * k + 3) (if 3 = t then 4 else 0)) (4 * k + 2) (if 2 = t then 4 else 0)) (by rw [d2, pk_cl (4 * k + 2) (ps_k4 k 2)]) ⟨by decide, nm_e (nm_r (e' := nI 1) (by decide) ?_)⟩⟩
  refine br_f (by decide) ⟨by decide, pk_in (4 * k + 1) 32 (by omega) (ps_k4 k 1), nm_r (e' := upd (upd (upd a2 (4 * k + 3) (if 3 = t then 4 else 0)) (4 * k + 2) (if 2 = t then 4 else 0)) (4 * k + 1) (if 1 = t then 4 else 0)) (by rw [d1, pk_cl (4 * k + 1) (ps_k4 k 1)]) ⟨by decide, nm_e (nm_r (e' := nI 0) (by decide) ?_)⟩⟩
  refine br_f (by decide) ⟨by decide, pk_in (4 * k + 0) 32 (by omega) (ps_k4 k 0), nm_r (e' := upd (upd (upd (upd a2 (4 * k + 3) (if 3 = t then 4 else 0)) (4 * k + 2) (if 2 = t then 4 else 0)) (4 * k + 1) (if 1 = t then 4 else 0)) (4 * k + 0) (if 0 = t then 4 else 0)) (by rw [d0, pk_cl (4 * k + 0) (ps_k4 k 0)]) ⟨by decide, nm_e (nm_r (e' := -1) (by decide) ?_)⟩⟩
  refine br_t (by decide) (H _ (fun c hc => ?_) (fun j hj => ?_))
  · rcases c with _ | _ | _ | _ | c
    · rw [pk_us]
    · rw [pk_un (by omega), pk_us]
    · rw [pk_un (by omega), pk_un (by omega), pk_us]
    · rw [pk_un (by omega), pk_un (by omega), pk_un (by omega), pk_us]
    · omega
  · rw [pk_un (by omega), pk_un (by omega), pk_un (by omega), pk_un (by omega)]
theorem ps_Kr {R : Nat → Int} {T : Nat → Nat} {k : Nat} {r : Int} (hK : ps_K R T a1 a2) (hk : k < 8) (h1 : -20 ≤ r) (h2 : r ≤ 20) : ps_K (fun j => if j = k then r else R j) (fun j => if j = k then T k else T j) (upd a1 k (Int32.ofInt r)) a2 := by
  intro j hj
  obtain ⟨⟨r1, r2, r3, r4⟩, r5⟩ := hK j hj
  have key : ∀ (r' : Int) (t' : Nat), -20 ≤ r' → r' ≤ 20 → t' = T j → upd a1 k (Int32.ofInt r) j = Int32.ofInt r' → (-20 ≤ r' ∧ r' ≤ 20 ∧ t' < 4 ∧ upd a1 k (Int32.ofInt r) j = Int32.ofInt r') ∧ ∀ c, c < 4 → a2 (4 * j + c) = if c = t' then 4 else 0 := by
    intro r' t' e1 e2 e3 e4
    subst e3
    exact ⟨⟨e1, e2, r3, e4⟩, r5⟩
  refine key (if j = k then r else R j) (if j = k then T k else T j) ?_ ?_ ?_ ?_
  · split <;> omega
  · split <;> omega
  · split
    · next e => rw [e]
    · rfl
  · split
    · next e => rw [e, pk_us]
    · next e => rw [pk_un e, r4]
theorem ps_Ks {R : Nat → Int} {T : Nat → Nat} {k t : Nat} {a : Nat → Int32} (hK : ps_K R T a1 a2) (hk : k < 8) (ht : t < 4) (h1 : ∀ c, c < 4 → a (4 * k + c) = if c = t then 4 else 0) (h2 : ∀ j, j < 4 * k ∨ 4 * k + 4 ≤ j → a j = a2 j) : ps_K (fun j => if j = k then R k else R j) (fun j => if j = k then t else T j) a1 a := by
  intro j hj
  obtain ⟨⟨r1, r2, r3, r4⟩, r5⟩ := hK j hj
  have key : ∀ (r' : Int) (t' : Nat), r' = R j → t' < 4 → (∀ c, c < 4 → a (4 * j + c) = if c = t' then 4 else 0) → (-20 ≤ r' ∧ r' ≤ 20 ∧ t' < 4 ∧ a1 j = Int32.ofInt r') ∧ ∀ c, c < 4 → a (4 * j + c) = if c = t' then 4 else 0 := by
    intro r' t' e1 e2 e3
    subst e1
    exact ⟨⟨r1, r2, e2, r4⟩, e3⟩
  refine key (if j = k then R k else R j) (if j = k then t else T j) ?_ ?_ ?_
  · split
    · next e => rw [e]
    · rfl
  · split
    · exact ht
    · exact r3
  · by_cases e : j = k
    · subst e
      have e0 : (if j = j then t else T j) = t := if_pos rfl
      generalize (if j = j then t else T j) = t' at e0 ⊢
      subst e0
      exact h1
    · have e0 : (if j = k then t else T j) = T j := if_neg e
      generalize (if j = k then t else T j) = t' at e0 ⊢
      subst e0
      intro c hc
      rw [h2 (4 * j + c) (by omega)]
      exact r5 c hc
theorem ps_237 {L : Nat} {xs : Nat → Int32} {J : Int64 → Int32 → Int64 → Int64 → Int32 → Int32 → Int64 → (Nat → Int32) → (Nat → Int32) → (Nat → Int64) → (Nat → Int64) → (Nat → Int64) → (Nat → Int64) → (Nat → Int32) → Prop}
    {R : Nat → Int} {T : Nat → Nat} {w : Int64} {i p kc ks : Nat} (hK : ps_K R T a1 a2) (hW : ps_W R T w) (hp : p < 16) (H : ∀ b x y, J w (nI (i + 3)) b f1 f2 f3 f4 a1 a2 x y a5 a6 a7) :
    ∃ n, wL_law_237 (fun r => r = 1) L xs J w (nI i) (nI p) kc ks n 0 f0 f1 f2 f3 f4 a1 a2 a3 a4 a5 a6 a7 := by
  refine pk_loop (σ := Int64 × (Nat → Int64) × (Nat → Int64)) (fun n j s => wL_law_237 (fun r => r = 1) L xs J w (nI i) (nI p) kc ks n (nI j) s.1 f1 f2 f3 f4 a1 a2 s.2.1 s.2.2 a5 a6 a7) (fun _ _ => True) 4 0 (f0, a3, a4) (by omega) trivial ?_ ?_
  · intro n s _
    exact pk_le 4 4 (fun _ => nm_r (nI_add i 3) (H _ _ _)) (fun z => absurd z (by omega))
  · intro n j s hj _ hw
    refine pk_le 4 j (fun z => absurd z (by omega)) (fun _ => ?_)
    refine ps_holds hK hW hp hj (fun a b => ?_)
    dsimp only
    refine br_f (by decide) ?_
    rw [show (15 : Int32) - nI p = nI (15 - p) from pk_sub (a := 15) (by omega)]
    refine ps_holds hK hW (by omega) hj (fun a' b' => ?_)
    dsimp only
    exact br_f (by decide) (nm_r (nI_1 j) (hw (_, a', b') trivial))
theorem ps_189 {L : Nat} {xs : Nat → Int32} {J : Int64 → Int32 → Int64 → Int64 → Int32 → Int32 → Int64 → (Nat → Int32) → (Nat → Int32) → (Nat → Int64) → (Nat → Int64) → (Nat → Int64) → (Nat → Int64) → (Nat → Int32) → Prop}
    {R : Nat → Int} {T : Nat → Nat} {w : Int64} {i k t kc ks : Nat} {r : Int} (hi : i < L) (hL : L ≤ 260) (hk : k < 8) (ht : t < 4) (h1 : -20 ≤ r) (h2 : r ≤ 20) (hW : ps_W R T w)
    (hK : ps_K (fun j => if j = k then r else R j) (fun j => if j = k then t else T j) a1 a2)
    (H : ∀ w' b x y, ps_W (fun j => if j = k then r else R j) (fun j => if j = k then t else T j) w' → J w' (nI (i + 3)) b f1 f2 f3 f4 a1 a2 x y a5 a6 a7) :
    wL_law_189 (fun r => r = 1) L xs J w (nI i) (nI k) (Int32.ofInt r) (nI t) kc ks f0 f1 f2 f3 f4 a1 a2 a3 a4 a5 a6 a7 := by
  unfold wL_law_189
  have hW' := ps_wU hW hk ht h1 h2
  refine nm_e ⟨pk_in i L hi, ?_⟩
  obtain ⟨p, hp, ep⟩ := pk_andE ((xs (nI i).toNatClampNeg) >>> ((1 : Int32) &&& 31)) (m := 15) 4 (by decide)
  exact nm_r ep (ps_237 hK hW' hp (fun b x y => H _ b x y hW'))
theorem ps_181 {L : Nat} {xs : Nat → Int32} {J : Int64 → Int32 → Int64 → Int64 → Int32 → Int32 → Int64 → (Nat → Int32) → (Nat → Int32) → (Nat → Int64) → (Nat → Int64) → (Nat → Int64) → (Nat → Int64) → (Nat → Int32) → Prop}
    {R : Nat → Int} {T : Nat → Nat} {w : Int64} {i k t kc ks : Nat} {z : Int32} (hz : z = nI (ps_sh t)) (hi : i < L) (hL : L ≤ 260) (hk : k < 8) (ht : t < 4) (hW : ps_W R T w) (hK : ps_K R T a1 a2)
    (H : ∀ w' b a x y, ps_K (fun j => if j = k then R k else R j) (fun j => if j = k then t else T j) a1 a → ps_W (fun j => if j = k then R k else R j) (fun j => if j = k then t else T j) w' → J w' (nI (i + 3)) b f1 0 f3 f4 a1 a x y a5 a6 a7) :
    wL_law_181 (fun r => r = 1) L xs J w (nI i) (nI k) (Int32.ofInt (R k)) (nI t) z (nI k &&& 1) (nI k >>> ((1 : Int32) &&& 31)) kc ks f0 f1 f2 f3 f4 a1 a2 a3 a4 a5 a6 a7 := by
  unfold wL_law_181
  subst hz
  refine ps_shr hk ht (fun a q1 q2 => ?_)
  dsimp only
  obtain ⟨⟨r1, r2, r3, r4⟩, r5⟩ := hK k hk
  have hK' := ps_Ks hK hk ht q1 q2
  exact br_f (by decide) (ps_189 hi hL hk ht r1 r2 hW hK' (fun w' b x y h => H w' b a x y hK' h))
end
theorem ps_46 (xs : Nat → Int32) (L : Nat) (hL : L ≤ 260) (kc ks : Nat) (f1 f4 : Int64) (f3 : Int32) (a5 a6 : Nat → Int64) (a7 : Nat → Int32) : ∀ (n i : Nat) (R : Nat → Int) (T : Nat → Nat) (w f0 : Int64) (f2 : Int32) (a1 a2 : Nat → Int32) (a3 a4 : Nat → Int64), L - i < n → i ≤ L → ps_K R T a1 a2 → ps_W R T w →
    wL_law_46 (fun r => r = 1) L xs kc ks n w (nI i) f0 f1 f2 f3 f4 a1 a2 a3 a4 a5 a6 a7 := by
  intro n
  induction n with
  | zero => intro i R T w f0 f2 a1 a2 a3 a4 h; omega
  | succ n ih =>
    intro i R T w f0 f2 a1 a2 a3 a4 hn hi hK hW
    have hc : (Int32.ofNat L) - 3 < nI i ↔ L < i + 3 := by
      rw [Int32.lt_iff_toInt_lt, show (Int32.ofNat L) - 3 = nI L - nI 3 from rfl, pk_sub_toInt (by omega) (by omega), nI_toInt (by omega)]
      omega
    by_cases h : L < i + 3
    · exact br_t (hc.mpr h) rfl
    obtain ⟨k, hk, ek⟩ := pk_andE (xs (nI i + 1).toNatClampNeg) (m := 7) 3 (by decide)
    obtain ⟨⟨r1, r2, r3, r4⟩, r5⟩ := hK k hk
    refine br_f (fun z => h (hc.mp z)) ⟨pk_in (i + 1) L (by omega) (nI_1 i), nm_r ek ⟨pk_in (i + 2) L (by omega) (nI_add i 2), nm_e (ps_rwL hW hk r3 r1 r2 (ps_toL hW hk r3 ⟨pk_in i L (by omega), br_c (fun _ => ⟨by decide, ?_⟩) (fun _ => ?_)⟩))⟩⟩
    · obtain ⟨j, hj, ej⟩ := pk_andE (xs (nI i + 2).toNatClampNeg) (m := 255) 8 (by decide)
      have hm := Nat.mod_lt j (show 41 > 0 by omega)
      refine nm_r (e' := Int32.ofInt (((j % 41 : Nat) : Int) - 20)) ?_ ?_
      · rw [ej, show nI j - nI j / 41 * 41 = nI (j % 41) from pk_rem (d := 41) (by omega) (by omega) (by omega), ps_m20 _ hm]
      · refine ps_rew hk (by omega) (by omega) ?_
        dsimp only
        refine br_f (by decide) (ps_189 (by omega) hL hk r3 (by omega) (by omega) hW (ps_Kr hK hk (by omega) (by omega)) (fun w' b x y h' => ?_))
        exact ih (i + 3) _ _ w' b _ _ _ x y (by omega) (by omega) (ps_Kr hK hk (by omega) (by omega)) h'
    · obtain ⟨t, ht, et⟩ := pk_andE (xs (nI i + 2).toNatClampNeg) (m := 3) 2 (by decide)
      have key : ∀ z : Int32, z = nI (ps_sh t) → wL_law_181 (fun r => r = 1) L xs (wL_law_46 (fun r => r = 1) L xs kc ks n) w (nI i) (nI k) (Int32.ofInt (R k)) (nI t) z (nI k &&& 1) (nI k >>> ((1 : Int32) &&& 31)) kc ks f0 f1 f2 f3 f4 a1 a2 a3 a4 a5 a6 a7 := by
        intro z hz
        exact ps_181 hz (by omega) hL hk ht hW hK (fun w' b a x y q1 q2 => ih (i + 3) _ _ w' b _ _ _ x y (by omega) (by omega) q1 q2)
      refine nm_r et (pk_eq t 0 (fun e => key _ (by subst e; rfl)) (fun n0 => pk_eq t 1 (fun e => key _ (by subst e; rfl)) (fun n1 => pk_eq t 2 (fun e => key _ (by subst e; rfl)) (fun n2 => key _ ?_))))
      have e : t = 3 := by omega
      subst e
      rfl
theorem i_vc (xs : Nat → Int32) (L : Nat) (hL : L ≤ 260) : wpL_law (fun r => r = 1) L xs := by
  refine ⟨7, 76, by omega, by omega, ps_init (fun a ha => ?_)⟩
  dsimp only
  have hK : ps_K (fun _ => 0) (fun k => k / 2) (fun _ => 0) a := fun k hk => ⟨⟨show (-20 : Int) ≤ 0 from by decide, show (0 : Int) ≤ 20 from by decide, show k / 2 < 4 from by omega, show (0 : Int32) = Int32.ofInt 0 from by decide⟩, ha k hk⟩
  refine ⟨9, ?_⟩
  refine br_f (by decide) (nm_e (nm_e (br_f (by decide) (nm_e (nm_e (br_f (by decide) (nm_e (nm_e (br_f (by decide) (nm_e (nm_e ?_)))))))))))
  refine br_f (by decide) (nm_e (nm_e (br_f (by decide) (nm_e (nm_e (br_f (by decide) (nm_e (nm_e (br_f (by decide) (nm_e (nm_e ?_)))))))))))
  refine br_t (by decide) ⟨L + 1, ps_46 xs L hL _ _ _ _ _ _ _ _ (L + 1) 0 (fun _ => 0) (fun k => k / 2) _ _ _ _ _ _ _ (by omega) (by omega) hK ?_⟩
  unfold ps_W
  decide +kernel
end
