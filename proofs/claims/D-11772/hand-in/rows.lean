section
/-- a store of naturals, and the Java array that holds it -/
def wm_u (m : Nat → Nat) (k v : Nat) : Nat → Nat := fun j => if j = k then v else m j
theorem wm_us {m : Nat → Nat} {k v : Nat} : wm_u m k v k = v := if_pos rfl
theorem wm_un {m : Nat → Nat} {k v j : Nat} (h : j ≠ k) : wm_u m k v j = m j := if_neg h
def wm_A (m : Nat → Nat) : Nat → Int32 := fun j => nI (m j)
theorem wm_uA (m : Nat → Nat) (k v : Nat) : upd (wm_A m) k (nI v) = wm_A (wm_u m k v) := by
  funext j
  by_cases h : j = k
  · rw [h, pk_us]
    show nI v = nI (wm_u m k v k)
    rw [wm_us]
  · rw [pk_un h]
    show nI (m j) = nI (wm_u m k v j)
    rw [wm_un h]
theorem wm_rd {m : Nat → Nat} {k : Nat} {x : Int32} (hx : x = nI k) (h : k < 2 ^ 31) : wm_A m x.toNatClampNeg = nI (m k) := by
  rw [hx, nI_clamp h]
  rfl
theorem wm_st {m : Nat → Nat} {k v : Nat} {x y : Int32} (hx : x = nI k) (h : k < 2 ^ 31) (hy : y = nI v) : upd (wm_A m) x.toNatClampNeg y = wm_A (wm_u m k v) := by
  rw [hx, hy, nI_clamp h]
  exact wm_uA m k v
theorem wm_mod {x : Int32} {a : Nat} (hx : x = nI a) (h : a < 2 ^ 31) : x - x / 7681 * 7681 = nI (a % 7681) := by
  rw [hx]
  exact pk_rem h (by decide) (by decide)
/-- rows over a vector -/
def wm_dt : List Nat → (Nat → Nat) → Nat → Nat
  | [], _, _ => 0
  | a :: l, v, j => a * v j + wm_dt l v (j + 1)
theorem wm_dt_zip (r : Nat) (v : Nat → Nat) : ∀ (A B : List Nat) (j : Nat), A.length = B.length → wm_dt (List.zipWith (fun a b => (a + b * r) % 7681) A B) v j % 7681 = (wm_dt A v j + wm_dt B v j * r) % 7681 := by
  intro A
  induction A with
  | nil =>
    intro B j h
    cases B with
    | nil =>
      show 0 % 7681 = (0 + 0 * r) % 7681
      rw [Nat.zero_mul]
    | cons b B => exact absurd h (by simp)
  | cons a A ih =>
    intro B j h
    cases B with
    | nil => exact absurd h (by simp)
    | cons b B =>
      have h' : A.length = B.length := by simpa using h
      have t := ih B (j + 1) h'
      show ((a + b * r) % 7681 * v j + wm_dt (List.zipWith (fun a b => (a + b * r) % 7681) A B) v (j + 1)) % 7681 = (a * v j + wm_dt A v (j + 1) + (b * v j + wm_dt B v (j + 1)) * r) % 7681
      have e0 : ((a + b * r) % 7681 * v j) % 7681 = ((a + b * r) * v j) % 7681 := by
        rw [Nat.mul_mod, Nat.mod_mod, ← Nat.mul_mod]
      have e1 : (a + b * r) * v j = a * v j + b * r * v j := Nat.add_mul _ _ _
      have e2 : (b * v j + wm_dt B v (j + 1)) * r = b * v j * r + wm_dt B v (j + 1) * r := Nat.add_mul _ _ _
      have e3 : b * r * v j = b * v j * r := Nat.mul_right_comm _ _ _
      rw [e2]
      rw [e1, e3] at e0
      omega
theorem wm_dt_map (r : Nat) (v : Nat → Nat) : ∀ (A : List Nat) (j : Nat), wm_dt (A.map (fun a => a * r % 7681)) v j % 7681 = wm_dt A v j * r % 7681 := by
  intro A
  induction A with
  | nil =>
    intro j
    show 0 % 7681 = 0 * r % 7681
    rw [Nat.zero_mul]
  | cons a A ih =>
    intro j
    have t := ih (j + 1)
    show (a * r % 7681 * v j + wm_dt (A.map (fun a => a * r % 7681)) v (j + 1)) % 7681 = (a * v j + wm_dt A v (j + 1)) * r % 7681
    have e0 : (a * r % 7681 * v j) % 7681 = (a * r * v j) % 7681 := by
      rw [Nat.mul_mod, Nat.mod_mod, ← Nat.mul_mod]
    have e2 : (a * v j + wm_dt A v (j + 1)) * r = a * v j * r + wm_dt A v (j + 1) * r := Nat.add_mul _ _ _
    have e3 : a * r * v j = a * v j * r := Nat.mul_right_comm _ _ _
    rw [e2]
    rw [e3] at e0
    omega
theorem wm_dt_lin (f : Nat) (c d : Nat → Nat) : ∀ (A : List Nat) (j : Nat), wm_dt A (fun s => c s + f * d s) j = wm_dt A c j + f * wm_dt A d j := by
  intro A
  induction A with
  | nil => intro j; rfl
  | cons a A ih =>
    intro j
    show a * (c j + f * d j) + wm_dt A (fun s => c s + f * d s) (j + 1) = a * c j + wm_dt A c (j + 1) + f * (a * d j + wm_dt A d (j + 1))
    rw [ih (j + 1), Nat.mul_add, Nat.mul_add, Nat.mul_left_comm a f (d j)]
    omega
/-- rows: read and put -/
def wm_g : List (List Nat) → Nat → List Nat
  | [], _ => []
  | a :: _, 0 => a
  | _ :: l, k + 1 => wm_g l k
def wm_p : List (List Nat) → Nat → List Nat → List (List Nat)
  | [], _, _ => []
  | _ :: l, 0, x => x :: l
  | a :: l, k + 1, x => a :: wm_p l k x
theorem wm_p_len : ∀ (R : List (List Nat)) (k : Nat) (x : List Nat), (wm_p R k x).length = R.length := by
  intro R
  induction R with
  | nil => intro k x; rfl
  | cons a R ih =>
    intro k x
    cases k with
    | zero => rfl
    | succ k => exact congrArg (· + 1) (ih k x)
theorem wm_gs : ∀ (R : List (List Nat)) (k : Nat) (x : List Nat), k < R.length → wm_g (wm_p R k x) k = x := by
  intro R
  induction R with
  | nil => intro k x h; exact absurd h (Nat.not_lt_zero k)
  | cons a R ih =>
    intro k x h
    cases k with
    | zero => rfl
    | succ k => exact ih k x (Nat.lt_of_succ_lt_succ h)
theorem wm_gn : ∀ (R : List (List Nat)) (k j : Nat) (x : List Nat), j ≠ k → wm_g (wm_p R k x) j = wm_g R j := by
  intro R
  induction R with
  | nil => intro k j x h; rfl
  | cons a R ih =>
    intro k j x h
    cases k with
    | zero =>
      cases j with
      | zero => exact absurd rfl h
      | succ j => rfl
    | succ k =>
      cases j with
      | zero => rfl
      | succ j => exact ih k j x (fun e => h (congrArg (· + 1) e))
/-- the picture of 64 places from b on: rows R over v; the other places as in m0 -/
def wm_Q (b : Nat) (m0 : Nat → Nat) (R : List (List Nat)) (v m : Nat → Nat) : Prop :=
  (∀ j, m j < 7681) ∧ (∀ j, j < b ∨ b + 64 ≤ j → m j = m0 j) ∧ R.length = 64 ∧ ∀ k, k < 64 → (wm_g R k).length = 12 ∧ m (b + k) = wm_dt (wm_g R k) v 0 % 7681
theorem wm_Q_set {b : Nat} {m0 : Nat → Nat} {R : List (List Nat)} {v m : Nat → Nat} (h : wm_Q b m0 R v m) {x val : Nat} {row : List Nat} (hx : x < 64) (hl : row.length = 12) (hv : val = wm_dt row v 0 % 7681) : wm_Q b m0 (wm_p R x row) v (wm_u m (b + x) val) := by
  obtain ⟨h1, h2, h3, h4⟩ := h
  refine ⟨fun j => ?_, fun j hj => ?_, ?_, fun k hk => ?_⟩
  · by_cases e : j = b + x
    · rw [e, wm_us, hv]
      exact Nat.mod_lt _ (by decide)
    · rw [wm_un e]
      exact h1 j
  · rw [wm_un (show j ≠ b + x by omega)]
    exact h2 j hj
  · rw [wm_p_len]
    exact h3
  · by_cases e : k = x
    · rw [e, wm_us, wm_gs R x row (by omega)]
      exact ⟨hl, hv⟩
    · rw [wm_un (show b + k ≠ b + x by omega), wm_gn R x k row e]
      exact h4 k hk
/-- a swap, a butterfly, a scaling on rows -/
def wm_rw (R : List (List Nat)) (x y : Nat) : List (List Nat) := wm_p (wm_p R x (wm_g R y)) y (wm_g R x)
def wm_rb (R : List (List Nat)) (x y r : Nat) : List (List Nat) := wm_p (wm_p R x (List.zipWith (fun a b => (a + b * r) % 7681) (wm_g R x) (wm_g R y))) y (List.zipWith (fun a b => (a + b * (7681 - r)) % 7681) (wm_g R x) (wm_g R y))
def wm_rs (R : List (List Nat)) (x : Nat) : List (List Nat) := wm_p R x ((wm_g R x).map (fun a => a * 7561 % 7681))
theorem wm_Q_sw {b : Nat} {m0 : Nat → Nat} {R : List (List Nat)} {v m : Nat → Nat} (h : wm_Q b m0 R v m) {x y : Nat} (hx : x < 64) (hy : y < 64) : wm_Q b m0 (wm_rw R x y) v (wm_u (wm_u m (b + x) (m (b + y))) (b + y) (m (b + x))) :=
  wm_Q_set (wm_Q_set h hx (h.2.2.2 y hy).1 (h.2.2.2 y hy).2) hy (h.2.2.2 x hx).1 (h.2.2.2 x hx).2
theorem wm_neg (A B a b r : Nat) (ha : a = A % 7681) (hb : b = B % 7681) (hr : r < 7681) : (a + 7681 - b * r % 7681) % 7681 = (A + B * (7681 - r)) % 7681 := by
  have e0 : b * r % 7681 = B * r % 7681 := by
    rw [hb, Nat.mul_mod, Nat.mod_mod, ← Nat.mul_mod]
  have e1 : B * (7681 - r) + B * r = B * 7681 := by
    rw [← Nat.mul_add]
    congr 1
    omega
  rw [e0, ha]
  omega
theorem wm_pos (A B a b r : Nat) (ha : a = A % 7681) (hb : b = B % 7681) : (a + b * r % 7681) % 7681 = (A + B * r) % 7681 := by
  have e0 : b * r % 7681 = B * r % 7681 := by
    rw [hb, Nat.mul_mod, Nat.mod_mod, ← Nat.mul_mod]
  rw [e0, ha]
  omega
theorem wm_Q_bf {b : Nat} {m0 : Nat → Nat} {R : List (List Nat)} {v m : Nat → Nat} (h : wm_Q b m0 R v m) {x y r : Nat} (hx : x < 64) (hy : y < 64) (hr : r < 7681) : wm_Q b m0 (wm_rb R x y r) v (wm_u (wm_u m (b + x) ((m (b + x) + m (b + y) * r % 7681) % 7681)) (b + y) ((m (b + x) + 7681 - m (b + y) * r % 7681) % 7681)) := by
  obtain ⟨lx, ex⟩ := h.2.2.2 x hx
  obtain ⟨ly, ey⟩ := h.2.2.2 y hy
  refine wm_Q_set (wm_Q_set h hx ?_ ?_) hy ?_ ?_
  · rw [List.length_zipWith, lx, ly]; rfl
  · rw [wm_dt_zip r v _ _ 0 (by rw [lx, ly])]
    exact wm_pos _ _ _ _ r ex ey
  · rw [List.length_zipWith, lx, ly]; rfl
  · rw [wm_dt_zip (7681 - r) v _ _ 0 (by rw [lx, ly])]
    exact wm_neg _ _ _ _ r ex ey hr
theorem wm_Q_sc {b : Nat} {m0 : Nat → Nat} {R : List (List Nat)} {v m : Nat → Nat} (h : wm_Q b m0 R v m) {x : Nat} (hx : x < 64) : wm_Q b m0 (wm_rs R x) v (wm_u m (b + x) (m (b + x) * 7561 % 7681)) := by
  obtain ⟨lx, ex⟩ := h.2.2.2 x hx
  refine wm_Q_set h hx ?_ ?_
  · rw [List.length_map, lx]
  · rw [wm_dt_map, ex, Nat.mul_mod, Nat.mod_mod, ← Nat.mul_mod]
end
section
/-- the roots; the numbers of the transform's loops -/
def wm_rt (j : Nat) : Nat := if j < 64 then 5413 ^ j % 7681 else 0
theorem wm_rt_lt (j : Nat) : wm_rt j < 7681 := by
  unfold wm_rt
  by_cases h : j < 64
  · rw [if_pos h]
    exact Nat.mod_lt _ (by decide)
  · rw [if_neg h]
    decide
def wm_rev (k : Nat) : Nat := k % 2 * 32 + k / 2 % 2 * 16 + k / 4 % 2 * 8 + k / 8 % 2 * 4 + k / 16 % 2 * 2 + k / 32 % 2
theorem wm_rev_lt (k : Nat) : wm_rev k < 64 := by
  unfold wm_rev
  omega
def wm_lo (s k : Nat) : Nat := k / 2 ^ s * 2 * 2 ^ s + k % 2 ^ s
def wm_pw (s k : Nat) : Nat := k % 2 ^ s * (32 / 2 ^ s)
def wm_px (bk s k : Nat) : Nat := if bk = 0 then wm_pw s k else if wm_pw s k = 0 then 0 else 64 - wm_pw s k
theorem wm_num : ∀ s, s < 6 → ∀ k, k < 32 → wm_lo s k + 2 ^ s < 64 ∧ wm_pw s k < 32 := by decide +kernel
theorem wm_pows : ∀ s, s < 6 → 0 < 2 ^ s ∧ 2 ^ s ≤ 32 := by decide +kernel
/-- the transform on rows -/
def wm_f1 (R : List (List Nat)) : Nat → List (List Nat)
  | 0 => R
  | k + 1 => if k < wm_rev k then wm_rw (wm_f1 R k) k (wm_rev k) else wm_f1 R k
def wm_f2 (bk s : Nat) (R : List (List Nat)) : Nat → List (List Nat)
  | 0 => R
  | k + 1 => wm_rb (wm_f2 bk s R k) (wm_lo s k) (wm_lo s k + 2 ^ s) (wm_rt (wm_px bk s k))
def wm_f3 (bk : Nat) (R : List (List Nat)) : Nat → List (List Nat)
  | 0 => wm_f1 R 64
  | s + 1 => wm_f2 bk s (wm_f3 bk R s) 32
def wm_f4 (R : List (List Nat)) : Nat → List (List Nat)
  | 0 => R
  | k + 1 => wm_rs (wm_f4 R k) k
/-- the identity's rows, the powers' rows -/
def wm_E : List (List Nat) := (List.range 64).map (fun k => (List.range 12).map (fun s => if s = k then 1 else 0))
def wm_V : List (List Nat) := (List.range 64).map (fun k => (List.range 12).map (fun s => (5413 ^ k % 7681) ^ s % 7681))
theorem wm_fwd : wm_f3 0 wm_E 6 = wm_V := by decide +kernel
theorem wm_bwd : wm_f4 (wm_f3 1 wm_V 6) 64 = wm_E := by decide +kernel
theorem wm_Vrow : ∀ k, k < 64 → wm_g wm_V k = (List.range 12).map (fun s => (5413 ^ k % 7681) ^ s % 7681) := by decide +kernel
theorem wm_Erow : ∀ k, k < 64 → (wm_g wm_E k).length = 12 ∧ (12 ≤ k → wm_g wm_E k = [0, 0, 0, 0, 0, 0, 0, 0, 0, 0, 0, 0]) := by decide +kernel
theorem wm_Elow (v : Nat → Nat) : ∀ k, k < 12 → wm_dt (wm_g wm_E k) v 0 = v k := by
  intro k hk
  have hr : ∀ k, k < 12 → wm_g wm_E k = (List.range 12).map (fun s => if s = k then 1 else 0) := by decide +kernel
  rw [hr k hk]
  have hd : ∀ n j, wm_dt ((List.range' j n).map (fun s => if s = k then 1 else 0)) v j = if j ≤ k ∧ k < j + n then v k else 0 := by
    intro n
    induction n with
    | zero =>
      intro j
      rw [if_neg (by omega)]
      rfl
    | succ n ih =>
      intro j
      rw [List.range'_succ, List.map_cons]
      show (if j = k then 1 else 0) * v j + wm_dt ((List.range' (j + 1) n).map (fun s => if s = k then 1 else 0)) v (j + 1) = _
      rw [ih (j + 1)]
      by_cases e : j = k
      · rw [if_pos e, if_neg (by omega), if_pos (by omega), e]
        omega
      · rw [if_neg e, Nat.zero_mul, Nat.zero_add]
        by_cases g : j + 1 ≤ k ∧ k < j + 1 + n
        · rw [if_pos g, if_pos (by omega)]
        · rw [if_neg g, if_neg (by omega)]
  have t := hd 12 0
  rw [if_pos (by omega), ← List.range_eq_range'] at t
  exact t
theorem wm_Ehigh (v : Nat → Nat) {k : Nat} (hk : k < 64) (h : 12 ≤ k) : wm_dt (wm_g wm_E k) v 0 = 0 := by
  rw [(wm_Erow k hk).2 h]
  simp [wm_dt]
/-- cells that hold v: the identity's rows over v -/
theorem wm_QE {b : Nat} {m v : Nat → Nat} (hm : ∀ j, m j < 7681) (h : ∀ k, k < 12 → m (b + k) = v k) (h0 : ∀ k, 12 ≤ k → k < 64 → m (b + k) = 0) : wm_Q b m wm_E v m := by
  refine ⟨hm, fun j _ => rfl, by decide +kernel, fun k hk => ⟨(wm_Erow k hk).1, ?_⟩⟩
  by_cases e : k < 12
  · rw [wm_Elow v k e, ← h k e]
    exact (Nat.mod_eq_of_lt (hm _)).symm
  · rw [wm_Ehigh v hk (by omega), h0 k (by omega) hk]
/-- products -/
def wm_cv (a b : Nat → Nat) (s : Nat) : Nat := a 0 * b s + (if 1 ≤ s then a 1 * b (s - 1) else 0) + (if 2 ≤ s then a 2 * b (s - 2) else 0)
theorem wm_dt_mod (v : Nat → Nat) (f : Nat → Nat) : ∀ (A : List Nat) (j : Nat), wm_dt (A.map (fun s => f s % 7681)) v j % 7681 = wm_dt (A.map f) v j % 7681 := by
  intro A
  induction A with
  | nil => intro j; rfl
  | cons a A ih =>
    intro j
    have t := ih (j + 1)
    show (f a % 7681 * v j + wm_dt (A.map (fun s => f s % 7681)) v (j + 1)) % 7681 = (f a * v j + wm_dt (A.map f) v (j + 1)) % 7681
    have e0 : (f a % 7681 * v j) % 7681 = (f a * v j) % 7681 := by
      rw [Nat.mul_mod, Nat.mod_mod, ← Nat.mul_mod]
    omega
theorem wm_ring (y a0 a1 a2 b0 b1 b2 b3 b4 b5 b6 b7 b8 b9 : Nat) :
    (a0 + y * a1 + y ^ 2 * a2) * (b0 + y * b1 + y ^ 2 * b2 + y ^ 3 * b3 + y ^ 4 * b4 + y ^ 5 * b5 + y ^ 6 * b6 + y ^ 7 * b7 + y ^ 8 * b8 + y ^ 9 * b9) =
    a0 * b0 + y * (a0 * b1 + a1 * b0) + y ^ 2 * (a0 * b2 + a1 * b1 + a2 * b0) + y ^ 3 * (a0 * b3 + a1 * b2 + a2 * b1) + y ^ 4 * (a0 * b4 + a1 * b3 + a2 * b2) + y ^ 5 * (a0 * b5 + a1 * b4 + a2 * b3) + y ^ 6 * (a0 * b6 + a1 * b5 + a2 * b4) + y ^ 7 * (a0 * b7 + a1 * b6 + a2 * b5) + y ^ 8 * (a0 * b8 + a1 * b7 + a2 * b6) + y ^ 9 * (a0 * b9 + a1 * b8 + a2 * b7) + y ^ 10 * (a1 * b9 + a2 * b8) + y ^ 11 * (a2 * b9) := by grind
theorem wm_dt12 (y : Nat) (v : Nat → Nat) : wm_dt ((List.range 12).map (fun s => y ^ s)) v 0 = v 0 + y * v 1 + y ^ 2 * v 2 + y ^ 3 * v 3 + y ^ 4 * v 4 + y ^ 5 * v 5 + y ^ 6 * v 6 + y ^ 7 * v 7 + y ^ 8 * v 8 + y ^ 9 * v 9 + y ^ 10 * v 10 + y ^ 11 * v 11 := by
  show y ^ 0 * v 0 + (y ^ 1 * v 1 + (y ^ 2 * v 2 + (y ^ 3 * v 3 + (y ^ 4 * v 4 + (y ^ 5 * v 5 + (y ^ 6 * v 6 + (y ^ 7 * v 7 + (y ^ 8 * v 8 + (y ^ 9 * v 9 + (y ^ 10 * v 10 + (y ^ 11 * v 11 + 0))))))))))) = _
  rw [Nat.pow_zero, Nat.one_mul, Nat.pow_one]
  omega
theorem wm_mulE (y : Nat) (a b : Nat → Nat) (ha : ∀ j, 3 ≤ j → a j = 0) (hb : ∀ j, 10 ≤ j → b j = 0) : wm_dt ((List.range 12).map (fun s => y ^ s)) a 0 * wm_dt ((List.range 12).map (fun s => y ^ s)) b 0 = wm_dt ((List.range 12).map (fun s => y ^ s)) (wm_cv a b) 0 := by
  rw [wm_dt12, wm_dt12, wm_dt12, ha 3 (by omega), ha 4 (by omega), ha 5 (by omega), ha 6 (by omega), ha 7 (by omega), ha 8 (by omega), ha 9 (by omega), ha 10 (by omega), ha 11 (by omega), hb 10 (by omega), hb 11 (by omega)]
  have c0 : wm_cv a b 0 = a 0 * b 0 := by simp [wm_cv]
  have c1 : wm_cv a b 1 = a 0 * b 1 + a 1 * b 0 := by simp [wm_cv]
  have c2 : ∀ s, wm_cv a b (s + 2) = a 0 * b (s + 2) + a 1 * b (s + 1) + a 2 * b s := by intro s; simp [wm_cv]
  have c10 : wm_cv a b 10 = a 1 * b 9 + a 2 * b 8 := by rw [c2 8, hb 10 (by omega), Nat.mul_zero, Nat.zero_add]
  have c11 : wm_cv a b 11 = a 2 * b 9 := by rw [c2 9, hb 11 (by omega), hb 10 (by omega), Nat.mul_zero, Nat.mul_zero, Nat.zero_add]
  rw [c0, c1, c2 0, c2 1, c2 2, c2 3, c2 4, c2 5, c2 6, c2 7, c10, c11]
  have t := wm_ring y (a 0) (a 1) (a 2) (b 0) (b 1) (b 2) (b 3) (b 4) (b 5) (b 6) (b 7) (b 8) (b 9)
  simp only [Nat.mul_zero, Nat.add_zero]
  exact t
/-- what one turn of addProduct's last loop does to a cell -/
theorem wm_cell {k S A B F : Nat} {a b c : Nat → Nat} (hk : k < 64) (ha : ∀ j, 3 ≤ j → a j = 0) (hb : ∀ j, 10 ≤ j → b j = 0) (hS : S = wm_dt (wm_g wm_V k) c 0 % 7681) (hA : A = wm_dt (wm_g wm_V k) a 0 % 7681) (hB : B = wm_dt (wm_g wm_V k) b 0 % 7681) : (S + A * B % 7681 * F % 7681) % 7681 = wm_dt (wm_g wm_V k) (fun s => c s + F * wm_cv a b s) 0 % 7681 := by
  rw [wm_dt_lin]
  have e : A * B % 7681 = wm_dt (wm_g wm_V k) (wm_cv a b) 0 % 7681 := by
    rw [hA, hB, wm_Vrow k hk, wm_dt_mod, wm_dt_mod, wm_dt_mod, ← Nat.mul_mod, wm_mulE _ a b ha hb]
  have e2 : A * B % 7681 * F % 7681 = F * wm_dt (wm_g wm_V k) (wm_cv a b) 0 % 7681 := by
    rw [e, Nat.mul_mod, Nat.mod_mod, ← Nat.mul_mod, Nat.mul_comm]
  rw [e2, hS]
  omega
end
section
section
variable {tl pl rd : Int32} {a1 a2 a3 a4 a5 a6 : Nat → Int32}
def wm_tb (x : Int32) : Nat → Int32
  | 0 => 0
  | i + 1 => wm_tb x i ||| (((x >>> (nI i &&& 31)) &&& 1) <<< ((5 - nI i) &&& 31))
theorem wm_tb6 : ∀ k, k < 64 → wm_tb (nI k) 6 = nI (wm_rev k) := by decide +kernel
theorem wm_turn {post : Int32 → Prop} {k : Nat} (hk : k < 64) (H : post (nI (wm_rev k))) : wpX_turnedBits post (tl, pl, rd, a1, a2, a3, a4, a5, a6) (nI k) :=
  pk_loop (σ := Unit) (fun n i _ => wX_turnedBits_4 post (nI k) tl pl rd a1 a2 a3 a4 a5 a6 n (wm_tb (nI k) i) (nI i)) (fun _ _ => True) 6 0 () (by omega) trivial
    (fun n _ _ => pk_le 6 6 (fun _ => by rw [wm_tb6 k hk]; exact H) (fun z => absurd z (by omega)))
    (fun n i _ hi _ hw => pk_le 6 i (fun z => absurd z (by omega)) (fun _ => nm_e (nm_r (nI_1 i) (hw () trivial))))
theorem wm_bf {post : St2 → Prop} {m : Nat → Nat} {x y p : Nat} {X Y Z : Int32} (ex : X = nI x) (ey : Y = nI y) (ez : Z = nI p) (hx : x < 192) (hy : y < 192) (hp : p < 64) (hm : ∀ j, m j < 7681)
    (H : post (tl, pl, rd, a1, a2, wm_A wm_rt, wm_A (wm_u (wm_u m x ((m x + m y * wm_rt p % 7681) % 7681)) y ((m x + 7681 - m y * wm_rt p % 7681) % 7681)), a5, a6)) :
    wpX_butterfly post (tl, pl, rd, a1, a2, wm_A wm_rt, wm_A m, a5, a6) X Y Z := by
  have hb : m y * wm_rt p < 2 ^ 31 := by
    have h1 := hm y
    have h2 := wm_rt_lt p
    have h3 : m y * wm_rt p ≤ 7681 * 7681 := Nat.mul_le_mul (by omega) (by omega)
    omega
  have hxm := hm x
  have hmod : m y * wm_rt p % 7681 < 7681 := Nat.mod_lt _ (by decide)
  have e1 : wm_A m X.toNatClampNeg = nI (m x) := wm_rd ex (by omega)
  have e2 : ((wm_A m Y.toNatClampNeg) * (wm_A wm_rt Z.toNatClampNeg)) - ((wm_A m Y.toNatClampNeg) * (wm_A wm_rt Z.toNatClampNeg)) / 7681 * 7681 = nI (m y * wm_rt p % 7681) :=
    wm_mod (by rw [wm_rd ey (by omega), wm_rd ez (by omega), pk_mul]) hb
  have e3 : upd (wm_A m) X.toNatClampNeg ((nI (m x) + nI (m y * wm_rt p % 7681)) - (nI (m x) + nI (m y * wm_rt p % 7681)) / 7681 * 7681) = wm_A (wm_u m x ((m x + m y * wm_rt p % 7681) % 7681)) :=
    wm_st ex (by omega) (wm_mod (nI_add _ _) (by omega))
  have e4 : upd (wm_A (wm_u m x ((m x + m y * wm_rt p % 7681) % 7681))) Y.toNatClampNeg (((nI (m x) + 7681) - nI (m y * wm_rt p % 7681)) - ((nI (m x) + 7681) - nI (m y * wm_rt p % 7681)) / 7681 * 7681) = wm_A (wm_u (wm_u m x ((m x + m y * wm_rt p % 7681) % 7681)) y ((m x + 7681 - m y * wm_rt p % 7681) % 7681)) :=
    wm_st ey (by omega) (wm_mod (by
      show nI (m x) + nI 7681 - nI (m y * wm_rt p % 7681) = _
      rw [nI_add, pk_sub (by omega)]) (by omega))
  unfold wpX_butterfly
  dsimp only
  exact ⟨pk_in x 192 hx ex, nm_r e1 ⟨pk_in y 192 hy ey, pk_in p 64 hp ez, by decide, nm_r e2 ⟨by decide, pk_in x 192 hx ex, nm_r e3 ⟨by decide, pk_in y 192 hy ey, nm_r e4 H⟩⟩⟩⟩
theorem wm_div {post : St2 → Prop} {b : Nat} {m0 v m : Nat → Nat} {R : List (List Nat)} (hb : b + 64 ≤ 192) (h : wm_Q b m0 R v m) (H : ∀ m', wm_Q b m0 (wm_f4 R 64) v m' → post (tl, pl, rd, a1, a2, a3, wm_A m', a5, a6)) :
    wpX_divideBySize post (tl, pl, rd, a1, a2, a3, wm_A m, a5, a6) (nI b) :=
  pk_loop (fun n i m => wX_divideBySize_2 post (nI b) tl pl rd n (nI i) a1 a2 a3 (wm_A m) a5 a6) (fun i m => wm_Q b m0 (wm_f4 R i) v m) 64 0 m (by omega) h
    (fun n m h => pk_le 64 64 (fun _ => H m h) (fun z => absurd z (by omega)))
    (fun n i m hi h hw => pk_le 64 i (fun z => absurd z (by omega)) (fun _ =>
      ⟨pk_in (b + i) 192 (by omega) (nI_add b i), by decide, pk_in (b + i) 192 (by omega) (nI_add b i),
        nm_r (wm_st (k := b + i) (v := m (b + i) * 7561 % 7681) (nI_add b i) (by omega) (wm_mod (by rw [wm_rd (nI_add b i) (by omega)]; exact pk_mul _ _) (by have := h.1 (b + i); omega)))
          (nm_r (nI_1 i) (hw _ (wm_Q_sc h hi)))⟩))
theorem wm_t79 {post : St2 → Prop} {J : Int32 → Int32 → Int32 → Int32 → (Nat → Int32) → (Nat → Int32) → (Nat → Int32) → (Nat → Int32) → (Nat → Int32) → (Nat → Int32) → Prop} {b bk s : Nat} {m0 v m : Nat → Nat} {R : List (List Nat)} (hb : b + 64 ≤ 192) (hbk : bk ≤ 1) (hs : s < 6) (h : wm_Q b m0 R v m)
    (H : ∀ m', wm_Q b m0 (wm_f2 bk s R 32) v m' → J (nI (2 ^ (s + 1))) tl pl rd a1 a2 (wm_A wm_rt) (wm_A m') a5 a6) :
    ∃ n, wX_transform_79 post J (nI b) (nI bk) (nI (2 ^ s)) n 0 tl pl rd a1 a2 (wm_A wm_rt) (wm_A m) a5 a6 := by
  obtain ⟨hp0, hp1⟩ := wm_pows s hs
  have hne : ¬ nI (2 ^ s) = 0 := nI_ne0 hp0 (by omega)
  refine pk_loop (fun n k m => wX_transform_79 post J (nI b) (nI bk) (nI (2 ^ s)) n (nI k) tl pl rd a1 a2 (wm_A wm_rt) (wm_A m) a5 a6) (fun k m => wm_Q b m0 (wm_f2 bk s R k) v m) 32 0 m (by omega) h ?_ ?_
  · intro n m h
    exact pk_le 32 32 (fun _ => nm_r (pk_mul (2 ^ s) 2) (H m h)) (fun z => absurd z (by omega))
  · intro n k m hk h hw
    obtain ⟨hlo, hpw⟩ := wm_num s hs k hk
    have e5 : nI k - nI k / nI (2 ^ s) * nI (2 ^ s) = nI (k % 2 ^ s) := pk_rem (by omega) hp0 (by omega)
    have e6 : (nI b + ((nI k / nI (2 ^ s)) * 2) * nI (2 ^ s)) + nI (k % 2 ^ s) = nI (b + wm_lo s k) := by
      rw [pk_div (by omega) hp0 (by omega)]
      show (nI b + nI (k / 2 ^ s) * nI 2 * nI (2 ^ s)) + nI (k % 2 ^ s) = nI (b + wm_lo s k)
      rw [pk_mul, pk_mul, nI_add, nI_add, Nat.add_assoc]
      rfl
    have e7 : nI (k % 2 ^ s) * (32 / nI (2 ^ s)) = nI (wm_pw s k) := by
      show nI (k % 2 ^ s) * (nI 32 / nI (2 ^ s)) = nI (wm_pw s k)
      rw [pk_div (by omega) hp0 (by omega), pk_mul]
      rfl
    have ey : nI (b + wm_lo s k) + nI (2 ^ s) = nI (b + (wm_lo s k + 2 ^ s)) := by
      rw [nI_add, Nat.add_assoc]
    have key : ∀ (p : Nat) (Z : Int32), Z = nI p → p < 64 → p = wm_px bk s k → wX_transform_142 post J (wX_transform_79 post J (nI b) (nI bk) (nI (2 ^ s)) n) (nI b) (nI bk) (nI (2 ^ s)) (nI k) Z (nI (b + wm_lo s k) + nI (2 ^ s)) (nI (b + wm_lo s k)) tl pl rd a1 a2 (wm_A wm_rt) (wm_A m) a5 a6 := by
      intro p Z eZ hp ep
      refine wm_bf rfl ey eZ (by omega) (by omega) hp h.1 ?_
      refine nm_r (nI_1 k) (hw _ ?_)
      rw [ep]
      exact wm_Q_bf h (by omega) hlo (wm_rt_lt _)
    have hpx0 : bk = 0 → wm_pw s k = wm_px bk s k := fun z => by
      unfold wm_px
      rw [if_pos z]
    have hpx1 : ¬ bk = 0 → wm_pw s k ≤ 0 → wm_pw s k = wm_px bk s k := fun z g => by
      unfold wm_px
      rw [if_neg z, if_pos (by omega)]
      omega
    have hpx2 : ¬ bk = 0 → 0 < wm_pw s k → 64 - wm_pw s k = wm_px bk s k := fun z g => by
      unfold wm_px
      rw [if_neg z, if_neg (by omega)]
    exact pk_le 32 k (fun z => absurd z (by omega)) (fun _ => ⟨hne, nm_r e5 ⟨hne, nm_r e6 ⟨hne, nm_r e7
      (pk_eq bk 0 (fun z => key (wm_pw s k) _ rfl (by omega) (hpx0 z)) (fun z =>
        pk_le (wm_pw s k) 0 (fun g => key (wm_pw s k) _ rfl (by omega) (hpx1 z g)) (fun g => key (64 - wm_pw s k) _ (pk_sub (a := 64) (by omega)) (by omega) (hpx2 z g))))⟩⟩⟩)
/-- what the transform makes of rows -/
def wm_fin (bk : Nat) (R : List (List Nat)) : List (List Nat) := if bk = 0 then wm_f3 bk R 6 else wm_f4 (wm_f3 bk R 6) 64
theorem wm_t70 {post : St2 → Prop} {b bk : Nat} {m0 v m : Nat → Nat} {R : List (List Nat)} (hb : b + 64 ≤ 192) (hbk : bk ≤ 1) (h : wm_Q b m0 (wm_f1 R 64) v m)
    (H : ∀ m', wm_Q b m0 (wm_fin bk R) v m' → post (tl, pl, rd, a1, a2, wm_A wm_rt, wm_A m', a5, a6)) :
    ∃ n, wX_transform_70 post (nI b) (nI bk) n 1 tl pl rd a1 a2 (wm_A wm_rt) (wm_A m) a5 a6 := by
  refine pk_loop (fun n s m => wX_transform_70 post (nI b) (nI bk) n (nI (2 ^ s)) tl pl rd a1 a2 (wm_A wm_rt) (wm_A m) a5 a6) (fun s m => wm_Q b m0 (wm_f3 bk R s) v m) 6 0 m (by omega) h ?_ ?_
  · intro n m h
    refine pk_le 64 64 (fun _ => pk_eq bk 0 (fun z => H m ?_) (fun z => wm_div hb h (fun m' h' => H m' ?_))) (fun z => absurd z (by omega))
    · unfold wm_fin
      rw [if_pos z]
      exact h
    · unfold wm_fin
      rw [if_neg z]
      exact h'
  · intro n s m hs h hw
    obtain ⟨hp0, hp1⟩ := wm_pows s hs
    exact pk_le 64 (2 ^ s) (fun z => absurd z (by omega)) (fun _ => wm_t79 hb hbk hs h (fun m' h' => hw m' h'))
theorem wm_tr {post : St2 → Prop} {b bk : Nat} {m0 v m : Nat → Nat} {R : List (List Nat)} {X Y : Int32} (eX : X = nI b) (eY : Y = nI bk) (hb : b + 64 ≤ 192) (hbk : bk ≤ 1) (h : wm_Q b m0 R v m)
    (H : ∀ m', wm_Q b m0 (wm_fin bk R) v m' → post (tl, pl, rd, a1, a2, wm_A wm_rt, wm_A m', a5, a6)) :
    wpX_transform post (tl, pl, rd, a1, a2, wm_A wm_rt, wm_A m, a5, a6) X Y := by
  rw [eX, eY]
  refine pk_loop (fun n i m => wX_transform_2 post (nI b) (nI bk) tl pl rd n (nI i) a1 a2 (wm_A wm_rt) (wm_A m) a5 a6) (fun i m => wm_Q b m0 (wm_f1 R i) v m) 64 0 m (by omega) h ?_ ?_
  · intro n m h
    exact pk_le 64 64 (fun _ => wm_t70 hb hbk h H) (fun z => absurd z (by omega))
  · intro n i m hi h hw
    have hr := wm_rev_lt i
    refine pk_le 64 i (fun z => absurd z (by omega)) (fun _ => wm_turn hi (pk_lt i (wm_rev i) (fun z => ?_) (fun z => nm_r (nI_1 i) (hw _ ?_))))
    · refine ⟨pk_in (b + i) 192 (by omega) (nI_add b i), nm_r (wm_rd (nI_add b i) (by omega)) ⟨pk_in (b + wm_rev i) 192 (by omega) (nI_add _ _), pk_in (b + i) 192 (by omega) (nI_add b i),
        nm_r (wm_st (nI_add b i) (by omega) (wm_rd (nI_add b (wm_rev i)) (by omega))) ⟨pk_in (b + wm_rev i) 192 (by omega) (nI_add _ _), nm_r (wm_st (nI_add b (wm_rev i)) (by omega) rfl) (nm_r (nI_1 i) (hw _ ?_))⟩⟩⟩
      show wm_Q b m0 (if i < wm_rev i then wm_rw (wm_f1 R i) i (wm_rev i) else wm_f1 R i) v _
      rw [if_pos z]
      exact wm_Q_sw h hi hr
    · show wm_Q b m0 (if i < wm_rev i then wm_rw (wm_f1 R i) i (wm_rev i) else wm_f1 R i) v m
      rw [if_neg (by omega)]
      exact h
end
end
section
section
variable {tl pl rd : Int32} {a1 a2 a3 a4 a5 a6 : Nat → Int32}
/-- the sum's places hold the powers' rows over c -/
def wm_Z (c m : Nat → Nat) : Prop := (∀ j, m j < 7681) ∧ ∀ k, k < 64 → m (128 + k) = wm_dt (wm_g wm_V k) c 0 % 7681
theorem wm_dt0 : ∀ (A : List Nat) (j : Nat), wm_dt A (fun _ => 0) j = 0 := by
  intro A
  induction A with
  | nil => intro j; rfl
  | cons a A ih =>
    intro j
    show a * 0 + wm_dt A (fun _ => 0) (j + 1) = 0
    rw [ih, Nat.mul_zero]
theorem wm_clear {post : St2 → Prop} {m : Nat → Nat} (hm : ∀ j, m j < 7681) (H : ∀ m', wm_Z (fun _ => 0) m' → post (tl, pl, rd, a1, a2, a3, wm_A m', a5, a6)) :
    wpX_clearSum post (tl, pl, rd, a1, a2, a3, wm_A m, a5, a6) := by
  refine pk_loop (fun n i m => wX_clearSum_2 post tl pl rd n (nI i) a1 a2 a3 (wm_A m) a5 a6) (fun i m => (∀ j, m j < 7681) ∧ ∀ k, k < i → m (128 + k) = 0) 64 0 m (by omega) ⟨hm, fun k hk => absurd hk (by omega)⟩ ?_ ?_
  · intro n m h
    refine pk_le 64 64 (fun _ => H m ⟨h.1, fun k hk => ?_⟩) (fun z => absurd z (by omega))
    rw [h.2 k hk, wm_dt0]
  · intro n i m hi h hw
    refine pk_le 64 i (fun z => absurd z (by omega)) (fun _ => ⟨pk_in (128 + i) 192 (by omega) (nI_add 128 i), nm_r (wm_st (v := 0) (nI_add 128 i) (by omega) rfl) (nm_r (nI_1 i) (hw _ ⟨fun j => ?_, fun k hk => ?_⟩))⟩)
    · by_cases e : j = 128 + i
      · rw [e, wm_us]
        decide
      · rw [wm_un e]
        exact h.1 j
    · by_cases e : k = i
      · rw [e, wm_us]
      · rw [wm_un (by omega)]
        exact h.2 k (by omega)
/-- a measure: what the method measure computes for letters 0..4 -/
def wm_M (f : Nat → Nat) (p : Int32) : Prop := (∀ x, x ≤ 4 → f x < 7681) ∧ ∀ (post : Int32 → Prop) (tl pl rd : Int32) (a1 a2 a3 a4 a5 a6 : Nat → Int32) (x : Nat) (X : Int32), X = nI x → x ≤ 4 → post (nI (f x)) → wpX_measure post (tl, pl, rd, a1, a2, a3, a4, a5, a6) X p
def wm_mp (e x : Nat) : Nat := if x = 0 then 0 else x ^ e
def wm_me (l x : Nat) : Nat := if x = l then 1 else 0
theorem wm_mp_lt : ∀ e, e ≤ 3 → ∀ x, x ≤ 4 → wm_mp e x < 7681 := by decide +kernel
theorem wm_M_p {e : Nat} {p : Int32} (he : e ≤ 3) (ep : p = nI e) : wm_M (wm_mp e) p := by
  refine ⟨fun x hx => wm_mp_lt e he x hx, ?_⟩
  intro post tl pl rd a1 a2 a3 a4 a5 a6 x X eX hx H
  rw [eX, ep]
  refine br_t (nI_pos' (by omega)) (pk_eq x 0 (fun z => ?_) (fun z => ?_))
  · have t : wm_mp e x = 0 := by
      unfold wm_mp
      rw [if_pos z]
    rw [t] at H
    exact H
  · have t : wm_mp e x = x ^ e := by
      unfold wm_mp
      rw [if_neg z]
    rw [t] at H
    exact pk_loop (σ := Unit) (fun n i _ => wX_measure_27 post (nI x) (nI e) tl pl rd a1 a2 a3 a4 a5 a6 n (nI (x ^ i)) (nI i)) (fun _ _ => True) e 0 () (by omega) trivial
      (fun n _ _ => pk_le e e (fun _ => H) (fun z => absurd z (by omega)))
      (fun n i _ hi _ hw => pk_le e i (fun z => absurd z (by omega)) (fun _ => nm_r (pk_mul _ _) (nm_r (nI_1 i) (hw () trivial))))
theorem wm_neg_l : ∀ l, l < 5 → 0 < l → ¬ (0 : Int32) ≤ - nI l ∧ - (- nI l) = nI l := by decide +kernel
theorem wm_M_e {l : Nat} {p : Int32} (h0 : 0 < l) (hl : l ≤ 4) (ep : p = - nI l) : wm_M (wm_me l) p := by
  refine ⟨fun x hx => ?_, ?_⟩
  · unfold wm_me
    by_cases e : x = l
    · rw [if_pos e]; decide
    · rw [if_neg e]; decide
  · intro post tl pl rd a1 a2 a3 a4 a5 a6 x X eX hx H
    obtain ⟨n1, n2⟩ := wm_neg_l l (by omega) h0
    rw [eX, ep]
    refine br_f n1 (pk_eq x l (fun z => ?_) (fun z => ?_) rfl n2)
    · have t : wm_me l x = 1 := by
        unfold wm_me
        rw [if_pos z]
      rw [t] at H
      exact H
    · have t : wm_me l x = 0 := by
        unfold wm_me
        rw [if_neg z]
      rw [t] at H
      exact H
/-- the two factors: the measured pattern turned round, the measured text continued -/
def wm_pa (f q : Nat → Nat) (i : Nat) : Nat := if i < 3 then f (q (2 - i)) else 0
def wm_ta (g t : Nat → Nat) (j : Nat) : Nat := if j < 10 then g (t (j % 8)) else 0
theorem wm_a151 {post : St2 → Prop} {a b c m : Nat → Nat} {F : Nat} (hF : F < 7681) (ha : ∀ j, 3 ≤ j → a j = 0) (hb : ∀ j, 10 ≤ j → b j = 0) (h : wm_Z c m)
    (hA : ∀ k, k < 64 → m (64 + k) = wm_dt (wm_g wm_V k) a 0 % 7681) (hB : ∀ k, k < 64 → m (0 + k) = wm_dt (wm_g wm_V k) b 0 % 7681)
    (H : ∀ m', wm_Z (fun s => c s + F * wm_cv a b s) m' → post (tl, pl, rd, a1, a2, a3, wm_A m', a5, a6)) :
    ∃ n, wX_addProduct_151 post (nI F) tl pl rd n 0 a1 a2 a3 (wm_A m) a5 a6 := by
  refine pk_loop (fun n i m => wX_addProduct_151 post (nI F) tl pl rd n (nI i) a1 a2 a3 (wm_A m) a5 a6)
    (fun i m => (∀ j, m j < 7681) ∧ (∀ k, k < 64 → m (64 + k) = wm_dt (wm_g wm_V k) a 0 % 7681 ∧ m (0 + k) = wm_dt (wm_g wm_V k) b 0 % 7681) ∧ (∀ k, k < i → m (128 + k) = wm_dt (wm_g wm_V k) (fun s => c s + F * wm_cv a b s) 0 % 7681) ∧ (∀ k, i ≤ k → k < 64 → m (128 + k) = wm_dt (wm_g wm_V k) c 0 % 7681))
    64 0 m (by omega) ⟨h.1, fun k hk => ⟨hA k hk, hB k hk⟩, fun k hk => absurd hk (by omega), fun k _ hk => h.2 k hk⟩ ?_ ?_
  · intro n m h
    exact pk_le 64 64 (fun _ => H m ⟨h.1, h.2.2.1⟩) (fun z => absurd z (by omega))
  · intro n i m hi h hw
    obtain ⟨h1, h2, h3, h4⟩ := h
    have b1 := h1 (64 + i)
    have b2 := h1 (0 + i)
    have b3 := h1 (128 + i)
    have hp : m (64 + i) * m (0 + i) < 2 ^ 31 := by
      have h3 : m (64 + i) * m (0 + i) ≤ 7681 * 7681 := Nat.mul_le_mul (by omega) (by omega)
      omega
    have hq : m (64 + i) * m (0 + i) % 7681 < 7681 := Nat.mod_lt _ (by decide)
    have hp2 : m (64 + i) * m (0 + i) % 7681 * F < 2 ^ 31 := by
      have h3 : m (64 + i) * m (0 + i) % 7681 * F ≤ 7681 * 7681 := Nat.mul_le_mul (by omega) (by omega)
      omega
    have hq2 : m (64 + i) * m (0 + i) % 7681 * F % 7681 < 7681 := Nat.mod_lt _ (by decide)
    have r1 : (64 : Int32) + nI i = nI (64 + i) := nI_add 64 i
    have r2 : (0 : Int32) + nI i = nI (0 + i) := nI_add 0 i
    have r3 : (128 : Int32) + nI i = nI (128 + i) := nI_add 128 i
    have e1 := wm_mod (x := wm_A m ((64 : Int32) + nI i).toNatClampNeg * wm_A m ((0 : Int32) + nI i).toNatClampNeg) (a := m (64 + i) * m (0 + i)) (by rw [wm_rd r1 (by omega), wm_rd r2 (by omega), pk_mul]) hp
    have e2 := wm_mod (x := (wm_A m ((64 : Int32) + nI i).toNatClampNeg * wm_A m ((0 : Int32) + nI i).toNatClampNeg - wm_A m ((64 : Int32) + nI i).toNatClampNeg * wm_A m ((0 : Int32) + nI i).toNatClampNeg / 7681 * 7681) * nI F) (a := m (64 + i) * m (0 + i) % 7681 * F) (by rw [e1, pk_mul]) hp2
    have e3 := wm_mod (x := wm_A m ((128 : Int32) + nI i).toNatClampNeg + nI (m (64 + i) * m (0 + i) % 7681 * F % 7681)) (a := m (128 + i) + m (64 + i) * m (0 + i) % 7681 * F % 7681) (by rw [wm_rd r3 (by omega), nI_add]) (by omega)
    refine pk_le 64 i (fun z => absurd z (by omega)) (fun _ => ⟨pk_in (64 + i) 192 (by omega) r1, pk_in (0 + i) 192 (by omega) r2, by decide, by decide, nm_r e2 ⟨pk_in (128 + i) 192 (by omega) r3, by decide, pk_in (128 + i) 192 (by omega) r3, nm_r (wm_st r3 (by omega) e3) (nm_r (nI_1 i) (hw _ ⟨fun j => ?_, fun k hk => ?_, fun k hk => ?_, fun k hk hk2 => ?_⟩))⟩⟩)
    · by_cases e : j = 128 + i
      · rw [e, wm_us]
        exact Nat.mod_lt _ (by decide)
      · rw [wm_un e]
        exact h1 j
    · rw [wm_un (by omega), wm_un (by omega)]
      exact h2 k hk
    · by_cases e : k = i
      · rw [e, wm_us]
        exact wm_cell hi ha hb (h4 i (by omega) hi) (h2 i hi).1 (h2 i hi).2
      · rw [wm_un (by omega)]
        exact h3 k (by omega)
    · rw [wm_un (by omega)]
      exact h4 k (by omega) hk2
end
end
section
section
variable {rd : Int32} {a1 a2 a3 a4 a5 a6 : Nat → Int32}
theorem wm_fin0 : wm_fin 0 wm_E = wm_V := by
  unfold wm_fin
  rw [if_pos rfl]
  exact wm_fwd
theorem wm_fin1 : wm_fin 1 wm_V = wm_E := by
  unfold wm_fin
  rw [if_neg (by decide)]
  exact wm_bwd
theorem wm_a87 {post : St2 → Prop} {t c m m0 : Nat → Nat} {a g : Nat → Nat} {F : Nat} {p2 : Int32} (hF : F < 7681) (ht : ∀ j, t j ≤ 4) (hg : wm_M g p2) (ha : ∀ j, 3 ≤ j → a j = 0) (hc : ∀ k, k < 64 → m0 (128 + k) = wm_dt (wm_g wm_V k) c 0 % 7681)
    (h : (∀ j, m j < 7681) ∧ (∀ j, j < 64 → m j = 0) ∧ (∀ j, j < 64 → m (64 + j) = a j) ∧ (∀ j, 128 ≤ j → m j = m0 j))
    (H : ∀ m', wm_Z (fun s => c s + F * wm_cv a (wm_ta g t) s) m' → post (nI 8, nI 3, rd, wm_A t, a2, wm_A wm_rt, wm_A m', a5, a6)) :
    ∃ n, wX_addProduct_87 post p2 (nI F) (nI 8) (nI 3) rd n 0 (wm_A t) a2 (wm_A wm_rt) (wm_A m) a5 a6 := by
  obtain ⟨g1, g2⟩ := hg
  refine pk_loop (fun n i m => wX_addProduct_87 post p2 (nI F) (nI 8) (nI 3) rd n (nI i) (wm_A t) a2 (wm_A wm_rt) (wm_A m) a5 a6)
    (fun i m => (∀ j, m j < 7681) ∧ (∀ j, j < i → m j = wm_ta g t j) ∧ (∀ j, i ≤ j → j < 64 → m j = 0) ∧ (∀ j, j < 64 → m (64 + j) = a j) ∧ (∀ j, 128 ≤ j → m j = m0 j)) 10 0 m (by omega)
    ⟨h.1, fun j hj => absurd hj (by omega), fun j _ hj => h.2.1 j hj, h.2.2.1, h.2.2.2⟩ ?_ ?_
  · intro n m h
    obtain ⟨h1, h2, h3, h4, h5⟩ := h
    refine pk_le 10 10 (fun _ => ?_) (fun z => absurd z (by omega)) (by decide)
    have qa : wm_Q 64 m wm_E a m := wm_QE h1 (fun k hk => h4 k (by omega)) (fun k hk hk2 => by rw [h4 k hk2]; exact ha k (by omega))
    refine wm_tr (b := 64) (bk := 0) rfl rfl (by omega) (by omega) qa (fun m1 q1 => ?_)
    rw [wm_fin0] at q1
    obtain ⟨q11, q12, q13, q14⟩ := q1
    have e1 : ∀ k, k < 64 → m1 (0 + k) = m k := fun k hk => by rw [Nat.zero_add]; exact q12 k (by omega)
    have qb : wm_Q 0 m1 wm_E (wm_ta g t) m1 := by
      refine wm_QE q11 (fun k hk => ?_) (fun k hk hk2 => ?_)
      · rw [e1 k (by omega)]
        by_cases e : k < 10
        · exact h2 k e
        · rw [h3 k (by omega) (by omega)]
          unfold wm_ta
          rw [if_neg e]
      · rw [e1 k hk2]
        exact h3 k (by omega) hk2
    refine wm_tr (b := 0) (bk := 0) rfl rfl (by omega) (by omega) qb (fun m2 q2 => ?_)
    rw [wm_fin0] at q2
    obtain ⟨q21, q22, q23, q24⟩ := q2
    refine wm_a151 hF ha (fun j hj => ?_) ⟨q21, fun k hk => ?_⟩ (fun k hk => ?_) (fun k hk => (q24 k hk).2) H
    · unfold wm_ta
      rw [if_neg (by omega)]
    · rw [q22 (128 + k) (by omega), q12 (128 + k) (by omega), h5 (128 + k) (by omega)]
      exact hc k hk
    · rw [q22 (64 + k) (by omega)]
      exact (q14 k hk).2
  · intro n i m hi h hw
    obtain ⟨h1, h2, h3, h4, h5⟩ := h
    have er : nI i - nI i / nI 8 * nI 8 = nI (i % 8) := pk_rem (by omega) (by decide) (by decide)
    have r0 : (0 : Int32) + nI i = nI (0 + i) := nI_add 0 i
    have ti := ht (i % 8)
    refine pk_le 10 i (fun z => absurd z (by omega)) (fun _ => ⟨by decide, pk_in (i % 8) 40 (by omega) er, g2 _ _ _ _ _ _ _ _ _ _ (t (i % 8)) _ (wm_rd er (by omega)) ti ⟨pk_in (0 + i) 192 (by omega) r0, nm_r (wm_st r0 (by omega) rfl) (nm_r (nI_1 i) (hw _ ⟨fun j => ?_, fun j hj => ?_, fun j hj hj2 => ?_, fun j hj => ?_, fun j hj => ?_⟩))⟩⟩) (by decide)
    · by_cases e : j = 0 + i
      · rw [e, wm_us]
        exact g1 _ ti
      · rw [wm_un e]
        exact h1 j
    · by_cases e : j = 0 + i
      · rw [e, wm_us, Nat.zero_add]
        unfold wm_ta
        rw [if_pos hi]
      · rw [wm_un e]
        exact h2 j (by omega)
    · rw [wm_un (by omega)]
      exact h3 j (by omega) hj2
    · rw [wm_un (by omega)]
      exact h4 j hj
    · rw [wm_un (by omega)]
      exact h5 j hj
theorem wm_a40 {post : St2 → Prop} {t q c m m0 : Nat → Nat} {f g : Nat → Nat} {F : Nat} {p1 p2 : Int32} (hF : F < 7681) (ht : ∀ j, t j ≤ 4) (hq : ∀ j, q j ≤ 4) (hf : wm_M f p1) (hg : wm_M g p2) (hc : ∀ k, k < 64 → m0 (128 + k) = wm_dt (wm_g wm_V k) c 0 % 7681)
    (h : (∀ j, m j < 7681) ∧ (∀ j, j < 64 → m j = 0) ∧ (∀ j, j < 64 → m (64 + j) = 0) ∧ (∀ j, 128 ≤ j → m j = m0 j))
    (H : ∀ m', wm_Z (fun s => c s + F * wm_cv (wm_pa f q) (wm_ta g t) s) m' → post (nI 8, nI 3, rd, wm_A t, wm_A q, wm_A wm_rt, wm_A m', a5, a6)) :
    ∃ n, wX_addProduct_40 post p1 p2 (nI F) (nI 8) (nI 3) rd n 0 (wm_A t) (wm_A q) (wm_A wm_rt) (wm_A m) a5 a6 := by
  obtain ⟨f1, f2⟩ := hf
  refine pk_loop (fun n i m => wX_addProduct_40 post p1 p2 (nI F) (nI 8) (nI 3) rd n (nI i) (wm_A t) (wm_A q) (wm_A wm_rt) (wm_A m) a5 a6)
    (fun i m => (∀ j, m j < 7681) ∧ (∀ j, j < 64 → m j = 0) ∧ (∀ j, j < i → m (66 - j) = f (q j)) ∧ (∀ j, 3 ≤ j → j < 64 → m (64 + j) = 0) ∧ (∀ j, 128 ≤ j → m j = m0 j)) 3 0 m (by omega)
    ⟨h.1, h.2.1, fun j hj => absurd hj (by omega), fun j _ hj => h.2.2.1 j hj, h.2.2.2⟩ ?_ ?_
  · intro n m h
    obtain ⟨h1, h2, h3, h4, h5⟩ := h
    refine pk_le 3 3 (fun _ => ?_) (fun z => absurd z (by omega))
    refine wm_a87 (m0 := m0) hF ht hg (fun j hj => ?_) hc ⟨h1, h2, fun j hj => ?_, h5⟩ H
    · unfold wm_pa
      rw [if_neg (by omega)]
    · unfold wm_pa
      by_cases e : j < 3
      · rw [if_pos e, ← h3 (2 - j) (by omega)]
        congr 1
        omega
      · rw [if_neg e]
        exact h4 j (by omega) hj
  · intro n i m hi h hw
    obtain ⟨h1, h2, h3, h4, h5⟩ := h
    have r0 : (((64 : Int32) + nI 3) - 1) - nI i = nI (66 - i) := by
      rw [show ((64 : Int32) + nI 3) - 1 = nI 66 by decide, pk_sub (by omega)]
    have qi := hq i
    refine pk_le 3 i (fun z => absurd z (by omega)) (fun _ => ⟨pk_in i 12 (by omega), f2 _ _ _ _ _ _ _ _ _ _ (q i) _ (wm_rd rfl (by omega)) qi ⟨pk_in (66 - i) 192 (by omega) r0, nm_r (wm_st r0 (by omega) rfl) (nm_r (nI_1 i) (hw _ ⟨fun j => ?_, fun j hj => ?_, fun j hj => ?_, fun j hj hj2 => ?_, fun j hj => ?_⟩))⟩⟩)
    · by_cases e : j = 66 - i
      · rw [e, wm_us]
        exact f1 _ qi
      · rw [wm_un e]
        exact h1 j
    · rw [wm_un (by omega)]
      exact h2 j hj
    · by_cases e : j = i
      · rw [e, wm_us]
      · rw [wm_un (by omega)]
        exact h3 j (by omega)
    · rw [wm_un (by omega)]
      exact h4 j hj hj2
    · rw [wm_un (by omega)]
      exact h5 j hj
/-- addProduct: the sum's places get the product, times F -/
theorem wm_add {post : St2 → Prop} {t q c m : Nat → Nat} {f g : Nat → Nat} {F : Nat} {p1 p2 p3 : Int32} (e3 : p3 = nI F) (hF : F < 7681) (ht : ∀ j, t j ≤ 4) (hq : ∀ j, q j ≤ 4) (hf : wm_M f p1) (hg : wm_M g p2) (h : wm_Z c m)
    (H : ∀ m', wm_Z (fun s => c s + F * wm_cv (wm_pa f q) (wm_ta g t) s) m' → post (nI 8, nI 3, rd, wm_A t, wm_A q, wm_A wm_rt, wm_A m', a5, a6)) :
    wpX_addProduct post (nI 8, nI 3, rd, wm_A t, wm_A q, wm_A wm_rt, wm_A m, a5, a6) p1 p2 p3 := by
  rw [e3]
  refine pk_loop (fun n i m => wX_addProduct_3 post p1 p2 (nI F) (nI 8) (nI 3) rd n (nI i) (wm_A t) (wm_A q) (wm_A wm_rt) (wm_A m) a5 a6)
    (fun i m' => (∀ j, m' j < 7681) ∧ (∀ j, j < i → m' j = 0) ∧ (∀ j, j < i → m' (64 + j) = 0) ∧ (∀ j, 128 ≤ j → m' j = m j)) 64 0 m (by omega)
    ⟨h.1, fun j hj => absurd hj (by omega), fun j hj => absurd hj (by omega), fun j _ => rfl⟩ ?_ ?_
  · intro n m' h'
    exact pk_le 64 64 (fun _ => wm_a40 (m0 := m) hF ht hq hf hg h.2 h' H) (fun z => absurd z (by omega))
  · intro n i m' hi h' hw
    obtain ⟨h1, h2, h3, h5⟩ := h'
    have r1 : (64 : Int32) + nI i = nI (64 + i) := nI_add 64 i
    have r0 : (0 : Int32) + nI i = nI (0 + i) := nI_add 0 i
    refine pk_le 64 i (fun z => absurd z (by omega)) (fun _ => ⟨pk_in (64 + i) 192 (by omega) r1, nm_r (wm_st (v := 0) r1 (by omega) rfl) ⟨pk_in (0 + i) 192 (by omega) r0, nm_r (wm_st (v := 0) r0 (by omega) rfl) (nm_r (nI_1 i) (hw _ ⟨fun j => ?_, fun j hj => ?_, fun j hj => ?_, fun j hj => ?_⟩))⟩⟩)
    · by_cases e : j = 0 + i
      · rw [e, wm_us]
        decide
      · rw [wm_un e]
        by_cases e2 : j = 64 + i
        · rw [e2, wm_us]
          decide
        · rw [wm_un e2]
          exact h1 j
    · by_cases e : j = 0 + i
      · rw [e, wm_us]
      · rw [wm_un e, wm_un (by omega)]
        exact h2 j (by omega)
    · rw [wm_un (by omega)]
      by_cases e : j = i
      · rw [e, wm_us]
      · rw [wm_un (by omega)]
        exact h3 j (by omega)
    · rw [wm_un (by omega), wm_un (by omega)]
      exact h5 j hj
end
end
section
/-- the law's own count of mismatches at a turned shift -/
def wm_dd (x y : Nat) : Nat := if x = y then 0 else if x = 0 then 0 else if y = 0 then 0 else 1
def wm_d (t q : Nat → Nat) (i : Nat) : Nat := wm_dd (t (i % 8)) (q 0) + wm_dd (t ((i + 1) % 8)) (q 1) + wm_dd (t ((i + 2) % 8)) (q 2)
/-- what the two sums hold -/
def wm_c1 (t q : Nat → Nat) (s : Nat) : Nat := ((0 + 1 * wm_cv (wm_pa (wm_mp 3) q) (wm_ta (wm_mp 1) t) s) + 7679 * wm_cv (wm_pa (wm_mp 2) q) (wm_ta (wm_mp 2) t) s) + 1 * wm_cv (wm_pa (wm_mp 1) q) (wm_ta (wm_mp 3) t) s
def wm_cw (t q : Nat → Nat) : Nat → Nat → Nat
  | 0 => fun s => 0 + 1 * wm_cv (wm_pa (wm_mp 0) q) (wm_ta (wm_mp 0) t) s
  | l + 1 => fun s => wm_cw t q l s + 7680 * wm_cv (wm_pa (wm_me (l + 1)) q) (wm_ta (wm_me (l + 1)) t) s
theorem wm_cv2 (f g t q : Nat → Nat) {i : Nat} (hi : i < 8) : wm_cv (wm_pa f q) (wm_ta g t) (i + 2) = f (q 2) * g (t ((i + 2) % 8)) + f (q 1) * g (t ((i + 1) % 8)) + f (q 0) * g (t (i % 8)) := by
  have e : wm_cv (wm_pa f q) (wm_ta g t) (i + 2) = wm_pa f q 0 * wm_ta g t (i + 2) + wm_pa f q 1 * wm_ta g t (i + 1) + wm_pa f q 2 * wm_ta g t i := by simp [wm_cv]
  have p0 : wm_pa f q 0 = f (q 2) := rfl
  have p1 : wm_pa f q 1 = f (q 1) := rfl
  have p2 : wm_pa f q 2 = f (q 0) := rfl
  have tt : ∀ j, j < 10 → wm_ta g t j = g (t (j % 8)) := fun j hj => by
    unfold wm_ta
    rw [if_pos hj]
  rw [e, p0, p1, p2, tt (i + 2) (by omega), tt (i + 1) (by omega), tt i (by omega)]
theorem wm_G : ∀ x, x < 5 → ∀ y, y < 5 → (wm_mp 3 y * wm_mp 1 x + 7679 * (wm_mp 2 y * wm_mp 2 x) + wm_mp 1 y * wm_mp 3 x) % 7681 ≤ 36 ∧ ((wm_mp 3 y * wm_mp 1 x + 7679 * (wm_mp 2 y * wm_mp 2 x) + wm_mp 1 y * wm_mp 3 x) % 7681 = 0 ↔ wm_dd x y = 0) := by decide +kernel
theorem wm_H : ∀ x, x < 5 → ∀ y, y < 5 → wm_dd x y ≤ 1 ∧ (wm_mp 0 y * wm_mp 0 x + 7680 * (wm_me 1 y * wm_me 1 x) + 7680 * (wm_me 2 y * wm_me 2 x) + 7680 * (wm_me 3 y * wm_me 3 x) + 7680 * (wm_me 4 y * wm_me 4 x)) % 7681 = wm_dd x y := by decide +kernel
theorem wm_sum1 (A0 B0 C0 A1 B1 C1 A2 B2 C2 d0 d1 d2 : Nat)
    (h0 : (A0 + 7679 * B0 + C0) % 7681 ≤ 36 ∧ ((A0 + 7679 * B0 + C0) % 7681 = 0 ↔ d0 = 0))
    (h1 : (A1 + 7679 * B1 + C1) % 7681 ≤ 36 ∧ ((A1 + 7679 * B1 + C1) % 7681 = 0 ↔ d1 = 0))
    (h2 : (A2 + 7679 * B2 + C2) % 7681 ≤ 36 ∧ ((A2 + 7679 * B2 + C2) % 7681 = 0 ↔ d2 = 0)) :
    (((0 + 1 * (A2 + A1 + A0)) + 7679 * (B2 + B1 + B0)) + 1 * (C2 + C1 + C0)) % 7681 = 0 ↔ d0 + d1 + d2 = 0 := by
  omega
theorem wm_sum2 (A0 B0 C0 D0 E0 A1 B1 C1 D1 E1 A2 B2 C2 D2 E2 d0 d1 d2 : Nat)
    (h0 : d0 ≤ 1 ∧ (A0 + 7680 * B0 + 7680 * C0 + 7680 * D0 + 7680 * E0) % 7681 = d0)
    (h1 : d1 ≤ 1 ∧ (A1 + 7680 * B1 + 7680 * C1 + 7680 * D1 + 7680 * E1) % 7681 = d1)
    (h2 : d2 ≤ 1 ∧ (A2 + 7680 * B2 + 7680 * C2 + 7680 * D2 + 7680 * E2) % 7681 = d2) :
    (((((0 + 1 * (A2 + A1 + A0)) + 7680 * (B2 + B1 + B0)) + 7680 * (C2 + C1 + C0)) + 7680 * (D2 + D1 + D0)) + 7680 * (E2 + E1 + E0)) % 7681 = d0 + d1 + d2 := by
  omega
theorem wm_c1_0 {t q : Nat → Nat} (ht : ∀ j, t j ≤ 4) (hq : ∀ j, q j ≤ 4) {i : Nat} (hi : i < 8) : wm_c1 t q (i + 2) % 7681 = 0 ↔ wm_d t q i = 0 := by
  unfold wm_c1 wm_d
  rw [wm_cv2 _ _ t q hi, wm_cv2 _ _ t q hi, wm_cv2 _ _ t q hi]
  exact wm_sum1 _ _ _ _ _ _ _ _ _ _ _ _
    (wm_G (t (i % 8)) (Nat.lt_succ_of_le (ht _)) (q 0) (Nat.lt_succ_of_le (hq _)))
    (wm_G (t ((i + 1) % 8)) (Nat.lt_succ_of_le (ht _)) (q 1) (Nat.lt_succ_of_le (hq _)))
    (wm_G (t ((i + 2) % 8)) (Nat.lt_succ_of_le (ht _)) (q 2) (Nat.lt_succ_of_le (hq _)))
theorem wm_cw_d {t q : Nat → Nat} (ht : ∀ j, t j ≤ 4) (hq : ∀ j, q j ≤ 4) {i : Nat} (hi : i < 8) : wm_cw t q 4 (i + 2) % 7681 = wm_d t q i := by
  show (((((0 + 1 * wm_cv (wm_pa (wm_mp 0) q) (wm_ta (wm_mp 0) t) (i + 2)) + 7680 * wm_cv (wm_pa (wm_me 1) q) (wm_ta (wm_me 1) t) (i + 2)) + 7680 * wm_cv (wm_pa (wm_me 2) q) (wm_ta (wm_me 2) t) (i + 2)) + 7680 * wm_cv (wm_pa (wm_me 3) q) (wm_ta (wm_me 3) t) (i + 2)) + 7680 * wm_cv (wm_pa (wm_me 4) q) (wm_ta (wm_me 4) t) (i + 2)) % 7681 = wm_d t q i
  unfold wm_d
  rw [wm_cv2 _ _ t q hi, wm_cv2 _ _ t q hi, wm_cv2 _ _ t q hi, wm_cv2 _ _ t q hi, wm_cv2 _ _ t q hi]
  exact wm_sum2 _ _ _ _ _ _ _ _ _ _ _ _ _ _ _ _ _ _
    (wm_H (t (i % 8)) (Nat.lt_succ_of_le (ht _)) (q 0) (Nat.lt_succ_of_le (hq _)))
    (wm_H (t ((i + 1) % 8)) (Nat.lt_succ_of_le (ht _)) (q 1) (Nat.lt_succ_of_le (hq _)))
    (wm_H (t ((i + 2) % 8)) (Nat.lt_succ_of_le (ht _)) (q 2) (Nat.lt_succ_of_le (hq _)))
theorem wm_d_le {t q : Nat → Nat} (ht : ∀ j, t j ≤ 4) (hq : ∀ j, q j ≤ 4) (i : Nat) : wm_d t q i ≤ 3 := by
  have h0 := (wm_H (t (i % 8)) (Nat.lt_succ_of_le (ht _)) (q 0) (Nat.lt_succ_of_le (hq _))).1
  have h1 := (wm_H (t ((i + 1) % 8)) (Nat.lt_succ_of_le (ht _)) (q 1) (Nat.lt_succ_of_le (hq _))).1
  have h2 := (wm_H (t ((i + 2) % 8)) (Nat.lt_succ_of_le (ht _)) (q 2) (Nat.lt_succ_of_le (hq _))).1
  unfold wm_d
  omega
/-- the object's pictures: ready, or not yet -/
def wm_Rd (t q : Nat → Nat) (u : St2) : Prop := ∃ (m : Nat → Nat) (a5 a6 : Nat → Int32), u = (nI 8, nI 3, 1, wm_A t, wm_A q, wm_A wm_rt, wm_A m, a5, a6) ∧ (∀ j, m j < 7681) ∧ (∀ i, i < 8 → (a5 i = 0 ↔ wm_d t q i = 0)) ∧ (∀ i, i < 8 → a6 i = nI (wm_d t q i))
def wm_Ok (t q : Nat → Nat) (u : St2) : Prop := wm_Rd t q u ∨ ∃ (m : Nat → Nat) (a5 a6 : Nat → Int32), u = (nI 8, nI 3, 0, wm_A t, wm_A q, wm_A wm_rt, wm_A m, a5, a6) ∧ (∀ j, m j < 7681)
theorem wm_QV {c m : Nat → Nat} (h : wm_Z c m) : wm_Q 128 m wm_V c m :=
  ⟨h.1, fun j _ => rfl, by decide +kernel, fun k hk => ⟨by rw [wm_Vrow k hk, List.length_map, List.length_range], h.2 k hk⟩⟩
theorem wm_back {c m0 m : Nat → Nat} (h : wm_Q 128 m0 (wm_fin 1 wm_V) c m) : (∀ j, m j < 7681) ∧ ∀ k, k < 12 → m (128 + k) = c k % 7681 := by
  rw [wm_fin1] at h
  exact ⟨h.1, fun k hk => by rw [(h.2.2.2 k (by omega)).2, wm_Elow c k hk]⟩
theorem wm_ix (i : Nat) : (((128 : Int32) + nI i) + nI 3) - 1 = nI (128 + (i + 2)) := by
  show nI 128 + nI i + nI 3 - nI 1 = nI (128 + (i + 2))
  rw [nI_add, nI_add, pk_sub (by omega)]
  congr 1
section
variable {t q : Nat → Nat}
theorem wm_p151 {post : St2 → Prop} {m c : Nat → Nat} {a1 a2 a3 a5 a6 : Nat → Int32} {rd : Int32} (h : ∀ k, k < 12 → m (128 + k) = c k % 7681)
    (H : ∀ a, (∀ j, j < 8 → a j = nI (c (j + 2) % 7681)) → post (nI 8, nI 3, rd, a1, a2, a3, wm_A m, a5, a)) :
    ∃ n, wX_prepare_151 post (nI 8) (nI 3) rd n 0 a1 a2 a3 (wm_A m) a5 a6 := by
  refine pk_loop (fun n i s => wX_prepare_151 post (nI 8) (nI 3) rd n (nI i) a1 a2 a3 (wm_A m) a5 s) (fun i s => ∀ j, j < i → s j = nI (c (j + 2) % 7681)) 8 0 a6 (by omega) (fun j hj => absurd hj (by omega)) ?_ ?_
  · intro n s h
    exact pk_le 8 8 (fun _ => H s h) (fun z => absurd z (by omega))
  · intro n i s hi hs hw
    refine pk_le 8 i (fun z => absurd z (by omega)) (fun _ => ⟨pk_in (128 + (i + 2)) 192 (by omega) (wm_ix i), pk_in i 40 (by omega), nm_r (e' := upd s i (nI (c (i + 2) % 7681))) ?_ (nm_r (nI_1 i) (hw _ (fun j hj => ?_)))⟩)
    · rw [nI_clamp (by omega), wm_rd (wm_ix i) (by omega), h (i + 2) (by omega)]
    · by_cases e : j = i
      · rw [e, pk_us]
      · rw [pk_un e]
        exact hs j (by omega)
theorem wm_p119 {post : St2 → Prop} {m : Nat → Nat} {a5 a6 : Nat → Int32} {rd : Int32} (ht : ∀ j, t j ≤ 4) (hq : ∀ j, q j ≤ 4) (h : wm_Z (wm_cw t q 0) m)
    (H : ∀ m' a, (∀ j, m' j < 7681) → (∀ j, j < 8 → a j = nI (wm_d t q j)) → post (nI 8, nI 3, rd, wm_A t, wm_A q, wm_A wm_rt, wm_A m', a5, a)) :
    ∃ n, wX_prepare_119 post n 1 (nI 8) (nI 3) rd (wm_A t) (wm_A q) (wm_A wm_rt) (wm_A m) a5 a6 := by
  refine pk_loop (fun n i m => wX_prepare_119 post n (nI (i + 1)) (nI 8) (nI 3) rd (wm_A t) (wm_A q) (wm_A wm_rt) (wm_A m) a5 a6) (fun i m => wm_Z (wm_cw t q i) m) 4 0 m (by omega) h ?_ ?_
  · intro n m h
    refine pk_lt 4 5 (fun _ => wm_tr (b := 128) (bk := 1) rfl rfl (by omega) (by omega) (wm_QV h) (fun m' h' => ?_)) (fun z => absurd z (by omega))
    obtain ⟨k1, k2⟩ := wm_back h'
    exact wm_p151 k2 (fun a ha => H m' a k1 (fun j hj => by rw [ha j hj, wm_cw_d ht hq hj]))
  · intro n i m hi h hw
    exact pk_lt 4 (i + 1) (fun z => absurd z (by omega)) (fun _ => wm_add (F := 7680) rfl (by decide) ht hq (wm_M_e (l := i + 1) (by omega) (by omega) rfl) (wm_M_e (l := i + 1) (by omega) (by omega) rfl) h (fun m' h' => nm_r (nI_1 (i + 1)) (hw m' h')))
theorem wm_p69 {post : St2 → Prop} {m c : Nat → Nat} {a5 a6 : Nat → Int32} {rd : Int32} (ht : ∀ j, t j ≤ 4) (hq : ∀ j, q j ≤ 4) (hm : ∀ j, m j < 7681) (h : ∀ k, k < 12 → m (128 + k) = c k % 7681)
    (H : ∀ m' a a', (∀ j, m' j < 7681) → (∀ j, j < 8 → a j = nI (c (j + 2) % 7681)) → (∀ j, j < 8 → a' j = nI (wm_d t q j)) → post (nI 8, nI 3, rd, wm_A t, wm_A q, wm_A wm_rt, wm_A m', a, a')) :
    ∃ n, wX_prepare_69 post (nI 8) (nI 3) rd n 0 (wm_A t) (wm_A q) (wm_A wm_rt) (wm_A m) a5 a6 := by
  refine pk_loop (fun n i s => wX_prepare_69 post (nI 8) (nI 3) rd n (nI i) (wm_A t) (wm_A q) (wm_A wm_rt) (wm_A m) s a6) (fun i s => ∀ j, j < i → s j = nI (c (j + 2) % 7681)) 8 0 a5 (by omega) (fun j hj => absurd hj (by omega)) ?_ ?_
  · intro n s hs
    exact pk_le 8 8 (fun _ => wm_clear hm (fun m1 z1 => wm_add (F := 1) rfl (by decide) ht hq (wm_M_p (e := 0) (by decide) rfl) (wm_M_p (e := 0) (by decide) rfl) z1 (fun m2 z2 => wm_p119 ht hq z2 (fun m' a k1 k2 => H m' s a k1 hs k2)))) (fun z => absurd z (by omega))
  · intro n i s hi hs hw
    refine pk_le 8 i (fun z => absurd z (by omega)) (fun _ => ⟨pk_in (128 + (i + 2)) 192 (by omega) (wm_ix i), pk_in i 40 (by omega), nm_r (e' := upd s i (nI (c (i + 2) % 7681))) ?_ (nm_r (nI_1 i) (hw _ (fun j hj => ?_)))⟩)
    · rw [nI_clamp (by omega), wm_rd (wm_ix i) (by omega), h (i + 2) (by omega)]
    · by_cases e : j = i
      · rw [e, pk_us]
      · rw [pk_un e]
        exact hs j (by omega)
theorem wm_prep {post : St2 → Prop} {u : St2} (ht : ∀ j, t j ≤ 4) (hq : ∀ j, q j ≤ 4) (h : wm_Ok t q u) (H : ∀ u', wm_Rd t q u' → post u') : wpX_prepare post u := by
  rcases h with h | ⟨m, a5, a6, e, hm⟩
  · have h' := h
    obtain ⟨m, a5, a6, e, hm, h5, h6⟩ := h'
    rw [e] at h ⊢
    exact br_f (by decide) (H _ h)
  · rw [e]
    refine br_t rfl (br_f (by decide) (br_t (by decide) (wm_clear hm (fun m1 z1 => wm_add (F := 1) rfl (by decide) ht hq (wm_M_p (e := 3) (by decide) rfl) (wm_M_p (e := 1) (by decide) rfl) z1 (fun m2 z2 => wm_add (F := 7679) rfl (by decide) ht hq (wm_M_p (e := 2) (by decide) rfl) (wm_M_p (e := 2) (by decide) rfl) z2 (fun m3 z3 => wm_add (F := 1) rfl (by decide) ht hq (wm_M_p (e := 1) (by decide) rfl) (wm_M_p (e := 3) (by decide) rfl) z3 (fun m4 z4 => wm_tr (b := 128) (bk := 1) rfl rfl (by omega) (by omega) (wm_QV z4) (fun m5 z5 => ?_))))))))
    obtain ⟨k1, k2⟩ := wm_back z5
    refine wm_p69 (c := wm_c1 t q) ht hq k1 k2 (fun m' a a' g1 g2 g3 => H _ ⟨m', a, a', rfl, g1, fun i hi => ?_, g3⟩)
    rw [g2 i hi, ← wm_c1_0 ht hq hi, ← nI_0, nI_eq (by have := Nat.mod_lt (wm_c1 t q (i + 2)) (show 0 < 7681 by decide); omega) (by omega)]
end
end
section
section
variable {t q : Nat → Nat}
theorem wm_83 : nI 8 - nI 3 = nI 5 := by decide
/-- a ready state, by its parts -/
abbrev wm_U (t q m : Nat → Nat) (a5 a6 : Nat → Int32) : St2 := (nI 8, nI 3, 1, wm_A t, wm_A q, wm_A wm_rt, wm_A m, a5, a6)
theorem wm_Rd_el {P : St2 → Prop} (H : ∀ m a5 a6, wm_Rd t q (wm_U t q m a5 a6) → P (wm_U t q m a5 a6)) : ∀ u, wm_Rd t q u → P u := by
  intro u h
  have h' := h
  obtain ⟨m, a5, a6, e, _⟩ := h'
  rw [e] at h ⊢
  exact H m a5 a6 h
theorem wm_Ok_el {P : St2 → Prop} (H : ∀ rd m a5 a6, wm_Ok t q (nI 8, nI 3, rd, wm_A t, wm_A q, wm_A wm_rt, wm_A m, a5, a6) → P (nI 8, nI 3, rd, wm_A t, wm_A q, wm_A wm_rt, wm_A m, a5, a6)) : ∀ u, wm_Ok t q u → P u := by
  intro u h
  have h' := h
  rcases h' with ⟨m, a5, a6, e, _⟩ | ⟨m, a5, a6, e, _⟩
  · rw [e] at h ⊢
    exact H 1 m a5 a6 h
  · rw [e] at h ⊢
    exact H 0 m a5 a6 h
theorem wm_wrong {post : Int32 → St2 → Prop} {u : St2} {i : Nat} {X : Int32} (ht : ∀ j, t j ≤ 4) (hq : ∀ j, q j ≤ 4) (h : wm_Ok t q u) (eX : X = nI i) (hi : i < 8)
    (H : ∀ m a5 a6, wm_Rd t q (wm_U t q m a5 a6) → post (nI (wm_d t q i)) (wm_U t q m a5 a6)) : wpX_wrongAt post u X := by
  obtain ⟨tl, pl, rd, a1, a2, a3, a4, a5, a6⟩ := u
  unfold wpX_wrongAt
  dsimp only
  refine wm_prep ht hq h (fun u' r => ?_)
  have r' := r
  obtain ⟨m, a5, a6, e, hm, h5, h6⟩ := r'
  rw [e] at r ⊢
  have e6 : a6 X.toNatClampNeg = nI (wm_d t q i) := by
    rw [eX, nI_clamp (by omega)]
    exact h6 i hi
  exact br_f (show ¬ nI 3 = 0 by decide) ⟨pk_in i 40 (by omega) eX, ek_v (P := fun r => post r (wm_U t q m a5 a6)) e6 (H m a5 a6 r)⟩
theorem wm_matches {post : Int32 → St2 → Prop} {u : St2} {i : Nat} {X : Int32} (ht : ∀ j, t j ≤ 4) (hq : ∀ j, q j ≤ 4) (h : wm_Ok t q u) (eX : X = nI i) (hi : i < 6)
    (H1 : wm_d t q i = 0 → ∀ m a5 a6, wm_Rd t q (wm_U t q m a5 a6) → post 1 (wm_U t q m a5 a6))
    (H0 : ¬ wm_d t q i = 0 → ∀ m a5 a6, wm_Rd t q (wm_U t q m a5 a6) → post 0 (wm_U t q m a5 a6)) : wpX_matches post u X := by
  refine wm_Ok_el (P := fun u => wpX_matches post u X) (fun rd m a5 a6 h => ?_) u h
  rw [eX]
  refine br_f (nI_pos (by omega)) (pk_lt 5 i (fun z => absurd z (by omega)) (fun _ => br_f (by decide) (wm_prep ht hq h (fun u' r => ?_))) (by decide))
  have r' := r
  obtain ⟨m, a5, a6, e, hm, h5, h6⟩ := r'
  rw [e] at r ⊢
  have e5 : a5 (nI i).toNatClampNeg = 0 ↔ wm_d t q i = 0 := by
    rw [nI_clamp (by omega)]
    exact h5 i (by omega)
  exact br_f (by decide) ⟨pk_in i 40 (by omega), ek_if e5 (fun z => H1 z m a5 a6 r) (fun z => H0 z m a5 a6 r)⟩
theorem wm_mis {post : Int32 → St2 → Prop} {u : St2} {i : Nat} {X : Int32} (ht : ∀ j, t j ≤ 4) (hq : ∀ j, q j ≤ 4) (h : wm_Ok t q u) (eX : X = nI i) (hi : i < 6)
    (H : ∀ m a5 a6, wm_Rd t q (wm_U t q m a5 a6) → post (nI (wm_d t q i)) (wm_U t q m a5 a6)) : wpX_mismatches post u X := by
  refine wm_Ok_el (P := fun u => wpX_mismatches post u X) (fun rd m a5 a6 h => ?_) u h
  rw [eX]
  exact br_f (nI_pos (by omega)) (pk_lt 5 i (fun z => absurd z (by omega)) (fun _ => br_f (by decide) (wm_wrong ht hq h rfl (by omega) H)) (by decide))
theorem wm_mis6 {post : Int32 → St2 → Prop} {m : Nat → Nat} {a5 a6 : Nat → Int32} (H : post (-2) (wm_U t q m a5 a6)) : wpX_mismatches post (wm_U t q m a5 a6) 6 :=
  br_f (by decide) (br_t (by decide) (br_t rfl H))
theorem wm_turned {post : Int32 → St2 → Prop} {u : St2} {i : Nat} {X : Int32} (ht : ∀ j, t j ≤ 4) (hq : ∀ j, q j ≤ 4) (h : wm_Ok t q u) (eX : X = nI i) (hi : i < 8)
    (H : ∀ m a5 a6, wm_Rd t q (wm_U t q m a5 a6) → post (nI (wm_d t q i)) (wm_U t q m a5 a6)) : wpX_turnedMismatches post u X := by
  refine wm_Ok_el (P := fun u => wpX_turnedMismatches post u X) (fun rd m a5 a6 h => ?_) u h
  rw [eX]
  exact br_f (nI_pos (by omega)) (pk_le 8 i (fun z => absurd z (by omega)) (fun _ => br_t (by decide) (wm_wrong ht hq h rfl hi H)))
theorem wm_turned8 {post : Int32 → St2 → Prop} {m : Nat → Nat} {a5 a6 : Nat → Int32} (H : post (-2) (wm_U t q m a5 a6)) : wpX_turnedMismatches post (wm_U t q m a5 a6) 8 :=
  br_f (by decide) (br_t (by decide) H)
/-- counts -/
def wm_ct (f : Nat → Nat) : Nat → Nat
  | 0 => 0
  | n + 1 => wm_ct f n + f n
def wm_z (d : Nat → Nat) (j : Nat) : Nat := if d j = 0 then 1 else 0
def wm_w (d : Nat → Nat) (k : Int32) (j : Nat) : Nat := if k < nI (d j) then 0 else 1
theorem wm_z1 {d : Nat → Nat} {j : Nat} (h : d j = 0) : wm_z d j = 1 := if_pos h
theorem wm_z0 {d : Nat → Nat} {j : Nat} (h : ¬ d j = 0) : wm_z d j = 0 := if_neg h
theorem wm_w0 {d : Nat → Nat} {k : Int32} {j : Nat} (h : k < nI (d j)) : wm_w d k j = 0 := if_pos h
theorem wm_w1 {d : Nat → Nat} {k : Int32} {j : Nat} (h : ¬ k < nI (d j)) : wm_w d k j = 1 := if_neg h
theorem wm_ct1 {f : Nat → Nat} {i : Nat} (h : f i = 1) : nI (wm_ct f i) + 1 = nI (wm_ct f (i + 1)) := by
  rw [nI_1]
  show nI (wm_ct f i + 1) = nI (wm_ct f i + f i)
  rw [h]
theorem wm_ct0 {f : Nat → Nat} {i : Nat} (h : f i = 0) : wm_ct f (i + 1) = wm_ct f i := by
  show wm_ct f i + f i = wm_ct f i
  rw [h]
  rfl
theorem wm_mcount {post : Int32 → St2 → Prop} {u : St2} (ht : ∀ j, t j ≤ 4) (hq : ∀ j, q j ≤ 4) (h : wm_Rd t q u)
    (H : ∀ m a5 a6, wm_Rd t q (wm_U t q m a5 a6) → post (nI (wm_ct (wm_z (wm_d t q)) 6)) (wm_U t q m a5 a6)) : wpX_matchCount post u := by
  obtain ⟨tl, pl, rd, a1, a2, a3, a4, a5, a6⟩ := u
  refine pk_loop (fun n i u => wX_matchCount_4 post n (nI (wm_ct (wm_z (wm_d t q)) i)) (nI i) u.1 u.2.1 u.2.2.1 u.2.2.2.1 u.2.2.2.2.1 u.2.2.2.2.2.1 u.2.2.2.2.2.2.1 u.2.2.2.2.2.2.2.1 u.2.2.2.2.2.2.2.2) (fun i u => wm_Rd t q u) 6 0 (tl, pl, rd, a1, a2, a3, a4, a5, a6) (by omega) h ?_ ?_
  · intro n
    refine wm_Rd_el (fun m a5 a6 r => ?_)
    exact pk_lt 5 6 (fun _ => H m a5 a6 r) (fun z => absurd z (by omega)) wm_83
  · intro n i u hi
    revert u
    refine wm_Rd_el (fun m a5 a6 r hw => ?_)
    exact pk_lt 5 i (fun z => absurd z (by omega)) (fun _ => wm_matches ht hq (Or.inl r) rfl hi
      (fun z m a5 a6 r => br_f (by decide) (nm_r (wm_ct1 (wm_z1 z)) (nm_r (nI_1 i) (hw _ r))))
      (fun z m a5 a6 r => br_t rfl (nm_r (nI_1 i) (by rw [← wm_ct0 (wm_z0 z)]; exact hw _ r)))) wm_83
theorem wm_within {post : Int32 → St2 → Prop} {u : St2} {k : Int32} (ht : ∀ j, t j ≤ 4) (hq : ∀ j, q j ≤ 4) (h : wm_Rd t q u)
    (H : ∀ m a5 a6, wm_Rd t q (wm_U t q m a5 a6) → post (nI (wm_ct (wm_w (wm_d t q) k) 6)) (wm_U t q m a5 a6)) : wpX_within post u k := by
  obtain ⟨tl, pl, rd, a1, a2, a3, a4, a5, a6⟩ := u
  refine pk_loop (fun n i u => wX_within_4 post k n (nI (wm_ct (wm_w (wm_d t q) k) i)) (nI i) u.1 u.2.1 u.2.2.1 u.2.2.2.1 u.2.2.2.2.1 u.2.2.2.2.2.1 u.2.2.2.2.2.2.1 u.2.2.2.2.2.2.2.1 u.2.2.2.2.2.2.2.2) (fun i u => wm_Rd t q u) 6 0 (tl, pl, rd, a1, a2, a3, a4, a5, a6) (by omega) h ?_ ?_
  · intro n
    refine wm_Rd_el (fun m a5 a6 r => ?_)
    exact pk_lt 5 6 (fun _ => H m a5 a6 r) (fun z => absurd z (by omega)) wm_83
  · intro n i u hi
    revert u
    refine wm_Rd_el (fun m a5 a6 r hw => ?_)
    exact pk_lt 5 i (fun z => absurd z (by omega)) (fun _ => wm_wrong ht hq (Or.inl r) rfl (by omega)
      (fun m a5 a6 r => br_c (fun z => nm_r (nI_1 i) (by rw [← wm_ct0 (wm_w0 z)]; exact hw _ r)) (fun z => nm_r (wm_ct1 (wm_w1 z)) (nm_r (nI_1 i) (hw _ r))))) wm_83
theorem wm_best {post : Int32 → St2 → Prop} {u : St2} {b : Nat} (ht : ∀ j, t j ≤ 4) (hq : ∀ j, q j ≤ 4) (h : wm_Rd t q u) (hb : b < 6) (b1 : ∀ j, j < 6 → wm_d t q b ≤ wm_d t q j) (b2 : ∀ j, j < b → wm_d t q b < wm_d t q j)
    (H : ∀ m a5 a6, wm_Rd t q (wm_U t q m a5 a6) → post (nI b) (wm_U t q m a5 a6)) : wpX_bestShift post u := by
  obtain ⟨tl, pl, rd, a1, a2, a3, a4, a5, a6⟩ := u
  refine pk_loop (fun n i s => wX_bestShift_8 post n s.1 s.2.1 (nI i) s.2.2.1 s.2.2.2.1 s.2.2.2.2.1 s.2.2.2.2.2.1 s.2.2.2.2.2.2.1 s.2.2.2.2.2.2.2.1 s.2.2.2.2.2.2.2.2.1 s.2.2.2.2.2.2.2.2.2.1 s.2.2.2.2.2.2.2.2.2.2)
    (fun i (s : Int32 × Int32 × St2) => wm_Rd t q s.2.2 ∧ (i = 0 → s.2.1 = nI 13) ∧ (0 < i → ∃ c, c < i ∧ s.1 = nI c ∧ s.2.1 = nI (wm_d t q c) ∧ (∀ j, j < i → wm_d t q c ≤ wm_d t q j) ∧ (∀ j, j < c → wm_d t q c < wm_d t q j)))
    6 0 (-3, 13, (tl, pl, rd, a1, a2, a3, a4, a5, a6)) (by omega) ⟨h, fun _ => rfl, fun z => absurd z (by omega)⟩ ?_ ?_
  · rintro n ⟨x1, x2, u⟩ ⟨r, _, g⟩
    obtain ⟨c, c0, c1, c2, c3, c4⟩ := g (by omega)
    have ec : c = b := by
      rcases Nat.lt_trichotomy c b with z | z | z
      · have := b2 c z
        have := c3 b hb
        omega
      · exact z
      · have := c4 b z
        have := b1 c c0
        omega
    have c1' : x1 = nI b := by
      rw [← ec]
      exact c1
    refine wm_Rd_el (P := fun u => wX_bestShift_8 post (n + 1) x1 x2 (nI 6) u.1 u.2.1 u.2.2.1 u.2.2.2.1 u.2.2.2.2.1 u.2.2.2.2.2.1 u.2.2.2.2.2.2.1 u.2.2.2.2.2.2.2.1 u.2.2.2.2.2.2.2.2) (fun m a5 a6 r => ?_) u r
    rw [c1']
    exact pk_lt 5 6 (fun _ => H m a5 a6 r) (fun z => absurd z (by omega)) wm_83
  · rintro n i ⟨x1, x2, u⟩ hi ⟨r, g0, g⟩ hw
    have hd := wm_d_le ht hq i
    have nxt : ∀ m a5 a6, wm_Rd t q (wm_U t q m a5 a6) → (∀ j, j < i → wm_d t q i < wm_d t q j) → wX_bestShift_8 post n (nI i) (nI (wm_d t q i)) (nI (i + 1)) (nI 8) (nI 3) 1 (wm_A t) (wm_A q) (wm_A wm_rt) (wm_A m) a5 a6 := by
      intro m a5 a6 r hlt
      refine hw (nI i, nI (wm_d t q i), wm_U t q m a5 a6) ⟨r, fun z => absurd z (by omega), fun _ => ⟨i, by omega, rfl, rfl, fun j hj => ?_, hlt⟩⟩
      by_cases e : j = i
      · rw [e]
        exact Nat.le_refl _
      · exact Nat.le_of_lt (hlt j (by omega))
    refine wm_Rd_el (P := fun u => wX_bestShift_8 post (n + 1) x1 x2 (nI i) u.1 u.2.1 u.2.2.1 u.2.2.2.1 u.2.2.2.2.1 u.2.2.2.2.2.1 u.2.2.2.2.2.2.1 u.2.2.2.2.2.2.2.1 u.2.2.2.2.2.2.2.2) (fun m a5 a6 r => ?_) u r
    refine pk_lt 5 i (fun z => absurd z (by omega)) (fun _ => wm_wrong ht hq (Or.inl r) rfl (by omega) (fun m a5 a6 r => ?_)) wm_83
    by_cases e : i = 0
    · have e2 : x2 = nI 13 := g0 e
      exact pk_lt (wm_d t q i) 13 (fun z => nm_r (nI_1 i) (nxt m a5 a6 r (fun j hj => absurd hj (by omega)))) (fun z => absurd z (by omega)) rfl e2
    · obtain ⟨c, c0, c1, c2, c3, c4⟩ := g (by omega)
      have hc := wm_d_le ht hq c
      refine pk_lt (wm_d t q i) (wm_d t q c) (fun z => nm_r (nI_1 i) (nxt m a5 a6 r (fun j hj => ?_))) (fun z => nm_r (nI_1 i) (hw (x1, x2, wm_U t q m a5 a6) ⟨r, fun z => absurd z (by omega), fun _ => ⟨c, by omega, c1, c2, fun j hj => ?_, c4⟩⟩)) rfl c2
      · have := c3 j hj
        omega
      · by_cases e : j = i
        · rw [e]
          exact z
        · exact c3 j (by omega)
/-- the first match from a place on -/
def wm_fst (d : Nat → Nat) (fr : Int32) (r : Int32) (c : Nat) : Prop := ((∀ j, c ≤ j → j < 6 → ¬ (¬ nI j < fr ∧ d j = 0)) ∧ r = -3) ∨ ∃ b, c ≤ b ∧ b < 6 ∧ (¬ nI b < fr ∧ d b = 0) ∧ r = nI b ∧ ∀ j, c ≤ j → j < b → ¬ (¬ nI j < fr ∧ d j = 0)
theorem wm_next {post : Int32 → St2 → Prop} {u : St2} {fr x : Int32} (ht : ∀ j, t j ≤ 4) (hq : ∀ j, q j ≤ 4) (h : wm_Rd t q u) (hx : wm_fst (wm_d t q) fr x 0)
    (H : ∀ m a5 a6, wm_Rd t q (wm_U t q m a5 a6) → post x (wm_U t q m a5 a6)) : wpX_nextMatch post u fr := by
  obtain ⟨tl, pl, rd, a1, a2, a3, a4, a5, a6⟩ := u
  refine pk_loop (fun n i u => wX_nextMatch_2 post fr n (nI i) u.1 u.2.1 u.2.2.1 u.2.2.2.1 u.2.2.2.2.1 u.2.2.2.2.2.1 u.2.2.2.2.2.2.1 u.2.2.2.2.2.2.2.1 u.2.2.2.2.2.2.2.2) (fun i u => wm_Rd t q u ∧ ∀ j, j < i → ¬ (¬ nI j < fr ∧ wm_d t q j = 0)) 6 0 (tl, pl, rd, a1, a2, a3, a4, a5, a6) (by omega) ⟨h, fun j hj => absurd hj (by omega)⟩ ?_ ?_
  · rintro n u ⟨r, g⟩
    have ex : x = -3 := by
      rcases hx with ⟨_, e⟩ | ⟨b, _, b1, b2, _⟩
      · exact e
      · exact absurd b2 (g b b1)
    revert r
    revert u
    refine wm_Rd_el (fun m a5 a6 r => ?_)
    exact pk_lt 5 6 (fun _ => by rw [← ex]; exact H m a5 a6 r) (fun z => absurd z (by omega)) wm_83
  · rintro n i u hi ⟨r, g⟩ hw
    revert r
    revert u
    refine wm_Rd_el (fun m a5 a6 r => ?_)
    have stp : ∀ m a5 a6, wm_Rd t q (wm_U t q m a5 a6) → ¬ (¬ nI i < fr ∧ wm_d t q i = 0) → wX_nextMatch_2 post fr n (nI (i + 1)) (nI 8) (nI 3) 1 (wm_A t) (wm_A q) (wm_A wm_rt) (wm_A m) a5 a6 := by
      intro m a5 a6 r z
      refine hw (wm_U t q m a5 a6) ⟨r, fun j hj => ?_⟩
      by_cases e : j = i
      · rw [e]
        exact z
      · exact g j (by omega)
    refine pk_lt 5 i (fun z => absurd z (by omega)) (fun _ => br_c (fun z => nm_r (nI_1 i) (stp m a5 a6 r (fun y => y.1 z))) (fun z => wm_matches ht hq (Or.inl r) rfl hi (fun y m a5 a6 r => br_f (by decide) ?_) (fun y m a5 a6 r => br_t rfl (nm_r (nI_1 i) (stp m a5 a6 r (fun w => y w.2)))))) wm_83
    have ex : x = nI i := by
      rcases hx with ⟨e, _⟩ | ⟨b, _, b1, b2, b3, b4⟩
      · exact absurd ⟨z, y⟩ (e i (by omega) hi)
      · rcases Nat.lt_trichotomy i b with w | w | w
        · exact absurd ⟨z, y⟩ (b4 i (by omega) w)
        · rw [w]
          exact b3
        · exact absurd b2 (g b w)
    rw [← ex]
    exact H m a5 a6 r
end
end
section
/-- a letter of a word -/
def wm_at (w : Int64) (i : Nat) : Nat := ((w >>> ((3 * nI i).toInt64 &&& 63)).toInt32).toBitVec.toNat % 8 % 5
theorem wm_at_le (w : Int64) (i : Nat) : wm_at w i ≤ 4 := Nat.le_of_lt_succ (Nat.mod_lt _ (by decide))
theorem wm_at_w {post : Int32 → Prop} {w : Int64} {i : Nat} {X : Int32} (eX : X = nI i) (H : post (nI (wm_at w i))) : wpL_at post () w X := by
  rw [eX]
  have e : (((w >>> ((3 * nI i).toInt64 &&& 63)).toInt32) &&& 7) - (((w >>> ((3 * nI i).toInt64 &&& 63)).toInt32) &&& 7) / 5 * 5 = nI (wm_at w i) := by
    rw [pk_and _ 3 (by decide)]
    exact pk_rem (d := 5) (by have := Nat.mod_lt ((w >>> ((3 * nI i).toInt64 &&& 63)).toInt32).toBitVec.toNat (show 0 < 2 ^ 3 by decide); omega) (by decide) (by decide)
  exact ⟨by decide, ek_v (P := post) e H⟩
theorem wm_dd0 {x y : Nat} (h : x = y ∨ x = 0 ∨ y = 0) : wm_dd x y = 0 := by
  unfold wm_dd
  by_cases e : x = y
  · rw [if_pos e]
  · rw [if_neg e]
    by_cases e2 : x = 0
    · rw [if_pos e2]
    · rw [if_neg e2, if_pos (by omega)]
theorem wm_dd1 {x y : Nat} (h : x ≠ y) (h1 : x ≠ 0) (h2 : y ≠ 0) : wm_dd x y = 1 := by
  unfold wm_dd
  rw [if_neg h, if_neg h1, if_neg h2]
theorem wm_diff {post : Int32 → Prop} {x0 x2 : Int64} {i D : Nat} {X : Int32} (eX : X = nI i) (hi : i < 8) (hd : wm_d (wm_at x0) (wm_at x2) i = D) (H : post (nI D)) : wpL_differing post () x0 x2 X := by
  rw [eX]
  refine pk_loop (σ := Unit) (fun n j _ => wL_differing_6 post x0 x2 (nI i) n (nI (wm_ct (fun j => wm_dd (wm_at x0 ((i + j) % 8)) (wm_at x2 j)) j)) (nI j)) (fun _ _ => True) 3 0 () (by omega) trivial ?_ ?_
  · intro n _ _
    have e : wm_ct (fun j => wm_dd (wm_at x0 ((i + j) % 8)) (wm_at x2 j)) 3 = D := by
      rw [← hd]
      show 0 + wm_dd (wm_at x0 (i % 8)) (wm_at x2 0) + wm_dd (wm_at x0 ((i + 1) % 8)) (wm_at x2 1) + wm_dd (wm_at x0 ((i + 2) % 8)) (wm_at x2 2) = _
      rw [Nat.zero_add]
      rfl
    exact pk_le 3 3 (fun _ => by rw [e]; exact H) (fun z => absurd z (by omega))
  · intro n j _ hj _ hw
    have hn := hw () trivial
    have ei : (nI i + nI j) &&& 7 = nI ((i + j) % 8) := by
      rw [nI_add]
      exact pk_andN (by omega) 3 (by decide)
    have a0 := wm_at_le x0 ((i + j) % 8)
    have a2 := wm_at_le x2 j
    have k0 : wm_at x0 ((i + j) % 8) = wm_at x2 j ∨ wm_at x0 ((i + j) % 8) = 0 ∨ wm_at x2 j = 0 → wL_differing_6 post x0 x2 (nI i) n (nI (wm_ct (fun j => wm_dd (wm_at x0 ((i + j) % 8)) (wm_at x2 j)) j)) (nI (j + 1)) := by
      intro z
      rw [← wm_ct0 (f := fun j => wm_dd (wm_at x0 ((i + j) % 8)) (wm_at x2 j)) (i := j) (wm_dd0 z)]
      exact hn
    exact pk_le 3 j (fun z => absurd z (by omega)) (fun _ => wm_at_w ei (wm_at_w rfl
      (pk_eq (wm_at x0 ((i + j) % 8)) (wm_at x2 j) (fun z => nm_r (nI_1 j) (k0 (Or.inl z))) (fun z =>
        pk_eq (wm_at x0 ((i + j) % 8)) 0 (fun z1 => nm_r (nI_1 j) (k0 (Or.inr (Or.inl z1)))) (fun z1 =>
          pk_eq (wm_at x2 j) 0 (fun z2 => nm_r (nI_1 j) (k0 (Or.inr (Or.inr z2)))) (fun z2 =>
            nm_r (wm_ct1 (f := fun j => wm_dd (wm_at x0 ((i + j) % 8)) (wm_at x2 j)) (i := j) (wm_dd1 z z1 z2)) (nm_r (nI_1 j) hn)))))))
/-- typing -/
theorem wm_byte : ∀ v, v < 5 → (nI v).toInt8.toInt32 = nI v := by decide +kernel
section
variable {tl pl rd : Int32} {a1 a2 a3 a4 a5 a6 : Nat → Int32}
theorem wm_typeT {post : Int32 → St2 → Prop} {i v : Nat} {T : Nat → Nat} (hi : i < 40) (hv : v ≤ 4) (H : post (nI (i + 1)) (nI (i + 1), pl, 0, wm_A (wm_u T i v), a2, a3, a4, a5, a6)) : wpX_type post (nI i, pl, rd, wm_A T, a2, a3, a4, a5, a6) 0 (nI v) :=
  br_t rfl (pk_lt i 40 (fun _ => br_f (nI_pos (by omega)) (pk_le v 4 (fun _ => br_t rfl ⟨pk_in i 40 hi, nm_r (wm_st rfl (by omega) (wm_byte v (by omega))) (nm_r (nI_1 i) H)⟩) (fun z => absurd z (by omega)))) (fun z => absurd z (by omega)))
theorem wm_typeP {post : Int32 → St2 → Prop} {i v : Nat} {T : Nat → Nat} (hi : i < 12) (hv : v ≤ 4) (H : post (nI (i + 1)) (tl, nI (i + 1), 0, a1, wm_A (wm_u T i v), a3, a4, a5, a6)) : wpX_type post (tl, nI i, rd, a1, wm_A T, a3, a4, a5, a6) 1 (nI v) :=
  br_f (by decide) (pk_lt i 12 (fun _ => br_f (nI_pos (by omega)) (pk_le v 4 (fun _ => br_f (by decide) ⟨pk_in i 12 hi, nm_r (wm_st rfl (by omega) (wm_byte v (by omega))) (nm_r (nI_1 i) H)⟩) (fun z => absurd z (by omega)))) (fun z => absurd z (by omega)))
end
/-- the law's best shift so far, from c on -/
def wm_bs (d : Nat → Nat) (c : Nat) (x9 x10 : Int32) : Prop := (6 ≤ c → x10 = nI 9) ∧ (c < 6 → ∃ b, c ≤ b ∧ b < 6 ∧ x9 = nI b ∧ x10 = nI (d b) ∧ (∀ j, c ≤ j → j < 6 → d b ≤ d j) ∧ (∀ j, c ≤ j → j < b → d b < d j))
theorem wm_bs_keep {d : Nat → Nat} {i : Nat} {x9 x10 : Int32} (hd : ∀ j, d j ≤ 3) (hi : i < 6) (h : wm_bs d (i + 1) x9 x10) (hx : x10 < nI (d i)) : wm_bs d i x9 x10 := by
  refine ⟨fun z => absurd z (by omega), fun _ => ?_⟩
  have di := hd i
  by_cases e : 6 ≤ i + 1
  · rw [h.1 e] at hx
    have := (nI_ltI (by omega) (by omega)).mp hx
    omega
  · obtain ⟨b, b0, b1, b2, b3, b4, b5⟩ := h.2 (by omega)
    have db := hd b
    rw [b3] at hx
    have hlt := (nI_ltI (by omega) (by omega)).mp hx
    refine ⟨b, by omega, b1, b2, b3, fun j hj hj2 => ?_, fun j hj hj2 => ?_⟩
    · by_cases g : j = i
      · rw [g]
        omega
      · exact b4 j (by omega) hj2
    · by_cases g : j = i
      · rw [g]
        exact hlt
      · exact b5 j (by omega) hj2
theorem wm_bs_new {d : Nat → Nat} {i : Nat} {x9 x10 : Int32} (hd : ∀ j, d j ≤ 3) (hi : i < 6) (h : wm_bs d (i + 1) x9 x10) (hx : ¬ x10 < nI (d i)) : wm_bs d i (nI i) (nI (d i)) := by
  refine ⟨fun z => absurd z (by omega), fun _ => ⟨i, by omega, hi, rfl, rfl, fun j hj hj2 => ?_, fun j hj hj2 => absurd hj2 (by omega)⟩⟩
  have di := hd i
  by_cases g : j = i
  · rw [g]
    omega
  · obtain ⟨b, b0, b1, b2, b3, b4, b5⟩ := h.2 (by omega)
    have db := hd b
    rw [b3, nI_ltI (by omega) (by omega)] at hx
    have := b4 j (by omega) hj2
    omega
theorem wm_fst_new {d : Nat → Nat} {fr : Int32} {i : Nat} (hi : i < 6) (h1 : ¬ nI i < fr) (h2 : d i = 0) : wm_fst d fr (nI i) i :=
  Or.inr ⟨i, by omega, hi, ⟨h1, h2⟩, rfl, fun j hj hj2 => absurd hj2 (by omega)⟩
theorem wm_fst_keep {d : Nat → Nat} {fr r : Int32} {i : Nat} (h : wm_fst d fr r (i + 1)) (hn : i < 6 → ¬ (¬ nI i < fr ∧ d i = 0)) : wm_fst d fr r i := by
  rcases h with ⟨h, e⟩ | ⟨b, b0, b1, b2, b3, b4⟩
  · refine Or.inl ⟨fun j hj hj2 => ?_, e⟩
    by_cases g : j = i
    · rw [g]
      exact hn (by omega)
    · exact h j (by omega) hj2
  · refine Or.inr ⟨b, by omega, b1, b2, b3, fun j hj hj2 => ?_⟩
    by_cases g : j = i
    · rw [g]
      exact hn (by omega)
    · exact b4 j (by omega) hj2
/-- the law's count so far, from c on -/
def wm_cn (f : Nat → Nat) (c : Nat) (x : Int32) : Prop := ∃ z, x = nI z ∧ z + wm_ct f (min c 6) = wm_ct f 6
theorem wm_cn_0 {f : Nat → Nat} {i : Nat} {x : Int32} (h : wm_cn f (i + 1) x) (hf : i < 6 → f i = 0) : wm_cn f i x := by
  obtain ⟨z, e, h⟩ := h
  refine ⟨z, e, ?_⟩
  by_cases g : i < 6
  · rw [show min (i + 1) 6 = i + 1 by omega, wm_ct0 (hf g)] at h
    rw [show min i 6 = i by omega]
    exact h
  · rw [show min (i + 1) 6 = min i 6 by omega] at h
    exact h
theorem wm_cn_1 {f : Nat → Nat} {i : Nat} {x : Int32} (h : wm_cn f (i + 1) x) (hi : i < 6) (hf : f i = 1) : wm_cn f i (x + 1) := by
  obtain ⟨z, e, h⟩ := h
  refine ⟨z + 1, by rw [e, nI_1], ?_⟩
  rw [show min (i + 1) 6 = i + 1 by omega] at h
  rw [show min i 6 = i by omega]
  have e2 : wm_ct f (i + 1) = wm_ct f i + f i := rfl
  rw [e2, hf] at h
  omega
end
section
/-- the law's state in its second loop, from c on -/
def wm_I (T Q : Nat → Nat) (k fr : Int32) (c : Nat) (s : Int32 × Int32 × Int32 × Int32 × Int32 × St2) : Prop :=
  c ≤ 8 ∧ wm_Ok T Q s.2.2.2.2.2 ∧ (c < 8 → wm_Rd T Q s.2.2.2.2.2) ∧ wm_cn (wm_z (wm_d T Q)) c s.1 ∧ wm_cn (wm_w (wm_d T Q) k) c s.2.1 ∧ wm_bs (wm_d T Q) c s.2.2.1 s.2.2.2.1 ∧ wm_fst (wm_d T Q) fr s.2.2.2.2.1 c
section
variable {T Q : Nat → Nat}
theorem wm_turn1 {post : Int32 → St0 → Prop} {mc ms kc ks i : Nat} {J : Int32 → Int32 → Int32 → Int32 → Int32 → Int32 → Int32 → Int32 → Int32 → (Nat → Int32) → (Nat → Int32) → (Nat → Int32) → (Nat → Int32) → (Nat → Int32) → (Nat → Int32) → Prop} {x0 x2 : Int64} {x4 x5 x7 x8 x9 x10 x11 z : Int32} {m : Nat → Nat} {a5 a6 : Nat → Int32} (ht : ∀ j, T j ≤ 4) (hq : ∀ j, Q j ≤ 4) (hi : i < 6) (hz : z = 1 ↔ wm_d T Q i = 0) (hz2 : z = 0 ↔ ¬ wm_d T Q i = 0)
    (h7 : wm_cn (wm_z (wm_d T Q)) (i + 1) x7) (h8 : wm_cn (wm_w (wm_d T Q) x4) (i + 1) x8) (h9 : wm_bs (wm_d T Q) (i + 1) x9 x10) (h11 : wm_fst (wm_d T Q) x5 x11 (i + 1))
    (H : ∀ x7 x8 x9 x10 x11, wm_cn (wm_z (wm_d T Q)) i x7 → wm_cn (wm_w (wm_d T Q) x4) i x8 → wm_bs (wm_d T Q) i x9 x10 → wm_fst (wm_d T Q) x5 x11 i → J x7 x8 x9 x10 x11 (nI i + (-1)) (nI 8) (nI 3) 1 (wm_A T) (wm_A Q) (wm_A wm_rt) (wm_A m) a5 a6) :
    wL_lawOf_166 post mc ms J x0 x2 x4 x5 x7 x8 x9 x10 x11 (nI i) (nI (wm_d T Q i)) z z kc ks (nI 8) (nI 3) 1 (wm_A T) (wm_A Q) (wm_A wm_rt) (wm_A m) a5 a6 := by
  have dl := wm_d_le ht hq i
  have k205 : ∀ x7 x8 x11, wm_cn (wm_z (wm_d T Q)) i x7 → wm_cn (wm_w (wm_d T Q) x4) i x8 → wm_fst (wm_d T Q) x5 x11 i →
      wL_lawOf_205 post mc ms J x0 x2 x4 x5 x7 x8 x9 x10 x11 (nI i) (nI (wm_d T Q i)) kc ks (nI 8) (nI 3) 1 (wm_A T) (wm_A Q) (wm_A wm_rt) (wm_A m) a5 a6 :=
    fun x7 x8 x11 g7 g8 g11 => br_c (fun y => nm_e (H x7 x8 x9 x10 x11 g7 g8 (wm_bs_keep (wm_d_le ht hq) hi h9 y) g11)) (fun y => nm_e (H x7 x8 (nI i) (nI (wm_d T Q i)) x11 g7 g8 (wm_bs_new (wm_d_le ht hq) hi h9 y) g11))
  have k189 : ∀ x7 x8, wm_cn (wm_z (wm_d T Q)) i x7 → wm_cn (wm_w (wm_d T Q) x4) i x8 →
      wL_lawOf_189 post mc ms J x0 x2 x4 x5 x7 x8 x9 x10 x11 (nI i) (nI (wm_d T Q i)) kc ks (nI 8) (nI 3) 1 (wm_A T) (wm_A Q) (wm_A wm_rt) (wm_A m) a5 a6 :=
    fun x7 x8 g7 g8 => pk_eq (wm_d T Q i) 0
      (fun e => br_c (fun y => k205 x7 x8 x11 g7 g8 (wm_fst_keep h11 (fun _ w => w.1 y))) (fun y => k205 x7 x8 (nI i) g7 g8 (wm_fst_new hi y e)))
      (fun e => k205 x7 x8 x11 g7 g8 (wm_fst_keep h11 (fun _ w => e w.2)))
  have k179 : ∀ x7, wm_cn (wm_z (wm_d T Q)) i x7 →
      wL_lawOf_179 post mc ms J x0 x2 x4 x5 x7 x8 x9 x10 x11 (nI i) (nI (wm_d T Q i)) kc ks (nI 8) (nI 3) 1 (wm_A T) (wm_A Q) (wm_A wm_rt) (wm_A m) a5 a6 :=
    fun x7 g7 => br_c (fun y => k189 x7 x8 g7 (wm_cn_0 h8 (fun _ => wm_w0 y))) (fun y => nm_e (k189 x7 (x8 + 1) g7 (wm_cn_1 h8 hi (wm_w1 y))))
  exact br_t rfl (pk_eq (wm_d T Q i) 0 (fun e => nm_e (k179 (x7 + 1) (wm_cn_1 h7 hi (wm_z1 e)))) (fun e => k179 x7 (wm_cn_0 h7 (fun _ => wm_z0 e))))
theorem wm_l103 {post : Int32 → St0 → Prop} {mc ms kc ks : Nat} {x0 x2 : Int64} {x4 x5 : Int32} {m : Nat → Nat} {a5 a6 : Nat → Int32} (ht : ∀ j, T j ≤ 4) (hq : ∀ j, Q j ≤ 4) (hd : ∀ i, i < 8 → wm_d (wm_at x0) (wm_at x2) i = wm_d T Q i) (hm : ∀ j, m j < 7681) (H : post 1 ()) :
    ∃ n, wL_lawOf_103 post mc ms x0 x2 x4 x5 kc ks n 0 0 (-3) 9 (-3) 7 (nI 8) (nI 3) 0 (wm_A T) (wm_A Q) (wm_A wm_rt) (wm_A m) a5 a6 := by
  have main := pk_loopD (fun n c (s : Int32 × Int32 × Int32 × Int32 × Int32 × St2) => wL_lawOf_103 post mc ms x0 x2 x4 x5 kc ks n s.1 s.2.1 s.2.2.1 s.2.2.2.1 s.2.2.2.2.1 (nI c + (-1)) s.2.2.2.2.2.1 s.2.2.2.2.2.2.1 s.2.2.2.2.2.2.2.1 s.2.2.2.2.2.2.2.2.1 s.2.2.2.2.2.2.2.2.2.1 s.2.2.2.2.2.2.2.2.2.2.1 s.2.2.2.2.2.2.2.2.2.2.2.1 s.2.2.2.2.2.2.2.2.2.2.2.2.1 s.2.2.2.2.2.2.2.2.2.2.2.2.2)
    (fun c s => wm_I T Q x4 x5 c s) ?_ ?_ 8 (0, 0, -3, 9, -3, (nI 8, nI 3, 0, wm_A T, wm_A Q, wm_A wm_rt, wm_A m, a5, a6)) ?_
  · have e : nI 8 + (-1) = 7 := by decide
    have main' : wL_lawOf_103 post mc ms x0 x2 x4 x5 kc ks 9 0 0 (-3) 9 (-3) (nI 8 + (-1)) (nI 8) (nI 3) 0 (wm_A T) (wm_A Q) (wm_A wm_rt) (wm_A m) a5 a6 := main
    rw [e] at main'
    exact ⟨9, main'⟩
  · rintro n ⟨x7, x8, x9, x10, x11, u⟩ ⟨_, _, r, h7, h8, h9, h11⟩
    obtain ⟨z7, e7, g7⟩ := h7
    obtain ⟨z8, e8, g8⟩ := h8
    obtain ⟨b, _, b1, b2, _, b4, b5⟩ := h9.2 (by omega)
    have r := r (by omega)
    have c7 : nI (wm_ct (wm_z (wm_d T Q)) 6) = x7 := by
      rw [← g7]
      exact e7.symm
    have c8 : nI (wm_ct (wm_w (wm_d T Q) x4) 6) = x8 := by
      rw [← g8]
      exact e8.symm
    refine wm_Rd_el (P := fun u => wL_lawOf_103 post mc ms x0 x2 x4 x5 kc ks (n + 1) x7 x8 x9 x10 x11 (nI 0 + (-1)) u.1 u.2.1 u.2.2.1 u.2.2.2.1 u.2.2.2.2.1 u.2.2.2.2.2.1 u.2.2.2.2.2.2.1 u.2.2.2.2.2.2.2.1 u.2.2.2.2.2.2.2.2) (fun m a5 a6 r => ?_) u r
    exact br_t (by decide) (wm_mcount ht hq r (fun m a5 a6 r => br_t c7 (wm_within ht hq r (fun m a5 a6 r => br_t c8 (wm_best ht hq r b1 (fun j hj => b4 j (by omega) hj) (fun j hj => b5 j (by omega) hj) (fun m a5 a6 r => br_t b2.symm (wm_next ht hq r h11 (fun m a5 a6 r => br_t rfl (wm_mis6 (br_t rfl (wm_turned8 (br_t rfl H))))))))))))
  · rintro n i ⟨x7, x8, x9, x10, x11, u⟩ ⟨hc, ok, _, h7, h8, h9, h11⟩ hw
    have hi : i < 8 := by omega
    have dl := wm_d_le ht hq i
    refine wm_Ok_el (P := fun u => wL_lawOf_103 post mc ms x0 x2 x4 x5 kc ks (n + 1) x7 x8 x9 x10 x11 (nI (i + 1) + (-1)) u.1 u.2.1 u.2.2.1 u.2.2.2.1 u.2.2.2.2.1 u.2.2.2.2.2.1 u.2.2.2.2.2.2.1 u.2.2.2.2.2.2.2.1 u.2.2.2.2.2.2.2.2) (fun rd m a5 a6 ok => ?_) u ok
    dsimp only
    rw [pk_m1]
    have nx : ∀ m a5 a6, wm_Rd T Q (wm_U T Q m a5 a6) → ∀ x7 x8 x9 x10 x11, wm_cn (wm_z (wm_d T Q)) i x7 → wm_cn (wm_w (wm_d T Q) x4) i x8 → wm_bs (wm_d T Q) i x9 x10 → wm_fst (wm_d T Q) x5 x11 i → wL_lawOf_103 post mc ms x0 x2 x4 x5 kc ks n x7 x8 x9 x10 x11 (nI i + (-1)) (nI 8) (nI 3) 1 (wm_A T) (wm_A Q) (wm_A wm_rt) (wm_A m) a5 a6 :=
      fun m a5 a6 r x7 x8 x9 x10 x11 g7 g8 g9 g11 => hw (x7, x8, x9, x10, x11, wm_U T Q m a5 a6) ⟨by omega, Or.inl r, fun _ => r, g7, g8, g9, g11⟩
    refine br_f (nI_pos (by omega)) (wm_diff rfl hi (hd i hi) (wm_turned ht hq ok rfl hi (fun m a5 a6 r => br_t rfl (pk_lt 5 i (fun y => nm_e (nx m a5 a6 r x7 x8 x9 x10 x11 (wm_cn_0 h7 (fun w => absurd w (by omega))) (wm_cn_0 h8 (fun w => absurd w (by omega))) ⟨fun _ => h9.1 (by omega), fun w => absurd w (by omega)⟩ (wm_fst_keep h11 (fun w => absurd w (by omega))))) (fun y => wm_mis ht hq (Or.inl r) rfl (by omega) (fun m a5 a6 r => br_t rfl (wm_matches ht hq (Or.inl r) rfl (by omega) (fun e m a5 a6 r => ?_) (fun e m a5 a6 r => ?_))))))))
    · refine br_t (by rw [e]; rfl) (wm_turn1 ht hq (by omega) ⟨fun _ => e, fun _ => rfl⟩ ⟨fun w => absurd w (by decide), fun w => absurd e w⟩ h7 h8 h9 h11 (nx m a5 a6 r))
    · refine br_f (nI_ne0 (by omega) (by omega)) (wm_turn1 ht hq (by omega) ⟨fun w => absurd w (by decide), fun w => absurd w e⟩ ⟨fun _ => e, fun _ => rfl⟩ h7 h8 h9 h11 (nx m a5 a6 r))
  · exact ⟨by omega, Or.inr ⟨m, a5, a6, rfl, hm⟩, fun w => absurd w (by omega), ⟨0, rfl, by rw [show min 8 6 = 6 by decide, Nat.zero_add]⟩, ⟨0, rfl, by rw [show min 8 6 = 6 by decide, Nat.zero_add]⟩, ⟨fun _ => rfl, fun w => absurd w (by omega)⟩, Or.inl ⟨fun j hj hj2 => absurd hj2 (by omega), rfl⟩⟩
end
theorem wm_d_eq {t q T Q : Nat → Nat} (h1 : ∀ j, j < 8 → T j = t j) (h2 : ∀ j, j < 3 → Q j = q j) (i : Nat) : wm_d t q i = wm_d T Q i := by
  unfold wm_d
  rw [h1 (i % 8) (by omega), h1 ((i + 1) % 8) (by omega), h1 ((i + 2) % 8) (by omega), h2 0 (by omega), h2 1 (by omega), h2 2 (by omega)]
theorem wm_l12 {post : Int32 → St0 → Prop} {mc ms kc ks : Nat} {x0 x2 : Int64} {x4 x5 : Int32} {a5 a6 : Nat → Int32} (H : post 1 ()) :
    ∃ n, wL_lawOf_12 post mc ms x0 x2 x4 x5 kc ks n 0 0 0 0 (fun _ => 0) (fun _ => 0) (wm_A wm_rt) (fun _ => 0) a5 a6 := by
  refine pk_loop (fun n i (s : (Nat → Nat) × (Nat → Nat)) => wL_lawOf_12 post mc ms x0 x2 x4 x5 kc ks n (nI i) (nI i) (nI (min i 3)) 0 (wm_A s.1) (wm_A s.2) (wm_A wm_rt) (wm_A (fun _ => 0)) a5 a6)
    (fun i s => (∀ j, s.1 j ≤ 4) ∧ (∀ j, s.2 j ≤ 4) ∧ (∀ j, j < i → s.1 j = wm_at x0 j) ∧ (∀ j, j < min i 3 → s.2 j = wm_at x2 j)) 8 0 (fun _ => 0, fun _ => 0) (by omega)
    ⟨fun j => Nat.zero_le 4, fun j => Nat.zero_le 4, fun j hj => absurd hj (by omega), fun j hj => absurd hj (by omega)⟩ ?_ ?_
  · rintro n ⟨T, Q⟩ ⟨h1, h2, h3, h4⟩
    exact pk_le 8 8 (fun _ => wm_l103 h1 h2 (fun i _ => wm_d_eq h3 (fun j hj => h4 j (by omega)) i) (fun j => by decide) H) (fun z => absurd z (by omega))
  · rintro n i ⟨T, Q⟩ hi ⟨h1, h2, h3, h4⟩ hw
    have t1 := wm_at_le x0 i
    have q1 := wm_at_le x2 i
    have T1 : ∀ j, wm_u T i (wm_at x0 i) j ≤ 4 := fun j => by
      by_cases e : j = i
      · rw [e, wm_us]
        exact t1
      · rw [wm_un e]
        exact h1 j
    have T2 : ∀ j, j < i + 1 → wm_u T i (wm_at x0 i) j = wm_at x0 j := fun j hj => by
      by_cases e : j = i
      · rw [e, wm_us]
      · rw [wm_un e]
        exact h3 j (by omega)
    refine pk_le 8 i (fun z => absurd z (by omega)) (fun _ => wm_at_w rfl (wm_at_w rfl (wm_typeT (by omega) t1 (br_t (nI_1 i).symm (pk_le 3 i (fun z => nm_r (nI_1 i) ?_) (fun z => ?_))))))
    · have t := hw (wm_u T i (wm_at x0 i), Q) ⟨T1, h2, T2, fun j hj => h4 j (by omega)⟩
      dsimp only at t
      rw [show min (i + 1) 3 = min i 3 by omega] at t
      exact t
    · have e3 : min i 3 = i := by omega
      have t := hw (wm_u T i (wm_at x0 i), wm_u Q i (wm_at x2 i)) ⟨T1, fun j => ?_, T2, fun j hj => ?_⟩
      · dsimp only at t
        rw [show min (i + 1) 3 = i + 1 by omega] at t
        rw [e3]
        exact wm_typeP (by omega) q1 (br_t (nI_1 i).symm (nm_r (nI_1 i) t))
      · dsimp only
        by_cases e : j = i
        · rw [e, wm_us]
          exact q1
        · rw [wm_un e]
          exact h2 j
      · dsimp only
        by_cases e : j = i
        · rw [e, wm_us]
        · rw [wm_un e]
          exact h4 j (by omega)
end
section
/-- the constructor: the table of roots -/
def wm_rr (i j : Nat) : Nat := if j < i then 5413 ^ j % 7681 else 0
theorem wm_rr_next (i : Nat) : wm_u (wm_rr i) i (5413 ^ i % 7681) = wm_rr (i + 1) := by
  funext j
  by_cases e : j = i
  · rw [e, wm_us]
    unfold wm_rr
    rw [if_pos (by omega)]
  · rw [wm_un e]
    unfold wm_rr
    by_cases g : j < i
    · rw [if_pos g, if_pos (by omega)]
    · rw [if_neg g, if_neg (by omega)]
theorem wm_rr_64 : wm_rr 64 = wm_rt := rfl
theorem wm_rr_1 : upd (fun _ => 0) 0 1 = wm_A (wm_rr 1) := by
  have e : upd (fun _ => 0) 0 1 = wm_A (wm_u (wm_rr 0) 0 (5413 ^ 0 % 7681)) := wm_uA (wm_rr 0) 0 1
  rw [e, wm_rr_next]
theorem wm_i87 {post : St2 → Prop} {mc ms kc ks : Nat} {tl pl rd : Int32} {a1 a2 a4 a5 a6 : Nat → Int32} (H : post (tl, pl, rd, a1, a2, wm_A wm_rt, a4, a5, a6)) :
    ∃ n, wX_init_87 post mc ms (nI 5413) kc ks tl pl rd n 1 a1 a2 (wm_A (wm_rr 1)) a4 a5 a6 := by
  refine pk_loop (σ := Unit) (fun n i _ => wX_init_87 post mc ms (nI 5413) kc ks tl pl rd n (nI (i + 1)) a1 a2 (wm_A (wm_rr (i + 1))) a4 a5 a6) (fun _ _ => True) 63 0 () (by omega) trivial ?_ ?_
  · intro n _ _
    exact pk_le 64 64 (fun _ => H) (fun z => absurd z (by omega))
  · intro n i _ hi _ hw
    have er : wm_rr (i + 1) i = 5413 ^ i % 7681 := by
      unfold wm_rr
      rw [if_pos (by omega)]
    have hb : 5413 ^ i % 7681 < 7681 := Nat.mod_lt _ (by decide)
    have e1 : wm_A (wm_rr (i + 1)) (nI (i + 1) - 1).toNatClampNeg * nI 5413 = nI (5413 ^ i % 7681 * 5413) := by
      rw [wm_rd (nI_pred i) (by omega), er, pk_mul]
    have e2 := wm_mod e1 (by omega)
    have e3 : 5413 ^ i % 7681 * 5413 % 7681 = 5413 ^ (i + 1) % 7681 := by
      rw [Nat.pow_succ, Nat.mul_mod, Nat.mod_mod, ← Nat.mul_mod]
    rw [e3] at e2
    have e4 := wm_st (m := wm_rr (i + 1)) (k := i + 1) (v := 5413 ^ (i + 1) % 7681) (x := nI (i + 1)) rfl (by omega) e2
    rw [wm_rr_next] at e4
    exact pk_le 64 (i + 1) (fun z => absurd z (by omega)) (fun _ => ⟨pk_in i 64 (by omega) (nI_pred i), by decide, pk_in (i + 1) 64 (by omega), nm_r e4 (nm_r (nI_1 (i + 1)) (hw () trivial))⟩)
theorem wm_base : 17 ^ 120 % 7681 = 5413 := by decide +kernel
theorem wm_init {post : St2 → Prop} {mc ms : Nat} (h1 : 6 ≤ mc) (h2 : 388 ≤ ms) (H : post (0, 0, 0, fun _ => 0, fun _ => 0, wm_A wm_rt, fun _ => 0, fun _ => 0, fun _ => 0)) : wpX_init post mc ms (0, 0, 0) := by
  refine ⟨by omega, by omega, by omega, by omega, by omega, by omega, by omega, by omega, by omega, by omega, by omega, by omega, ?_⟩
  refine pk_loop (σ := Unit) (fun n i _ => wX_init_57 post mc ms 6 388 0 0 0 (fun _ => 0) (fun _ => 0) (fun _ => 0) (fun _ => 0) (fun _ => 0) (fun _ => 0) n (nI (17 ^ i % 7681)) (nI i)) (fun _ _ => True) 120 0 () (by omega) trivial ?_ ?_
  · intro n _ _
    refine pk_le 120 120 (fun _ => nm_r wm_rr_1 ?_) (fun z => absurd z (by omega))
    rw [wm_base]
    exact wm_i87 H
  · intro n i _ hi _ hw
    have hb : 17 ^ i % 7681 < 7681 := Nat.mod_lt _ (by decide)
    have e1 := wm_mod (x := nI (17 ^ i % 7681) * 17) (pk_mul (17 ^ i % 7681) 17) (by omega)
    have e3 : 17 ^ i % 7681 * 17 % 7681 = 17 ^ (i + 1) % 7681 := by
      rw [Nat.pow_succ, Nat.mul_mod, Nat.mod_mod, ← Nat.mul_mod]
    rw [e3] at e1
    exact pk_le 120 i (fun z => absurd z (by omega)) (fun _ => ⟨by decide, nm_r e1 (nm_r (nI_1 i) (hw () trivial))⟩)
theorem wm_ca {post : Int32 → Prop} {L : Nat} {xs : Nat → Int32} {j : Nat} {X : Int32} (eX : X = nI j) (hj : j < 6) (hL : L ≤ 6) (H : ∀ r, post r) : wpL_cellAt post L xs () X :=
  pk_le L j (fun _ => H 0) (fun z => ⟨pk_in j L z eX, H _⟩) rfl eX
theorem wm_lawOf {post : Int32 → St0 → Prop} {x0 x2 : Int64} {x4 x5 : Int32} (H : post 1 ()) : wpL_lawOf post 194 3088 () x0 x2 x4 x5 :=
  ⟨by omega, by omega, 6, 388, by omega, by omega, wm_init (by omega) (by omega) (wm_l12 H)⟩
theorem i_vc (xs : Nat → Int32) (L : Nat) (hL : L ≤ 6) : wpL_law (fun r => r = 1) L xs :=
  wm_ca (j := 0) rfl (by omega) hL (fun _ => wm_ca (j := 1) rfl (by omega) hL (fun _ => wm_ca (j := 2) rfl (by omega) hL (fun _ => wm_ca (j := 3) rfl (by omega) hL (fun _ => wm_ca (j := 4) rfl (by omega) hL (fun _ => wm_ca (j := 5) rfl (by omega) hL (fun _ => ⟨194, 3088, by omega, by omega, wm_lawOf rfl⟩))))))
end
