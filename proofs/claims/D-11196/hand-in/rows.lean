section
/-! pure rows: remainders by 997, rows of twelve places (three of them used), sums, the inverse -/
theorem ww_rem (a : Nat) (h : a < 3000000) : nI a - nI a / 997 * 997 = nI (a % 997) := pk_rem (d := 997) (by omega) (by decide) (by decide)
theorem ww_mlt {a b : Nat} (ha : a < 997) (hb : b < 1994) : a * b < 3000000 := by
  have h : a * b ≤ 996 * 1993 := Nat.mul_le_mul (by omega) (by omega)
  omega
theorem ww_fill {f s : Nat → Int32} {i k : Nat} {x : Int32} (hk : k = i) (h : ∀ j, j < i → s j = f j) (hx : x = f i) : ∀ j, j < i + 1 → upd s k x j = f j := by
  intro j hj
  rw [hk]
  by_cases e : j = i
  · rw [e, pk_us, hx]
  · rw [pk_un e]
    exact h j (by omega)
/-- the picture of a row: place 4 i holds c i, all others 0 -/
def ww_pt (c : Nat → Nat) (j : Nat) : Nat := if j % 4 = 0 then c (j / 4) else 0
def ww_row (c : Nat → Nat) (a : Nat → Int32) : Prop := ∀ j, j < 12 → a j = nI (ww_pt c j)
def ww_st (m : Nat) (p q : Nat → Nat) (i : Nat) : Nat := if i < m then p i * q i % 997 else 0
def ww_sum (f : Nat → Nat) : Nat → Nat
  | 0 => 0
  | n + 1 => ww_sum f n + f n
theorem ww_ptlt {c : Nat → Nat} (hc : ∀ i, i < 3 → c i < 997) {j : Nat} (hj : j < 12) : ww_pt c j < 997 := by
  unfold ww_pt
  split
  · exact hc _ (by omega)
  · omega
theorem ww_stlt {m : Nat} {p q : Nat → Nat} (i : Nat) : ww_st m p q i < 997 := by
  unfold ww_st
  split
  · exact Nat.mod_lt _ (by decide)
  · omega
theorem ww_st0 {p q : Nat → Nat} (j : Nat) : ww_pt (ww_st 0 p q) j = 0 := by
  unfold ww_pt ww_st
  split
  · rw [if_neg (by omega)]
  · rfl
theorem ww_row0 {p q : Nat → Nat} {s : Nat → Int32} (h : ∀ j, j < 12 → s j = 0) : ww_row (ww_st 0 p q) s := by
  intro j hj
  rw [h j hj, ww_st0 j]
  rfl
theorem ww_rowU {c c' : Nat → Nat} {s : Nat → Int32} {i x : Nat} (h : ww_row c s) (he : c' i = x) (hn : ∀ t, t ≠ i → c' t = c t) : ww_row c' (upd s (4 * i) (nI x)) := by
  intro j hj
  by_cases e : j = 4 * i
  · rw [e, pk_us]
    unfold ww_pt
    rw [if_pos (by omega), show 4 * i / 4 = i by omega, he]
  · rw [pk_un e, h j hj]
    unfold ww_pt
    by_cases q : j % 4 = 0
    · rw [if_pos q, if_pos q, hn (j / 4) (by omega)]
    · rw [if_neg q, if_neg q]
theorem ww_stS {p q : Nat → Nat} {i : Nat} (t : Nat) (h : t ≠ i) : ww_st (i + 1) p q t = ww_st i p q t := by
  unfold ww_st
  by_cases z : t < i
  · rw [if_pos (by omega), if_pos z]
  · rw [if_neg (by omega), if_neg z]
theorem ww_stE {p q : Nat → Nat} {i : Nat} : ww_st (i + 1) p q i = p i * q i % 997 := by
  unfold ww_st
  rw [if_pos (by omega)]
theorem ww_row_at {c : Nat → Nat} {s : Nat → Int32} (h : ww_row c s) (i : Nat) (hi : i < 3) : s (4 * i) = nI (c i) := by
  rw [h (4 * i) (by omega)]
  unfold ww_pt
  rw [if_pos (by omega), show 4 * i / 4 = i by omega]
theorem ww_row_c {c : Nat → Nat} {s s' : Nat → Int32} (h : ww_row c s) (e : ∀ j, j < 12 → s' j = s j) : ww_row c s' := by
  intro j hj
  rw [e j hj]
  exact h j hj
theorem ww_sum4 (c : Nat → Nat) (m : Nat) : ww_sum (ww_pt c) (4 * m) = ww_sum c m := by
  induction m with
  | zero => rfl
  | succ m ih =>
    show ww_sum (ww_pt c) (4 * m) + ww_pt c (4 * m) + ww_pt c (4 * m + 1) + ww_pt c (4 * m + 2) + ww_pt c (4 * m + 3) = ww_sum c m + c m
    rw [ih]
    unfold ww_pt
    rw [if_pos (by omega), if_neg (by omega), if_neg (by omega), if_neg (by omega), show 4 * m / 4 = m by omega]
    omega
/-- a row of which each place is multiplied by t: the sum likewise -/
theorem ww_sumM {c : Nat → Nat} {m t : Nat} (k : Nat) (hk : k ≤ m) : ww_sum (ww_st m c (fun _ => t)) k % 997 = ww_sum c k * t % 997 := by
  induction k with
  | zero => show 0 % 997 = 0 * t % 997; rw [Nat.zero_mul]
  | succ k ih =>
    show (ww_sum (ww_st m c (fun _ => t)) k + ww_st m c (fun _ => t) k) % 997 = (ww_sum c k + c k) * t % 997
    have e : ww_st m c (fun _ => t) k = c k * t % 997 := by
      unfold ww_st
      rw [if_pos (by omega)]
    have ih' := ih (by omega)
    rw [e, Nat.add_mul]
    omega
theorem ww_sum0 {c : Nat → Nat} {m t : Nat} (h : 2 * ww_sum c m % 997 = 0) : 2 * ww_sum (ww_st m c (fun _ => t)) m % 997 = 0 := by
  have e := ww_sumM (c := c) (m := m) (t := t) m (Nat.le_refl m)
  have d : ww_sum c m % 997 = 0 := by omega
  have e2 : ww_sum c m * t % 997 = 0 := by rw [Nat.mul_mod, d, Nat.zero_mul]
  omega
/-! the inverse by squaring, as the class goes -/
def ww_ivs (x : Nat) : Nat → Nat × Nat
  | 0 => (1, x)
  | k + 1 => (if 995 / 2 ^ k % 2 = 1 then (ww_ivs x k).1 * (ww_ivs x k).2 % 997 else (ww_ivs x k).1, (ww_ivs x k).2 * (ww_ivs x k).2 % 997)
def ww_inv (x : Nat) : Nat := (ww_ivs x 10).1
theorem ww_ivp (x : Nat) (k : Nat) : (ww_ivs x k).1 % 997 = x ^ (995 % 2 ^ k) % 997 ∧ (ww_ivs x k).2 % 997 = x ^ 2 ^ k % 997 := by
  induction k with
  | zero => exact ⟨by rw [Nat.pow_zero]; rfl, by rw [Nat.pow_zero, Nat.pow_one]; rfl⟩
  | succ k ih =>
    obtain ⟨h1, h2⟩ := ih
    have q : x ^ 2 ^ (k + 1) = x ^ 2 ^ k * x ^ 2 ^ k := by rw [Nat.pow_succ, Nat.mul_two, Nat.pow_add]
    have hm : 995 % 2 ^ (k + 1) = 995 % 2 ^ k + 2 ^ k * (995 / 2 ^ k % 2) := by rw [Nat.pow_succ, Nat.mod_mul]
    constructor
    · show (if 995 / 2 ^ k % 2 = 1 then (ww_ivs x k).1 * (ww_ivs x k).2 % 997 else (ww_ivs x k).1) % 997 = _
      rw [hm]
      by_cases z : 995 / 2 ^ k % 2 = 1
      · rw [if_pos z, z, Nat.mul_one, Nat.pow_add, Nat.mod_mod, Nat.mul_mod, h1, h2, ← Nat.mul_mod]
      · rw [if_neg z, show 995 / 2 ^ k % 2 = 0 by omega, Nat.mul_zero, Nat.add_zero, h1]
    · show ((ww_ivs x k).2 * (ww_ivs x k).2 % 997) % 997 = _
      rw [q, Nat.mod_mod, Nat.mul_mod, h2, ← Nat.mul_mod]
theorem ww_ferm : ∀ x, x < 997 → 0 < x → x * x ^ 995 % 997 = 1 := by decide +kernel
theorem ww_inv1 {x : Nat} (h : x < 997) (h0 : 0 < x) : x * ww_inv x % 997 = 1 := by
  have e : ww_inv x % 997 = x ^ 995 % 997 := (ww_ivp x 10).1
  rw [Nat.mul_mod, e, ← Nat.mul_mod]
  exact ww_ferm x h h0
theorem ww_ivlt {x : Nat} (h : x < 997) (k : Nat) : (ww_ivs x k).1 < 997 ∧ (ww_ivs x k).2 < 997 := by
  induction k with
  | zero => exact ⟨(by decide : 1 < 997), h⟩
  | succ k ih =>
    refine ⟨?_, Nat.mod_lt _ (by decide)⟩
    show (if 995 / 2 ^ k % 2 = 1 then (ww_ivs x k).1 * (ww_ivs x k).2 % 997 else (ww_ivs x k).1) < 997
    split
    · exact Nat.mod_lt _ (by decide)
    · exact ih.1
theorem ww_ivb : ∀ i, i < 10 → ((995 : Int32) >>> (nI i &&& 31)) &&& 1 = nI (995 / 2 ^ i % 2) := by decide +kernel
/-! the sweep: a row that is a multiple of the basis row is swept to nothing -/
theorem ww_dep {c0 ci t : Nat} (h : c0 < 997) (h0 : 0 < c0) : (c0 * t % 997) * (ci * ww_inv c0 % 997) % 997 = ci * t % 997 := by
  have e : c0 * t * (ci * ww_inv c0) = c0 * ww_inv c0 * (ci * t) := by
    ac_rfl
  rw [← Nat.mul_mod, e, Nat.mul_mod, ww_inv1 h h0, Nat.one_mul, Nat.mod_mod]
theorem ww_swp {g r y : Nat} (hg : g < 997) (hy : y < 997) (h : g * r % 997 = y) : (y + (997 - g) * r) % 997 = 0 := by
  have e : (997 - g) * r + g * r = 997 * r := by
    rw [← Nat.add_mul, show 997 - g + g = 997 by omega]
  generalize (997 - g) * r = X at e ⊢
  generalize g * r = Y at e h
  omega
/-! the arithmetic of the law -/
theorem ww_cop : ∀ s, s < 997 → 0 < s → Nat.gcd 997 s = 1 := by decide +kernel
theorem ww_can {s k : Nat} (h : s < 997) (h0 : 0 < s) (hk : s * k % 997 = 0) : k % 997 = 0 := by
  have d : 997 ∣ s * k := Nat.dvd_of_mod_eq_zero hk
  exact Nat.mod_eq_zero_of_dvd (Nat.Coprime.dvd_of_dvd_mul_left (ww_cop s h h0) d)
theorem ww_third (s u v : Nat) : 2 * (0 + s * 1 % 997 * u % 997 * v % 997) % 997 = 2 * s % 997 * u % 997 * v % 997 := by
  rw [Nat.zero_add, Nat.mul_one]
  simp only [Nat.mod_mul_mod, Nat.mul_mod_mod]
  exact congrArg (· % 997) (by ac_rfl)
theorem ww_tot (s k : Nat) : 2 * (0 + s * 1 % 997 * k % 997 * k % 997) % 997 = 2 * s % 997 * (k % 997) % 997 * (k % 997) % 997 := by
  rw [Nat.zero_add, Nat.mul_one]
  simp only [Nat.mod_mul_mod, Nat.mul_mod_mod]
  exact congrArg (· % 997) (by ac_rfl)
theorem ww_thf (s f u v : Nat) : 2 * (0 + s * f % 997 * 1 % 997 * u % 997 * v % 997) % 997 = 2 * s % 997 * u % 997 * v % 997 * f % 997 := by
  rw [Nat.zero_add, Nat.mul_one]
  simp only [Nat.mod_mul_mod, Nat.mul_mod_mod, Nat.mod_mod]
  exact congrArg (· % 997) (by ac_rfl)
theorem ww_dif {s f : Nat} (h : s < 997) (h0 : 0 < s) (hf : f < 997) : 2 * (0 + s * f % 997 * 1 % 997 + s * 996 % 997) % 997 = 0 ↔ f = 1 := by
  constructor
  · intro z
    have e : s * (f + 996) % 997 = 0 := by
      rw [Nat.mul_add]
      omega
    have k := ww_can h h0 e
    omega
  · intro z
    subst z
    omega
theorem ww_sm {s f : Nat} (h : s < 997) (h0 : 0 < s) (hf : f < 997) : 2 * (0 + s * 1 % 997 + s * f % 997 * 996 % 997 + s * 1 % 997) % 997 = 0 ↔ f = 2 := by
  constructor
  · intro z
    have e : s * (2 + f * 996) % 997 = 0 := by
      rw [Nat.mul_add, ← Nat.mul_assoc]
      omega
    have k := ww_can h h0 e
    omega
  · intro z
    subst z
    omega
/-! the class's modulo, of any int -/
def ww_M (x : Int32) (f : Nat) : Prop := f < 997 ∧ (0 ≤ x - x / 997 * 997 → x - x / 997 * 997 = nI f) ∧ (¬ 0 ≤ x - x / 997 * 997 → x - x / 997 * 997 + 997 = nI f)
theorem ww_Mn {a : Nat} (h : a < 3000000) : ww_M (nI a) (a % 997) := by
  refine ⟨Nat.mod_lt _ (by decide), fun _ => ww_rem a h, fun z => absurd ?_ z⟩
  rw [ww_rem a h]
  exact nI_pos' (by omega)
theorem ww_Mex (x : Int32) : ∃ f, ww_M x f := by
  by_cases h : x < 0
  · have h997 : (997 : Int32).toInt = 997 := by decide
    have hx : x.toInt < 0 := Int32.lt_iff_toInt_lt.mp h
    have hlo : -2147483648 ≤ x.toInt := Int32.le_toInt x
    obtain ⟨k, hk⟩ : ∃ k : Nat, x.toInt = -(k : Int) := ⟨(-x.toInt).toNat, by omega⟩
    have hd : (x / 997).toInt = -((k : Int) / 997) := by
      rw [Int32.toInt_div, h997, hk, Int.neg_tdiv, Int.tdiv_eq_ediv_of_nonneg (by omega), Int.bmod_eq_of_le (by omega) (by omega)]
    have hm : (x / 997 * 997).toInt = -((k : Int) / 997) * 997 := by
      rw [Int32.toInt_mul, hd, h997, Int.bmod_eq_of_le (by omega) (by omega)]
    have hr : (x - x / 997 * 997).toInt = -((k : Int) % 997) := by
      rw [Int32.toInt_sub, hm, hk, Int.bmod_eq_of_le (by omega) (by omega)]
      omega
    refine ⟨(997 - k % 997) % 997, Nat.mod_lt _ (by decide), fun z => ?_, fun z => ?_⟩
    · have z' := Int32.le_iff_toInt_le.mp z
      rw [hr, show (0 : Int32).toInt = 0 from by decide] at z'
      apply Int32.toInt_inj.mp
      rw [hr, nI_toInt (by omega)]
      omega
    · have z' : ¬ (0 : Int32).toInt ≤ (x - x / 997 * 997).toInt := fun q => z (Int32.le_iff_toInt_le.mpr q)
      rw [hr, show (0 : Int32).toInt = 0 from by decide] at z'
      apply Int32.toInt_inj.mp
      rw [Int32.toInt_add, hr, h997, nI_toInt (by omega), Int.bmod_eq_of_le (by omega) (by omega)]
      omega
  · obtain ⟨n, hn, rfl⟩ := nI_of h
    have e : nI n - nI n / 997 * 997 = nI (n % 997) := pk_rem (d := 997) hn (by decide) (by decide)
    refine ⟨n % 997, Nat.mod_lt _ (by decide), fun _ => e, fun z => absurd ?_ z⟩
    rw [e]
    exact nI_pos' (by omega)
theorem ww_Mv : ∀ v, v < 997 → (0 ≤ (nI v - 997) - (nI v - 997) / 997 * 997 → (nI v - 997) - (nI v - 997) / 997 * 997 = nI v) ∧ (¬ 0 ≤ (nI v - 997) - (nI v - 997) / 997 * 997 → (nI v - 997) - (nI v - 997) / 997 * 997 + 997 = nI v) := by decide +kernel
end
section
/-! the walks over rows: startRow, endValue, advance, takeRow; the small methods -/
theorem ww_good {P : Int32 → Prop} {a : Nat} (ha : a < 3) (h : P 1) : wpX_isGood P () (nI a) := br_f (nI_pos (by omega)) (br_f (nI_nlt (b := a) (a := 2) (by omega) (by decide)) h)
theorem ww_modulo {P : Int32 → Prop} {x : Int32} {f : Nat} (hx : ww_M x f) (h : P (nI f)) : wpX_modulo P () x := by
  unfold wpX_modulo
  refine ⟨by decide, nm_e ⟨fun z => ?_, fun z => ?_⟩⟩
  · rw [hx.2.1 z]
    exact h
  · rw [hx.2.2 z]
    exact h
section
variable {post : St2 → Prop} {f w b : Int32} {a1 a2 a3 a4 a5 a6 a7 a8 a9 a10 a11 a12 a13 : Nat → Int32}
theorem ww_33 {J : Int32 → (Nat → Int32) → (Nat → Int32) → (Nat → Int32) → (Nat → Int32) → (Nat → Int32) → (Nat → Int32) → (Nat → Int32) → (Nat → Int32) → (Nat → Int32) → (Nat → Int32) → (Nat → Int32) → (Nat → Int32) → (Nat → Int32) → Prop} {i mem st sg : Nat} (hi : i < 3) (hm : mem < 3) (h1 : a1 mem = 1) (h5 : a5 i = nI mem) (h2 : a2 (4 * mem) = nI st) (h6 : a6 i = nI sg) (hs : st < 997) (hg : sg < 997)
    (H : J (nI (i + 1)) a1 a2 a3 a4 a5 a6 a7 a8 a9 a10 (upd a11 (4 * i) (nI (st * sg % 997))) a12 a13) : ∃ n, wX_startRow_33 post J (nI i) f w b n 0 a1 a2 a3 a4 a5 a6 a7 a8 a9 a10 a11 a12 a13 := by
  have c1 : (nI i).toNatClampNeg = i := nI_clamp (by omega)
  have c2 : (nI mem).toNatClampNeg = mem := nI_clamp (by omega)
  have e3 : (4 : Int32) * nI mem + 0 = nI (4 * mem) := by rw [Int32.add_zero]; exact pk_mul 4 mem
  have e4 : (4 : Int32) * nI i + 0 = nI (4 * i) := by rw [Int32.add_zero]; exact pk_mul 4 i
  refine ⟨0 + 1 + 1, ?_⟩
  unfold wX_startRow_33
  rw [c1, h5, c2, h1, e3, e4, nI_clamp (show 4 * mem < 2 ^ 31 by omega), nI_clamp (show 4 * i < 2 ^ 31 by omega), h2, h6, pk_mul, ww_rem _ (ww_mlt hs (by omega))]
  refine ⟨pk_in i 3 hi, pk_in mem 3 hm, br_f (by decide) ⟨pk_in i 3 hi, pk_in (4 * mem) 12 (by omega), pk_in i 3 hi, by decide, pk_in (4 * i) 12 (by omega), nm_e (nm_r (e' := 1) (by decide) ?_)⟩⟩
  unfold wX_startRow_33
  rw [c1, h5, c2, h1]
  exact ⟨pk_in i 3 hi, pk_in mem 3 hm, br_t (by decide) (nm_r (nI_1 i) H)⟩
theorem ww_startRow {m : Nat} {mem st sg : Nat → Nat} (hm : m ≤ 3) (h1 : ∀ i, i < 3 → a1 i = 1) (h5 : ∀ i, i < m → mem i < 3 ∧ a5 i = nI (mem i)) (h2 : ∀ i, i < m → st i < 997 ∧ a2 (4 * mem i) = nI (st i)) (h6 : ∀ i, i < m → sg i < 997 ∧ a6 i = nI (sg i))
    (H : ∀ x, ww_row (ww_st m st sg) x → post (nI m, w, b, a1, a2, a3, a4, a5, a6, a7, a8, a9, a10, x, a12, a13)) : wpX_startRow post (nI m, w, b, a1, a2, a3, a4, a5, a6, a7, a8, a9, a10, a11, a12, a13) := by
  have K : ∀ s, (∀ j, j < 12 → s j = 0) → ∃ n, wX_startRow_23 post (nI m) w b n 0 a1 a2 a3 a4 a5 a6 a7 a8 a9 a10 s a12 a13 := fun s hs =>
    pk_loop (fun n i s => wX_startRow_23 post (nI m) w b n (nI i) a1 a2 a3 a4 a5 a6 a7 a8 a9 a10 s a12 a13) (fun i s => ww_row (ww_st i st sg) s) m 0 s (by omega) (ww_row0 hs)
      (fun n s h => pk_le m m (fun _ => H s h) (fun z => absurd z (by omega)))
      (fun n i s hi h hw => pk_le m i (fun z => absurd z (by omega)) (fun _ => ww_33 (by omega) (h5 i hi).1 (h1 _ (h5 i hi).1) (h5 i hi).2 (h2 i hi).2 (h6 i hi).2 (h2 i hi).1 (h6 i hi).1 (hw _ (ww_rowU h ww_stE (fun t ht => ww_stS t ht)))))
  unfold wpX_startRow
  exact pk_loop (fun n i s => wX_startRow_2 post (nI m) w b n (nI i) a1 a2 a3 a4 a5 a6 a7 a8 a9 a10 s a12 a13) (fun i s => ∀ j, j < i → s j = 0) 12 0 a11 (by omega) lt_0
    (fun n s h => pk_le 12 12 (fun _ => K s h) (fun z => absurd z (by omega)))
    (fun n i s hi h hw => pk_le 12 i (fun z => absurd z (by omega)) (fun _ => ⟨pk_in i 12 hi, nm_e (nm_r (nI_1 i) (hw _ (ww_fill (f := fun _ => 0) (nI_clamp (by omega)) h rfl)))⟩))
theorem ww_endValue {p : Int32 → Prop} {m : Nat} {mem c : Nat → Nat} (hm : m ≤ 3) (h5 : ∀ i, i < m → mem i < 3 ∧ a5 i = nI (mem i)) (h3 : ∀ i, i < m → a3 (4 * mem i) = nI 2) (hc : ∀ i, i < 3 → c i < 997) (hr : ww_row c a11)
    (H : p (nI (2 * ww_sum c m % 997))) : wpX_endValue p (nI m, w, b, a1, a2, a3, a4, a5, a6, a7, a8, a9, a10, a11, a12, a13) := by
  unfold wpX_endValue
  refine pk_loop (σ := Unit) (fun n i _ => wX_endValue_4 p (nI m) w b a1 a2 a3 a4 a5 a6 a7 a8 a9 a10 a11 a12 a13 n (nI (2 * ww_sum (ww_pt c) i % 997)) (nI i)) (fun _ _ => True) (4 * m) 0 () (by omega) trivial (fun n s h => ?_) (fun n i s hi h hw => ?_)
  · rw [← ww_sum4] at H
    exact pk_le (4 * m) (4 * m) (fun _ => H) (fun z => absurd z (by omega)) (pk_mul 4 m)
  · have hw' : wX_endValue_4 p (nI m) w b a1 a2 a3 a4 a5 a6 a7 a8 a9 a10 a11 a12 a13 n (nI (2 * ww_sum (ww_pt c) (i + 1) % 997)) (nI (i + 1)) := hw () trivial
    show wX_endValue_4 p (nI m) w b a1 a2 a3 a4 a5 a6 a7 a8 a9 a10 a11 a12 a13 (n + 1) (nI (2 * ww_sum (ww_pt c) i % 997)) (nI i)
    have hq : i / 4 < m := by omega
    obtain ⟨g1, g2⟩ := h5 (i / 4) hq
    have e1 : nI i >>> ((2 : Int32) &&& 31) = nI (i / 4) := pk_shrN (by omega) _ 2 (by decide)
    have e2 : nI i &&& 3 = nI (i % 4) := pk_andN (by omega) 2 (by decide)
    have e3 : (4 : Int32) * nI (mem (i / 4)) + nI (i % 4) = nI (4 * mem (i / 4) + i % 4) := by
      rw [← nI_add, ← pk_mul]
      rfl
    have e4 : a11 i * a3 (4 * mem (i / 4) + i % 4) = nI (2 * ww_pt c i) := by
      rw [hr i (by omega)]
      by_cases z : i % 4 = 0
      · rw [z, Nat.add_zero, h3 _ hq, pk_mul, Nat.mul_comm]
      · rw [show ww_pt c i = 0 from if_neg z, nI_0, Int32.zero_mul]
    have e5 : (nI (2 * ww_sum (ww_pt c) i % 997) + nI (2 * ww_pt c i)) - (nI (2 * ww_sum (ww_pt c) i % 997) + nI (2 * ww_pt c i)) / 997 * 997 = nI (2 * ww_sum (ww_pt c) (i + 1) % 997) := by
      have := ww_ptlt hc (show i < 12 by omega)
      rw [nI_add, ww_rem _ (by omega)]
      refine congrArg nI ?_
      show (2 * ww_sum (ww_pt c) i % 997 + 2 * ww_pt c i) % 997 = 2 * (ww_sum (ww_pt c) i + ww_pt c i) % 997
      omega
    unfold wX_endValue_4
    rw [e1, e2, nI_clamp (show i < 2 ^ 31 by omega), nI_clamp (show i / 4 < 2 ^ 31 by omega), g2, e3, nI_clamp (show 4 * mem (i / 4) + i % 4 < 2 ^ 31 by omega), e4]
    exact pk_le (4 * m) i (fun z => absurd z (by omega)) (fun _ => ⟨pk_in i 12 (by omega), pk_in (i / 4) 3 (by omega), pk_in (4 * mem (i / 4) + i % 4) 12 (by omega), by decide, nm_r e5 (nm_r (nI_1 i) hw')⟩) (pk_mul 4 m)
theorem ww_53a {J : Int32 → (Nat → Int32) → (Nat → Int32) → (Nat → Int32) → (Nat → Int32) → (Nat → Int32) → (Nat → Int32) → (Nat → Int32) → (Nat → Int32) → (Nat → Int32) → (Nat → Int32) → (Nat → Int32) → (Nat → Int32) → (Nat → Int32) → Prop} {l i mem c t : Nat} (hl : l < 2) (hi : i < 3) (hm : mem < 3) (h1 : a1 mem = 1) (h11 : a11 (4 * i) = nI c) (h4 : a4 (32 * mem + 16 * l) = nI t) (h12 : a12 (4 * i) = nI 0) (hc : c < 997) (ht : t < 997)
    (H : J (nI (4 * i + 1)) a1 a2 a3 a4 a5 a6 a7 a8 a9 a10 a11 (upd a12 (4 * i) (nI (c * t % 997))) a13) : ∃ n, wX_advance_53 post J (nI l) (nI (4 * i)) (nI i) 0 (nI mem) f w b n 0 a1 a2 a3 a4 a5 a6 a7 a8 a9 a10 a11 a12 a13 := by
  have c1 : (nI (4 * i)).toNatClampNeg = 4 * i := nI_clamp (by omega)
  have c2 : (nI mem).toNatClampNeg = mem := nI_clamp (by omega)
  have e3 : (((32 : Int32) * nI mem + 16 * nI l) + 4 * 0) + 0 = nI (32 * mem + 16 * l) := by
    rw [← nI_add, ← pk_mul, ← pk_mul, Int32.add_zero, Int32.mul_zero, Int32.add_zero]
    rfl
  have e4 : (4 : Int32) * nI i + 0 = nI (4 * i) := by rw [Int32.add_zero]; exact pk_mul 4 i
  refine ⟨0 + 1 + 1, ?_⟩
  unfold wX_advance_53
  rw [c1, c2, h1, e3, e4, nI_clamp (show 32 * mem + 16 * l < 2 ^ 31 by omega), c1, h11, h4, pk_mul, h12]
  refine ⟨pk_in mem 3 hm, br_f (by decide) ⟨pk_in mem 3 hm, br_f (by decide) ⟨pk_in (4 * i) 12 (by omega), pk_in (32 * mem + 16 * l) 96 (by omega), nm_e ⟨pk_in (4 * i) 12 (by omega), by decide, pk_in (4 * i) 12 (by omega), ?_⟩⟩⟩⟩
  rw [nI_add, Nat.zero_add, ww_rem _ (ww_mlt hc (by omega))]
  refine nm_e (nm_r (e' := 1) (by decide) ?_)
  unfold wX_advance_53
  rw [c2, h1]
  exact ⟨pk_in mem 3 hm, br_t (by decide) (nm_r (nI_1 _) H)⟩
theorem ww_53b {J : Int32 → (Nat → Int32) → (Nat → Int32) → (Nat → Int32) → (Nat → Int32) → (Nat → Int32) → (Nat → Int32) → (Nat → Int32) → (Nat → Int32) → (Nat → Int32) → (Nat → Int32) → (Nat → Int32) → (Nat → Int32) → (Nat → Int32) → Prop} {x1 x3 : Int32} {k p mem : Nat} (hp : 0 < p) (hp3 : p < 4) (hm : mem < 3) (h1 : a1 mem = 1)
    (H : J (nI (k + 1)) a1 a2 a3 a4 a5 a6 a7 a8 a9 a10 a11 a12 a13) : ∃ n, wX_advance_53 post J x1 (nI k) x3 (nI p) (nI mem) f w b n 0 a1 a2 a3 a4 a5 a6 a7 a8 a9 a10 a11 a12 a13 := by
  have c2 : (nI mem).toNatClampNeg = mem := nI_clamp (by omega)
  refine ⟨0 + 1, ?_⟩
  unfold wX_advance_53
  rw [c2, h1]
  exact ⟨pk_in mem 3 hm, br_f (by decide) ⟨pk_in mem 3 hm, br_t (nI_le (a := 1) (b := p) hp (by omega)) (nm_r (nI_1 k) H)⟩⟩
theorem ww_advance {m l : Nat} {x1 : Int32} {mem c t : Nat → Nat} (hx : x1 = nI l) (hl : l < 2) (hm : m ≤ 3) (h1 : ∀ i, i < 3 → a1 i = 1) (h5 : ∀ i, i < m → mem i < 3 ∧ a5 i = nI (mem i)) (h4 : ∀ i, i < m → t i < 997 ∧ a4 (32 * mem i + 16 * l) = nI (t i)) (hc : ∀ i, i < 3 → c i < 997) (hr : ww_row c a11)
    (H : ∀ x y, ww_row (ww_st m c t) x → post (nI m, w, b, a1, a2, a3, a4, a5, a6, a7, a8, a9, a10, x, y, a13)) : wpX_advance post (nI m, w, b, a1, a2, a3, a4, a5, a6, a7, a8, a9, a10, a11, a12, a13) x1 := by
  subst hx
  have K2 : ∀ y, ww_row (ww_st m c t) y → ∃ n, wX_advance_152 post (nI m) w b n 0 a1 a2 a3 a4 a5 a6 a7 a8 a9 a10 a11 y a13 := fun y hy =>
    pk_loop (fun n i s => wX_advance_152 post (nI m) w b n (nI i) a1 a2 a3 a4 a5 a6 a7 a8 a9 a10 s y a13) (fun i s => ∀ j, j < i → s j = y j) 12 0 a11 (by omega) lt_0
      (fun n s h => pk_le 12 12 (fun _ => H s y (ww_row_c hy h)) (fun z => absurd z (by omega)))
      (fun n i s hi h hw => pk_le 12 i (fun z => absurd z (by omega)) (fun _ => ⟨pk_in i 12 hi, pk_in i 12 hi, nm_e (nm_r (nI_1 i) (hw _ (ww_fill (nI_clamp (by omega)) h (by rw [nI_clamp (by omega)]))))⟩))
  have K : ∀ y, (∀ j, j < 12 → y j = 0) → ∃ n, wX_advance_23 post (nI l) (nI m) w b n 0 a1 a2 a3 a4 a5 a6 a7 a8 a9 a10 a11 y a13 := fun y hy =>
    pk_loop (fun n i s => wX_advance_23 post (nI l) (nI m) w b n (nI i) a1 a2 a3 a4 a5 a6 a7 a8 a9 a10 a11 s a13) (fun i s => ww_row (ww_st ((i + 3) / 4) c t) s) (4 * m) 0 y (by omega) (ww_row0 hy)
      (fun n s h => pk_le (4 * m) (4 * m) (fun _ => K2 s (by rw [show (4 * m + 3) / 4 = m by omega] at h; exact h)) (fun z => absurd z (by omega)) (pk_mul 4 m))
      (fun n k s hk h hw => by
        have hq : k / 4 < m := by omega
        obtain ⟨g1, g2⟩ := h5 (k / 4) hq
        obtain ⟨t1, t2⟩ := h4 (k / 4) hq
        have e1 : nI k >>> ((2 : Int32) &&& 31) = nI (k / 4) := pk_shrN (by omega) _ 2 (by decide)
        have e2 : nI k &&& 3 = nI (k % 4) := pk_andN (by omega) 2 (by decide)
        have hw' : ∀ s', ww_row (ww_st ((k + 1 + 3) / 4) c t) s' → wX_advance_23 post (nI l) (nI m) w b n (nI (k + 1)) a1 a2 a3 a4 a5 a6 a7 a8 a9 a10 a11 s' a13 := hw
        show wX_advance_23 post (nI l) (nI m) w b (n + 1) (nI k) a1 a2 a3 a4 a5 a6 a7 a8 a9 a10 a11 s a13
        unfold wX_advance_23
        rw [e1, e2]
        refine pk_le (4 * m) k (fun z => absurd z (by omega)) (fun _ => nm_e (nm_e ⟨pk_in (k / 4) 3 (by omega), nm_r (e' := nI (mem (k / 4))) (by rw [nI_clamp (by omega)]; exact g2) ?_⟩)) (pk_mul 4 m)
        by_cases z : k % 4 = 0
        · obtain ⟨i, rfl⟩ : ∃ i, k = 4 * i := ⟨k / 4, by omega⟩
          rw [show 4 * i / 4 = i by omega] at hq g1 t1 t2 ⊢
          rw [z]
          rw [show (4 * i + 3) / 4 = i by omega] at h
          rw [show (4 * i + 1 + 3) / 4 = i + 1 by omega] at hw'
          refine ww_53a hl (by omega) g1 (h1 _ g1) (ww_row_at hr i (by omega)) t2 ?_ (hc i (by omega)) t1 (hw' _ (ww_rowU h ww_stE (fun t ht => ww_stS t ht)))
          rw [ww_row_at h i (by omega)]
          unfold ww_st
          rw [if_neg (by omega)]
        · rw [show (k + 1 + 3) / 4 = (k + 3) / 4 by omega] at hw'
          exact ww_53b (by omega) (by omega) g1 (h1 _ g1) (hw' s h))
  unfold wpX_advance
  exact pk_loop (fun n i s => wX_advance_2 post (nI l) (nI m) w b n (nI i) a1 a2 a3 a4 a5 a6 a7 a8 a9 a10 a11 s a13) (fun i s => ∀ j, j < i → s j = 0) 12 0 a12 (by omega) lt_0
    (fun n s h => pk_le 12 12 (fun _ => K s h) (fun z => absurd z (by omega)))
    (fun n i s hi h hw => pk_le 12 i (fun z => absurd z (by omega)) (fun _ => ⟨pk_in i 12 hi, nm_e (nm_r (nI_1 i) (hw _ (ww_fill (f := fun _ => 0) (nI_clamp (by omega)) h rfl)))⟩))
theorem ww_takeRow {c : Nat → Nat} (h7 : ww_row c a7) (H : ∀ x, ww_row c x → post (f, w, b, a1, a2, a3, a4, a5, a6, a7, a8, a9, a10, x, a12, a13)) : wpX_takeRow post (f, w, b, a1, a2, a3, a4, a5, a6, a7, a8, a9, a10, a11, a12, a13) 0 := by
  unfold wpX_takeRow
  refine pk_loop (fun n i s => wX_takeRow_2 post 0 f w b n (nI i) a1 a2 a3 a4 a5 a6 a7 a8 a9 a10 s a12 a13) (fun i s => ∀ j, j < i → s j = a7 j) 12 0 a11 (by omega) lt_0
    (fun n s h => pk_le 12 12 (fun _ => H s (ww_row_c h7 h)) (fun z => absurd z (by omega))) (fun n i s hi h hw => ?_)
  have e : (12 : Int32) * 0 + nI i = nI i := by rw [Int32.mul_zero, Int32.zero_add]
  have hw' : ∀ s', (∀ j, j < i + 1 → s' j = a7 j) → wX_takeRow_2 post 0 f w b n (nI (i + 1)) a1 a2 a3 a4 a5 a6 a7 a8 a9 a10 s' a12 a13 := hw
  show wX_takeRow_2 post 0 f w b (n + 1) (nI i) a1 a2 a3 a4 a5 a6 a7 a8 a9 a10 s a12 a13
  unfold wX_takeRow_2
  rw [e]
  exact pk_le 12 i (fun z => absurd z (by omega)) (fun _ => ⟨pk_in i 168 (by omega), pk_in i 12 hi, nm_e (nm_r (nI_1 i) (hw' _ (ww_fill (nI_clamp (by omega)) h (by rw [nI_clamp (by omega)]))))⟩)
end
end
section
/-! the basis: inverse, enterBasis (an empty basis; a basis of one row), keepRow -/
theorem ww_inverse {p : Int32 → Prop} {x : Nat} (hx : x < 997) (H : p (nI (ww_inv x))) : wpX_inverse p () (nI x) := by
  unfold wpX_inverse
  refine pk_loop (σ := Unit) (fun n i _ => wX_inverse_11 p 995 n (nI (ww_ivs x i).1) (nI (ww_ivs x i).2) (nI i)) (fun _ _ => True) 10 0 () (by omega) trivial (fun n s h => pk_le 10 10 (fun _ => H) (fun z => absurd z (by omega))) (fun n i s hi h hw => ?_)
  have hw' : wX_inverse_11 p 995 n (nI (ww_ivs x (i + 1)).1) (nI (ww_ivs x (i + 1)).2) (nI (i + 1)) := hw () trivial
  show wX_inverse_11 p 995 (n + 1) (nI (ww_ivs x i).1) (nI (ww_ivs x i).2) (nI i)
  obtain ⟨l1, l2⟩ := ww_ivlt hx i
  have e1 : ww_ivs x (i + 1) = (if 995 / 2 ^ i % 2 = 1 then (ww_ivs x i).1 * (ww_ivs x i).2 % 997 else (ww_ivs x i).1, (ww_ivs x i).2 * (ww_ivs x i).2 % 997) := rfl
  rw [e1] at hw'
  have e2 : nI (ww_ivs x i).2 * nI (ww_ivs x i).2 - nI (ww_ivs x i).2 * nI (ww_ivs x i).2 / 997 * 997 = nI ((ww_ivs x i).2 * (ww_ivs x i).2 % 997) := by
    rw [pk_mul, ww_rem _ (ww_mlt l2 (by omega))]
  have e3 : nI (ww_ivs x i).1 * nI (ww_ivs x i).2 - nI (ww_ivs x i).1 * nI (ww_ivs x i).2 / 997 * 997 = nI ((ww_ivs x i).1 * (ww_ivs x i).2 % 997) := by
    rw [pk_mul, ww_rem _ (ww_mlt l1 (by omega))]
  unfold wX_inverse_11
  rw [ww_ivb i hi]
  refine pk_le 10 i (fun z => absurd z (by omega)) (fun _ => pk_eq (995 / 2 ^ i % 2) 1 (fun z => ⟨by decide, nm_r e3 ?_⟩) (fun z => ?_))
  · rw [if_pos z] at hw'
    unfold wX_inverse_36
    exact ⟨by decide, nm_r e2 (nm_r (nI_1 i) hw')⟩
  · rw [if_neg z] at hw'
    unfold wX_inverse_36
    exact ⟨by decide, nm_r e2 (nm_r (nI_1 i) hw')⟩
section
variable {pq : Int32 → St2 → Prop} {post : St2 → Prop} {f w b : Int32} {a1 a2 a3 a4 a5 a6 a7 a8 a9 a10 a11 a12 a13 : Nat → Int32}
/-- the row at hand is copied -/
theorem ww_eb2 (H : ∀ y, (∀ j, j < 12 → y j = a11 j) → ∃ n, wX_enterBasis_28 pq f w b n 0 a1 a2 a3 a4 a5 a6 a7 a8 a9 a10 a11 y a13) : wpX_enterBasis pq (f, w, b, a1, a2, a3, a4, a5, a6, a7, a8, a9, a10, a11, a12, a13) := by
  unfold wpX_enterBasis
  exact pk_loop (fun n i s => wX_enterBasis_2 pq f w b n (nI i) a1 a2 a3 a4 a5 a6 a7 a8 a9 a10 a11 s a13) (fun i s => ∀ j, j < i → s j = a11 j) 12 0 a12 (by omega) lt_0
    (fun n s h => pk_le 12 12 (fun _ => H s h) (fun z => absurd z (by omega)))
    (fun n i s hi h hw => pk_le 12 i (fun z => absurd z (by omega)) (fun _ => ⟨pk_in i 12 hi, pk_in i 12 hi, nm_e (nm_r (nI_1 i) (hw _ (ww_fill (nI_clamp (by omega)) h (by rw [nI_clamp (by omega)]))))⟩))
theorem ww_ptM {c : Nat → Nat} {t j : Nat} : ww_pt c j * t % 997 = ww_pt (fun i => c i * t % 997) j := by
  unfold ww_pt
  by_cases z : j % 4 = 0
  · rw [if_pos z, if_pos z]
  · rw [if_neg z, if_neg z, Nat.zero_mul]
/-- the basis is empty, the row's first place isn't 0 -/
theorem ww_enterA {c : Nat → Nat} (hr : ww_row c a11) (h0 : 0 < c 0) (hc : ∀ i, i < 3 → c i < 997)
    (H : ∀ x9 x10 y, ww_row (fun i => c i * ww_inv (c 0) % 997) x9 → x10 0 = 0 → pq 1 (f, w, 1, a1, a2, a3, a4, a5, a6, a7, a8, x9, x10, a11, y, a13)) : wpX_enterBasis pq (f, w, 0, a1, a2, a3, a4, a5, a6, a7, a8, a9, a10, a11, a12, a13) := by
  refine ww_eb2 (fun y hy => ?_)
  have hy' : ww_row c y := ww_row_c hr hy
  have y0 : y 0 = nI (c 0) := ww_row_at hy' 0 (by omega)
  have il : ww_inv (c 0) < 997 := (ww_ivlt (hc 0 (by omega)) 10).1
  refine ⟨0 + 1, br_t (by decide) ⟨0 + 1, br_f (by decide) ⟨pk_in 0 12 (by omega), br_f ?_ ?_⟩⟩⟩
  · rw [sb_cl0, y0]
    exact nI_ne0 h0 (Nat.lt_trans (hc 0 (by omega)) (by decide))
  · unfold wX_enterBasis_129
    rw [sb_cl0, y0]
    refine br_f (by decide) ⟨pk_in 0 12 (by omega), ww_inverse (hc 0 (by omega)) ?_⟩
    refine pk_loop (fun n i s => wX_enterBasis_149 pq 0 (nI (ww_inv (c 0))) f w 0 n (nI i) a1 a2 a3 a4 a5 a6 a7 a8 s a10 a11 y a13) (fun i s => ∀ j, j < i → s j = nI (ww_pt (fun i => c i * ww_inv (c 0) % 997) j)) 12 0 a9 (by omega) lt_0
      (fun n s h => pk_le 12 12 (fun _ => ⟨pk_in 0 14 (by omega), nm_e (nm_r (e' := 1) (by decide) (H s _ y h ?_))⟩) (fun z => absurd z (by omega))) (fun n i s hi h hw => ?_)
    · rw [sb_cl0, pk_us]
    · have e : (12 : Int32) * 0 + nI i = nI i := by rw [Int32.mul_zero, Int32.zero_add]
      have hw' : ∀ s', (∀ j, j < i + 1 → s' j = nI (ww_pt (fun i => c i * ww_inv (c 0) % 997) j)) → wX_enterBasis_149 pq 0 (nI (ww_inv (c 0))) f w 0 n (nI (i + 1)) a1 a2 a3 a4 a5 a6 a7 a8 s' a10 a11 y a13 := hw
      show wX_enterBasis_149 pq 0 (nI (ww_inv (c 0))) f w 0 (n + 1) (nI i) a1 a2 a3 a4 a5 a6 a7 a8 s a10 a11 y a13
      unfold wX_enterBasis_149
      rw [e, nI_clamp (show i < 2 ^ 31 by omega), hy' i hi, pk_mul, ww_rem _ (ww_mlt (ww_ptlt hc hi) (by omega)), ww_ptM]
      exact pk_le 12 i (fun z => absurd z (by omega)) (fun _ => ⟨pk_in i 12 hi, by decide, pk_in i 168 (by omega), nm_e (nm_r (nI_1 i) (hw' _ (ww_fill (f := fun j => nI (ww_pt (fun i => c i * ww_inv (c 0) % 997) j)) rfl h rfl)))⟩)
/-- nothing is left of the row: it isn't entered -/
theorem ww_eb108 (hz : ∀ j, j < 12 → a12 j = 0) (H : pq 0 (f, w, b, a1, a2, a3, a4, a5, a6, a7, a8, a9, a10, a11, a12, a13)) : ∃ n, wX_enterBasis_108 pq f w b a1 a2 a3 a4 a5 a6 a7 a8 a9 a10 a11 a12 a13 n 0 := by
  refine pk_loop (σ := Unit) (fun n i _ => wX_enterBasis_108 pq f w b a1 a2 a3 a4 a5 a6 a7 a8 a9 a10 a11 a12 a13 n (nI i)) (fun _ _ => True) 12 0 () (by omega) trivial
    (fun n s h => pk_le 12 12 (fun _ => br_t (by decide) H) (fun z => absurd z (by omega))) (fun n i s hi h hw => pk_le 12 i (fun z => absurd z (by omega)) (fun _ => ⟨pk_in i 12 hi, br_t ?_ (nm_r (nI_1 i) (hw () trivial))⟩))
  rw [nI_clamp (show i < 2 ^ 31 by omega)]
  exact hz i hi
/-- the sweep by the one row of the basis -/
theorem ww_eb50 {J : Int32 → (Nat → Int32) → (Nat → Int32) → (Nat → Int32) → (Nat → Int32) → (Nat → Int32) → (Nat → Int32) → (Nat → Int32) → (Nat → Int32) → (Nat → Int32) → (Nat → Int32) → (Nat → Int32) → (Nat → Int32) → (Nat → Int32) → Prop} {c r : Nat → Nat} (hc : ∀ i, i < 3 → c i < 997) (hr : ∀ i, i < 3 → r i < 997) (h9 : ww_row r a9) (h12 : ww_row c a12) (hz : ∀ i, i < 3 → (c i + (997 - c 0) * r i) % 997 = 0) (h0 : c 0 = 0 → ∀ i, i < 3 → c i = 0)
    (H : ∀ y, (∀ j, j < 12 → y j = 0) → J 1 a1 a2 a3 a4 a5 a6 a7 a8 a9 a10 a11 y a13) : ∃ n, wX_enterBasis_50 pq J 0 (nI (c 0)) f w b n 0 a1 a2 a3 a4 a5 a6 a7 a8 a9 a10 a11 a12 a13 := by
  have c0 : c 0 < 997 := hc 0 (by omega)
  by_cases z : c 0 = 0
  · refine ⟨0 + 1, br_f (by decide) (br_t (by rw [z]; rfl) (nm_r (e' := 1) (by decide) (H a12 (fun j hj => ?_))))⟩
    rw [h12 j hj]
    unfold ww_pt
    by_cases q : j % 4 = 0
    · rw [if_pos q, h0 z _ (by omega)]
      rfl
    · rw [if_neg q]
      rfl
  · refine pk_loop (fun n i s => wX_enterBasis_50 pq J 0 (nI (c 0)) f w b n (nI i) a1 a2 a3 a4 a5 a6 a7 a8 a9 a10 a11 s a13) (fun i s => (∀ j, j < i → s j = 0) ∧ (∀ j, i ≤ j → s j = a12 j)) 12 0 a12 (by omega) ⟨lt_0, fun _ _ => rfl⟩
      (fun n s h => pk_le 12 12 (fun _ => nm_r (e' := 1) (by decide) (H s h.1)) (fun z => absurd z (by omega))) (fun n i s hi h hw => ?_)
    have hw' : ∀ s', ((∀ j, j < i + 1 → s' j = 0) ∧ (∀ j, i + 1 ≤ j → s' j = a12 j)) → wX_enterBasis_50 pq J 0 (nI (c 0)) f w b n (nI (i + 1)) a1 a2 a3 a4 a5 a6 a7 a8 a9 a10 a11 s' a13 := hw
    show wX_enterBasis_50 pq J 0 (nI (c 0)) f w b (n + 1) (nI i) a1 a2 a3 a4 a5 a6 a7 a8 a9 a10 a11 s a13
    have e : (12 : Int32) * 0 + nI i = nI i := by rw [Int32.mul_zero, Int32.zero_add]
    have e2 : (997 : Int32) - nI (c 0) = nI (997 - c 0) := pk_sub (a := 997) (by omega)
    have hrl := ww_ptlt hr hi
    have hcl := ww_ptlt hc hi
    have hb : (997 - c 0) * ww_pt r i ≤ 997 * 996 := Nat.mul_le_mul (by omega) (by omega)
    have e3 : (ww_pt c i + (997 - c 0) * ww_pt r i) % 997 = 0 := by
      unfold ww_pt
      by_cases q : i % 4 = 0
      · rw [if_pos q, if_pos q]
        exact hz _ (by omega)
      · rw [if_neg q, if_neg q, Nat.mul_zero]
    unfold wX_enterBasis_50
    rw [e, e2, nI_clamp (show i < 2 ^ 31 by omega), h.2 i (Nat.le_refl i), h12 i hi, h9 i hi, pk_mul, nI_add, ww_rem _ (by omega), e3]
    refine pk_le 12 i (fun z => absurd z (by omega)) (fun _ => br_f (nI_ne0 (by omega) (by omega)) ⟨pk_in i 12 hi, pk_in i 168 (by omega), by decide, pk_in i 12 hi, nm_e (nm_r (nI_1 i) (hw' _ ⟨ww_fill (f := fun _ => 0) rfl h.1 rfl, fun j hj => ?_⟩))⟩)
    rw [pk_un (by omega)]
    exact h.2 j (by omega)
theorem ww_enterB {c r : Nat → Nat} (h11 : ww_row c a11) (hc : ∀ i, i < 3 → c i < 997) (hr : ∀ i, i < 3 → r i < 997) (h9 : ww_row r a9) (h10 : a10 0 = 0) (hz : ∀ i, i < 3 → (c i + (997 - c 0) * r i) % 997 = 0) (h0 : c 0 = 0 → ∀ i, i < 3 → c i = 0)
    (H : ∀ y, pq 0 (f, w, 1, a1, a2, a3, a4, a5, a6, a7, a8, a9, a10, a11, y, a13)) : wpX_enterBasis pq (f, w, 1, a1, a2, a3, a4, a5, a6, a7, a8, a9, a10, a11, a12, a13) := by
  refine ww_eb2 (fun y hy => ?_)
  have hy' : ww_row c y := ww_row_c h11 hy
  have y0 : y 0 = nI (c 0) := ww_row_at hy' 0 (by omega)
  refine ⟨0 + 1 + 1, ?_⟩
  unfold wX_enterBasis_28
  rw [sb_cl0, h10, sb_cl0, y0]
  refine br_f (by decide) ⟨pk_in 0 14 (by omega), pk_in 0 12 (by omega), nm_e (ww_eb50 hc hr h9 hy' hz h0 (fun y2 hy2 => ?_))⟩
  unfold wX_enterBasis_28
  exact br_t (by decide) (ww_eb108 hy2 (H y2))
theorem ww_keepA {c : Nat → Nat} {code : Int32} (hr : ww_row c a11) (h0 : 0 < c 0) (hc : ∀ i, i < 3 → c i < 997)
    (H : ∀ x7 x8 x9 x10 y, ww_row c x7 → ww_row (fun i => c i * ww_inv (c 0) % 997) x9 → x10 0 = 0 → post (f, 1, 1, a1, a2, a3, a4, a5, a6, x7, x8, x9, x10, a11, y, a13)) : wpX_keepRow post (f, 0, 0, a1, a2, a3, a4, a5, a6, a7, a8, a9, a10, a11, a12, a13) code := by
  unfold wpX_keepRow
  refine ww_enterA hr h0 hc (fun x9 x10 y h9 h10 => br_f (by decide) ?_)
  refine pk_loop (fun n i s => wX_keepRow_11 post code f 0 1 n (nI i) a1 a2 a3 a4 a5 a6 s a8 x9 x10 a11 y a13) (fun i s => ∀ j, j < i → s j = a11 j) 12 0 a7 (by omega) lt_0
    (fun n s h => pk_le 12 12 (fun _ => ⟨pk_in 0 14 (by omega), nm_e (nm_r (e' := 1) (by decide) (H s _ x9 x10 y (ww_row_c hr h) h9 h10))⟩) (fun z => absurd z (by omega))) (fun n i s hi h hw => ?_)
  have e : (12 : Int32) * 0 + nI i = nI i := by rw [Int32.mul_zero, Int32.zero_add]
  have hw' : ∀ s', (∀ j, j < i + 1 → s' j = a11 j) → wX_keepRow_11 post code f 0 1 n (nI (i + 1)) a1 a2 a3 a4 a5 a6 s' a8 x9 x10 a11 y a13 := hw
  show wX_keepRow_11 post code f 0 1 (n + 1) (nI i) a1 a2 a3 a4 a5 a6 s a8 x9 x10 a11 y a13
  unfold wX_keepRow_11
  rw [e, nI_clamp (show i < 2 ^ 31 by omega)]
  exact pk_le 12 i (fun z => absurd z (by omega)) (fun _ => ⟨pk_in i 12 hi, pk_in i 168 (by omega), nm_e (nm_r (nI_1 i) (hw' _ (ww_fill rfl h rfl)))⟩)
theorem ww_keepB {c r : Nat → Nat} {code : Int32} (h11 : ww_row c a11) (hc : ∀ i, i < 3 → c i < 997) (hr : ∀ i, i < 3 → r i < 997) (h9 : ww_row r a9) (h10 : a10 0 = 0) (hz : ∀ i, i < 3 → (c i + (997 - c 0) * r i) % 997 = 0) (h0 : c 0 = 0 → ∀ i, i < 3 → c i = 0)
    (H : ∀ y, post (f, w, 1, a1, a2, a3, a4, a5, a6, a7, a8, a9, a10, a11, y, a13)) : wpX_keepRow post (f, w, 1, a1, a2, a3, a4, a5, a6, a7, a8, a9, a10, a11, a12, a13) code := by
  unfold wpX_keepRow
  exact ww_enterB h11 hc hr h9 h10 hz h0 (fun y => br_t rfl (H y))
end
end
section
/-! the class's calls that the law makes, but for those that search: init, mark, step, weight, total, scale -/
theorem ww_init {post : St2 → Prop} {f w b : Int32} (H : ∀ x1 : Nat → Int32, (∀ i, i < 3 → x1 i = 1) → post (f, w, b, x1, fun _ => 0, fun _ => 0, fun _ => 0, fun _ => 0, fun _ => 0, fun _ => 0, fun _ => 0, fun _ => 0, fun _ => 0, fun _ => 0, fun _ => 0, fun _ => 0)) : wpX_init post 13 565 (f, w, b) := by
  unfold wpX_init
  repeat refine And.intro (by decide) ?_
  exact pk_loop (fun n i s => wX_init_109 post 13 565 13 565 f w b n (nI i) s (fun _ => 0) (fun _ => 0) (fun _ => 0) (fun _ => 0) (fun _ => 0) (fun _ => 0) (fun _ => 0) (fun _ => 0) (fun _ => 0) (fun _ => 0) (fun _ => 0) (fun _ => 0)) (fun i s => ∀ j, j < i → s j = 1) 3 0 (fun _ => 0) (by omega) lt_0
    (fun n s h => pk_le 3 3 (fun _ => H s h) (fun z => absurd z (by omega)))
    (fun n i s hi h hw => pk_le 3 i (fun z => absurd z (by omega)) (fun _ => ⟨pk_in i 3 hi, nm_e (nm_r (nI_1 i) (hw _ (ww_fill (f := fun _ => 1) (nI_clamp (by omega)) h rfl)))⟩))
section
variable {pq : Int32 → St2 → Prop} {post : St2 → Prop} {f w b : Int32} {a1 a2 a3 a4 a5 a6 a7 a8 a9 a10 a11 a12 a13 : Nat → Int32}
theorem ww_mark0 {x : Int32} {s : Nat} (hx : ww_M x s) (h1 : a1 1 = 1) (H : pq (a2 4) (f, w, b, a1, (upd a2 4 (nI s)), a3, a4, a5, a6, a7, a8, a9, a10, a11, a12, a13)) : wpX_mark pq (f, w, b, a1, a2, a3, a4, a5, a6, a7, a8, a9, a10, a11, a12, a13) 1 0 0 x := by
  have c1 : (1 : Int32).toNatClampNeg = 1 := by decide
  have c4 : (nI 4).toNatClampNeg = 4 := by decide
  unfold wpX_mark
  refine ww_good (a := 1) (by omega) (br_f (by decide) (br_f (by decide) ⟨pk_in 1 3 (by omega), ?_⟩))
  rw [c1, h1]
  refine br_t (by decide) (nm_r (e' := nI 4) (by decide) (br_t rfl ⟨pk_in 4 12 (by omega), ?_⟩))
  rw [c4]
  unfold wX_mark_54
  refine br_t rfl (ww_modulo hx ⟨pk_in 4 12 (by omega), ?_⟩)
  rw [c4]
  exact nm_e H
theorem ww_mark1 {x : Int32} {s : Nat} (hx : ww_M x s) (h1 : a1 1 = 1) (H : pq (a3 4) (f, w, b, a1, a2, (upd a3 4 (nI s)), a4, a5, a6, a7, a8, a9, a10, a11, a12, a13)) : wpX_mark pq (f, w, b, a1, a2, a3, a4, a5, a6, a7, a8, a9, a10, a11, a12, a13) 1 0 1 x := by
  have c1 : (1 : Int32).toNatClampNeg = 1 := by decide
  have c4 : (nI 4).toNatClampNeg = 4 := by decide
  unfold wpX_mark
  refine ww_good (a := 1) (by omega) (br_f (by decide) (br_f (by decide) ⟨pk_in 1 3 (by omega), ?_⟩))
  rw [c1, h1]
  refine br_t (by decide) (nm_r (e' := nI 4) (by decide) (br_f (by decide) ⟨pk_in 4 12 (by omega), ?_⟩))
  rw [c4]
  unfold wX_mark_54
  refine br_f (by decide) (ww_modulo hx ⟨pk_in 4 12 (by omega), ?_⟩)
  rw [c4]
  exact nm_e H
theorem ww_step {R x : Int32} {k s : Nat} (hx : ww_M x s) (h1 : a1 1 = 1) (g0 : ¬ R < 0) (g1 : ¬ 31 < R) (g2 : (R >>> ((2 : Int32) &&& 31)) &&& 3 = 0) (g3 : R &&& 3 = 0) (gk : 32 * 1 + R = nI k) (hk : k < 96) (H : pq (a4 k) (f, w, b, a1, a2, a3, (upd a4 k (nI s)), a5, a6, a7, a8, a9, a10, a11, a12, a13)) : wpX_step pq (f, w, b, a1, a2, a3, a4, a5, a6, a7, a8, a9, a10, a11, a12, a13) 1 R x := by
  have c1 : (1 : Int32).toNatClampNeg = 1 := by decide
  have ck : (nI k).toNatClampNeg = k := nI_clamp (by omega)
  unfold wpX_step
  refine ww_good (a := 1) (by omega) (br_f (by decide) (nm_r g2 (nm_r g3 (br_f g0 (br_f g1 ⟨pk_in 1 3 (by omega), ?_⟩)))))
  rw [c1, h1]
  refine br_f (by decide) ⟨pk_in 1 3 (by omega), br_t (by decide) ?_⟩
  rw [gk, ck]
  exact ⟨pk_in k 96 hk, nm_e (ww_modulo hx ⟨pk_in k 96 hk, nm_e H⟩)⟩
theorem ww_sum1 {p q t t' : Nat → Nat} : ww_sum (ww_st 1 (ww_st 1 (ww_st 1 p q) t) t') 1 = 0 + p 0 * q 0 % 997 * t 0 % 997 * t' 0 % 997 := rfl
theorem ww_weight {a s u v : Nat} (ha : a < 3) (hs : s < 997) (hu : u < 997) (hv : v < 997) (h1 : ∀ i, i < 3 → a1 i = 1) (h2 : a2 (4 * a) = nI s) (h3 : a3 (4 * a) = nI 2) (h4 : a4 (32 * a) = nI u) (h4' : a4 (32 * a + 16) = nI v)
    (H : ∀ x y, pq (nI (2 * (0 + s * 1 % 997 * u % 997 * v % 997) % 997)) (1, w, b, a1, a2, a3, a4, (upd a5 0 (nI a)), (upd a6 0 1), a7, a8, a9, a10, x, y, a13)) : wpX_weight pq (f, w, b, a1, a2, a3, a4, a5, a6, a7, a8, a9, a10, a11, a12, a13) (nI a) 5 := by
  have h5 : ∀ i, i < 1 → (fun _ : Nat => a) i < 3 ∧ upd a5 0 (nI a) i = nI ((fun _ : Nat => a) i) := fun i hi => ⟨ha, by rw [show i = 0 by omega, pk_us]⟩
  have h6 : ∀ i, i < 1 → (fun _ : Nat => 1) i < 997 ∧ upd a6 0 1 i = nI ((fun _ : Nat => 1) i) := fun i hi => ⟨(by decide : 1 < 997), by rw [show i = 0 by omega, pk_us]; rfl⟩
  unfold wpX_weight
  refine ww_good ha (br_f (by decide) (br_f (by decide) (br_t (by decide) ?_)))
  unfold wpX_alone
  refine nm_e (nm_e ?_)
  refine ww_startRow (m := 1) (mem := fun _ => a) (st := fun _ => s) (sg := fun _ => 1) (by omega) h1 h5 (fun i hi => ⟨hs, h2⟩) h6 (fun x hx => ?_)
  refine ⟨0 + 1 + 1 + 1 + 1 + 1 + 1 + 1 + 1, ?_⟩
  refine br_f (by decide) (br_t (by decide) (nm_r (e' := 8) (by decide) ?_))
  refine br_f (by decide) (br_t (by decide) (nm_r (e' := 7) (by decide) ?_))
  refine br_f (by decide) (br_t (by decide) (nm_r (e' := 6) (by decide) ?_))
  refine br_f (by decide) (br_t (by decide) (nm_r (e' := 5) (by decide) ?_))
  refine br_f (by decide) (br_t (by decide) (nm_r (e' := 4) (by decide) ?_))
  refine br_f (by decide) (br_t (by decide) (nm_r (e' := 3) (by decide) ?_))
  refine br_f (by decide) (br_t (by decide) (nm_r (e' := 2) (by decide) ?_))
  refine br_f (by decide) (br_f (by decide) (nm_r (e' := 1) (by decide) ⟨0 + 1 + 1 + 1, ?_⟩))
  refine br_f (by decide) ?_
  refine ww_advance (m := 1) (l := 0) (mem := fun _ => a) (t := fun _ => u) (by decide) (by omega) (by omega) h1 h5 (fun i hi => ⟨hu, ?_⟩) (fun i _ => ww_stlt i) hx (fun x2 y2 hx2 => ?_)
  · exact h4
  refine nm_r (e' := 0) (by decide) (br_f (by decide) ?_)
  refine ww_advance (m := 1) (l := 1) (mem := fun _ => a) (t := fun _ => v) (by decide) (by omega) (by omega) h1 h5 (fun i hi => ⟨hv, ?_⟩) (fun i _ => ww_stlt i) hx2 (fun x3 y3 hx3 => ?_)
  · exact h4'
  refine nm_r (e' := -1) (by decide) (br_t (by decide) ?_)
  refine ww_endValue (m := 1) (mem := fun _ => a) (by omega) h5 (fun i hi => h3) (fun i _ => ww_stlt i) hx3 ?_
  rw [ww_sum1]
  exact H x3 y3
theorem ww_59a {J K : Int32 → (Nat → Int32) → (Nat → Int32) → (Nat → Int32) → (Nat → Int32) → (Nat → Int32) → (Nat → Int32) → (Nat → Int32) → (Nat → Int32) → (Nat → Int32) → (Nat → Int32) → (Nat → Int32) → (Nat → Int32) → (Nat → Int32) → Prop} {x2 x3 : Int32} {a c u v : Nat} (ha : a < 3) (hc : c < 997) (hu : u < 997) (hv : v < 997) (h1 : a1 a = 1) (h4 : a4 (32 * a) = nI u) (h4' : a4 (32 * a + 16) = nI v) (h11 : a11 0 = nI c) (h12 : a12 0 = nI 0)
    (H : K 1 a1 a2 a3 a4 a5 a6 a7 a8 a9 a10 a11 (upd a12 0 (nI (c * (u + v) % 997))) a13) : ∃ n, wX_total_59 pq J K (nI a) x2 x3 0 f w b n 0 a1 a2 a3 a4 a5 a6 a7 a8 a9 a10 a11 a12 a13 := by
  have ca : (nI a).toNatClampNeg = a := nI_clamp (by omega)
  have e1 : ((32 : Int32) * nI a + 4 * 0) + 0 = nI (32 * a) := by
    rw [← pk_mul, Int32.add_zero, Int32.mul_zero, Int32.add_zero]
    rfl
  have e2 : (((32 : Int32) * nI a + 16) + 4 * 0) + 0 = nI (32 * a + 16) := by
    rw [← nI_add, ← pk_mul, Int32.add_zero, Int32.mul_zero, Int32.add_zero]
    rfl
  refine ⟨0 + 1 + 1, ?_⟩
  unfold wX_total_59
  rw [ca, h1, e1, e2, nI_clamp (show 32 * a < 2 ^ 31 by omega), nI_clamp (show 32 * a + 16 < 2 ^ 31 by omega), h4, h4', nI_add, sb_cl0, h11, h12]
  refine ⟨pk_in a 3 ha, br_f (by decide) ⟨pk_in a 3 ha, br_f (by decide) ⟨pk_in (32 * a) 96 (by omega), pk_in (32 * a + 16) 96 (by omega), nm_e ⟨pk_in 0 12 (by omega), pk_in 0 12 (by omega), by decide, pk_in 0 12 (by omega), ?_⟩⟩⟩⟩
  rw [pk_mul, nI_add, Nat.zero_add, ww_rem _ (ww_mlt hc (by omega))]
  refine nm_e (nm_r (e' := 1) (by decide) ?_)
  unfold wX_total_59
  rw [ca, h1]
  exact ⟨pk_in a 3 ha, br_t (by decide) (nm_r (e' := 1) (by decide) H)⟩
theorem ww_tstep {J : Int32 → (Nat → Int32) → (Nat → Int32) → (Nat → Int32) → (Nat → Int32) → (Nat → Int32) → (Nat → Int32) → (Nat → Int32) → (Nat → Int32) → (Nat → Int32) → (Nat → Int32) → (Nat → Int32) → (Nat → Int32) → (Nat → Int32) → Prop} {x2 x3 : Int32} {c : Nat → Nat} {a u v : Nat} (ha : a < 3) (hc : c 0 < 997) (hc0 : ∀ i, 0 < i → c i = 0) (hu : u < 997) (hv : v < 997) (h1 : a1 a = 1) (h4 : a4 (32 * a) = nI u) (h4' : a4 (32 * a + 16) = nI v) (h11 : ww_row c a11)
    (H : ∀ x y, ww_row (ww_st 1 c (fun _ => u + v)) x → J (x3 + 1) a1 a2 a3 a4 a5 a6 a7 a8 a9 a10 x y a13) : ∃ n, wX_total_42 pq J (nI a) x2 x3 f w b n 0 a1 a2 a3 a4 a5 a6 a7 a8 a9 a10 a11 a12 a13 := by
  have ca : (nI a).toNatClampNeg = a := nI_clamp (by omega)
  have K2 : ∀ y, (∀ j, j < 4 → y j = nI (ww_pt (ww_st 1 c (fun _ => u + v)) j)) → ∃ n, wX_total_165 pq J (nI a) x2 x3 f w b n 0 a1 a2 a3 a4 a5 a6 a7 a8 a9 a10 a11 y a13 := fun y hy =>
    pk_loop (fun n i s => wX_total_165 pq J (nI a) x2 x3 f w b n (nI i) a1 a2 a3 a4 a5 a6 a7 a8 a9 a10 s y a13) (fun i s => (∀ j, j < i → s j = y j) ∧ (∀ j, i ≤ j → s j = a11 j)) 4 0 a11 (by omega) ⟨lt_0, fun _ _ => rfl⟩
      (fun n s h => pk_le 4 4 (fun _ => nm_e (H s y (fun j hj => by
        by_cases z : j < 4
        · rw [h.1 j z]
          exact hy j z
        · rw [h.2 j (by omega), h11 j hj]
          refine congrArg nI ?_
          unfold ww_pt
          by_cases q : j % 4 = 0
          · rw [if_pos q, if_pos q, hc0 _ (by omega)]
            unfold ww_st
            rw [if_neg (by omega)]
          · rw [if_neg q, if_neg q]))) (fun z => absurd z (by omega)))
      (fun n i s hi h hw => pk_le 4 i (fun z => absurd z (by omega)) (fun _ => ⟨pk_in i 12 (by omega), pk_in i 12 (by omega), nm_e (nm_r (nI_1 i) (hw _ ⟨ww_fill (nI_clamp (by omega)) h.1 (by rw [nI_clamp (by omega)]), fun j hj => by rw [nI_clamp (by omega), pk_un (by omega)]; exact h.2 j (by omega)⟩))⟩))
  refine pk_loop (fun n i s => wX_total_42 pq J (nI a) x2 x3 f w b n (nI i) a1 a2 a3 a4 a5 a6 a7 a8 a9 a10 a11 s a13) (fun i s => ∀ j, j < i → s j = nI (ww_pt (ww_st 1 c (fun _ => u + v)) j)) 4 0 a12 (by omega) lt_0
    (fun n s h => pk_le 4 4 (fun _ => K2 s h) (fun z => absurd z (by omega))) (fun n i s hi h hw => ?_)
  have hw' : ∀ s', (∀ j, j < i + 1 → s' j = nI (ww_pt (ww_st 1 c (fun _ => u + v)) j)) → wX_total_42 pq J (nI a) x2 x3 f w b n (nI (i + 1)) a1 a2 a3 a4 a5 a6 a7 a8 a9 a10 a11 s' a13 := hw
  show wX_total_42 pq J (nI a) x2 x3 f w b (n + 1) (nI i) a1 a2 a3 a4 a5 a6 a7 a8 a9 a10 a11 s a13
  unfold wX_total_42
  rw [nI_clamp (show i < 2 ^ 31 by omega)]
  refine pk_le 4 i (fun z => absurd z (by omega)) (fun _ => ⟨pk_in i 12 (by omega), nm_e ?_⟩)
  by_cases z : i = 0
  · subst z
    refine ww_59a ha hc hu hv h1 h4 h4' (ww_row_at h11 0 (by omega)) pk_us (hw' _ ?_)
    intro j hj
    rw [show j = 0 by omega, pk_us]
    rfl
  · refine ⟨0 + 1, ?_⟩
    unfold wX_total_59
    rw [ca, h1]
    refine ⟨pk_in a 3 ha, br_f (by decide) ⟨pk_in a 3 ha, br_t (nI_le (a := 1) (b := i) (by omega) (by omega)) (nm_r (nI_1 i) (hw' _ (ww_fill (f := fun j => nI (ww_pt (ww_st 1 c (fun _ => u + v)) j)) rfl h ?_)))⟩⟩
    show (0 : Int32) = nI (ww_pt (ww_st 1 c (fun _ => u + v)) i)
    unfold ww_pt
    rw [if_neg (by omega)]
    rfl
theorem ww_total {a s u v : Nat} (ha : a < 3) (hs : s < 997) (hu : u < 997) (hv : v < 997) (h1 : ∀ i, i < 3 → a1 i = 1) (h2 : a2 (4 * a) = nI s) (h3 : a3 (4 * a) = nI 2) (h4 : a4 (32 * a) = nI u) (h4' : a4 (32 * a + 16) = nI v)
    (H : ∀ x y, pq (nI (2 * (0 + s * 1 % 997 * (u + v) % 997 * (u + v) % 997) % 997)) (1, w, b, a1, a2, a3, a4, (upd a5 0 (nI a)), (upd a6 0 1), a7, a8, a9, a10, x, y, a13)) : wpX_total pq (f, w, b, a1, a2, a3, a4, a5, a6, a7, a8, a9, a10, a11, a12, a13) (nI a) 2 := by
  have h5 : ∀ i, i < 1 → (fun _ : Nat => a) i < 3 ∧ upd a5 0 (nI a) i = nI ((fun _ : Nat => a) i) := fun i hi => ⟨ha, by rw [show i = 0 by omega, pk_us]⟩
  have h6 : ∀ i, i < 1 → (fun _ : Nat => 1) i < 997 ∧ upd a6 0 1 i = nI ((fun _ : Nat => 1) i) := fun i hi => ⟨(by decide : 1 < 997), by rw [show i = 0 by omega, pk_us]; rfl⟩
  have z0 : ∀ (p q : Nat → Nat) (i : Nat), 0 < i → ww_st 1 p q i = 0 := fun p q i hi => if_neg (by omega)
  unfold wpX_total
  refine ww_good ha (br_f (by decide) (br_f (by decide) (br_t (by decide) ?_)))
  unfold wpX_alone
  refine nm_e (nm_e ?_)
  refine ww_startRow (m := 1) (mem := fun _ => a) (st := fun _ => s) (sg := fun _ => 1) (by omega) h1 h5 (fun i hi => ⟨hs, h2⟩) h6 (fun x hx => ?_)
  refine ⟨0 + 1 + 1 + 1, br_f (by decide) (ww_tstep ha (ww_stlt 0) (z0 _ _) hu hv (h1 a ha) h4 h4' hx (fun x2 y2 hx2 => ?_))⟩
  refine br_f (by decide) (ww_tstep ha (ww_stlt 0) (z0 _ _) hu hv (h1 a ha) h4 h4' hx2 (fun x3 y3 hx3 => ?_))
  refine br_t (by decide) (ww_endValue (m := 1) (mem := fun _ => a) (by omega) h5 (fun i hi => h3) (fun i _ => ww_stlt i) hx3 ?_)
  rw [ww_sum1]
  exact H x3 y3
theorem ww_scale {x : Int32} {s u v g : Nat} (hg : ww_M x g) (hs : s < 997) (h1 : ∀ i, i < 3 → a1 i = 1) (h2 : a2 4 = nI s) (h3 : a3 4 = nI 2) (h4 : a4 32 = nI u) (h4' : a4 48 = nI v)
    (H : ∀ x1 x2 x3 x4, (∀ i, i < 3 → x1 i = 1) → x2 0 = nI (s * g % 997) → x2 4 = nI s → x3 0 = nI 2 → x3 4 = nI 2 → x4 0 = nI u → x4 16 = nI v → x4 32 = nI u → x4 48 = nI v → pq 0 (f, w, b, x1, x2, x3, x4, a5, a6, a7, a8, a9, a10, a11, a12, a13)) : wpX_scale pq (f, w, b, a1, a2, a3, a4, a5, a6, a7, a8, a9, a10, a11, a12, a13) 0 1 x := by
  have c1 : (1 : Int32).toNatClampNeg = 1 := by decide
  unfold wpX_scale
  refine ww_good (a := 0) (by omega) (br_f (by decide) (ww_good (a := 1) (by omega) (br_f (by decide) (ww_modulo hg ⟨pk_in 1 3 (by omega), pk_in 0 3 (by omega), ?_⟩))))
  rw [sb_cl0, c1, h1 1 (by omega)]
  refine nm_e ?_
  have hx1 : ∀ i, i < 3 → upd a1 0 1 i = 1 := by
    intro i hi
    by_cases z : i = 0
    · rw [z, pk_us]
    · rw [pk_un z]
      exact h1 i hi
  have K : ∀ x2 x3, x2 0 = nI (s * g % 997) → x2 4 = nI s → x3 0 = nI 2 → x3 4 = nI 2 → ∃ n, wX_scale_103 pq 0 1 f w b n 0 (upd a1 0 1) x2 x3 a4 a5 a6 a7 a8 a9 a10 a11 a12 a13 := fun x2 x3 p1 p2 p3 p4 =>
    pk_loop (fun n i s => wX_scale_103 pq 0 1 f w b n (nI i) (upd a1 0 1) x2 x3 s a5 a6 a7 a8 a9 a10 a11 a12 a13) (fun i s => (∀ j, j < i → s j = a4 (32 + j)) ∧ (∀ j, 32 ≤ j → s j = a4 j)) 32 0 a4 (by omega) ⟨lt_0, fun _ _ => rfl⟩
      (fun n s h => pk_le 32 32 (fun _ => H _ x2 x3 s hx1 p1 p2 p3 p4 (by rw [h.1 0 (by omega)]; exact h4) (by rw [h.1 16 (by omega)]; exact h4') (by rw [h.2 32 (by omega)]; exact h4) (by rw [h.2 48 (by omega)]; exact h4')) (fun z => absurd z (by omega)))
      (fun n i s hi h hw => by
        have hw' : ∀ s', ((∀ j, j < i + 1 → s' j = a4 (32 + j)) ∧ (∀ j, 32 ≤ j → s' j = a4 j)) → wX_scale_103 pq 0 1 f w b n (nI (i + 1)) (upd a1 0 1) x2 x3 s' a5 a6 a7 a8 a9 a10 a11 a12 a13 := hw
        show wX_scale_103 pq 0 1 f w b (n + 1) (nI i) (upd a1 0 1) x2 x3 s a5 a6 a7 a8 a9 a10 a11 a12 a13
        have e1 : (32 : Int32) * 1 + nI i = nI (32 + i) := by
          rw [← nI_add]
          rfl
        have e2 : (32 : Int32) * 0 + nI i = nI i := by rw [Int32.mul_zero, Int32.zero_add]
        unfold wX_scale_103
        rw [e1, e2, nI_clamp (show 32 + i < 2 ^ 31 by omega), nI_clamp (show i < 2 ^ 31 by omega), h.2 (32 + i) (by omega)]
        refine pk_le 32 i (fun z => absurd z (by omega)) (fun _ => ⟨pk_in (32 + i) 96 (by omega), pk_in i 96 (by omega), nm_e (nm_r (nI_1 i) (hw' _ ⟨ww_fill (f := fun j => a4 (32 + j)) rfl h.1 rfl, fun j hj => ?_⟩))⟩)
        rw [pk_un (by omega)]
        exact h.2 j hj)
  refine pk_loop (σ := (Nat → Int32) × (Nat → Int32)) (fun n i s => wX_scale_37 pq 0 1 (nI g) f w b n (nI i) (upd a1 0 1) s.1 s.2 a4 a5 a6 a7 a8 a9 a10 a11 a12 a13) (fun i y => (∀ j, 4 ≤ j → y.1 j = a2 j) ∧ (0 < i → y.1 0 = nI (s * g % 997)) ∧ (∀ j, 4 ≤ j → y.2 j = a3 j) ∧ (0 < i → y.2 0 = nI 2)) 4 0 (a2, a3) (by omega) ⟨fun _ _ => rfl, fun z => absurd z (by omega), fun _ _ => rfl, fun z => absurd z (by omega)⟩
    (fun n y h => pk_le 4 4 (fun _ => K y.1 y.2 (h.2.1 (by omega)) (by rw [h.1 4 (by omega)]; exact h2) (h.2.2.2 (by omega)) (by rw [h.2.2.1 4 (by omega)]; exact h3)) (fun z => absurd z (by omega))) (fun n i y hi h hw => ?_)
  obtain ⟨y1, y2⟩ := y
  obtain ⟨k1, k2, k3, k4⟩ := h
  dsimp only at k1 k2 k3 k4
  have hw' : ∀ z1 z2 : Nat → Int32, ((∀ j, 4 ≤ j → z1 j = a2 j) ∧ (0 < i + 1 → z1 0 = nI (s * g % 997)) ∧ (∀ j, 4 ≤ j → z2 j = a3 j) ∧ (0 < i + 1 → z2 0 = nI 2)) → wX_scale_37 pq 0 1 (nI g) f w b n (nI (i + 1)) (upd a1 0 1) z1 z2 a4 a5 a6 a7 a8 a9 a10 a11 a12 a13 := fun z1 z2 hz => hw (z1, z2) hz
  show wX_scale_37 pq 0 1 (nI g) f w b (n + 1) (nI i) (upd a1 0 1) y1 y2 a4 a5 a6 a7 a8 a9 a10 a11 a12 a13
  have e1 : (4 : Int32) * 1 + nI i = nI (4 + i) := by
    rw [← nI_add]
    rfl
  have e2 : (4 : Int32) * 0 + nI i = nI i := by rw [Int32.mul_zero, Int32.zero_add]
  unfold wX_scale_37
  rw [e1, e2, nI_clamp (show 4 + i < 2 ^ 31 by omega), nI_clamp (show i < 2 ^ 31 by omega), k1 (4 + i) (by omega), k3 (4 + i) (by omega)]
  refine pk_le 4 i (fun z => absurd z (by omega)) (fun _ => ⟨pk_in (4 + i) 12 (by omega), by decide, pk_in i 12 (by omega), nm_e ⟨pk_in (4 + i) 12 (by omega), pk_in i 12 (by omega), nm_e (nm_r (nI_1 i) (hw' _ _ ⟨fun j hj => ?_, fun _ => ?_, fun j hj => ?_, fun _ => ?_⟩))⟩⟩)
  · rw [pk_un (by omega)]
    exact k1 j hj
  · by_cases z : i = 0
    · rw [z, pk_us, Nat.add_zero, h2, pk_mul, ww_rem _ (ww_mlt hs (Nat.lt_trans hg.1 (by decide)))]
    · rw [pk_un (by omega)]
      exact k2 (by omega)
  · rw [pk_un (by omega)]
    exact k3 j hj
  · by_cases z : i = 0
    · rw [z, pk_us, Nat.add_zero, h3]
    · rw [pk_un (by omega)]
      exact k4 (by omega)
end
end
section
/-! search, and the two calls that search: difference and isSum -/
theorem ww_p1 {s g : Nat} (hs : s < 997) (hs0 : 0 < s) (z : g = 1) : 0 < s * g % 997 * 1 % 997 := by
  subst z
  omega
theorem ww_p2 {s : Nat} (hs : s < 997) (hs0 : 0 < s) : 0 < s * 1 % 997 := by omega
section
variable {pq : Int32 → St2 → Prop} {f w b : Int32} {a1 a2 a3 a4 a5 a6 a7 a8 a9 a10 a11 a12 a13 : Nat → Int32}
/-- the empty word's end value isn't 0 -/
theorem ww_search1 {m : Nat} {mem st sg : Nat → Nat} (hm : m ≤ 3) (h1 : ∀ i, i < 3 → a1 i = 1) (h5 : ∀ i, i < m → mem i < 3 ∧ a5 i = nI (mem i)) (h2 : ∀ i, i < m → st i < 997 ∧ a2 (4 * mem i) = nI (st i)) (h6 : ∀ i, i < m → sg i < 997 ∧ a6 i = nI (sg i)) (h3 : ∀ i, i < m → a3 (4 * mem i) = nI 2)
    (hv : 2 * ww_sum (ww_st m st sg) m % 997 ≠ 0) (H : ∀ x, pq 1 (nI m, 0, 0, a1, a2, a3, a4, a5, a6, a7, a8, a9, a10, x, a12, a13)) : wpX_search pq (nI m, w, b, a1, a2, a3, a4, a5, a6, a7, a8, a9, a10, a11, a12, a13) := by
  unfold wpX_search
  refine ww_startRow hm h1 h5 h2 h6 (fun x hx => ?_)
  refine ww_endValue hm h5 h3 (fun i _ => ww_stlt i) hx (br_f ?_ (H x))
  exact nI_ne0 (Nat.pos_of_ne_zero hv) (Nat.lt_trans (Nat.mod_lt _ (by decide)) (by decide))
/-- one letter: the row that arises is a multiple of the row kept -/
theorem ww_turn {J : Int32 → Int32 → Int32 → Int32 → (Nat → Int32) → (Nat → Int32) → (Nat → Int32) → (Nat → Int32) → (Nat → Int32) → (Nat → Int32) → (Nat → Int32) → (Nat → Int32) → (Nat → Int32) → (Nat → Int32) → (Nat → Int32) → (Nat → Int32) → (Nat → Int32) → Prop} {n m l t : Nat} {mem c : Nat → Nat} (hl : l < 2) (ht : t < 997) (hm : m ≤ 3) (hm0 : 0 < m) (h1 : ∀ i, i < 3 → a1 i = 1) (h5 : ∀ i, i < m → mem i < 3 ∧ a5 i = nI (mem i)) (h3 : ∀ i, i < m → a3 (4 * mem i) = nI 2) (h4 : ∀ i, i < m → a4 (32 * mem i + 16 * l) = nI t)
    (hc : ∀ i, i < 3 → c i < 997) (hcm : ∀ i, m ≤ i → c i = 0) (h0 : 0 < c 0) (hs : 2 * ww_sum c m % 997 = 0) (h7 : ww_row c a7) (h9 : ww_row (fun i => c i * ww_inv (c 0) % 997) a9) (h10 : a10 0 = 0)
    (H : ∀ x y, wX_search_46 pq J 0 n (nI (l + 1)) (nI m) 1 1 a1 a2 a3 a4 a5 a6 a7 a8 a9 a10 x y a13) : wX_search_46 pq J 0 (n + 1) (nI l) (nI m) 1 1 a1 a2 a3 a4 a5 a6 a7 a8 a9 a10 a11 a12 a13 := by
  have ec : ∀ i, ww_st m c (fun _ => t) i = c i * t % 997 := by
    intro i
    unfold ww_st
    by_cases z : i < m
    · rw [if_pos z]
    · rw [if_neg z, hcm i (by omega), Nat.zero_mul]
  have hd : ∀ i, ww_st m c (fun _ => t) 0 * (c i * ww_inv (c 0) % 997) % 997 = ww_st m c (fun _ => t) i := by
    intro i
    rw [ec 0, ec i]
    exact ww_dep (hc 0 (by omega)) h0
  refine pk_le 2 l (fun z => absurd z (by omega)) (fun _ => ?_)
  refine ww_takeRow h7 (fun x hx => ?_)
  refine ww_advance (t := fun _ => t) rfl hl hm h1 h5 (fun i hi => ⟨ht, h4 i hi⟩) hc hx (fun x2 y2 hx2 => ?_)
  refine ww_endValue hm h5 h3 (fun i _ => ww_stlt i) hx2 (br_t ?_ ⟨pk_in 0 14 (by omega), ?_⟩)
  · rw [ww_sum0 hs]
    rfl
  · refine ww_keepB hx2 (fun i _ => ww_stlt i) (fun i _ => Nat.mod_lt _ (by decide)) h9 h10 (fun i _ => ww_swp (ww_stlt 0) (ww_stlt i) (hd i)) (fun z i _ => ?_) (fun y3 => nm_r (nI_1 l) (H x2 y3))
    rw [← hd i, z, Nat.zero_mul]
/-- the empty word's end value is 0: so is every word's, and the search ends behind the first row -/
theorem ww_search0 {m u v : Nat} {mem st sg : Nat → Nat} (hu : u < 997) (hv' : v < 997) (hm : m ≤ 3) (hm0 : 0 < m) (h1 : ∀ i, i < 3 → a1 i = 1) (h5 : ∀ i, i < m → mem i < 3 ∧ a5 i = nI (mem i)) (h2 : ∀ i, i < m → st i < 997 ∧ a2 (4 * mem i) = nI (st i)) (h6 : ∀ i, i < m → sg i < 997 ∧ a6 i = nI (sg i)) (h3 : ∀ i, i < m → a3 (4 * mem i) = nI 2) (h4 : ∀ i, i < m → a4 (32 * mem i) = nI u) (h4' : ∀ i, i < m → a4 (32 * mem i + 16) = nI v)
    (hv : 2 * ww_sum (ww_st m st sg) m % 997 = 0) (h0 : 0 < ww_st m st sg 0) (H : ∀ x7 x8 x9 x10 x y, pq 0 (nI m, 1, 1, a1, a2, a3, a4, a5, a6, x7, x8, x9, x10, x, y, a13)) : wpX_search pq (nI m, w, b, a1, a2, a3, a4, a5, a6, a7, a8, a9, a10, a11, a12, a13) := by
  have hcm : ∀ i, m ≤ i → ww_st m st sg i = 0 := fun i hi => if_neg (by omega)
  unfold wpX_search
  refine ww_startRow hm h1 h5 h2 h6 (fun x hx => ?_)
  refine ww_endValue hm h5 h3 (fun i _ => ww_stlt i) hx (br_t ?_ ?_)
  · rw [hv]
    rfl
  refine ww_keepA hx h0 (fun i _ => ww_stlt i) (fun x7 x8 x9 x10 y h7 h9 h10 => ?_)
  refine ⟨0 + 1 + 1, br_f (by decide) (br_f (by decide) ⟨0 + 1 + 1 + 1, ?_⟩)⟩
  refine ww_turn (l := 0) (t := u) (by omega) hu hm hm0 h1 h5 h3 h4 (fun i _ => ww_stlt i) hcm h0 hv h7 h9 h10 (fun x2 y2 => ?_)
  refine ww_turn (l := 1) (t := v) (by omega) hv' hm hm0 h1 h5 h3 h4' (fun i _ => ww_stlt i) hcm h0 hv h7 h9 h10 (fun x3 y3 => ?_)
  refine br_t (by decide) (nm_r (e' := 1) (by decide) ?_)
  exact br_f (by decide) (br_t (by decide) (H x7 x8 x9 x10 x3 y3))
/-- automaton 0 is automaton 1 with its start times g -/
def ww_two (s g u v : Nat) (a1 a2 a3 a4 : Nat → Int32) : Prop := (∀ i, i < 3 → a1 i = 1) ∧ a2 0 = nI (s * g % 997) ∧ a2 4 = nI s ∧ a3 0 = nI 2 ∧ a3 4 = nI 2 ∧ a4 0 = nI u ∧ a4 16 = nI v ∧ a4 32 = nI u ∧ a4 48 = nI v
theorem ww_cs2 {P : Nat → Prop} (p0 : P 0) (p1 : P 1) : ∀ i, i < 2 → P i := by
  intro i hi
  by_cases z : i = 0
  · rw [z]
    exact p0
  · rw [show i = 1 by omega]
    exact p1
theorem ww_cs3 {P : Nat → Prop} (p0 : P 0) (p1 : P 1) (p2 : P 2) : ∀ i, i < 3 → P i := by
  intro i hi
  by_cases z : i = 0
  · rw [z]
    exact p0
  · by_cases y : i = 1
    · rw [y]
      exact p1
    · rw [show i = 2 by omega]
      exact p2
/-- three numbers by their place -/
def ww_n3 (x y z : Nat) (i : Nat) : Nat := if i = 0 then x else if i = 1 then y else z
theorem ww_difference {s g u v : Nat} (hs : s < 997) (hs0 : 0 < s) (hg : g < 997) (hu : u < 997) (hv : v < 997) (h : ww_two s g u v a1 a2 a3 a4)
    (H : ∀ r f' w' b' x5 x6 x7 x8 x9 x10 x11 x12, r = (if g = 1 then 0 else 1) → pq r (f', w', b', a1, a2, a3, a4, x5, x6, x7, x8, x9, x10, x11, x12, a13)) : wpX_difference pq (f, w, b, a1, a2, a3, a4, a5, a6, a7, a8, a9, a10, a11, a12, a13) 0 1 := by
  obtain ⟨h1, p0, p4, q0, q4, r0, r16, r32, r48⟩ := h
  unfold wpX_difference
  refine ww_good (a := 0) (by omega) (br_f (by decide) (ww_good (a := 1) (by omega) (br_f (by decide) ?_)))
  unfold wpX_pair wpX_alone
  refine nm_e (nm_e (nm_e (nm_e ?_)))
  have h5 : ∀ i, i < 2 → ww_n3 0 1 0 i < 3 ∧ upd (upd a5 0 0) 1 1 i = nI (ww_n3 0 1 0 i) := ww_cs2 ⟨by decide, by rw [pk_un (by decide), pk_us]; rfl⟩ ⟨by decide, by rw [pk_us]; rfl⟩
  have h2 : ∀ i, i < 2 → ww_n3 (s * g % 997) s 0 i < 997 ∧ a2 (4 * ww_n3 0 1 0 i) = nI (ww_n3 (s * g % 997) s 0 i) := ww_cs2 ⟨Nat.mod_lt _ (by decide), p0⟩ ⟨hs, p4⟩
  have h6 : ∀ i, i < 2 → ww_n3 1 996 0 i < 997 ∧ upd (upd a6 0 1) 1 996 i = nI (ww_n3 1 996 0 i) := ww_cs2 ⟨by decide, by rw [pk_un (by decide), pk_us]; rfl⟩ ⟨by decide, by rw [pk_us]; rfl⟩
  have h3 : ∀ i, i < 2 → a3 (4 * ww_n3 0 1 0 i) = nI 2 := ww_cs2 q0 q4
  have h4 : ∀ i, i < 2 → a4 (32 * ww_n3 0 1 0 i) = nI u := ww_cs2 r0 r32
  have h4' : ∀ i, i < 2 → a4 (32 * ww_n3 0 1 0 i + 16) = nI v := ww_cs2 r16 r48
  have es : 2 * ww_sum (ww_st 2 (ww_n3 (s * g % 997) s 0) (ww_n3 1 996 0)) 2 % 997 = 2 * (0 + s * g % 997 * 1 % 997 + s * 996 % 997) % 997 := rfl
  have ed := ww_dif hs hs0 hg
  by_cases z : g = 1
  · refine ww_search0 (m := 2) hu hv (by omega) (by omega) h1 h5 h2 h6 h3 h4 h4' (by rw [es]; exact ed.mpr z) ?_ (fun x7 x8 x9 x10 x y => H _ _ _ _ _ _ _ _ _ _ _ _ (by rw [if_pos z]))
    exact ww_p1 hs hs0 z
  · exact ww_search1 (m := 2) (by omega) h1 h5 h2 h6 h3 (by rw [es]; exact fun q => z (ed.mp q)) (fun x => H _ _ _ _ _ _ _ _ _ _ _ _ (by rw [if_neg z]))
theorem ww_isSum {s g u v : Nat} (hs : s < 997) (hs0 : 0 < s) (hg : g < 997) (hu : u < 997) (hv : v < 997) (h : ww_two s g u v a1 a2 a3 a4)
    (H : ∀ r f' w' b' x5 x6 x7 x8 x9 x10 x11 x12, r = (if g = 2 then 1 else 0) → pq r (f', w', b', a1, a2, a3, a4, x5, x6, x7, x8, x9, x10, x11, x12, a13)) : wpX_isSum pq (f, w, b, a1, a2, a3, a4, a5, a6, a7, a8, a9, a10, a11, a12, a13) 1 1 0 := by
  obtain ⟨h1, p0, p4, q0, q4, r0, r16, r32, r48⟩ := h
  unfold wpX_isSum
  refine ww_good (a := 1) (by omega) (br_f (by decide) (ww_good (a := 1) (by omega) (br_f (by decide) (ww_good (a := 0) (by omega) (br_f (by decide) ?_)))))
  unfold wpX_pair wpX_alone
  refine nm_e (nm_e (nm_e (nm_e (nm_e (nm_e ?_)))))
  have h5 : ∀ i, i < 3 → ww_n3 1 0 1 i < 3 ∧ upd (upd (upd a5 0 1) 1 0) 2 1 i = nI (ww_n3 1 0 1 i) := ww_cs3 ⟨by decide, by rw [pk_un (by decide), pk_un (by decide), pk_us]; rfl⟩ ⟨by decide, by rw [pk_un (by decide), pk_us]; rfl⟩ ⟨by decide, by rw [pk_us]; rfl⟩
  have h2 : ∀ i, i < 3 → ww_n3 s (s * g % 997) s i < 997 ∧ a2 (4 * ww_n3 1 0 1 i) = nI (ww_n3 s (s * g % 997) s i) := ww_cs3 ⟨hs, p4⟩ ⟨Nat.mod_lt _ (by decide), p0⟩ ⟨hs, p4⟩
  have h6 : ∀ i, i < 3 → ww_n3 1 996 1 i < 997 ∧ upd (upd (upd a6 0 1) 1 996) 2 1 i = nI (ww_n3 1 996 1 i) := ww_cs3 ⟨by decide, by rw [pk_un (by decide), pk_un (by decide), pk_us]; rfl⟩ ⟨by decide, by rw [pk_un (by decide), pk_us]; rfl⟩ ⟨by decide, by rw [pk_us]; rfl⟩
  have h3 : ∀ i, i < 3 → a3 (4 * ww_n3 1 0 1 i) = nI 2 := ww_cs3 q4 q0 q4
  have h4 : ∀ i, i < 3 → a4 (32 * ww_n3 1 0 1 i) = nI u := ww_cs3 r32 r0 r32
  have h4' : ∀ i, i < 3 → a4 (32 * ww_n3 1 0 1 i + 16) = nI v := ww_cs3 r48 r16 r48
  have es : 2 * ww_sum (ww_st 3 (ww_n3 s (s * g % 997) s) (ww_n3 1 996 1)) 3 % 997 = 2 * (0 + s * 1 % 997 + s * g % 997 * 996 % 997 + s * 1 % 997) % 997 := rfl
  have ed := ww_sm hs hs0 hg
  by_cases z : g = 2
  · refine ww_search0 (m := 3) hu hv (by omega) (by omega) h1 h5 h2 h6 h3 h4 h4' (by rw [es]; exact ed.mpr z) ?_ (fun x7 x8 x9 x10 x y => br_t rfl (H _ _ _ _ _ _ _ _ _ _ _ _ (by rw [if_pos z])))
    exact ww_p2 hs hs0
  · exact ww_search1 (m := 3) (by omega) h1 h5 h2 h6 h3 (by rw [es]; exact fun q => z (ed.mp q)) (fun x => br_f (by decide) (H _ _ _ _ _ _ _ _ _ _ _ _ (by rw [if_neg z])))
end
end
section
/-! the law -/
theorem ww_Ms {a : Nat} (h : a < 997) : ww_M (nI a) a := by
  have k := ww_Mn (a := a) (by omega)
  rw [Nat.mod_eq_of_lt h] at k
  exact k
theorem ww_cell {P : Int32 → Prop} {xs : Nat → Int32} {L k : Nat} (hL : L ≤ 4) (hk : k < 4) (h : ∀ x, P x) : wpL_cellAt P L xs () (nI k) := pk_le L k (fun _ => h 0) (fun z => ⟨pk_in k L z, h _⟩)
section
variable {p : Int32 → St0 → Prop} {f w b : Int32} {a1 a2 a3 a4 a5 a6 a7 a8 a9 a10 a11 a12 a13 : Nat → Int32}
theorem ww_247 {mc ms kc ks s g u v : Nat} {z0 z1 : Int32} (H : p 1 ()) (hz : z1 = z0) (hs : s < 997) (hs0 : 0 < s) (hg : g < 997) (hu : u < 997) (hv : v < 997) (h : ww_two s g u v a1 a2 a3 a4) : wL_lawOf_247 p mc ms (nI g) z0 z1 kc ks f w b a1 a2 a3 a4 a5 a6 a7 a8 a9 a10 a11 a12 a13 := by
  unfold wL_lawOf_247
  refine br_t hz (ww_isSum hs hs0 hg hu hv h (fun r f' w' b' x5 x6 x7 x8 x9 x10 x11 x12 hr => pk_eq g 2 (fun e => ?_) (fun e => ?_)))
  · rw [if_pos e] at hr
    exact br_t hr H
  · rw [if_neg e] at hr
    exact br_t hr H
theorem ww_195 {q : Int32} {mc ms kc ks s g u v : Nat} (H : p 1 ()) (hg : ww_M q g) (hs : s < 997) (hs0 : 0 < s) (hu : u < 997) (hv : v < 997) (h1 : ∀ i, i < 3 → a1 i = 1) (h2 : a2 4 = nI s) (h3 : a3 4 = nI 2) (h4 : a4 32 = nI u) (h4' : a4 48 = nI v) : wL_lawOf_195 p mc ms q (nI (2 * s % 997 * u % 997 * v % 997)) (nI g) kc ks f w b a1 a2 a3 a4 a5 a6 a7 a8 a9 a10 a11 a12 a13 := by
  unfold wL_lawOf_195
  refine ww_scale hg hs h1 h2 h3 h4 h4' (fun x1 x2 x3 x4 k1 p0 p4 q0 q4 r0 r16 r32 r48 => br_t rfl ?_)
  refine ww_weight (a := 0) (by omega) (Nat.mod_lt _ (by decide)) hu hv k1 p0 q0 r0 r16 (fun x y => ⟨by decide, br_t ?_ ?_⟩)
  · rw [pk_mul, ww_rem _ (ww_mlt (Nat.mod_lt _ (by decide)) (Nat.lt_trans hg.1 (by decide))), ww_thf]
  · refine ww_difference hs hs0 hg.1 hu hv ⟨k1, p0, p4, q0, q4, r0, r16, r32, r48⟩ (fun r f' w' b' x5 x6 x7 x8 x9 x10 x11 x12 hr => pk_eq g 1 (fun e => ?_) (fun e => ?_) rfl rfl (Nat.lt_trans hg.1 (by decide)) (by decide))
    · rw [if_pos e] at hr
      exact ww_247 H hr hs hs0 hg.1 hu hv ⟨k1, p0, p4, q0, q4, r0, r16, r32, r48⟩
    · rw [if_neg e] at hr
      exact ww_247 H hr hs hs0 hg.1 hu hv ⟨k1, p0, p4, q0, q4, r0, r16, r32, r48⟩
end
theorem ww_third32 {s u v : Nat} (hu : u < 997) (hv : v < 997) : (((nI (2 * s % 997) * nI u) - (nI (2 * s % 997) * nI u) / 997 * 997) * nI v) - (((nI (2 * s % 997) * nI u) - (nI (2 * s % 997) * nI u) / 997 * 997) * nI v) / 997 * 997 = nI (2 * s % 997 * u % 997 * v % 997) := by
  rw [pk_mul, ww_rem _ (ww_mlt (Nat.mod_lt _ (by decide)) (by omega)), pk_mul, ww_rem _ (ww_mlt (Nat.mod_lt _ (by decide)) (by omega))]
theorem ww_tot32 {s u v : Nat} (hu : u < 997) (hv : v < 997) : nI (2 * (0 + s * 1 % 997 * (u + v) % 997 * (u + v) % 997) % 997) = (((nI (2 * s % 997) * ((nI u + nI v) - (nI u + nI v) / 997 * 997)) - (nI (2 * s % 997) * ((nI u + nI v) - (nI u + nI v) / 997 * 997)) / 997 * 997) * ((nI u + nI v) - (nI u + nI v) / 997 * 997)) - (((nI (2 * s % 997) * ((nI u + nI v) - (nI u + nI v) / 997 * 997)) - (nI (2 * s % 997) * ((nI u + nI v) - (nI u + nI v) / 997 * 997)) / 997 * 997) * ((nI u + nI v) - (nI u + nI v) / 997 * 997)) / 997 * 997 := by
  have l : (u + v) % 997 < 1994 := Nat.lt_trans (Nat.mod_lt _ (by decide)) (by decide)
  rw [nI_add, ww_rem _ (by omega), pk_mul, ww_rem _ (ww_mlt (Nat.mod_lt _ (by decide)) l), pk_mul, ww_rem _ (ww_mlt (Nat.mod_lt _ (by decide)) l), ww_tot]
theorem ww_lawOf {p : Int32 → St0 → Prop} {x y z q : Int32} (H : p 1 ()) : wpL_lawOf p 14 581 () x y z q := by
  obtain ⟨kx, hkx, ex⟩ := pk_andE x (m := 65535) 16 (by decide)
  obtain ⟨ky, hky, ey⟩ := pk_andE y (m := 65535) 16 (by decide)
  obtain ⟨kz, hkz, ez⟩ := pk_andE z (m := 65535) 16 (by decide)
  obtain ⟨g, hg⟩ := ww_Mex q
  have e1 : (1 : Int32) + (nI kx - nI kx / 996 * 996) = nI (1 + kx % 996) := by
    have e := pk_rem (a := kx) (d := 996) (by omega) (by decide) (by decide)
    show nI 1 + (nI kx - nI kx / nI 996 * nI 996) = nI (1 + kx % 996)
    rw [e, nI_add]
  have e2 := ww_rem ky (by omega)
  have e3 := ww_rem kz (by omega)
  have hs : 1 + kx % 996 < 997 := by omega
  have hs0 : 0 < 1 + kx % 996 := by omega
  have hu : ky % 997 < 997 := Nat.mod_lt _ (by decide)
  have hv : kz % 997 < 997 := Nat.mod_lt _ (by decide)
  generalize 1 + kx % 996 = s at e1 hs hs0
  generalize ky % 997 = u at e2 hu
  generalize kz % 997 = v at e3 hv
  have e4 : (2 : Int32) * nI s - 2 * nI s / 997 * 997 = nI (2 * s % 997) := by
    rw [show (2 : Int32) * nI s = nI (2 * s) from pk_mul 2 s, ww_rem _ (by omega)]
  unfold wpL_lawOf
  rw [ex, ey, ez]
  refine ⟨by decide, by decide, 13, 565, by decide, by decide, ww_init (fun x1 h1 => ⟨by decide, nm_r e1 ⟨by decide, nm_r e2 ⟨by decide, nm_r e3 ?_⟩⟩⟩)⟩
  refine ww_mark0 (ww_Ms hs) (h1 1 (by omega)) ?_
  refine ww_mark1 (ww_Ms (a := 2) (by omega)) (h1 1 (by omega)) ?_
  refine ww_step (k := 32) (ww_Ms hu) (h1 1 (by omega)) (by decide) (by decide) (by decide) (by decide) (by decide) (by omega) (br_t rfl ?_)
  refine ww_step (k := 48) ⟨hv, ww_Mv v hv⟩ (h1 1 (by omega)) (by decide) (by decide) (by decide) (by decide) (by decide) (by omega) (br_t (by rw [pk_un (by decide)]) ?_)
  have h2 : upd (fun _ => 0) 4 (nI s) 4 = nI s := pk_us
  have h3 : upd (fun _ => 0) 4 (nI 2) 4 = nI 2 := pk_us
  have h4 : upd (upd (fun _ => 0) 32 (nI u)) 48 (nI v) 32 = nI u := by rw [pk_un (by decide), pk_us]
  have h4' : upd (upd (fun _ => 0) 32 (nI u)) 48 (nI v) 48 = nI v := pk_us
  refine ⟨by decide, nm_r e4 ⟨by decide, by decide, nm_r (ww_third32 hu hv) ?_⟩⟩
  refine ww_weight (a := 1) (by omega) hs hu hv h1 h2 h3 h4 h4' (fun x y => br_t (by rw [ww_third]) ?_)
  refine ww_total (a := 1) (by omega) hs hu hv h1 h2 h3 h4 h4' (fun x y => ⟨by decide, by decide, by decide, by decide, br_t (ww_tot32 hu hv) ⟨by decide, nm_e ⟨fun n => ?_, fun n => ?_⟩⟩⟩)
  · rw [hg.2.1 n]
    exact ww_195 H hg hs hs0 hu hv h1 h2 h3 h4 h4'
  · exact nm_r (hg.2.2 n) (ww_195 H hg hs hs0 hu hv h1 h2 h3 h4 h4')
theorem i_vc (xs : Nat → Int32) (L : Nat) (hL : L ≤ 4) : wpL_law (fun r => r = 1) L xs := by
  unfold wpL_law
  exact ww_cell (k := 0) hL (by omega) (fun x => ww_cell (k := 1) hL (by omega) (fun y => ww_cell (k := 2) hL (by omega) (fun z => ww_cell (k := 3) hL (by omega) (fun q => ⟨14, 581, by decide, by decide, ww_lawOf rfl⟩))))
end
