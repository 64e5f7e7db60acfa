section
/-! rows of kit/rows/PURE-ROWS (a starting text) -/
theorem pk_us {f : Nat → Int32} {k : Nat} {x : Int32} : upd f k x k = x := if_pos rfl
theorem pk_un {f : Nat → Int32} {k j : Nat} {x : Int32} (h : j ≠ k) : upd f k x j = f j := if_neg h
theorem pk_uLs {f : Nat → Int64} {k : Nat} {x : Int64} : vp_updL f k x k = x := if_pos rfl
theorem pk_uLn {f : Nat → Int64} {k j : Nat} {x : Int64} (h : j ≠ k) : vp_updL f k x j = f j := if_neg h
theorem pk_sub {a b : Nat} (h : b ≤ a) : nI a - nI b = nI (a - b) := by
  obtain ⟨c, rfl⟩ : ∃ c, a = c + b := ⟨a - b, by omega⟩
  rw [← nI_add, Int32.add_sub_cancel, Nat.add_sub_cancel]
theorem pk_m1 (n : Nat) : nI (n + 1) + (-1) = nI n := by
  rw [← nI_1, Int32.add_assoc, show (1 : Int32) + (-1) = 0 from rfl, Int32.add_zero]
theorem pk_mul (a b : Nat) : nI a * nI b = nI (a * b) := (Int32.ofNat_mul a b).symm
theorem pk_div {a d : Nat} (ha : a < 2 ^ 31) (h0 : 0 < d) (hd : d < 2 ^ 31) : nI a / nI d = nI (a / d) := by
  apply Int32.toInt_inj.mp
  rw [lg_idiv_nonneg (by rw [nI_toInt ha]; omega) (by rw [nI_toInt hd]; omega), nI_toInt ha, nI_toInt hd, nI_toInt (Nat.lt_of_le_of_lt (Nat.div_le_self a d) ha)]
  first | rfl | exact (Int.natCast_ediv _ _).symm
theorem pk_rem {a d : Nat} (ha : a < 2 ^ 31) (h0 : 0 < d) (hd : d < 2 ^ 31) : nI a - nI a / nI d * nI d = nI (a % d) := by
  rw [pk_div ha h0 hd, pk_mul, pk_sub (Nat.div_mul_le_self a d)]
  exact congrArg nI (by have := Nat.div_add_mod' a d; omega)
theorem pk_ix (x : Int32) {n : Nat} (hn : n < 2 ^ 31) : x < 0 ∨ nI n ≤ x ∨ ∃ j : Nat, j < n ∧ x = nI j := by
  by_cases h : x < 0
  · exact Or.inl h
  · obtain ⟨j, hj, rfl⟩ := nI_of h
    by_cases h2 : j < n
    · exact Or.inr (Or.inr ⟨j, h2, rfl⟩)
    · exact Or.inr (Or.inl (nI_le (by omega) hj))
theorem pk_le {x y : Int32} {A B : Prop} (a b : Nat) (f : a ≤ b → A) (g : b < a → B) (hx : x = nI a := by rfl) (hy : y = nI b := by rfl) (ha : a < 2 ^ 31 := by omega) (hb : b < 2 ^ 31 := by omega) : (x ≤ y → A) ∧ (¬ x ≤ y → B) := by
  subst hx hy
  rw [nI_leI ha hb]
  exact ⟨f, fun z => g (by omega)⟩
theorem pk_lt {x y : Int32} {A B : Prop} (a b : Nat) (f : a < b → A) (g : b ≤ a → B) (hx : x = nI a := by rfl) (hy : y = nI b := by rfl) (ha : a < 2 ^ 31 := by omega) (hb : b < 2 ^ 31 := by omega) : (x < y → A) ∧ (¬ x < y → B) := by
  subst hx hy
  rw [nI_ltI ha hb]
  exact ⟨f, fun z => g (by omega)⟩
theorem pk_eq {x y : Int32} {A B : Prop} (a b : Nat) (f : a = b → A) (g : a ≠ b → B) (hx : x = nI a := by rfl) (hy : y = nI b := by rfl) (ha : a < 2 ^ 31 := by omega) (hb : b < 2 ^ 31 := by omega) : (x = y → A) ∧ (¬ x = y → B) := by
  subst hx hy
  rw [nI_eq ha hb]
  exact ⟨f, g⟩
theorem pk_in {x : Int32} (n N : Nat) (h : n < N) (hx : x = nI n := by rfl) (hN : N < 2 ^ 31 := by omega) : vp_in x N := by
  subst hx
  exact vp_in_nI h hN
theorem pk_cl {x : Int32} (n : Nat) (hx : x = nI n := by rfl) (h : n < 2 ^ 31 := by omega) : x.toNatClampNeg = n := by
  subst hx
  exact nI_clamp h
theorem pk_vb (z : Int32) : vp_nar .byte z.toInt8.toInt32 = z.toInt8.toInt32 := by rw [vp_nar_byte]; simp
end
section
/-! sums, greatest values and counts over k < m, in plain naturals -/
def lc_S (f : Nat → Nat) : Nat → Nat
  | 0 => 0
  | m + 1 => lc_S f m + f m
def lc_M (f : Nat → Nat) : Nat → Nat
  | 0 => 0
  | m + 1 => max (lc_M f m) (f m)
def lc_K (f : Nat → Nat) (m t : Nat) : Nat := lc_S (fun k => if t ≤ f k then 1 else 0) m
def lc_T (f : Nat → Nat) (m v : Nat) : Nat := lc_S (fun k => if f k = v then 1 else 0) m
theorem lc_S_congr {f g : Nat → Nat} : ∀ {m : Nat}, (∀ k, k < m → f k = g k) → lc_S f m = lc_S g m := by
  intro m
  induction m with
  | zero => intro _; rfl
  | succ m ih =>
    intro h
    show lc_S f m + f m = lc_S g m + g m
    rw [ih (fun k hk => h k (by omega)), h m (by omega)]
theorem lc_S_add (f g : Nat → Nat) (m : Nat) : lc_S (fun k => f k + g k) m = lc_S f m + lc_S g m := by
  induction m with
  | zero => rfl
  | succ m ih =>
    show lc_S (fun k => f k + g k) m + (f m + g m) = (lc_S f m + f m) + (lc_S g m + g m)
    rw [ih]; omega
theorem lc_S_mul (c : Nat) (f : Nat → Nat) (m : Nat) : lc_S (fun k => c * f k) m = c * lc_S f m := by
  induction m with
  | zero => rfl
  | succ m ih =>
    show lc_S (fun k => c * f k) m + c * f m = c * (lc_S f m + f m)
    rw [ih, Nat.mul_add]
theorem lc_S_mulr (c : Nat) (f : Nat → Nat) (m : Nat) : lc_S (fun k => f k * c) m = lc_S f m * c := by
  induction m with
  | zero => exact (Nat.zero_mul c).symm
  | succ m ih =>
    show lc_S (fun k => f k * c) m + f m * c = (lc_S f m + f m) * c
    rw [ih, Nat.add_mul]
theorem lc_S_zero (m : Nat) : lc_S (fun _ => 0) m = 0 := by
  induction m with
  | zero => rfl
  | succ m ih => exact ih
theorem lc_S_z {f : Nat → Nat} {m : Nat} (h : ∀ k, k < m → f k = 0) : lc_S f m = 0 := by
  rw [lc_S_congr h, lc_S_zero]
theorem lc_S_app (f : Nat → Nat) (a b : Nat) : lc_S f (a + b) = lc_S f a + lc_S (fun k => f (a + k)) b := by
  induction b with
  | zero => rfl
  | succ b ih =>
    show lc_S f (a + b) + f (a + b) = lc_S f a + (lc_S (fun k => f (a + k)) b + f (a + b))
    rw [ih]; omega
theorem lc_S_blk (f : Nat → Nat) (a b : Nat) : lc_S f (a * b) = lc_S (fun q => lc_S (fun r => f (q * b + r)) b) a := by
  induction a with
  | zero => rw [Nat.zero_mul]; rfl
  | succ a ih =>
    rw [Nat.succ_mul, lc_S_app, ih]
    rfl
theorem lc_S_sw (f : Nat → Nat) (m : Nat) : lc_S f (m * 3) = lc_S (fun b => lc_S (fun q => f (3 * q + b)) m) 3 := by
  induction m with
  | zero => rfl
  | succ m ih =>
    rw [Nat.succ_mul, lc_S_app, ih]
    show lc_S (fun b => lc_S (fun q => f (3 * q + b)) m) 3 + (0 + f (m * 3 + 0) + f (m * 3 + 1) + f (m * 3 + 2)) = 0 + (lc_S (fun q => f (3 * q + 0)) m + f (3 * m + 0)) + (lc_S (fun q => f (3 * q + 1)) m + f (3 * m + 1)) + (lc_S (fun q => f (3 * q + 2)) m + f (3 * m + 2))
    show 0 + lc_S (fun q => f (3 * q + 0)) m + lc_S (fun q => f (3 * q + 1)) m + lc_S (fun q => f (3 * q + 2)) m + (0 + f (m * 3 + 0) + f (m * 3 + 1) + f (m * 3 + 2)) = _
    rw [Nat.mul_comm m 3]
    omega
theorem lc_S_one {f : Nat → Nat} : ∀ {m : Nat}, (∀ k, k < m → f k ≤ 1) → lc_S f m ≤ m := by
  intro m
  induction m with
  | zero => intro _; exact Nat.le_refl _
  | succ m ih =>
    intro h
    have h1 := ih (fun k hk => h k (by omega))
    have h2 := h m (by omega)
    show lc_S f m + f m ≤ m + 1
    omega
theorem lc_K_bd (f : Nat → Nat) (m t : Nat) : lc_K f m t ≤ m := lc_S_one (fun k _ => by show (if t ≤ f k then 1 else 0) ≤ 1; split <;> omega)
theorem lc_T_bd (f : Nat → Nat) (m t : Nat) : lc_T f m t ≤ m := lc_S_one (fun k _ => by show (if f k = t then 1 else 0) ≤ 1; split <;> omega)
theorem lc_S_pos {f : Nat → Nat} : ∀ {m : Nat}, 0 < lc_S f m ↔ ∃ k, k < m ∧ 0 < f k := by
  intro m
  induction m with
  | zero => exact ⟨fun h => absurd h (Nat.lt_irrefl 0), fun ⟨k, hk, _⟩ => absurd hk (Nat.not_lt_zero k)⟩
  | succ m ih =>
    show 0 < lc_S f m + f m ↔ _
    constructor
    · intro h
      by_cases h1 : 0 < lc_S f m
      · obtain ⟨k, hk, hf⟩ := ih.mp h1
        exact ⟨k, by omega, hf⟩
      · exact ⟨m, by omega, by omega⟩
    · intro ⟨k, hk, hf⟩
      by_cases h1 : k = m
      · subst h1; omega
      · have := ih.mpr ⟨k, by omega, hf⟩
        omega
theorem lc_M_le {f : Nat → Nat} {t : Nat} : ∀ {m : Nat}, lc_M f m ≤ t ↔ ∀ k, k < m → f k ≤ t := by
  intro m
  induction m with
  | zero => exact ⟨fun _ k hk => absurd hk (Nat.not_lt_zero k), fun _ => Nat.zero_le t⟩
  | succ m ih =>
    show max (lc_M f m) (f m) ≤ t ↔ _
    rw [Nat.max_le, ih]
    constructor
    · intro ⟨h1, h2⟩ k hk
      by_cases e : k = m
      · subst e; exact h2
      · exact h1 k (by omega)
    · intro h
      exact ⟨fun k hk => h k (by omega), h m (by omega)⟩
theorem lc_M_ge {f : Nat → Nat} {m k : Nat} (h : k < m) : f k ≤ lc_M f m := lc_M_le.mp (Nat.le_refl _) k h
theorem lc_M_at {f : Nat → Nat} : ∀ {m : Nat}, 0 < lc_M f m → ∃ k, k < m ∧ f k = lc_M f m := by
  intro m
  induction m with
  | zero => intro h; exact absurd h (Nat.lt_irrefl 0)
  | succ m ih =>
    intro h
    by_cases h1 : lc_M f m ≤ f m
    · exact ⟨m, by omega, (Nat.max_eq_right h1).symm⟩
    · have h2 : lc_M f (m + 1) = lc_M f m := Nat.max_eq_left (by omega)
      obtain ⟨k, hk, e⟩ := ih (by omega)
      exact ⟨k, by omega, by rw [h2]; exact e⟩
theorem lc_eqle {a b : Nat} (h : ∀ t, a ≤ t ↔ b ≤ t) : a = b := Nat.le_antisymm ((h b).mpr (Nat.le_refl _)) ((h a).mp (Nat.le_refl _))
theorem lc_M_congr {f g : Nat → Nat} {m : Nat} (h : ∀ k, k < m → f k = g k) : lc_M f m = lc_M g m :=
  lc_eqle fun t => by
    rw [lc_M_le, lc_M_le]
    exact ⟨fun z k hk => by rw [← h k hk]; exact z k hk, fun z k hk => by rw [h k hk]; exact z k hk⟩
theorem lc_M_blk (f : Nat → Nat) (a b : Nat) : lc_M f (a * b) = lc_M (fun q => lc_M (fun r => f (q * b + r)) b) a :=
  lc_eqle fun t => by
    rw [lc_M_le, lc_M_le]
    constructor
    · intro h q hq
      show lc_M (fun r => f (q * b + r)) b ≤ t
      rw [lc_M_le]
      intro r hr
      have h1 : (q + 1) * b ≤ a * b := Nat.mul_le_mul_right b hq
      rw [Nat.succ_mul] at h1
      exact h (q * b + r) (by omega)
    · intro h k hk
      have hb : 0 < b := Nat.pos_of_ne_zero fun e => by rw [e, Nat.mul_zero] at hk; exact absurd hk (Nat.not_lt_zero k)
      have h1 := h (k / b) ((Nat.div_lt_iff_lt_mul hb).mpr hk)
      have h2 := lc_M_le.mp h1 (k % b) (Nat.mod_lt k hb)
      have h3 : k / b * b + k % b = k := Nat.div_add_mod' k b
      rw [h3] at h2
      exact h2
theorem lc_M_sw (f : Nat → Nat) (m : Nat) : lc_M f (m * 3) = lc_M (fun b => lc_M (fun q => f (3 * q + b)) m) 3 :=
  lc_eqle fun t => by
    rw [lc_M_le, lc_M_le]
    constructor
    · intro h b hb
      show lc_M (fun q => f (3 * q + b)) m ≤ t
      rw [lc_M_le]
      intro q hq
      exact h (3 * q + b) (by omega)
    · intro h k hk
      have h1 := h (k % 3) (Nat.mod_lt k (by decide))
      have h2 := lc_M_le.mp h1 (k / 3) (by omega)
      have h3 : 3 * (k / 3) + k % 3 = k := Nat.div_add_mod k 3
      rw [h3] at h2
      exact h2
/-- a monotone function that keeps 0 passes through the greatest value -/
theorem lc_M_map {x : Nat → Nat} (h0 : x 0 = 0) (hm : ∀ a b, a ≤ b → x a ≤ x b) (f : Nat → Nat) : ∀ m, lc_M (fun k => x (f k)) m = x (lc_M f m) := by
  intro m
  induction m with
  | zero => exact h0.symm
  | succ m ih =>
    show max (lc_M (fun k => x (f k)) m) (x (f m)) = x (max (lc_M f m) (f m))
    rw [ih]
    by_cases h : lc_M f m ≤ f m
    · rw [Nat.max_eq_right h, Nat.max_eq_right (hm _ _ h)]
    · rw [Nat.max_eq_left (by omega : f m ≤ lc_M f m), Nat.max_eq_left (hm _ _ (by omega))]
theorem lc_K_step (f : Nat → Nat) (m t : Nat) : lc_K f m t = lc_T f m t + lc_K f m (t + 1) := by
  unfold lc_K lc_T
  rw [← lc_S_add]
  apply lc_S_congr
  intro k _
  show (if t ≤ f k then 1 else 0) = (if f k = t then 1 else 0) + (if t + 1 ≤ f k then 1 else 0)
  by_cases h1 : t ≤ f k
  · by_cases h2 : f k = t
    · rw [if_pos h1, if_pos h2, if_neg (by omega)]
    · rw [if_pos h1, if_neg h2, if_pos (by omega)]
  · rw [if_neg h1, if_neg (by omega), if_neg (by omega)]
theorem lc_K_pos {f : Nat → Nat} {m t : Nat} (ht : 1 ≤ t) : 0 < lc_K f m t ↔ t ≤ lc_M f m := by
  unfold lc_K
  rw [lc_S_pos]
  constructor
  · intro ⟨k, hk, h⟩
    by_cases c : t ≤ f k
    · exact Nat.le_trans c (lc_M_ge hk)
    · rw [if_neg c] at h; exact absurd h (Nat.lt_irrefl 0)
  · intro h
    obtain ⟨k, hk, e⟩ := lc_M_at (f := f) (m := m) (by omega)
    exact ⟨k, hk, by rw [if_pos (by omega)]; exact Nat.one_pos⟩
theorem lc_T_above {f : Nat → Nat} {m v : Nat} (h : lc_M f m < v) : lc_T f m v = 0 :=
  lc_S_z fun k hk => by
    have := lc_M_ge (f := f) hk
    show (if f k = v then 1 else 0) = 0
    rw [if_neg (by omega)]
theorem lc_T_pos {f : Nat → Nat} {m : Nat} (h : 0 < lc_M f m) : 0 < lc_T f m (lc_M f m) := by
  obtain ⟨k, hk, e⟩ := lc_M_at h
  exact lc_S_pos.mpr ⟨k, hk, by show 0 < (if f k = lc_M f m then 1 else 0); rw [if_pos e]; exact Nat.one_pos⟩
theorem lc_K_0 {f : Nat → Nat} {m t : Nat} (h : lc_M f m < t) : lc_K f m t = 0 := by
  apply Nat.eq_zero_of_not_pos
  rw [lc_K_pos (by omega)]
  omega
theorem lc_K_sw (f : Nat → Nat) (m t : Nat) : lc_K f (m * 3) t = lc_S (fun b => lc_K (fun q => f (3 * q + b)) m t) 3 := lc_S_sw _ m
theorem lc_T_sw (f : Nat → Nat) (m t : Nat) : lc_T f (m * 3) t = lc_S (fun b => lc_T (fun q => f (3 * q + b)) m t) 3 := lc_S_sw _ m
/-- running greatest value with its count -/
def lc_pt (M : Nat → Nat) (T : Nat → Nat → Nat) (b : Nat) : Nat := if lc_M M b = 0 then 0 else lc_S (fun b' => T b' (lc_M M b)) b
theorem lc_pt_0 (M : Nat → Nat) (T : Nat → Nat → Nat) : lc_pt M T 0 = 0 := if_pos rfl
theorem lc_pt_up {M : Nat → Nat} {T : Nat → Nat → Nat} {b : Nat} (hT : ∀ b' v, M b' < v → T b' v = 0) (h : lc_M M b < M b) : lc_pt M T (b + 1) = T b (M b) := by
  have e : lc_M M (b + 1) = M b := Nat.max_eq_right (Nat.le_of_lt h)
  unfold lc_pt
  rw [e, if_neg (by omega)]
  show lc_S (fun b' => T b' (M b)) b + T b (M b) = _
  rw [lc_S_z fun k hk => hT k (M b) (Nat.lt_of_le_of_lt (lc_M_ge hk) h)]
  exact Nat.zero_add _
theorem lc_pt_eq {M : Nat → Nat} {T : Nat → Nat → Nat} {b : Nat} (h0 : 0 < M b) (h : lc_M M b = M b) : lc_pt M T (b + 1) = lc_pt M T b + T b (M b) := by
  have e : lc_M M (b + 1) = M b := Nat.max_eq_right (by omega)
  unfold lc_pt
  rw [e, if_neg (by omega), h, if_neg (by omega)]
  rfl
theorem lc_pt_lo {M : Nat → Nat} {T : Nat → Nat → Nat} {b : Nat} (hT : ∀ b' v, M b' < v → T b' v = 0) (h : M b < lc_M M b ∨ M b = 0) : lc_pt M T (b + 1) = lc_pt M T b := by
  have e : lc_M M (b + 1) = lc_M M b := Nat.max_eq_left (by omega)
  unfold lc_pt
  rw [e]
  by_cases z : lc_M M b = 0
  · rw [if_pos z, if_pos z]
  · rw [if_neg z, if_neg z]
    show lc_S (fun b' => T b' (lc_M M b)) b + T b (lc_M M b) = _
    rw [hT b (lc_M M b) (by omega)]
    rfl
end
section
/-! labellings by number: k < 3^(i+1) labels positions 0..i, its last label is k % 3 -/
def lc_ok (B D : Nat → Int32) : Nat → Nat → Bool
  | 0, k => decide (B (k % 3) = 0)
  | i + 1, k => lc_ok B D i (k / 3) && decide (D (3 * (k / 3 % 3) + k % 3) = 0) && decide (B (3 * (i + 1) + k % 3) = 0)
def lc_sm (W C : Nat → Nat) : Nat → Nat → Nat
  | 0, k => W (k % 3)
  | i + 1, k => lc_sm W C i (k / 3) + C (3 * (k / 3 % 3) + k % 3) + W (3 * (i + 1) + k % 3)
def lc_pr (W C : Nat → Nat) : Nat → Nat → Nat
  | 0, k => W (k % 3)
  | i + 1, k => lc_pr W C i (k / 3) * C (3 * (k / 3 % 3) + k % 3) * W (3 * (i + 1) + k % 3)
/-- the score: 0 if barred, else the sum plus 1 -/
def lc_e (W C : Nat → Nat) (B D : Nat → Int32) (i k : Nat) : Nat := if lc_ok B D i k = true then lc_sm W C i k + 1 else 0
def lc_p (W C : Nat → Nat) (B D : Nat → Int32) (i k : Nat) : Nat := if lc_ok B D i k = true then lc_pr W C i k else 0
def lc_xt (d b : Int32) (w x : Nat) : Nat := if d = 0 ∧ b = 0 ∧ x ≠ 0 then x + w else 0
theorem lc_d3 (k a : Nat) (ha : a < 3) : (3 * k + a) / 3 = k := by omega
theorem lc_m3 (k a : Nat) (ha : a < 3) : (3 * k + a) % 3 = a := by omega
theorem lc_ok_s {B D : Nat → Int32} {i k a : Nat} (ha : a < 3) : lc_ok B D (i + 1) (3 * k + a) = (lc_ok B D i k && decide (D (3 * (k % 3) + a) = 0) && decide (B (3 * (i + 1) + a) = 0)) := by
  show (lc_ok B D i ((3 * k + a) / 3) && decide (D (3 * ((3 * k + a) / 3 % 3) + (3 * k + a) % 3) = 0) && decide (B (3 * (i + 1) + (3 * k + a) % 3) = 0)) = _
  rw [lc_d3 k a ha, lc_m3 k a ha]
theorem lc_sm_s {W C : Nat → Nat} {i k a : Nat} (ha : a < 3) : lc_sm W C (i + 1) (3 * k + a) = lc_sm W C i k + C (3 * (k % 3) + a) + W (3 * (i + 1) + a) := by
  show lc_sm W C i ((3 * k + a) / 3) + C (3 * ((3 * k + a) / 3 % 3) + (3 * k + a) % 3) + W (3 * (i + 1) + (3 * k + a) % 3) = _
  rw [lc_d3 k a ha, lc_m3 k a ha]
theorem lc_pr_s {W C : Nat → Nat} {i k a : Nat} (ha : a < 3) : lc_pr W C (i + 1) (3 * k + a) = lc_pr W C i k * C (3 * (k % 3) + a) * W (3 * (i + 1) + a) := by
  show lc_pr W C i ((3 * k + a) / 3) * C (3 * ((3 * k + a) / 3 % 3) + (3 * k + a) % 3) * W (3 * (i + 1) + (3 * k + a) % 3) = _
  rw [lc_d3 k a ha, lc_m3 k a ha]
theorem lc_xt_0 (d b : Int32) (w : Nat) : lc_xt d b w 0 = 0 := if_neg (fun h => h.2.2 rfl)
theorem lc_xt_d {d b : Int32} {w x : Nat} (h : ¬ d = 0) : lc_xt d b w x = 0 := if_neg (fun z => h z.1)
theorem lc_xt_b {d b : Int32} {w x : Nat} (h : ¬ b = 0) : lc_xt d b w x = 0 := if_neg (fun z => h z.2.1)
theorem lc_xt_p {d b : Int32} {w x : Nat} (hd : d = 0) (hb : b = 0) (hx : x ≠ 0) : lc_xt d b w x = x + w := if_pos ⟨hd, hb, hx⟩
theorem lc_xt_m (d b : Int32) (w : Nat) : ∀ x y, x ≤ y → lc_xt d b w x ≤ lc_xt d b w y := by
  intro x y h
  by_cases hd : d = 0
  · by_cases hb : b = 0
    · by_cases hx : x = 0
      · rw [hx, lc_xt_0]; exact Nat.zero_le _
      · rw [lc_xt_p hd hb hx, lc_xt_p hd hb (by omega)]; omega
    · rw [lc_xt_b hb]; exact Nat.zero_le _
  · rw [lc_xt_d hd]; exact Nat.zero_le _
theorem lc_xt_ge {d b : Int32} {w x t : Nat} (hd : d = 0) (hb : b = 0) (ht : 1 ≤ t) : t ≤ lc_xt d b w x ↔ max 1 (t - w) ≤ x := by
  by_cases hx : x = 0
  · subst hx
    rw [lc_xt_0]
    omega
  · rw [lc_xt_p hd hb hx]
    omega
theorem lc_xt_eq {d b : Int32} {w x u : Nat} (hd : d = 0) (hb : b = 0) (hu : u ≠ 0) : lc_xt d b w x = u + w ↔ x = u := by
  by_cases hx : x = 0
  · subst hx
    rw [lc_xt_0]
    omega
  · rw [lc_xt_p hd hb hx]
    omega
theorem lc_e_s {W C : Nat → Nat} {B D : Nat → Int32} {i k a : Nat} (ha : a < 3) : lc_e W C B D (i + 1) (3 * k + a) = lc_xt (D (3 * (k % 3) + a)) (B (3 * (i + 1) + a)) (C (3 * (k % 3) + a) + W (3 * (i + 1) + a)) (lc_e W C B D i k) := by
  unfold lc_e
  rw [lc_ok_s ha, lc_sm_s ha]
  by_cases h2 : D (3 * (k % 3) + a) = 0
  · by_cases h3 : B (3 * (i + 1) + a) = 0
    · cases h1 : lc_ok B D i k with
      | true =>
        rw [lc_xt_p h2 h3 (by rw [if_pos rfl]; omega), if_pos rfl, if_pos (by rw [decide_eq_true h2, decide_eq_true h3]; rfl)]
        omega
      | false =>
        rw [if_neg (by rw [Bool.false_and, Bool.false_and]; exact Bool.false_ne_true), if_neg Bool.false_ne_true, lc_xt_0]
    · rw [lc_xt_b h3, if_neg (by rw [decide_eq_false h3, Bool.and_false]; exact Bool.false_ne_true)]
  · rw [lc_xt_d h2, if_neg (by rw [decide_eq_false h2, Bool.and_false, Bool.false_and]; exact Bool.false_ne_true)]
theorem lc_p_s {W C : Nat → Nat} {B D : Nat → Int32} {i k a : Nat} (ha : a < 3) : lc_p W C B D (i + 1) (3 * k + a) = if D (3 * (k % 3) + a) = 0 ∧ B (3 * (i + 1) + a) = 0 then lc_p W C B D i k * C (3 * (k % 3) + a) * W (3 * (i + 1) + a) else 0 := by
  unfold lc_p
  rw [lc_ok_s ha, lc_pr_s ha]
  by_cases h2 : D (3 * (k % 3) + a) = 0
  · by_cases h3 : B (3 * (i + 1) + a) = 0
    · rw [if_pos (⟨h2, h3⟩ : D (3 * (k % 3) + a) = 0 ∧ B (3 * (i + 1) + a) = 0)]
      cases h1 : lc_ok B D i k with
      | true =>
        rw [if_pos rfl, if_pos (by rw [decide_eq_true h2, decide_eq_true h3]; rfl)]
      | false =>
        rw [if_neg (by rw [Bool.false_and, Bool.false_and]; exact Bool.false_ne_true), if_neg Bool.false_ne_true, Nat.zero_mul, Nat.zero_mul]
    · rw [if_neg (fun z : D (3 * (k % 3) + a) = 0 ∧ B (3 * (i + 1) + a) = 0 => h3 z.2), if_neg (by rw [decide_eq_false h3, Bool.and_false]; exact Bool.false_ne_true)]
  · rw [if_neg (fun z : D (3 * (k % 3) + a) = 0 ∧ B (3 * (i + 1) + a) = 0 => h2 z.1), if_neg (by rw [decide_eq_false h2, Bool.and_false, Bool.false_and]; exact Bool.false_ne_true)]
/-! the front: labellings of 0..i that end with a -/
def lc_f (W C : Nat → Nat) (B D : Nat → Int32) (i a q : Nat) : Nat := lc_e W C B D i (3 * q + a)
def lc_fm (W C : Nat → Nat) (B D : Nat → Int32) (i a : Nat) : Nat := lc_M (lc_f W C B D i a) (3 ^ i)
def lc_fk (W C : Nat → Nat) (B D : Nat → Int32) (i a t : Nat) : Nat := lc_K (lc_f W C B D i a) (3 ^ i) t
def lc_ft (W C : Nat → Nat) (B D : Nat → Int32) (i a v : Nat) : Nat := lc_T (lc_f W C B D i a) (3 ^ i) v
def lc_fb (W C : Nat → Nat) (B D : Nat → Int32) (i a : Nat) : Nat := if lc_fm W C B D i a = 0 then 0 else lc_ft W C B D i a (lc_fm W C B D i a)
def lc_fp (W C : Nat → Nat) (B D : Nat → Int32) (i a : Nat) : Nat := lc_S (fun q => lc_p W C B D i (3 * q + a)) (3 ^ i)
def lc_x (W C : Nat → Nat) (B D : Nat → Int32) (i a b x : Nat) : Nat := lc_xt (D (3 * b + a)) (B (3 * (i + 1) + a)) (C (3 * b + a) + W (3 * (i + 1) + a)) x
theorem lc_f_s {W C : Nat → Nat} {B D : Nat → Int32} {i a b q : Nat} (ha : a < 3) (hb : b < 3) : lc_f W C B D (i + 1) a (3 * q + b) = lc_x W C B D i a b (lc_f W C B D i b q) := by
  unfold lc_f lc_x
  rw [lc_e_s ha, lc_m3 q b hb]
theorem lc_fm_x (W C : Nat → Nat) (B D : Nat → Int32) (i a b : Nat) : lc_M (fun q => lc_x W C B D i a b (lc_f W C B D i b q)) (3 ^ i) = lc_x W C B D i a b (lc_fm W C B D i b) :=
  lc_M_map (lc_xt_0 _ _ _) (lc_xt_m _ _ _) _ _
theorem lc_fm_s {W C : Nat → Nat} {B D : Nat → Int32} {i a : Nat} (ha : a < 3) : lc_fm W C B D (i + 1) a = lc_M (fun b => lc_x W C B D i a b (lc_fm W C B D i b)) 3 := by
  show lc_M (lc_f W C B D (i + 1) a) (3 ^ (i + 1)) = _
  rw [Nat.pow_succ, lc_M_sw]
  apply lc_M_congr
  intro b hb
  rw [← lc_fm_x]
  exact lc_M_congr fun q _ => lc_f_s ha hb
theorem lc_fk_s {W C : Nat → Nat} {B D : Nat → Int32} {i a : Nat} (ha : a < 3) (t : Nat) : lc_fk W C B D (i + 1) a t = lc_S (fun b => lc_K (fun q => lc_x W C B D i a b (lc_f W C B D i b q)) (3 ^ i) t) 3 := by
  show lc_K (lc_f W C B D (i + 1) a) (3 ^ (i + 1)) t = _
  rw [Nat.pow_succ, lc_K_sw]
  apply lc_S_congr
  intro b hb
  apply lc_S_congr
  intro q _
  show (if t ≤ lc_f W C B D (i + 1) a (3 * q + b) then 1 else 0) = _
  rw [lc_f_s ha hb]
theorem lc_ft_s {W C : Nat → Nat} {B D : Nat → Int32} {i a : Nat} (ha : a < 3) (v : Nat) : lc_ft W C B D (i + 1) a v = lc_S (fun b => lc_T (fun q => lc_x W C B D i a b (lc_f W C B D i b q)) (3 ^ i) v) 3 := by
  show lc_T (lc_f W C B D (i + 1) a) (3 ^ (i + 1)) v = _
  rw [Nat.pow_succ, lc_T_sw]
  apply lc_S_congr
  intro b hb
  apply lc_S_congr
  intro q _
  show (if lc_f W C B D (i + 1) a (3 * q + b) = v then 1 else 0) = _
  rw [lc_f_s ha hb]
/-- counts of scores moved by one step -/
theorem lc_Kx {d b : Int32} {w t : Nat} (g : Nat → Nat) (m : Nat) (ht : 1 ≤ t) : lc_K (fun q => lc_xt d b w (g q)) m t = if d = 0 ∧ b = 0 then lc_K g m (max 1 (t - w)) else 0 := by
  by_cases hd : d = 0
  · by_cases hb : b = 0
    · rw [if_pos ⟨hd, hb⟩]
      apply lc_S_congr
      intro q _
      show (if t ≤ lc_xt d b w (g q) then 1 else 0) = if max 1 (t - w) ≤ g q then 1 else 0
      by_cases h : max 1 (t - w) ≤ g q
      · rw [if_pos h, if_pos ((lc_xt_ge hd hb ht).mpr h)]
      · rw [if_neg h, if_neg (fun z => h ((lc_xt_ge hd hb ht).mp z))]
    · rw [if_neg (fun z => hb z.2)]
      apply lc_S_z
      intro q _
      show (if t ≤ lc_xt d b w (g q) then 1 else 0) = 0
      rw [lc_xt_b hb, if_neg (by omega)]
  · rw [if_neg (fun z => hd z.1)]
    apply lc_S_z
    intro q _
    show (if t ≤ lc_xt d b w (g q) then 1 else 0) = 0
    rw [lc_xt_d hd, if_neg (by omega)]
theorem lc_Tx {d b : Int32} {w u : Nat} (g : Nat → Nat) (m : Nat) (hd : d = 0) (hb : b = 0) (hu : u ≠ 0) : lc_T (fun q => lc_xt d b w (g q)) m (u + w) = lc_T g m u := by
  apply lc_S_congr
  intro q _
  show (if lc_xt d b w (g q) = u + w then 1 else 0) = if g q = u then 1 else 0
  by_cases h : g q = u
  · rw [if_pos h, if_pos ((lc_xt_eq hd hb hu).mpr h)]
  · rw [if_neg h, if_neg (fun z => h ((lc_xt_eq hd hb hu).mp z))]
theorem lc_fb_s {W C : Nat → Nat} {B D : Nat → Int32} {i a : Nat} (ha : a < 3) : lc_fb W C B D (i + 1) a = lc_pt (fun b => lc_x W C B D i a b (lc_fm W C B D i b)) (fun b v => lc_T (fun q => lc_x W C B D i a b (lc_f W C B D i b q)) (3 ^ i) v) 3 := by
  unfold lc_fb lc_pt
  rw [lc_ft_s ha, ← lc_fm_s ha]
theorem lc_hT (W C : Nat → Nat) (B D : Nat → Int32) (i a : Nat) : ∀ b v, lc_x W C B D i a b (lc_fm W C B D i b) < v → lc_T (fun q => lc_x W C B D i a b (lc_f W C B D i b q)) (3 ^ i) v = 0 := by
  intro b v h
  apply lc_T_above
  rw [lc_fm_x]
  exact h
theorem lc_fp_s {W C : Nat → Nat} {B D : Nat → Int32} {i a : Nat} (ha : a < 3) : lc_fp W C B D (i + 1) a = lc_S (fun b => if D (3 * b + a) = 0 ∧ B (3 * (i + 1) + a) = 0 then lc_fp W C B D i b * C (3 * b + a) * W (3 * (i + 1) + a) else 0) 3 := by
  show lc_S (fun q => lc_p W C B D (i + 1) (3 * q + a)) (3 ^ (i + 1)) = _
  rw [Nat.pow_succ, lc_S_sw]
  apply lc_S_congr
  intro b hb
  have h : ∀ q, q < 3 ^ i → lc_p W C B D (i + 1) (3 * (3 * q + b) + a) = if D (3 * b + a) = 0 ∧ B (3 * (i + 1) + a) = 0 then lc_p W C B D i (3 * q + b) * C (3 * b + a) * W (3 * (i + 1) + a) else 0 := by
    intro q _
    rw [lc_p_s ha, lc_m3 q b hb]
  rw [lc_S_congr h]
  by_cases c : D (3 * b + a) = 0 ∧ B (3 * (i + 1) + a) = 0
  · rw [if_pos c]
    have h2 : ∀ q, q < 3 ^ i → (if D (3 * b + a) = 0 ∧ B (3 * (i + 1) + a) = 0 then lc_p W C B D i (3 * q + b) * C (3 * b + a) * W (3 * (i + 1) + a) else 0) = lc_p W C B D i (3 * q + b) * (C (3 * b + a) * W (3 * (i + 1) + a)) := by
      intro q _
      rw [if_pos c, Nat.mul_assoc]
    rw [lc_S_congr h2, lc_S_mulr, Nat.mul_assoc]
    rfl
  · rw [if_neg c]
    apply lc_S_z
    intro q _
    exact if_neg c
theorem lc_e_0 {W C : Nat → Nat} {B D : Nat → Int32} {a : Nat} (ha : a < 3) : lc_e W C B D 0 (3 * 0 + a) = if B a = 0 then W a + 1 else 0 := by
  have h : (3 * 0 + a) % 3 = a := by omega
  show (if decide (B ((3 * 0 + a) % 3) = 0) = true then W ((3 * 0 + a) % 3) + 1 else 0) = _
  rw [h]
  by_cases c : B a = 0
  · rw [if_pos c, if_pos (decide_eq_true c)]
  · rw [if_neg c, if_neg (by rw [decide_eq_false c]; exact Bool.false_ne_true)]
theorem lc_fm_0 {W C : Nat → Nat} {B D : Nat → Int32} {a : Nat} (ha : a < 3) : lc_fm W C B D 0 a = if B a = 0 then W a + 1 else 0 := by
  rw [← lc_e_0 (C := C) (D := D) ha]
  exact Nat.zero_max _
theorem lc_fk_0 {W C : Nat → Nat} {B D : Nat → Int32} {a : Nat} (t : Nat) : lc_fk W C B D 0 a t = if t ≤ lc_fm W C B D 0 a then 1 else 0 := by
  have h : lc_fm W C B D 0 a = lc_f W C B D 0 a 0 := Nat.zero_max _
  rw [h]
  exact Nat.zero_add _
theorem lc_fb_0 {W C : Nat → Nat} {B D : Nat → Int32} {a : Nat} (ha : a < 3) : lc_fb W C B D 0 a = if B a = 0 then 1 else 0 := by
  have h : lc_f W C B D 0 a 0 = lc_fm W C B D 0 a := (Nat.zero_max _).symm
  have h2 : lc_ft W C B D 0 a (lc_fm W C B D 0 a) = 1 := by
    show 0 + (if lc_f W C B D 0 a 0 = lc_fm W C B D 0 a then 1 else 0) = 1
    rw [if_pos h]
  unfold lc_fb
  rw [h2, lc_fm_0 ha]
  by_cases c : B a = 0
  · rw [if_pos c, if_pos c, if_neg (by omega)]
  · rw [if_neg c, if_neg c, if_pos rfl]
theorem lc_fp_0 {W C : Nat → Nat} {B D : Nat → Int32} {a : Nat} (ha : a < 3) : lc_fp W C B D 0 a = if B a = 0 then W a else 0 := by
  have h : (3 * 0 + a) % 3 = a := by omega
  show 0 + (if decide (B ((3 * 0 + a) % 3) = 0) = true then W ((3 * 0 + a) % 3) else 0) = _
  rw [h, Nat.zero_add]
  by_cases c : B a = 0
  · rw [if_pos c, if_pos (decide_eq_true c)]
  · rw [if_neg c, if_neg (by rw [decide_eq_false c]; exact Bool.false_ne_true)]
/-! bounds -/
theorem lc_sm_bd {W C : Nat → Nat} (hW : ∀ j, W j ≤ 9) (hC : ∀ j, C j ≤ 9) : ∀ i k, lc_sm W C i k ≤ 9 + 18 * i := by
  intro i
  induction i with
  | zero => intro k; exact hW _
  | succ i ih =>
    intro k
    have h1 := ih (k / 3)
    have h2 := hC (3 * (k / 3 % 3) + k % 3)
    have h3 := hW (3 * (i + 1) + k % 3)
    show lc_sm W C i (k / 3) + C (3 * (k / 3 % 3) + k % 3) + W (3 * (i + 1) + k % 3) ≤ _
    omega
theorem lc_e_bd {W C : Nat → Nat} (hW : ∀ j, W j ≤ 9) (hC : ∀ j, C j ≤ 9) (B D : Nat → Int32) (i k : Nat) : lc_e W C B D i k ≤ 10 + 18 * i := by
  have := lc_sm_bd hW hC i k
  unfold lc_e
  split <;> omega
theorem lc_fm_bd {W C : Nat → Nat} (hW : ∀ j, W j ≤ 9) (hC : ∀ j, C j ≤ 9) (B D : Nat → Int32) (i a : Nat) : lc_fm W C B D i a ≤ 10 + 18 * i :=
  lc_M_le.mpr fun q _ => lc_e_bd hW hC B D i (3 * q + a)
theorem lc_pow_bd {i : Nat} (h : i ≤ 6) : 3 ^ i ≤ 729 := Nat.pow_le_pow_right (n := 3) (by decide) h
theorem lc_fa_iff (W C : Nat → Nat) (B D : Nat → Int32) (i a : Nat) : lc_fk W C B D i a 1 = 0 ↔ lc_fm W C B D i a = 0 := by
  have h := lc_K_pos (f := lc_f W C B D i a) (m := 3 ^ i) (t := 1) (Nat.le_refl 1)
  show lc_K (lc_f W C B D i a) (3 ^ i) 1 = 0 ↔ lc_M (lc_f W C B D i a) (3 ^ i) = 0
  omega
end
section
/-! the back: j positions behind position N - j, which has the label a; m < 3^j; then how front and back join -/
def lc_bok (B D : Nat → Int32) (N : Nat) : Nat → Nat → Nat → Bool
  | 0, _, _ => true
  | j + 1, a, m => decide (D (3 * a + m / 3 ^ j) = 0) && decide (B (3 * (N - j) + m / 3 ^ j) = 0) && lc_bok B D N j (m / 3 ^ j) (m % 3 ^ j)
def lc_bsm (W C : Nat → Nat) (N : Nat) : Nat → Nat → Nat → Nat
  | 0, _, _ => 0
  | j + 1, a, m => C (3 * a + m / 3 ^ j) + W (3 * (N - j) + m / 3 ^ j) + lc_bsm W C N j (m / 3 ^ j) (m % 3 ^ j)
def lc_bpr (W C : Nat → Nat) (N : Nat) : Nat → Nat → Nat → Nat
  | 0, _, _ => 1
  | j + 1, a, m => C (3 * a + m / 3 ^ j) * W (3 * (N - j) + m / 3 ^ j) * lc_bpr W C N j (m / 3 ^ j) (m % 3 ^ j)
def lc_be (W C : Nat → Nat) (B D : Nat → Int32) (N j a m : Nat) : Nat := if lc_bok B D N j a m = true then lc_bsm W C N j a m + 1 else 0
def lc_bp (W C : Nat → Nat) (B D : Nat → Int32) (N j a m : Nat) : Nat := if lc_bok B D N j a m = true then lc_bpr W C N j a m else 0
def lc_bm (W C : Nat → Nat) (B D : Nat → Int32) (N j a : Nat) : Nat := lc_M (lc_be W C B D N j a) (3 ^ j)
def lc_bq (W C : Nat → Nat) (B D : Nat → Int32) (N j a : Nat) : Nat := lc_S (lc_bp W C B D N j a) (3 ^ j)
/-- X's back score of position N - j: with its own weight -/
def lc_bs (W C : Nat → Nat) (B D : Nat → Int32) (N j a : Nat) : Nat := if B (3 * (N - j) + a) = 0 ∧ lc_bm W C B D N j a ≠ 0 then W (3 * (N - j) + a) + lc_bm W C B D N j a else 0
theorem lc_p3 (j : Nat) : 0 < 3 ^ j := Nat.pow_pos (by decide)
theorem lc_dd {d r p : Nat} (hr : r < p) : (d * p + r) / p = d := by
  rw [Nat.mul_comm, Nat.mul_add_div (by omega), Nat.div_eq_of_lt hr, Nat.add_zero]
theorem lc_dm {d r p : Nat} (hr : r < p) : (d * p + r) % p = r := by
  rw [Nat.mul_comm, Nat.mul_add_mod, Nat.mod_eq_of_lt hr]
theorem lc_num {k m p : Nat} : k * (p * 3) + m = (3 * k + m / p) * p + m % p := by
  have h := Nat.div_add_mod' m p
  have h2 : k * (p * 3) = 3 * k * p := by rw [Nat.mul_comm p 3, ← Nat.mul_assoc, Nat.mul_comm k 3]
  rw [Nat.add_mul, h2, Nat.add_assoc, h]
theorem lc_lt3 {m p : Nat} (hp : 0 < p) (h : m < p * 3) : m / p < 3 := (Nat.div_lt_iff_lt_mul hp).mpr (by omega)
theorem lc_split_ok (B D : Nat → Int32) (N : Nat) : ∀ j i k m, i + j = N → m < 3 ^ j → lc_ok B D N (k * 3 ^ j + m) = (lc_ok B D i k && lc_bok B D N j (k % 3) m) := by
  intro j
  induction j with
  | zero =>
    intro i k m e hm
    have h0 : m = 0 := by rw [Nat.pow_zero] at hm; omega
    have e2 : i = N := e
    subst h0 e2
    rw [Nat.pow_zero, Nat.mul_one, Nat.add_zero]
    exact (Bool.and_true _).symm
  | succ j ih =>
    intro i k m e hm
    rw [Nat.pow_succ] at hm
    have hd := lc_lt3 (lc_p3 j) hm
    have hr := Nat.mod_lt m (lc_p3 j)
    rw [Nat.pow_succ, lc_num, ih (i + 1) (3 * k + m / 3 ^ j) (m % 3 ^ j) (by omega) hr, lc_ok_s hd, lc_m3 k _ hd]
    show _ = (lc_ok B D i k && (decide (D (3 * (k % 3) + m / 3 ^ j) = 0) && decide (B (3 * (N - j) + m / 3 ^ j) = 0) && lc_bok B D N j (m / 3 ^ j) (m % 3 ^ j)))
    have hn : N - j = i + 1 := by omega
    rw [hn, Bool.and_assoc, Bool.and_assoc, Bool.and_assoc]
theorem lc_split_sm (W C : Nat → Nat) (N : Nat) : ∀ j i k m, i + j = N → m < 3 ^ j → lc_sm W C N (k * 3 ^ j + m) = lc_sm W C i k + lc_bsm W C N j (k % 3) m := by
  intro j
  induction j with
  | zero =>
    intro i k m e hm
    have h0 : m = 0 := by rw [Nat.pow_zero] at hm; omega
    have e2 : i = N := e
    subst h0 e2
    rw [Nat.pow_zero, Nat.mul_one, Nat.add_zero]
    rfl
  | succ j ih =>
    intro i k m e hm
    rw [Nat.pow_succ] at hm
    have hd := lc_lt3 (lc_p3 j) hm
    have hr := Nat.mod_lt m (lc_p3 j)
    rw [Nat.pow_succ, lc_num, ih (i + 1) (3 * k + m / 3 ^ j) (m % 3 ^ j) (by omega) hr, lc_sm_s hd, lc_m3 k _ hd]
    show _ = lc_sm W C i k + (C (3 * (k % 3) + m / 3 ^ j) + W (3 * (N - j) + m / 3 ^ j) + lc_bsm W C N j (m / 3 ^ j) (m % 3 ^ j))
    have hn : N - j = i + 1 := by omega
    rw [hn]
    omega
theorem lc_split_pr (W C : Nat → Nat) (N : Nat) : ∀ j i k m, i + j = N → m < 3 ^ j → lc_pr W C N (k * 3 ^ j + m) = lc_pr W C i k * lc_bpr W C N j (k % 3) m := by
  intro j
  induction j with
  | zero =>
    intro i k m e hm
    have h0 : m = 0 := by rw [Nat.pow_zero] at hm; omega
    have e2 : i = N := e
    subst h0 e2
    rw [Nat.pow_zero, Nat.mul_one, Nat.add_zero]
    exact (Nat.mul_one _).symm
  | succ j ih =>
    intro i k m e hm
    rw [Nat.pow_succ] at hm
    have hd := lc_lt3 (lc_p3 j) hm
    have hr := Nat.mod_lt m (lc_p3 j)
    rw [Nat.pow_succ, lc_num, ih (i + 1) (3 * k + m / 3 ^ j) (m % 3 ^ j) (by omega) hr, lc_pr_s hd, lc_m3 k _ hd]
    show _ = lc_pr W C i k * (C (3 * (k % 3) + m / 3 ^ j) * W (3 * (N - j) + m / 3 ^ j) * lc_bpr W C N j (m / 3 ^ j) (m % 3 ^ j))
    have hn : N - j = i + 1 := by omega
    rw [hn, Nat.mul_assoc, Nat.mul_assoc, Nat.mul_assoc]
/-- two scores joined -/
def lc_cb (x y : Nat) : Nat := if x = 0 ∨ y = 0 then 0 else x + y - 1
theorem lc_cb_0 (y : Nat) : lc_cb 0 y = 0 := if_pos (Or.inl rfl)
theorem lc_cb_0' (x : Nat) : lc_cb x 0 = 0 := if_pos (Or.inr rfl)
theorem lc_cb_p {x y : Nat} (hx : x ≠ 0) (hy : y ≠ 0) : lc_cb x y = x + y - 1 := if_neg (by omega)
theorem lc_cb_m (y : Nat) : ∀ a b, a ≤ b → lc_cb a y ≤ lc_cb b y := by
  intro a b h
  by_cases ha : a = 0
  · rw [ha, lc_cb_0]; exact Nat.zero_le _
  · by_cases hy : y = 0
    · rw [hy, lc_cb_0']; exact Nat.zero_le _
    · rw [lc_cb_p ha hy, lc_cb_p (by omega) hy]; omega
theorem lc_cb_m' (x : Nat) : ∀ a b, a ≤ b → lc_cb x a ≤ lc_cb x b := by
  intro a b h
  by_cases ha : a = 0
  · rw [ha, lc_cb_0']; exact Nat.zero_le _
  · by_cases hx : x = 0
    · rw [hx, lc_cb_0]; exact Nat.zero_le _
    · rw [lc_cb_p hx ha, lc_cb_p hx (by omega)]; omega
theorem lc_split_e (W C : Nat → Nat) (B D : Nat → Int32) {N j i k m : Nat} (e : i + j = N) (hm : m < 3 ^ j) : lc_e W C B D N (k * 3 ^ j + m) = lc_cb (lc_e W C B D i k) (lc_be W C B D N j (k % 3) m) := by
  unfold lc_e lc_be
  rw [lc_split_ok B D N j i k m e hm, lc_split_sm W C N j i k m e hm]
  cases h1 : lc_ok B D i k with
  | false => rw [if_neg (by rw [Bool.false_and]; exact Bool.false_ne_true), if_neg Bool.false_ne_true, lc_cb_0]
  | true =>
    cases h2 : lc_bok B D N j (k % 3) m with
    | false => rw [if_neg (by rw [Bool.and_false]; exact Bool.false_ne_true), if_neg Bool.false_ne_true, lc_cb_0']
    | true =>
      rw [if_pos rfl, if_pos rfl, if_pos (show (true && true) = true from rfl), lc_cb_p (by omega) (by omega)]
      omega
theorem lc_split_p (W C : Nat → Nat) (B D : Nat → Int32) {N j i k m : Nat} (e : i + j = N) (hm : m < 3 ^ j) : lc_p W C B D N (k * 3 ^ j + m) = lc_p W C B D i k * lc_bp W C B D N j (k % 3) m := by
  unfold lc_p lc_bp
  rw [lc_split_ok B D N j i k m e hm, lc_split_pr W C N j i k m e hm]
  cases h1 : lc_ok B D i k with
  | false => rw [if_neg (by rw [Bool.false_and]; exact Bool.false_ne_true), if_neg Bool.false_ne_true, Nat.zero_mul]
  | true =>
    cases h2 : lc_bok B D N j (k % 3) m with
    | false => rw [if_neg (by rw [Bool.and_false]; exact Bool.false_ne_true), if_neg Bool.false_ne_true, Nat.mul_zero]
    | true => rw [if_pos rfl, if_pos rfl, if_pos (show (true && true) = true from rfl)]
theorem lc_be_s (W C : Nat → Nat) (B D : Nat → Int32) {N j a d r : Nat} (hr : r < 3 ^ j) : lc_be W C B D N (j + 1) a (d * 3 ^ j + r) = lc_xt (D (3 * a + d)) (B (3 * (N - j) + d)) (C (3 * a + d) + W (3 * (N - j) + d)) (lc_be W C B D N j d r) := by
  have e1 : lc_bok B D N (j + 1) a (d * 3 ^ j + r) = (decide (D (3 * a + d) = 0) && decide (B (3 * (N - j) + d) = 0) && lc_bok B D N j d r) := by
    show (decide (D (3 * a + (d * 3 ^ j + r) / 3 ^ j) = 0) && decide (B (3 * (N - j) + (d * 3 ^ j + r) / 3 ^ j) = 0) && lc_bok B D N j ((d * 3 ^ j + r) / 3 ^ j) ((d * 3 ^ j + r) % 3 ^ j)) = _
    rw [lc_dd hr, lc_dm hr]
  have e2 : lc_bsm W C N (j + 1) a (d * 3 ^ j + r) = C (3 * a + d) + W (3 * (N - j) + d) + lc_bsm W C N j d r := by
    show C (3 * a + (d * 3 ^ j + r) / 3 ^ j) + W (3 * (N - j) + (d * 3 ^ j + r) / 3 ^ j) + lc_bsm W C N j ((d * 3 ^ j + r) / 3 ^ j) ((d * 3 ^ j + r) % 3 ^ j) = _
    rw [lc_dd hr, lc_dm hr]
  unfold lc_be
  rw [e1, e2]
  by_cases h2 : D (3 * a + d) = 0
  · by_cases h3 : B (3 * (N - j) + d) = 0
    · cases h1 : lc_bok B D N j d r with
      | true =>
        rw [lc_xt_p h2 h3 (by rw [if_pos rfl]; omega), if_pos rfl, if_pos (by rw [decide_eq_true h2, decide_eq_true h3]; rfl)]
        omega
      | false =>
        rw [if_neg (by rw [Bool.and_false]; exact Bool.false_ne_true), if_neg Bool.false_ne_true, lc_xt_0]
    · rw [lc_xt_b h3, if_neg (by rw [decide_eq_false h3, Bool.and_false, Bool.false_and]; exact Bool.false_ne_true)]
  · rw [lc_xt_d h2, if_neg (by rw [decide_eq_false h2, Bool.false_and, Bool.false_and]; exact Bool.false_ne_true)]
theorem lc_bp_s (W C : Nat → Nat) (B D : Nat → Int32) {N j a d r : Nat} (hr : r < 3 ^ j) : lc_bp W C B D N (j + 1) a (d * 3 ^ j + r) = if D (3 * a + d) = 0 ∧ B (3 * (N - j) + d) = 0 then C (3 * a + d) * W (3 * (N - j) + d) * lc_bp W C B D N j d r else 0 := by
  have e1 : lc_bok B D N (j + 1) a (d * 3 ^ j + r) = (decide (D (3 * a + d) = 0) && decide (B (3 * (N - j) + d) = 0) && lc_bok B D N j d r) := by
    show (decide (D (3 * a + (d * 3 ^ j + r) / 3 ^ j) = 0) && decide (B (3 * (N - j) + (d * 3 ^ j + r) / 3 ^ j) = 0) && lc_bok B D N j ((d * 3 ^ j + r) / 3 ^ j) ((d * 3 ^ j + r) % 3 ^ j)) = _
    rw [lc_dd hr, lc_dm hr]
  have e2 : lc_bpr W C N (j + 1) a (d * 3 ^ j + r) = C (3 * a + d) * W (3 * (N - j) + d) * lc_bpr W C N j d r := by
    show C (3 * a + (d * 3 ^ j + r) / 3 ^ j) * W (3 * (N - j) + (d * 3 ^ j + r) / 3 ^ j) * lc_bpr W C N j ((d * 3 ^ j + r) / 3 ^ j) ((d * 3 ^ j + r) % 3 ^ j) = _
    rw [lc_dd hr, lc_dm hr]
  unfold lc_bp
  rw [e1, e2]
  by_cases h2 : D (3 * a + d) = 0
  · by_cases h3 : B (3 * (N - j) + d) = 0
    · rw [if_pos (⟨h2, h3⟩ : D (3 * a + d) = 0 ∧ B (3 * (N - j) + d) = 0)]
      cases h1 : lc_bok B D N j d r with
      | true => rw [if_pos rfl, if_pos (by rw [decide_eq_true h2, decide_eq_true h3]; rfl)]
      | false => rw [if_neg (by rw [Bool.and_false]; exact Bool.false_ne_true), if_neg Bool.false_ne_true, Nat.mul_zero]
    · rw [if_neg (fun z : D (3 * a + d) = 0 ∧ B (3 * (N - j) + d) = 0 => h3 z.2), if_neg (by rw [decide_eq_false h3, Bool.and_false, Bool.false_and]; exact Bool.false_ne_true)]
  · rw [if_neg (fun z : D (3 * a + d) = 0 ∧ B (3 * (N - j) + d) = 0 => h2 z.1), if_neg (by rw [decide_eq_false h2, Bool.false_and, Bool.false_and]; exact Bool.false_ne_true)]
theorem lc_bm_0 (W C : Nat → Nat) (B D : Nat → Int32) (N a : Nat) : lc_bm W C B D N 0 a = 1 := rfl
theorem lc_bq_0 (W C : Nat → Nat) (B D : Nat → Int32) (N a : Nat) : lc_bq W C B D N 0 a = 1 := rfl
/-- X's step of the greatest back sum -/
def lc_bx (W C : Nat → Nat) (B D : Nat → Int32) (N j a b : Nat) : Nat := if D (3 * a + b) = 0 ∧ lc_bs W C B D N j b ≠ 0 then C (3 * a + b) + lc_bs W C B D N j b else 0
def lc_by (W C : Nat → Nat) (B D : Nat → Int32) (N j a b : Nat) : Nat := if D (3 * a + b) = 0 ∧ lc_bs W C B D N j b ≠ 0 then C (3 * a + b) * W (3 * (N - j) + b) * lc_bq W C B D N j b else 0
theorem lc_bm_s (W C : Nat → Nat) (B D : Nat → Int32) (N j a : Nat) : lc_bm W C B D N (j + 1) a = lc_M (lc_bx W C B D N j a) 3 := by
  show lc_M (lc_be W C B D N (j + 1) a) (3 ^ (j + 1)) = _
  rw [Nat.pow_succ, Nat.mul_comm, lc_M_blk]
  apply lc_M_congr
  intro d hd
  rw [lc_M_congr (fun r hr => lc_be_s W C B D hr), lc_M_map (lc_xt_0 _ _ _) (lc_xt_m _ _ _)]
  show lc_xt (D (3 * a + d)) (B (3 * (N - j) + d)) (C (3 * a + d) + W (3 * (N - j) + d)) (lc_bm W C B D N j d) = _
  unfold lc_bx lc_bs
  by_cases h2 : D (3 * a + d) = 0
  · by_cases h3 : B (3 * (N - j) + d) = 0
    · by_cases h4 : lc_bm W C B D N j d = 0
      · rw [h4, lc_xt_0, if_neg (c := B (3 * (N - j) + d) = 0 ∧ (0 : Nat) ≠ 0) (fun z => z.2 rfl), if_neg (fun z => z.2 rfl)]
      · rw [lc_xt_p h2 h3 h4, if_pos (c := B (3 * (N - j) + d) = 0 ∧ lc_bm W C B D N j d ≠ 0) ⟨h3, h4⟩, if_pos ⟨h2, by omega⟩]
        omega
    · rw [lc_xt_b h3, if_neg (c := B (3 * (N - j) + d) = 0 ∧ lc_bm W C B D N j d ≠ 0) (fun z => h3 z.1), if_neg (fun z => z.2 rfl)]
  · rw [lc_xt_d h2, if_neg (fun z => h2 z.1)]
theorem lc_bq_z {W C : Nat → Nat} {B D : Nat → Int32} {N j a : Nat} (h : lc_bm W C B D N j a = 0) : lc_bq W C B D N j a = 0 := by
  apply lc_S_z
  intro m hm
  have h1 : lc_be W C B D N j a m = 0 := by
    have := lc_M_ge (f := lc_be W C B D N j a) hm
    unfold lc_bm at h
    omega
  unfold lc_be at h1
  unfold lc_bp
  split
  · rename_i c
    rw [if_pos c] at h1
    omega
  · rfl
theorem lc_bq_s (W C : Nat → Nat) (B D : Nat → Int32) (N j a : Nat) : lc_bq W C B D N (j + 1) a = lc_S (lc_by W C B D N j a) 3 := by
  show lc_S (lc_bp W C B D N (j + 1) a) (3 ^ (j + 1)) = _
  rw [Nat.pow_succ, Nat.mul_comm, lc_S_blk]
  apply lc_S_congr
  intro d hd
  rw [lc_S_congr (fun r hr => lc_bp_s W C B D hr)]
  unfold lc_by lc_bs
  by_cases c : D (3 * a + d) = 0 ∧ B (3 * (N - j) + d) = 0
  · have h2 : ∀ r, r < 3 ^ j → (if D (3 * a + d) = 0 ∧ B (3 * (N - j) + d) = 0 then C (3 * a + d) * W (3 * (N - j) + d) * lc_bp W C B D N j d r else 0) = (C (3 * a + d) * W (3 * (N - j) + d)) * lc_bp W C B D N j d r := fun r _ => if_pos c
    rw [lc_S_congr h2, lc_S_mul]
    show C (3 * a + d) * W (3 * (N - j) + d) * lc_bq W C B D N j d = _
    by_cases h4 : lc_bm W C B D N j d = 0
    · rw [lc_bq_z h4, Nat.mul_zero, if_neg (c := B (3 * (N - j) + d) = 0 ∧ lc_bm W C B D N j d ≠ 0) (fun z => z.2 h4), if_neg (fun z => z.2 rfl)]
    · rw [if_pos (c := B (3 * (N - j) + d) = 0 ∧ lc_bm W C B D N j d ≠ 0) ⟨c.2, h4⟩, if_pos ⟨c.1, by omega⟩]
  · have h2 : ∀ r, r < 3 ^ j → (if D (3 * a + d) = 0 ∧ B (3 * (N - j) + d) = 0 then C (3 * a + d) * W (3 * (N - j) + d) * lc_bp W C B D N j d r else 0) = 0 := fun r _ => if_neg c
    rw [lc_S_z h2]
    by_cases h2 : D (3 * a + d) = 0
    · have h3 : ¬ B (3 * (N - j) + d) = 0 := fun z => c ⟨h2, z⟩
      rw [if_neg (c := B (3 * (N - j) + d) = 0 ∧ lc_bm W C B D N j d ≠ 0) (fun z => h3 z.1), if_neg (fun z => z.2 rfl)]
    · rw [if_neg (fun z => h2 z.1)]
theorem lc_bsm_bd {W C : Nat → Nat} (hW : ∀ j, W j ≤ 9) (hC : ∀ j, C j ≤ 9) (N : Nat) : ∀ j a m, lc_bsm W C N j a m ≤ 18 * j := by
  intro j
  induction j with
  | zero => intro a m; exact Nat.le_refl 0
  | succ j ih =>
    intro a m
    have h1 := ih (m / 3 ^ j) (m % 3 ^ j)
    have h2 := hC (3 * a + m / 3 ^ j)
    have h3 := hW (3 * (N - j) + m / 3 ^ j)
    show C (3 * a + m / 3 ^ j) + W (3 * (N - j) + m / 3 ^ j) + lc_bsm W C N j (m / 3 ^ j) (m % 3 ^ j) ≤ _
    omega
theorem lc_bm_bd {W C : Nat → Nat} (hW : ∀ j, W j ≤ 9) (hC : ∀ j, C j ≤ 9) (B D : Nat → Int32) (N j a : Nat) : lc_bm W C B D N j a ≤ 1 + 18 * j :=
  lc_M_le.mpr fun m _ => by
    have := lc_bsm_bd hW hC N j a m
    unfold lc_be
    split <;> omega
theorem lc_bs_bd {W C : Nat → Nat} (hW : ∀ j, W j ≤ 9) (hC : ∀ j, C j ≤ 9) (B D : Nat → Int32) (N j a : Nat) : lc_bs W C B D N j a ≤ 10 + 18 * j := by
  have h1 := lc_bm_bd hW hC B D N j a
  have h2 := hW (3 * (N - j) + a)
  unfold lc_bs
  split <;> omega
end
section
/-! the answers over all labellings of 0..N -/
def lc_A (W C : Nat → Nat) (B D : Nat → Int32) (N : Nat) : Nat := lc_M (lc_e W C B D N) (3 ^ (N + 1))
theorem lc_A_eq (W C : Nat → Nat) (B D : Nat → Int32) (N : Nat) : lc_A W C B D N = lc_M (lc_fm W C B D N) 3 := by
  unfold lc_A
  rw [Nat.pow_succ, lc_M_sw]
  rfl
theorem lc_all_K (W C : Nat → Nat) (B D : Nat → Int32) (N t : Nat) : lc_K (lc_e W C B D N) (3 ^ (N + 1)) t = lc_S (fun a => lc_fk W C B D N a t) 3 := by
  rw [Nat.pow_succ, lc_K_sw]
  rfl
theorem lc_all_T (W C : Nat → Nat) (B D : Nat → Int32) (N v : Nat) : lc_T (lc_e W C B D N) (3 ^ (N + 1)) v = lc_S (fun a => lc_ft W C B D N a v) 3 := by
  rw [Nat.pow_succ, lc_T_sw]
  rfl
theorem lc_all_S (W C : Nat → Nat) (B D : Nat → Int32) (N : Nat) : lc_S (lc_p W C B D N) (3 ^ (N + 1)) = lc_S (fun a => lc_fp W C B D N a) 3 := by
  rw [Nat.pow_succ, lc_S_sw]
  rfl
theorem lc_A_bd {W C : Nat → Nat} (hW : ∀ j, W j ≤ 9) (hC : ∀ j, C j ≤ 9) (B D : Nat → Int32) (N : Nat) : lc_A W C B D N ≤ 10 + 18 * N :=
  lc_M_le.mpr fun k _ => lc_e_bd hW hC B D N k
/-- X's count of the greatest sums -/
theorem lc_cnt_T {W C : Nat → Nat} {B D : Nat → Int32} {N : Nat} (h : 0 < lc_A W C B D N) : lc_S (fun a => if lc_fm W C B D N a = lc_A W C B D N then lc_fb W C B D N a else 0) 3 = lc_T (lc_e W C B D N) (3 ^ (N + 1)) (lc_A W C B D N) := by
  rw [lc_all_T]
  apply lc_S_congr
  intro a ha
  show (if lc_fm W C B D N a = lc_A W C B D N then lc_fb W C B D N a else 0) = lc_ft W C B D N a (lc_A W C B D N)
  have hle : lc_fm W C B D N a ≤ lc_A W C B D N := by rw [lc_A_eq]; exact lc_M_ge (f := lc_fm W C B D N) ha
  by_cases c : lc_fm W C B D N a = lc_A W C B D N
  · rw [if_pos c]
    unfold lc_fb
    rw [if_neg (by omega), c]
  · rw [if_neg c]
    exact (lc_T_above (by show lc_fm W C B D N a < _; omega)).symm
theorem lc_S_sel {a : Nat} (ha : a < 3) (g : Nat → Nat) : lc_S (fun b => if b = a then g b else 0) 3 = g a := by
  show 0 + (if 0 = a then g 0 else 0) + (if 1 = a then g 1 else 0) + (if 2 = a then g 2 else 0) = g a
  have h : a = 0 ∨ a = 1 ∨ a = 2 := by omega
  rcases h with h | h | h <;> subst h <;> simp
theorem lc_M_sel {a : Nat} (ha : a < 3) (g : Nat → Nat) : lc_M (fun b => if b = a then g b else 0) 3 = g a := by
  show max (max (max 0 (if 0 = a then g 0 else 0)) (if 1 = a then g 1 else 0)) (if 2 = a then g 2 else 0) = g a
  have h : a = 0 ∨ a = 1 ∨ a = 2 := by omega
  rcases h with h | h | h <;> subst h <;> simp
/-- the label of position i in labelling k -/
def lc_dg (N k i : Nat) : Nat := k / 3 ^ (N - i) % 3
theorem lc_dg_lt (N k i : Nat) : lc_dg N k i < 3 := Nat.mod_lt _ (by decide)
theorem lc_dg_sp {N i j k m : Nat} (e : i + j = N) (hm : m < 3 ^ j) : lc_dg N (k * 3 ^ j + m) i = k % 3 := by
  have h : N - i = j := by omega
  unfold lc_dg
  rw [h, lc_dd hm]
theorem lc_dg_sp2 {N i j k m : Nat} (e : i + 1 + j = N) (hm : m < 3 ^ j) : lc_dg N (k * 3 ^ j + m) i = k / 3 % 3 := by
  have h : N - i = j + 1 := by omega
  unfold lc_dg
  rw [h, Nat.pow_succ, ← Nat.div_div_eq_div_mul, lc_dd hm]
theorem lc_pw {N i j : Nat} (e : i + j = N) : 3 ^ (N + 1) = 3 ^ (i + 1) * 3 ^ j := by
  rw [← Nat.pow_add]
  exact congrArg (fun x => 3 ^ x) (by omega)
theorem lc_thr {W C : Nat → Nat} {B D : Nat → Int32} {N i j a : Nat} (e : i + j = N) (ha : a < 3) : lc_S (fun k => if lc_dg N k i = a then lc_p W C B D N k else 0) (3 ^ (N + 1)) = lc_fp W C B D i a * lc_bq W C B D N j a := by
  rw [lc_pw e, lc_S_blk]
  have h1 : ∀ k, k < 3 ^ (i + 1) → lc_S (fun r => if lc_dg N (k * 3 ^ j + r) i = a then lc_p W C B D N (k * 3 ^ j + r) else 0) (3 ^ j) = if k % 3 = a then lc_p W C B D i k * lc_bq W C B D N j a else 0 := by
    intro k _
    have h2 : ∀ r, r < 3 ^ j → (if lc_dg N (k * 3 ^ j + r) i = a then lc_p W C B D N (k * 3 ^ j + r) else 0) = if k % 3 = a then lc_p W C B D i k * lc_bp W C B D N j (k % 3) r else 0 := by
      intro r hr
      rw [lc_dg_sp e hr, lc_split_p W C B D e hr]
    rw [lc_S_congr h2]
    by_cases c : k % 3 = a
    · rw [if_pos c]
      have h3 : ∀ r, r < 3 ^ j → (if k % 3 = a then lc_p W C B D i k * lc_bp W C B D N j (k % 3) r else 0) = lc_p W C B D i k * lc_bp W C B D N j a r := by
        intro r _
        rw [if_pos c, c]
      rw [lc_S_congr h3, lc_S_mul]
      rfl
    · rw [if_neg c]
      exact lc_S_z fun r _ => if_neg c
  rw [lc_S_congr h1, Nat.pow_succ, lc_S_sw]
  have h4 : ∀ b, b < 3 → lc_S (fun q => if (3 * q + b) % 3 = a then lc_p W C B D i (3 * q + b) * lc_bq W C B D N j a else 0) (3 ^ i) = if b = a then lc_fp W C B D i b * lc_bq W C B D N j a else 0 := by
    intro b hb
    by_cases c : b = a
    · rw [if_pos c]
      have h5 : ∀ q, q < 3 ^ i → (if (3 * q + b) % 3 = a then lc_p W C B D i (3 * q + b) * lc_bq W C B D N j a else 0) = lc_p W C B D i (3 * q + b) * lc_bq W C B D N j a := by
        intro q _
        rw [lc_m3 q b hb, if_pos c]
      rw [lc_S_congr h5, lc_S_mulr]
      rfl
    · rw [if_neg c]
      exact lc_S_z fun q _ => by rw [lc_m3 q b hb, if_neg c]
  rw [lc_S_congr h4, lc_S_sel ha (fun b => lc_fp W C B D i b * lc_bq W C B D N j a)]
theorem lc_mx {W C : Nat → Nat} {B D : Nat → Int32} {N i j a : Nat} (e : i + j = N) (ha : a < 3) : lc_M (fun k => if lc_dg N k i = a then lc_e W C B D N k else 0) (3 ^ (N + 1)) = lc_cb (lc_fm W C B D i a) (lc_bm W C B D N j a) := by
  rw [lc_pw e, lc_M_blk]
  have h1 : ∀ k, k < 3 ^ (i + 1) → lc_M (fun r => if lc_dg N (k * 3 ^ j + r) i = a then lc_e W C B D N (k * 3 ^ j + r) else 0) (3 ^ j) = if k % 3 = a then lc_cb (lc_e W C B D i k) (lc_bm W C B D N j a) else 0 := by
    intro k _
    have h2 : ∀ r, r < 3 ^ j → (if lc_dg N (k * 3 ^ j + r) i = a then lc_e W C B D N (k * 3 ^ j + r) else 0) = if k % 3 = a then lc_cb (lc_e W C B D i k) (lc_be W C B D N j (k % 3) r) else 0 := by
      intro r hr
      rw [lc_dg_sp e hr, lc_split_e W C B D e hr]
    rw [lc_M_congr h2]
    by_cases c : k % 3 = a
    · rw [if_pos c]
      have h3 : ∀ r, r < 3 ^ j → (if k % 3 = a then lc_cb (lc_e W C B D i k) (lc_be W C B D N j (k % 3) r) else 0) = lc_cb (lc_e W C B D i k) (lc_be W C B D N j a r) := by
        intro r _
        rw [if_pos c, c]
      rw [lc_M_congr h3, lc_M_map (x := lc_cb (lc_e W C B D i k)) (lc_cb_0' _) (lc_cb_m' _)]
      rfl
    · rw [if_neg c]
      apply Nat.eq_zero_of_le_zero
      exact lc_M_le.mpr fun r _ => Nat.le_of_eq (if_neg c)
  rw [lc_M_congr h1, Nat.pow_succ, lc_M_sw]
  have h4 : ∀ b, b < 3 → lc_M (fun q => if (3 * q + b) % 3 = a then lc_cb (lc_e W C B D i (3 * q + b)) (lc_bm W C B D N j a) else 0) (3 ^ i) = if b = a then lc_cb (lc_fm W C B D i b) (lc_bm W C B D N j a) else 0 := by
    intro b hb
    by_cases c : b = a
    · rw [if_pos c]
      have h5 : ∀ q, q < 3 ^ i → (if (3 * q + b) % 3 = a then lc_cb (lc_e W C B D i (3 * q + b)) (lc_bm W C B D N j a) else 0) = lc_cb (lc_f W C B D i b q) (lc_bm W C B D N j a) := by
        intro q _
        rw [lc_m3 q b hb, if_pos c]
        rfl
      rw [lc_M_congr h5, lc_M_map (x := fun y => lc_cb y (lc_bm W C B D N j a)) (lc_cb_0 _) (lc_cb_m _)]
      rfl
    · rw [if_neg c]
      apply Nat.eq_zero_of_le_zero
      exact lc_M_le.mpr fun q _ => by rw [lc_m3 q b hb, if_neg c]; exact Nat.le_refl 0
  rw [lc_M_congr h4, lc_M_sel ha (fun b => lc_cb (lc_fm W C B D i b) (lc_bm W C B D N j a))]
theorem lc_thc {W C : Nat → Nat} {B D : Nat → Int32} {N i j : Nat} (e : i + 1 + j = N) (a b : Nat) (ha : a < 3) (hb : b < 3) : lc_S (fun k => if 3 * lc_dg N k i + lc_dg N k (i + 1) = 3 * a + b then lc_p W C B D N k else 0) (3 ^ (N + 1)) = if D (3 * a + b) = 0 ∧ B (3 * (i + 1) + b) = 0 then lc_fp W C B D i a * C (3 * a + b) * W (3 * (i + 1) + b) * lc_bq W C B D N j b else 0 := by
  rw [lc_pw e, lc_S_blk]
  have h1 : ∀ k, k < 3 ^ (i + 1 + 1) → lc_S (fun r => if 3 * lc_dg N (k * 3 ^ j + r) i + lc_dg N (k * 3 ^ j + r) (i + 1) = 3 * a + b then lc_p W C B D N (k * 3 ^ j + r) else 0) (3 ^ j) = if k % 3 = b ∧ k / 3 % 3 = a then lc_p W C B D (i + 1) k * lc_bq W C B D N j b else 0 := by
    intro k _
    have hc : (3 * (k / 3 % 3) + k % 3 = 3 * a + b) ↔ (k % 3 = b ∧ k / 3 % 3 = a) := by omega
    have h2 : ∀ r, r < 3 ^ j → (if 3 * lc_dg N (k * 3 ^ j + r) i + lc_dg N (k * 3 ^ j + r) (i + 1) = 3 * a + b then lc_p W C B D N (k * 3 ^ j + r) else 0) = if k % 3 = b ∧ k / 3 % 3 = a then lc_p W C B D (i + 1) k * lc_bp W C B D N j (k % 3) r else 0 := by
      intro r hr
      rw [lc_dg_sp e hr, lc_dg_sp2 e hr, lc_split_p W C B D e hr]
      by_cases c : k % 3 = b ∧ k / 3 % 3 = a
      · rw [if_pos c, if_pos (hc.mpr c)]
      · rw [if_neg c, if_neg (fun z => c (hc.mp z))]
    rw [lc_S_congr h2]
    by_cases c : k % 3 = b ∧ k / 3 % 3 = a
    · rw [if_pos c]
      have h3 : ∀ r, r < 3 ^ j → (if k % 3 = b ∧ k / 3 % 3 = a then lc_p W C B D (i + 1) k * lc_bp W C B D N j (k % 3) r else 0) = lc_p W C B D (i + 1) k * lc_bp W C B D N j b r := by
        intro r _
        rw [if_pos c, c.1]
      rw [lc_S_congr h3, lc_S_mul]
      rfl
    · rw [if_neg c]
      exact lc_S_z fun r _ => if_neg c
  rw [lc_S_congr h1, Nat.pow_succ, lc_S_sw]
  have h4 : ∀ d, d < 3 → lc_S (fun q => if (3 * q + d) % 3 = b ∧ (3 * q + d) / 3 % 3 = a then lc_p W C B D (i + 1) (3 * q + d) * lc_bq W C B D N j b else 0) (3 ^ (i + 1)) = if d = b then lc_S (fun q => if q % 3 = a then lc_p W C B D (i + 1) (3 * q + d) * lc_bq W C B D N j b else 0) (3 ^ (i + 1)) else 0 := by
    intro d hd
    by_cases c : d = b
    · rw [if_pos c]
      apply lc_S_congr
      intro q _
      rw [lc_m3 q d hd, lc_d3 q d hd]
      by_cases c2 : q % 3 = a
      · rw [if_pos ⟨c, c2⟩, if_pos c2]
      · rw [if_neg (fun z => c2 z.2), if_neg c2]
    · rw [if_neg c]
      exact lc_S_z fun q _ => by rw [lc_m3 q d hd, if_neg (fun z => c z.1)]
  rw [lc_S_congr h4, lc_S_sel hb (fun d => lc_S (fun q => if q % 3 = a then lc_p W C B D (i + 1) (3 * q + d) * lc_bq W C B D N j b else 0) (3 ^ (i + 1)))]
  rw [Nat.pow_succ, lc_S_sw]
  have h6 : ∀ d, d < 3 → lc_S (fun q => if (3 * q + d) % 3 = a then lc_p W C B D (i + 1) (3 * (3 * q + d) + b) * lc_bq W C B D N j b else 0) (3 ^ i) = if d = a then lc_S (fun q => lc_p W C B D (i + 1) (3 * (3 * q + d) + b) * lc_bq W C B D N j b) (3 ^ i) else 0 := by
    intro d hd
    by_cases c : d = a
    · rw [if_pos c]
      apply lc_S_congr
      intro q _
      rw [lc_m3 q d hd, if_pos c]
    · rw [if_neg c]
      exact lc_S_z fun q _ => by rw [lc_m3 q d hd, if_neg c]
  rw [lc_S_congr h6, lc_S_sel ha (fun d => lc_S (fun q => lc_p W C B D (i + 1) (3 * (3 * q + d) + b) * lc_bq W C B D N j b) (3 ^ i))]
  have h7 : ∀ q, q < 3 ^ i → lc_p W C B D (i + 1) (3 * (3 * q + a) + b) * lc_bq W C B D N j b = if D (3 * a + b) = 0 ∧ B (3 * (i + 1) + b) = 0 then lc_p W C B D i (3 * q + a) * (C (3 * a + b) * W (3 * (i + 1) + b) * lc_bq W C B D N j b) else 0 := by
    intro q _
    rw [lc_p_s hb, lc_m3 q a ha]
    by_cases c : D (3 * a + b) = 0 ∧ B (3 * (i + 1) + b) = 0
    · rw [if_pos c, if_pos c]
      simp only [Nat.mul_assoc]
    · rw [if_neg c, if_neg c, Nat.zero_mul]
  rw [lc_S_congr h7]
  by_cases c : D (3 * a + b) = 0 ∧ B (3 * (i + 1) + b) = 0
  · rw [if_pos c]
    have h8 : ∀ q, q < 3 ^ i → (if D (3 * a + b) = 0 ∧ B (3 * (i + 1) + b) = 0 then lc_p W C B D i (3 * q + a) * (C (3 * a + b) * W (3 * (i + 1) + b) * lc_bq W C B D N j b) else 0) = lc_p W C B D i (3 * q + a) * (C (3 * a + b) * W (3 * (i + 1) + b) * lc_bq W C B D N j b) := fun q _ => if_pos c
    rw [lc_S_congr h8, lc_S_mulr]
    show lc_fp W C B D i a * (C (3 * a + b) * W (3 * (i + 1) + b) * lc_bq W C B D N j b) = _
    simp only [Nat.mul_assoc]
  · rw [if_neg c]
    exact lc_S_z fun q _ => if_neg c
/-! the first best labelling -/
theorem lc_first {f : Nat → Nat} : ∀ {m : Nat}, 0 < lc_M f m → ∃ k, k < m ∧ f k = lc_M f m ∧ ∀ k', k' < k → f k' ≠ lc_M f m := by
  intro m
  induction m with
  | zero => intro h; exact absurd h (Nat.lt_irrefl 0)
  | succ m ih =>
    intro h
    by_cases h1 : lc_M f m < f m
    · have h2 : lc_M f (m + 1) = f m := Nat.max_eq_right (by omega)
      refine ⟨m, by omega, h2.symm, fun k' hk' => ?_⟩
      have := lc_M_ge (f := f) hk'
      omega
    · have h2 : lc_M f (m + 1) = lc_M f m := Nat.max_eq_left (by omega)
      obtain ⟨k, hk, e, hf⟩ := ih (by omega)
      exact ⟨k, by omega, by rw [h2]; exact e, by rw [h2]; exact hf⟩
def lc_Fst (W C : Nat → Nat) (B D : Nat → Int32) (N k : Nat) : Prop := k < 3 ^ (N + 1) ∧ lc_e W C B D N k = lc_A W C B D N ∧ ∀ k', k' < k → lc_e W C B D N k' ≠ lc_A W C B D N
theorem lc_Fst_u {W C : Nat → Nat} {B D : Nat → Int32} {N k k' : Nat} (h : lc_Fst W C B D N k) (h' : lc_Fst W C B D N k') : k = k' := by
  have h1 := h.2.2 k'
  have h2 := h'.2.2 k
  by_cases c : k < k'
  · exact absurd h.2.1 (h2 c)
  · by_cases c2 : k' < k
    · exact absurd h'.2.1 (h1 c2)
    · omega
theorem lc_go_M {W C : Nat → Nat} {B D : Nat → Int32} {N i j : Nat} (e : i + j = N) (q : Nat) : lc_cb (lc_e W C B D i q) (lc_bm W C B D N j (q % 3)) = lc_M (fun r => lc_e W C B D N (q * 3 ^ j + r)) (3 ^ j) := by
  rw [lc_M_congr (fun r hr => lc_split_e W C B D e hr), lc_M_map (x := lc_cb (lc_e W C B D i q)) (lc_cb_0' _) (lc_cb_m' _)]
  rfl
theorem lc_go_lt {N i j k q : Nat} (e : i + j = N) (hk : k < 3 ^ (N + 1)) (hq : q ≤ k / 3 ^ j) {r : Nat} (hr : r < 3 ^ j) : q * 3 ^ j + r < 3 ^ (N + 1) := by
  have h1 : k / 3 ^ j < 3 ^ (i + 1) := (Nat.div_lt_iff_lt_mul (lc_p3 j)).mpr (by rw [← lc_pw e]; exact hk)
  have h2 : (q + 1) * 3 ^ j ≤ 3 ^ (i + 1) * 3 ^ j := Nat.mul_le_mul_right _ (by omega)
  rw [← lc_pw e, Nat.succ_mul] at h2
  omega
theorem lc_go1 {W C : Nat → Nat} {B D : Nat → Int32} {N i j k : Nat} (e : i + j = N) (h : lc_Fst W C B D N k) : lc_cb (lc_e W C B D i (k / 3 ^ j)) (lc_bm W C B D N j (k / 3 ^ j % 3)) = lc_A W C B D N := by
  rw [lc_go_M e]
  apply Nat.le_antisymm
  · exact lc_M_le.mpr fun r hr => lc_M_ge (f := lc_e W C B D N) (lc_go_lt e h.1 (Nat.le_refl _) hr)
  · have h1 := lc_M_ge (f := fun r => lc_e W C B D N (k / 3 ^ j * 3 ^ j + r)) (Nat.mod_lt k (lc_p3 j))
    have h2 : k / 3 ^ j * 3 ^ j + k % 3 ^ j = k := Nat.div_add_mod' _ _
    rw [← h.2.1]
    have h3 : lc_e W C B D N (k / 3 ^ j * 3 ^ j + k % 3 ^ j) ≤ lc_M (fun r => lc_e W C B D N (k / 3 ^ j * 3 ^ j + r)) (3 ^ j) := h1
    rw [h2] at h3
    exact h3
theorem lc_go2 {W C : Nat → Nat} {B D : Nat → Int32} {N i j k q : Nat} (e : i + j = N) (h0 : 0 < lc_A W C B D N) (h : lc_Fst W C B D N k) (hq : q < k / 3 ^ j) : lc_cb (lc_e W C B D i q) (lc_bm W C B D N j (q % 3)) ≠ lc_A W C B D N := by
  rw [lc_go_M e]
  intro z
  obtain ⟨r, hr, er⟩ := lc_M_at (f := fun r => lc_e W C B D N (q * 3 ^ j + r)) (m := 3 ^ j) (by omega)
  have h1 : (q + 1) * 3 ^ j ≤ k / 3 ^ j * 3 ^ j := Nat.mul_le_mul_right _ hq
  have h2 : k / 3 ^ j * 3 ^ j ≤ k := Nat.div_mul_le_self _ _
  rw [Nat.succ_mul] at h1
  exact h.2.2 (q * 3 ^ j + r) (by omega) (er.trans z)
end
section
/-! the eight greatest: g j is the j-th of what K counts -/
def lc_Top (g K : Nat → Nat) : Prop := ∀ j, j < 8 → ∀ t, 1 ≤ t → (t ≤ g j ↔ j < K t)
def lc_ins (x : Nat) (g : Nat → Nat) (j : Nat) : Nat := if x ≤ g j then g j else if j = 0 ∨ x ≤ g (j - 1) then x else g (j - 1)
theorem lc_Top_mono {g K : Nat → Nat} (h : lc_Top g K) {i j : Nat} (hij : i ≤ j) (hj : j < 8) : g j ≤ g i := by
  by_cases z : g j = 0
  · omega
  · have h1 := (h j hj (g j) (by omega)).mp (Nat.le_refl _)
    exact (h i (by omega) (g j) (by omega)).mpr (by omega)
theorem lc_ins_1 {x : Nat} {g : Nat → Nat} {j : Nat} (h : x ≤ g j) : lc_ins x g j = g j := if_pos h
theorem lc_ins_2 {x : Nat} {g : Nat → Nat} {j : Nat} (h : ¬ x ≤ g j) (h2 : j = 0 ∨ x ≤ g (j - 1)) : lc_ins x g j = x := by
  unfold lc_ins
  rw [if_neg h, if_pos h2]
theorem lc_ins_3 {x : Nat} {g : Nat → Nat} {j : Nat} (h : ¬ x ≤ g j) (h2 : j ≠ 0) (h3 : ¬ x ≤ g (j - 1)) : lc_ins x g j = g (j - 1) := by
  unfold lc_ins
  rw [if_neg h, if_neg (by omega)]
theorem lc_Top_ins {g K : Nat → Nat} (h : lc_Top g K) (x : Nat) : lc_Top (lc_ins x g) (fun t => K t + if t ≤ x then 1 else 0) := by
  intro j hj t ht
  have h1 := h j hj t ht
  show t ≤ lc_ins x g j ↔ j < K t + (if t ≤ x then 1 else 0)
  by_cases c1 : x ≤ g j
  · rw [lc_ins_1 c1]
    by_cases c2 : t ≤ x
    · rw [if_pos c2]; omega
    · rw [if_neg c2]; omega
  · by_cases c3 : j = 0
    · rw [lc_ins_2 c1 (Or.inl c3)]
      by_cases c2 : t ≤ x
      · rw [if_pos c2]; omega
      · rw [if_neg c2]; omega
    · have h2 := h (j - 1) (by omega) t ht
      by_cases c4 : x ≤ g (j - 1)
      · rw [lc_ins_2 c1 (Or.inr c4)]
        by_cases c2 : t ≤ x
        · rw [if_pos c2]; omega
        · rw [if_neg c2]; omega
      · rw [lc_ins_3 c1 c3 c4]
        by_cases c2 : t ≤ x
        · rw [if_pos c2]; omega
        · rw [if_neg c2]; omega
theorem lc_S_lt (c : Nat) : ∀ m, lc_S (fun j => if j < c then 1 else 0) m = min m c := by
  intro m
  induction m with
  | zero => exact (Nat.zero_min c).symm
  | succ m ih =>
    show lc_S (fun j => if j < c then 1 else 0) m + (if m < c then 1 else 0) = _
    rw [ih]
    split <;> omega
theorem lc_Top_cnt {g K : Nat → Nat} (h : lc_Top g K) {t : Nat} (ht : 1 ≤ t) : lc_K g 8 t = min 8 (K t) := by
  rw [← lc_S_lt]
  apply lc_S_congr
  intro j hj
  show (if t ≤ g j then 1 else 0) = if j < K t then 1 else 0
  have h1 := h j hj t ht
  by_cases c : t ≤ g j
  · rw [if_pos c, if_pos (h1.mp c)]
  · rw [if_neg c, if_neg (fun z => c (h1.mpr z))]
theorem lc_Top_to {g K K' : Nat → Nat} (h : lc_Top g K) (e : ∀ j, j < 8 → ∀ t, 1 ≤ t → (j < K t ↔ j < K' t)) : lc_Top g K' :=
  fun j hj t ht => (h j hj t ht).trans (e j hj t ht)
theorem lc_min3 {A0 A1 A2 F0 F1 F2 j : Nat} (h0 : A0 = min 8 F0) (h1 : A1 = min 8 F1) (h2 : A2 = min 8 F2) (hj : j < 8) : j < 0 + A0 + A1 + A2 ↔ j < 0 + F0 + F1 + F2 := by omega
/-- one step of the ranks -/
theorem lc_Top_step {W C : Nat → Nat} {B D : Nat → Int32} {i a : Nat} (ha : a < 3) {g : Nat → Nat → Nat} (hg : ∀ b, b < 3 → lc_Top (g b) (lc_fk W C B D i b)) {h : Nat → Nat} (hh : lc_Top h (fun t => lc_S (fun b => lc_K (fun k => lc_x W C B D i a b (g b k)) 8 t) 3)) : lc_Top h (lc_fk W C B D (i + 1) a) := by
  apply lc_Top_to hh
  intro j hj t ht
  rw [lc_fk_s ha]
  have e : ∀ b, b < 3 → lc_K (fun k => lc_x W C B D i a b (g b k)) 8 t = min 8 (lc_K (fun q => lc_x W C B D i a b (lc_f W C B D i b q)) (3 ^ i) t) := by
    intro b hb
    have e1 : lc_K (fun k => lc_x W C B D i a b (g b k)) 8 t = _ := lc_Kx (g b) 8 ht
    have e2 : lc_K (fun q => lc_x W C B D i a b (lc_f W C B D i b q)) (3 ^ i) t = _ := lc_Kx (lc_f W C B D i b) (3 ^ i) ht
    rw [e1, e2]
    by_cases c : D (3 * b + a) = 0 ∧ B (3 * (i + 1) + a) = 0
    · rw [if_pos c, if_pos c]
      exact lc_Top_cnt (hg b hb) (by omega)
    · rw [if_neg c, if_neg c]
      rfl
  exact lc_min3 (e 0 (by omega)) (e 1 (by omega)) (e 2 (by omega)) hj
theorem lc_Top_all {W C : Nat → Nat} {B D : Nat → Int32} {N : Nat} {g : Nat → Nat} (hg : ∀ b, b < 3 → lc_Top (fun j => g (b * 8 + j)) (lc_fk W C B D N b)) {h : Nat → Nat} (hh : lc_Top h (fun t => lc_K g 24 t)) : lc_Top h (lc_K (lc_e W C B D N) (3 ^ (N + 1))) := by
  apply lc_Top_to hh
  intro j hj t ht
  rw [lc_all_K]
  have e0 : lc_K g 24 t = lc_S (fun b => lc_K (fun k => g (b * 8 + k)) 8 t) 3 := lc_S_blk _ 3 8
  rw [e0]
  exact lc_min3 (lc_Top_cnt (hg 0 (by omega)) ht) (lc_Top_cnt (hg 1 (by omega)) ht) (lc_Top_cnt (hg 2 (by omega)) ht) hj
theorem lc_Top_0 {W C : Nat → Nat} {B D : Nat → Int32} {a : Nat} {g : Nat → Nat} (h0 : g 0 = lc_fm W C B D 0 a) (hs : ∀ j, 0 < j → j < 8 → g j = 0) : lc_Top g (lc_fk W C B D 0 a) := by
  intro j hj t ht
  rw [lc_fk_0]
  by_cases c : j = 0
  · subst c
    rw [h0]
    split <;> omega
  · rw [hs j (by omega) hj]
    split <;> omega
theorem lc_Top_z : lc_Top (fun _ => 0) (fun _ => 0) := fun j hj t ht => by
  show t ≤ 0 ↔ j < 0
  omega
end
section
/-! scores and weights as ints, indices -/
def lc_v (w : Nat → Nat) : Nat → Int32 := fun j => nI (w j)
def lc_sn (c : Int32) (e : Nat) : Int32 := if e = 0 then c else nI (e - 1)
def lc_sc (e : Nat) : Int32 := lc_sn (-1000) e
theorem lc_sn_0 (c : Int32) : lc_sn c 0 = c := if_pos rfl
theorem lc_sn_s (c : Int32) (e : Nat) : lc_sn c (e + 1) = nI e := if_neg (Nat.succ_ne_zero e)
theorem lc_sn_p {c : Int32} {e : Nat} (h : e ≠ 0) : lc_sn c e = nI (e - 1) := if_neg h
theorem lc_sn_toInt (c : Int32) {e : Nat} (h : e < 1000) : (lc_sn c e).toInt = if e = 0 then c.toInt else (e : Int) - 1 := by
  by_cases z : e = 0
  · rw [if_pos z, z, lc_sn_0]
  · rw [if_neg z, lc_sn_p z, nI_toInt (by omega)]
    omega
theorem lc_sn_le {c : Int32} (hc : c.toInt < 0) {a b : Nat} (ha : a < 1000) (hb : b < 1000) : lc_sn c a ≤ lc_sn c b ↔ a ≤ b := by
  rw [Int32.le_iff_toInt_le, lc_sn_toInt c ha, lc_sn_toInt c hb]
  by_cases za : a = 0
  · by_cases zb : b = 0
    · rw [if_pos za, if_pos zb]; omega
    · rw [if_pos za, if_neg zb]; omega
  · by_cases zb : b = 0
    · rw [if_neg za, if_pos zb]; omega
    · rw [if_neg za, if_neg zb]; omega
theorem lc_sn_neg {c : Int32} (hc : c.toInt < 0) {e : Nat} (h : e < 1000) : lc_sn c e < 0 ↔ e = 0 := by
  rw [Int32.lt_iff_toInt_lt, lc_sn_toInt c h, show (0 : Int32).toInt = 0 from rfl]
  by_cases z : e = 0
  · rw [if_pos z]; omega
  · rw [if_neg z]; omega
theorem lc_m1000 : (-1000 : Int32).toInt < 0 := by decide
theorem lc_m1 : (-1 : Int32).toInt < 0 := by decide
theorem lc_m2 : (-2 : Int32).toInt < 0 := by decide
theorem lc_sc_0 : lc_sc 0 = -1000 := lc_sn_0 _
theorem lc_sc_s (e : Nat) : lc_sc (e + 1) = nI e := lc_sn_s _ e
theorem lc_sc_p {e : Nat} (h : e ≠ 0) : lc_sc e = nI (e - 1) := lc_sn_p h
theorem lc_sc_le {a b : Nat} (ha : a < 1000) (hb : b < 1000) : lc_sc a ≤ lc_sc b ↔ a ≤ b := lc_sn_le lc_m1000 ha hb
theorem lc_sc_lt {a b : Nat} (ha : a < 1000) (hb : b < 1000) : lc_sc a < lc_sc b ↔ a < b := by
  have h := lc_sc_le hb ha
  rw [← Int32.not_le, h]
  omega
theorem lc_sc_eq {a b : Nat} (ha : a < 1000) (hb : b < 1000) : lc_sc a = lc_sc b ↔ a = b := by
  constructor
  · intro e
    have h1 := (lc_sc_le ha hb).mp (by rw [e]; exact Int32.le_refl _)
    have h2 := (lc_sc_le hb ha).mp (by rw [e]; exact Int32.le_refl _)
    omega
  · intro e; rw [e]
theorem lc_sc_neg {e : Nat} (h : e < 1000) : lc_sc e < 0 ↔ e = 0 := lc_sn_neg lc_m1000 h
theorem lc_sc_nn {e : Nat} (h : e < 1000) : 0 ≤ lc_sc e ↔ e ≠ 0 := by
  have h1 := lc_sc_neg h
  rw [← Int32.not_lt, h1]
theorem lc_sc_add {e : Nat} (h : e ≠ 0) (w : Nat) : lc_sc e + nI w = lc_sc (e + w) := by
  rw [lc_sc_p h, lc_sc_p (by omega), nI_add]
  exact congrArg nI (by omega)
theorem lc_add_sc {e : Nat} (h : e ≠ 0) (w : Nat) : nI w + lc_sc e = lc_sc (w + e) := by
  rw [lc_sc_p h, lc_sc_p (by omega), nI_add]
  exact congrArg nI (by omega)
theorem lc_i3 (i a : Nat) : (3 : Int32) * nI i + nI a = nI (3 * i + a) := by
  have h : (3 : Int32) = nI 3 := rfl
  rw [h, pk_mul, nI_add]
theorem lc_i3' (i : Nat) : (3 : Int32) * nI i = nI (3 * i) := by
  have h : (3 : Int32) = nI 3 := rfl
  rw [h, pk_mul]
theorem lc_i3p (i b : Nat) : (3 : Int32) * nI i + 3 + nI b = nI (3 * (i + 1) + b) := by
  have h : (3 : Int32) = nI 3 := rfl
  rw [h, pk_mul, nI_add, nI_add]
  exact congrArg nI (by omega)
theorem lc_i3m (i b : Nat) : (3 : Int32) * nI (i + 1) - 3 + nI b = nI (3 * i + b) := by
  have h : (3 : Int32) = nI 3 := rfl
  rw [h, pk_mul, pk_sub (by omega), nI_add]
  exact congrArg nI (by omega)
theorem lc_i3n (i : Nat) : (3 : Int32) * nI (i + 1) - 3 = nI (3 * i) := by
  have h : (3 : Int32) = nI 3 := rfl
  rw [h, pk_mul, pk_sub (by omega)]
  exact congrArg nI (by omega)
theorem lc_i8 (i a : Nat) : (8 : Int32) * nI i + nI a = nI (8 * i + a) := by
  have h : (8 : Int32) = nI 8 := rfl
  rw [h, pk_mul, nI_add]
theorem lc_i8' (i : Nat) : (8 : Int32) * nI i = nI (8 * i) := by
  have h : (8 : Int32) = nI 8 := rfl
  rw [h, pk_mul]
theorem lc_w9 {w : Nat → Nat} (h : ∀ j, w j ≤ 9) (j : Nat) : w j < 2 ^ 31 := by have := h j; omega
theorem lc_1L : (1 : Int32).toInt64 = lN 1 := by decide
theorem lc_uu (f : Nat → Int32) (c : Nat) (x y : Int32) : upd (upd f c x) c y = upd f c y := by
  funext j
  unfold upd
  split <;> rfl
theorem lc_uuL (f : Nat → Int64) (c : Nat) (x y : Int64) : vp_updL (vp_updL f c x) c y = vp_updL f c y := by
  funext j
  unfold vp_updL
  split <;> rfl
theorem lc_e_t {W C : Nat → Nat} {B D : Nat → Int32} {i k : Nat} (h : lc_ok B D i k = true) : lc_e W C B D i k = lc_sm W C i k + 1 := if_pos h
theorem lc_e_f {W C : Nat → Nat} {B D : Nat → Int32} {i k : Nat} (h : lc_ok B D i k = false) : lc_e W C B D i k = 0 := if_neg (by rw [h]; exact Bool.false_ne_true)
theorem lc_p_t {W C : Nat → Nat} {B D : Nat → Int32} {i k : Nat} (h : lc_ok B D i k = true) : lc_p W C B D i k = lc_pr W C i k := if_pos h
theorem lc_p_f {W C : Nat → Nat} {B D : Nat → Int32} {i k : Nat} (h : lc_ok B D i k = false) : lc_p W C B D i k = 0 := if_neg (by rw [h]; exact Bool.false_ne_true)
end
section
/-! Y: labellings, write, sum, product -/
theorem lc_pw3 (i : Nat) : nI (3 ^ i) * 3 = nI (3 ^ (i + 1)) := by
  rw [Nat.pow_succ]
  exact pk_mul (3 ^ i) 3
theorem lc_y_lab {post : Int32 → Prop} {N : Nat} (hN : N ≤ 5) {S C B D now T : Nat → Int32} (h : post (nI (3 ^ (N + 1)))) : wpY_labellings post (nI (N + 1), S, C, B, D, now, T) := by
  have L : ∀ d i, i + d = N + 1 → wY_labellings_4 post (nI (N + 1)) S C B D now T (d + 1) (nI (3 ^ i)) (nI i) := by
    intro d
    induction d with
    | zero =>
      intro i hi
      have e : i = N + 1 := hi
      subst e
      exact pk_le (N + 1) (N + 1) (fun _ => h) (fun z => absurd z (by omega))
    | succ d ih =>
      intro i hi
      exact pk_le (N + 1) i (fun z => absurd z (by omega)) (fun _ => nm_r (lc_pw3 i) (nm_r (nI_1 i) (ih (i + 1) (by omega))))
  exact ⟨N + 1 + 1, L (N + 1) 0 (Nat.zero_add _)⟩
theorem lc_k3 {N k i : Nat} (h : i < N) : k / 3 ^ (N - (i + 1)) / 3 = k / 3 ^ (N - i) := by
  rw [Nat.div_div_eq_div_mul, ← Nat.pow_succ]
  have e : (N - (i + 1)).succ = N - i := by omega
  rw [e]
/-- what the checks below position c are to give -/
def lc_wr (B D : Nat → Int32) (N k : Nat) : Nat → Prop
  | 0 => True
  | i + 1 => lc_ok B D i (k / 3 ^ (N - i)) = true ∧ (i < N → D (3 * lc_dg N k i + lc_dg N k (i + 1)) = 0)
theorem lc_wr_s {B D : Nat → Int32} {N k i : Nat} (hi : i ≤ N) : lc_ok B D i (k / 3 ^ (N - i)) = true ↔ lc_wr B D N k i ∧ B (3 * i + lc_dg N k i) = 0 := by
  cases i with
  | zero =>
    show decide (B (k / 3 ^ (N - 0) % 3) = 0) = true ↔ True ∧ B (3 * 0 + lc_dg N k 0) = 0
    rw [Nat.mul_zero, Nat.zero_add, decide_eq_true_iff, true_and]
    exact Iff.rfl
  | succ i =>
    show (lc_ok B D i (k / 3 ^ (N - (i + 1)) / 3) && decide (D (3 * (k / 3 ^ (N - (i + 1)) / 3 % 3) + k / 3 ^ (N - (i + 1)) % 3) = 0) && decide (B (3 * (i + 1) + k / 3 ^ (N - (i + 1)) % 3) = 0)) = true ↔ (lc_ok B D i (k / 3 ^ (N - i)) = true ∧ (i < N → D (3 * lc_dg N k i + lc_dg N k (i + 1)) = 0)) ∧ B (3 * (i + 1) + lc_dg N k (i + 1)) = 0
    rw [lc_k3 (by omega), Bool.and_eq_true, Bool.and_eq_true, decide_eq_true_iff, decide_eq_true_iff]
    exact ⟨fun z => ⟨⟨z.1.1, fun _ => z.1.2⟩, z.2⟩, fun z => ⟨⟨z.1.1, z.1.2 (by omega)⟩, z.2⟩⟩
theorem lc_y_w53 {post : Int32 → SY → Prop} {J : Int32 → Int32 → Int32 → (Nat → Int32) → (Nat → Int32) → (Nat → Int32) → (Nat → Int32) → (Nat → Int32) → (Nat → Int32) → Prop} {N i d d' : Nat} (hN : N ≤ 5) (hi : i ≤ N) (hd : d < 3) (hd' : d' < 3) {S C B D now T : Nat → Int32} (h1 : now i = nI d) (h2 : i < N → now (i + 1) = nI d') {x2 x3 : Int32}
    (hJ : J x2 (if i < N ∧ ¬ D (3 * d + d') = 0 then 0 else x3) (nI i + (-1)) S C B D now T) : wY_write_53 post J x2 x3 (nI i) (nI (N + 1)) S C B D now T := by
  unfold wY_write_53
  by_cases c : i < N
  · have h3 := h2 c
    simp only [nI_pred, nI_1, nI_clamp (show i < 2 ^ 31 by omega), nI_clamp (show i + 1 < 2 ^ 31 by omega), h1, h3, lc_i3, nI_clamp (show 3 * d + d' < 2 ^ 31 by omega)]
    refine br_f (nI_ge (by omega) (by omega)) ⟨vp_in_nI (by omega) (by decide), vp_in_nI (by omega) (by decide), vp_in_nI (by omega) (by decide), ?_⟩
    by_cases z : D (3 * d + d') = 0
    · rw [if_neg (fun y => y.2 z)] at hJ
      exact br_t z (nm_e hJ)
    · rw [if_pos ⟨c, z⟩] at hJ
      exact br_f z (nm_e hJ)
  · rw [if_neg (fun y => c y.1)] at hJ
    exact br_t (by rw [nI_pred]; exact nI_le (by omega) (by omega)) (nm_e hJ)
theorem lc_y_write {post : Int32 → SY → Prop} {N k : Nat} (hN : N ≤ 5) (hk : k < 3 ^ (N + 1)) {S C B D T : Nat → Int32} {now : Nat → Int32}
    (h1 : lc_ok B D N k = true → ∀ now', (∀ j, j ≤ N → now' j = nI (lc_dg N k j)) → post 1 (nI (N + 1), S, C, B, D, now', T))
    (h0 : lc_ok B D N k = false → ∀ now', (∀ j, j ≤ N → now' j = nI (lc_dg N k j)) → post 0 (nI (N + 1), S, C, B, D, now', T)) :
    wpY_write post (nI (N + 1), S, C, B, D, now, T) (nI k) := by
  have hk2 : k < 729 := Nat.lt_of_lt_of_le hk (lc_pow_bd (by omega))
  have L : ∀ c, c ≤ N + 1 → ∀ (x3 : Int32) (now : Nat → Int32), (∀ j, c ≤ j → j ≤ N → now j = nI (lc_dg N k j)) → (x3 = 0 ∨ x3 = 1) → ((x3 = 1 ∧ lc_wr B D N k c) ↔ lc_ok B D N k = true) → wY_write_12 post (nI (N + 1)) (c + 1) (nI (k / 3 ^ (N + 1 - c))) x3 (nI c + (-1)) S C B D now T := by
    intro c
    induction c with
    | zero =>
      intro _ x3 now hn hx hf
      refine br_t (by decide) ?_
      rcases hx with hx | hx
      · subst hx
        refine ⟨rfl, h0 ?_ now (fun j hj => hn j (Nat.zero_le j) hj)⟩
        cases hb : lc_ok B D N k with
        | false => rfl
        | true => exact absurd (hf.mpr hb).1 (by decide)
      · subst hx
        exact ⟨rfl, h1 (hf.mp ⟨rfl, True.intro⟩) now (fun j hj => hn j (Nat.zero_le j) hj)⟩
    | succ i ih =>
      intro hc x3 now hn hx hf
      rw [pk_m1]
      have hr : k / 3 ^ (N + 1 - (i + 1)) = k / 3 ^ (N - i) := by rw [Nat.add_sub_add_right]
      rw [hr]
      have hrb : k / 3 ^ (N - i) < 2 ^ 31 := Nat.lt_of_le_of_lt (Nat.div_le_self _ _) (by omega)
      have hrem : nI (k / 3 ^ (N - i)) - nI (k / 3 ^ (N - i)) / 3 * 3 = nI (lc_dg N k i) := pk_rem (d := 3) hrb (by decide) (by decide)
      have hdiv : nI (k / 3 ^ (N - i)) / 3 = nI (k / 3 ^ (N + 1 - i)) := by
        have e : k / 3 ^ (N - i) / 3 = k / 3 ^ (N + 1 - i) := by
          rw [Nat.div_div_eq_div_mul, ← Nat.pow_succ]
          have e2 : (N - i).succ = N + 1 - i := by omega
          rw [e2]
        rw [← e]
        exact pk_div (d := 3) hrb (by decide) (by decide)
      have hd := lc_dg_lt N k i
      have hd' := lc_dg_lt N k (i + 1)
      have key : ∀ x3' : Int32, (x3' = 0 ∨ x3' = 1) → ((x3' = 1) ↔ (x3 = 1 ∧ B (3 * i + lc_dg N k i) = 0)) → wY_write_53 post (wY_write_12 post (nI (N + 1)) (i + 1)) (nI (k / 3 ^ (N + 1 - i))) x3' (nI i) (nI (N + 1)) S C B D (upd now i (nI (lc_dg N k i))) T := by
        intro x3' hx' hf'
        refine lc_y_w53 (d := lc_dg N k i) (d' := lc_dg N k (i + 1)) hN (by omega) hd hd' pk_us (fun hi => ?_) ?_
        · rw [pk_un (by omega)]
          exact hn (i + 1) (by omega) (by omega)
        · refine ih (by omega) _ _ ?_ ?_ ?_
          · intro j hj hj2
            by_cases e : j = i
            · rw [e, pk_us]
            · rw [pk_un e]
              exact hn j (by omega) hj2
          · split
            · exact Or.inl rfl
            · exact hx'
          · rw [← hf]
            show _ ↔ x3 = 1 ∧ (lc_ok B D i (k / 3 ^ (N - i)) = true ∧ (i < N → D (3 * lc_dg N k i + lc_dg N k (i + 1)) = 0))
            rw [lc_wr_s (by omega)]
            by_cases z : i < N ∧ ¬ D (3 * lc_dg N k i + lc_dg N k (i + 1)) = 0
            · rw [if_pos z]
              exact ⟨fun y => absurd y.1 (by decide), fun y => absurd (y.2.2 z.1) z.2⟩
            · rw [if_neg z, hf']
              constructor
              · intro y
                exact ⟨y.1.1, ⟨y.2, y.1.2⟩, fun hi => Classical.byContradiction fun hz => z ⟨hi, hz⟩⟩
              · intro y
                exact ⟨⟨y.1, y.2.1.2⟩, y.2.1.1⟩
      refine br_f (nI_pos (by omega)) ⟨by decide, vp_in_nI (by omega) (by decide), ?_⟩
      rw [hrem, nI_clamp (show i < 2 ^ 31 by omega)]
      refine nm_e ⟨by decide, ?_⟩
      rw [hdiv]
      refine nm_e ⟨vp_in_nI (by omega) (by decide), ?_⟩
      rw [pk_us, lc_i3, nI_clamp (show 3 * i + lc_dg N k i < 2 ^ 31 by omega)]
      refine ⟨vp_in_nI (by omega) (by decide), ?_⟩
      by_cases hb : B (3 * i + lc_dg N k i) = 0
      · exact br_t hb (key x3 hx ⟨fun y => ⟨y, hb⟩, fun y => y.1⟩)
      · exact br_f hb (key 0 (Or.inl rfl) ⟨fun y => absurd y (by decide), fun y => absurd y.2 hb⟩)
  refine nm_r (nI_pred N) ⟨N + 1 + 1, ?_⟩
  have h := L (N + 1) (Nat.le_refl _) 1 now (fun j hj hj2 => absurd hj (by omega)) (Or.inr rfl) ?_
  · rw [Nat.sub_self, Nat.pow_zero, Nat.div_one, pk_m1] at h
    exact h
  · show (1 : Int32) = 1 ∧ (lc_ok B D N (k / 3 ^ (N - N)) = true ∧ (N < N → D (3 * lc_dg N k N + lc_dg N k (N + 1)) = 0)) ↔ lc_ok B D N k = true
    rw [Nat.sub_self, Nat.pow_zero, Nat.div_one]
    exact ⟨fun y => y.2.1, fun y => ⟨rfl, y, fun z => absurd z (Nat.lt_irrefl N)⟩⟩
/-- the sum over positions below i -/
def lc_ps (W C : Nat → Nat) (N k : Nat) : Nat → Nat
  | 0 => 0
  | i + 1 => lc_sm W C i (k / 3 ^ (N - i))
def lc_pq (W C : Nat → Nat) (N k : Nat) : Nat → Nat
  | 0 => 1
  | i + 1 => lc_pr W C i (k / 3 ^ (N - i))
theorem lc_ps_0 (W C : Nat → Nat) (N k : Nat) : lc_ps W C N k (0 + 1) = 0 + (W (3 * 0 + lc_dg N k 0) + 0) := by
  show W (k / 3 ^ (N - 0) % 3) = _
  rw [Nat.mul_zero, Nat.zero_add, Nat.zero_add, Nat.add_zero]
  rfl
theorem lc_ps_s {W C : Nat → Nat} {N k i : Nat} (h : i + 1 ≤ N) : lc_ps W C N k (i + 1 + 1) = lc_ps W C N k (i + 1) + (W (3 * (i + 1) + lc_dg N k (i + 1)) + C (3 * lc_dg N k i + lc_dg N k (i + 1))) := by
  show lc_sm W C i (k / 3 ^ (N - (i + 1)) / 3) + C (3 * (k / 3 ^ (N - (i + 1)) / 3 % 3) + k / 3 ^ (N - (i + 1)) % 3) + W (3 * (i + 1) + k / 3 ^ (N - (i + 1)) % 3) = _
  rw [lc_k3 (by omega)]
  show lc_sm W C i (k / 3 ^ (N - i)) + C (3 * lc_dg N k i + lc_dg N k (i + 1)) + W (3 * (i + 1) + lc_dg N k (i + 1)) = lc_sm W C i (k / 3 ^ (N - i)) + (W (3 * (i + 1) + lc_dg N k (i + 1)) + C (3 * lc_dg N k i + lc_dg N k (i + 1)))
  omega
theorem lc_pq_0 (W C : Nat → Nat) (N k : Nat) : lc_pq W C N k (0 + 1) = 1 * W (3 * 0 + lc_dg N k 0) * 1 := by
  show W (k / 3 ^ (N - 0) % 3) = _
  rw [Nat.mul_zero, Nat.zero_add, Nat.one_mul, Nat.mul_one]
  rfl
theorem lc_pq_s {W C : Nat → Nat} {N k i : Nat} (h : i + 1 ≤ N) : lc_pq W C N k (i + 1 + 1) = lc_pq W C N k (i + 1) * W (3 * (i + 1) + lc_dg N k (i + 1)) * C (3 * lc_dg N k i + lc_dg N k (i + 1)) := by
  show lc_pr W C i (k / 3 ^ (N - (i + 1)) / 3) * C (3 * (k / 3 ^ (N - (i + 1)) / 3 % 3) + k / 3 ^ (N - (i + 1)) % 3) * W (3 * (i + 1) + k / 3 ^ (N - (i + 1)) % 3) = _
  rw [lc_k3 (by omega)]
  show lc_pr W C i (k / 3 ^ (N - i)) * C (3 * lc_dg N k i + lc_dg N k (i + 1)) * W (3 * (i + 1) + lc_dg N k (i + 1)) = lc_pr W C i (k / 3 ^ (N - i)) * W (3 * (i + 1) + lc_dg N k (i + 1)) * C (3 * lc_dg N k i + lc_dg N k (i + 1))
  exact Nat.mul_right_comm _ _ _
theorem lc_y_sum {post : Int32 → Prop} {N k : Nat} (hN : N ≤ 5) {W C : Nat → Nat} {B D now T : Nat → Int32} (hn : ∀ j, j ≤ N → now j = nI (lc_dg N k j)) (h : post (nI (lc_sm W C N k))) : wpY_sum post (nI (N + 1), lc_v W, lc_v C, B, D, now, T) := by
  have L : ∀ d i, i + d = N + 1 → wY_sum_4 post (nI (N + 1)) (lc_v W) (lc_v C) B D now T (d + 1) (nI (lc_ps W C N k i)) (nI i) := by
    intro d
    induction d with
    | zero =>
      intro i hi
      have e : i = N + 1 := hi
      subst e
      refine pk_le (N + 1) (N + 1) (fun _ => ?_) (fun z => absurd z (by omega))
      have e2 : lc_ps W C N k (N + 1) = lc_sm W C N k := by
        show lc_sm W C N (k / 3 ^ (N - N)) = _
        rw [Nat.sub_self, Nat.pow_zero, Nat.div_one]
      rw [e2]
      exact h
    | succ d ih =>
      intro i hi
      have hd := lc_dg_lt N k i
      refine pk_le (N + 1) i (fun z => absurd z (by omega)) (fun _ => ?_)
      rw [nI_clamp (show i < 2 ^ 31 by omega), hn i (by omega), lc_i3, nI_clamp (show 3 * i + lc_dg N k i < 2 ^ 31 by omega)]
      refine ⟨vp_in_nI (by omega) (by decide), vp_in_nI (by omega) (by decide), ?_⟩
      cases i with
      | zero =>
        refine br_t rfl ?_
        have e3 : nI (lc_ps W C N k 0) + (lc_v W (3 * 0 + lc_dg N k 0) + 0) = nI (lc_ps W C N k (0 + 1)) := by
          rw [lc_ps_0, ← nI_add, ← nI_add]
          rfl
        exact nm_r e3 (nm_r (nI_1 0) (ih (0 + 1) (by omega)))
      | succ i =>
        have hd2 := lc_dg_lt N k i
        refine br_f (nI_ne0 (by omega) (by omega)) ?_
        rw [nI_pred, nI_clamp (show i < 2 ^ 31 by omega), hn i (by omega), lc_i3, nI_clamp (show 3 * lc_dg N k i + lc_dg N k (i + 1) < 2 ^ 31 by omega)]
        refine ⟨vp_in_nI (by omega) (by decide), vp_in_nI (by omega) (by decide), vp_in_nI (by omega) (by decide), ?_⟩
        have e3 : nI (lc_ps W C N k (i + 1)) + (lc_v W (3 * (i + 1) + lc_dg N k (i + 1)) + lc_v C (3 * lc_dg N k i + lc_dg N k (i + 1))) = nI (lc_ps W C N k (i + 1 + 1)) := by
          rw [lc_ps_s (by omega), ← nI_add, ← nI_add]
          rfl
        exact nm_r e3 (nm_r (nI_1 (i + 1)) (ih (i + 1 + 1) (by omega)))
  exact ⟨N + 1 + 1, L (N + 1) 0 (Nat.zero_add _)⟩
theorem lc_y_prod {post : Int64 → Prop} {N k : Nat} (hN : N ≤ 5) {W C : Nat → Nat} (hW : ∀ j, W j ≤ 9) (hC : ∀ j, C j ≤ 9) {B D now T : Nat → Int32} (hn : ∀ j, j ≤ N → now j = nI (lc_dg N k j)) (h : post (lN (lc_pr W C N k))) : wpY_product post (nI (N + 1), lc_v W, lc_v C, B, D, now, T) := by
  have L : ∀ d i, i + d = N + 1 → wY_product_4 post (nI (N + 1)) (lc_v W) (lc_v C) B D now T (d + 1) (lN (lc_pq W C N k i)) (nI i) := by
    intro d
    induction d with
    | zero =>
      intro i hi
      have e : i = N + 1 := hi
      subst e
      refine pk_le (N + 1) (N + 1) (fun _ => ?_) (fun z => absurd z (by omega))
      have e2 : lc_pq W C N k (N + 1) = lc_pr W C N k := by
        show lc_pr W C N (k / 3 ^ (N - N)) = _
        rw [Nat.sub_self, Nat.pow_zero, Nat.div_one]
      rw [e2]
      exact h
    | succ d ih =>
      intro i hi
      have hd := lc_dg_lt N k i
      refine pk_le (N + 1) i (fun z => absurd z (by omega)) (fun _ => ?_)
      rw [nI_clamp (show i < 2 ^ 31 by omega), hn i (by omega), lc_i3, nI_clamp (show 3 * i + lc_dg N k i < 2 ^ 31 by omega)]
      refine ⟨vp_in_nI (by omega) (by decide), vp_in_nI (by omega) (by decide), ?_⟩
      have e4 : ∀ j, (lc_v W j).toInt64 = lN (W j) := fun j => nI_l (lc_w9 hW j)
      have e5 : ∀ j, (lc_v C j).toInt64 = lN (C j) := fun j => nI_l (lc_w9 hC j)
      cases i with
      | zero =>
        refine br_t rfl ?_
        have e3 : lN (lc_pq W C N k 0) * (lc_v W (3 * 0 + lc_dg N k 0)).toInt64 * (1 : Int32).toInt64 = lN (lc_pq W C N k (0 + 1)) := by
          rw [lc_pq_0, e4, lc_1L, lN_mul, lN_mul]
          rfl
        exact nm_r e3 (nm_r (nI_1 0) (ih (0 + 1) (by omega)))
      | succ i =>
        have hd2 := lc_dg_lt N k i
        refine br_f (nI_ne0 (by omega) (by omega)) ?_
        rw [nI_pred, nI_clamp (show i < 2 ^ 31 by omega), hn i (by omega), lc_i3, nI_clamp (show 3 * lc_dg N k i + lc_dg N k (i + 1) < 2 ^ 31 by omega)]
        refine ⟨vp_in_nI (by omega) (by decide), vp_in_nI (by omega) (by decide), vp_in_nI (by omega) (by decide), ?_⟩
        have e3 : lN (lc_pq W C N k (i + 1)) * (lc_v W (3 * (i + 1) + lc_dg N k (i + 1))).toInt64 * (lc_v C (3 * lc_dg N k i + lc_dg N k (i + 1))).toInt64 = lN (lc_pq W C N k (i + 1 + 1)) := by
          rw [lc_pq_s (by omega), e4, e5, lN_mul, lN_mul]
        exact nm_r e3 (nm_r (nI_1 (i + 1)) (ih (i + 1 + 1) (by omega)))
  exact ⟨N + 1 + 1, L (N + 1) 0 (Nat.zero_add _)⟩
end
section
/-! Y: the loops over all labellings -/
theorem lc_y_allowed {post : Int32 → SY → Prop} {N : Nat} (hN : N ≤ 5) {W C : Nat → Nat} {B D now T : Nat → Int32} (h : ∀ now', post (nI (lc_K (lc_e W C B D N) (3 ^ (N + 1)) 1)) (nI (N + 1), lc_v W, lc_v C, B, D, now', T)) : wpY_allowed post (nI (N + 1), lc_v W, lc_v C, B, D, now, T) := by
  have hp : 3 ^ (N + 1) ≤ 729 := lc_pow_bd (by omega)
  have L : ∀ d k, k + d = 3 ^ (N + 1) → ∀ now, wY_allowed_9 post (nI (3 ^ (N + 1))) (d + 1) (nI (lc_K (lc_e W C B D N) k 1)) (nI k) (nI (N + 1)) (lc_v W) (lc_v C) B D now T := by
    intro d
    induction d with
    | zero =>
      intro k hk now
      have e : k = 3 ^ (N + 1) := hk
      rw [e]
      exact pk_le (3 ^ (N + 1)) (3 ^ (N + 1)) (fun _ => h now) (fun z => absurd z (by omega))
    | succ d ih =>
      intro k hk now
      refine pk_le (3 ^ (N + 1)) k (fun z => absurd z (by omega)) (fun _ => ?_)
      refine lc_y_write hN (by omega) (fun ok now' hn => ?_) (fun ok now' hn => ?_)
      · dsimp only
        refine br_f (by decide) (nm_r (e' := nI (lc_K (lc_e W C B D N) (k + 1) 1)) ?_ (nm_r (nI_1 k) (ih (k + 1) (by omega) now')))
        rw [nI_1]
        have e : lc_K (lc_e W C B D N) (k + 1) 1 = lc_K (lc_e W C B D N) k 1 + (if 1 ≤ lc_e W C B D N k then 1 else 0) := rfl
        rw [e, if_pos (by rw [lc_e_t ok]; omega)]
      · dsimp only
        refine br_t rfl (nm_r (nI_1 k) ?_)
        have e : lc_K (lc_e W C B D N) (k + 1) 1 = lc_K (lc_e W C B D N) k 1 + (if 1 ≤ lc_e W C B D N k then 1 else 0) := rfl
        rw [lc_e_f ok, if_neg (by omega)] at e
        rw [← e.trans (Nat.add_zero _)]
        exact ih (k + 1) (by omega) now'
  unfold wpY_allowed
  dsimp only
  exact lc_y_lab hN ⟨3 ^ (N + 1) + 1, L (3 ^ (N + 1)) 0 (Nat.zero_add _) now⟩
def lc_fi (f : Nat → Nat) (k : Nat) (x : Int32) : Prop := (lc_M f k = 0 ∧ x = -1) ∨ (0 < lc_M f k ∧ ∃ k0, k0 < k ∧ x = nI k0 ∧ f k0 = lc_M f k ∧ ∀ k', k' < k0 → f k' ≠ lc_M f k)
theorem lc_fi_lo {f : Nat → Nat} {k : Nat} {x : Int32} (h : f k ≤ lc_M f k) (I : lc_fi f k x) : lc_fi f (k + 1) x := by
  have e : lc_M f (k + 1) = lc_M f k := Nat.max_eq_left h
  unfold lc_fi
  rw [e]
  rcases I with I | ⟨h0, k0, hk, I⟩
  · exact Or.inl I
  · exact Or.inr ⟨h0, k0, by omega, I⟩
theorem lc_fi_up {f : Nat → Nat} {k : Nat} (h : lc_M f k < f k) : lc_fi f (k + 1) (nI k) := by
  have e : lc_M f (k + 1) = f k := Nat.max_eq_right (by omega)
  unfold lc_fi
  rw [e]
  refine Or.inr ⟨by omega, k, by omega, rfl, rfl, fun k' hk' => ?_⟩
  have := lc_M_ge (f := f) hk'
  omega
theorem lc_y_first {post : Int32 → SY → Prop} {N : Nat} (hN : N ≤ 5) {W C : Nat → Nat} (hW : ∀ j, W j ≤ 9) (hC : ∀ j, C j ≤ 9) {B D now T : Nat → Int32} (h0 : lc_A W C B D N = 0 → ∀ now', post (-1) (nI (N + 1), lc_v W, lc_v C, B, D, now', T))
    (h1 : 0 < lc_A W C B D N → ∀ k now', lc_Fst W C B D N k → post (nI k) (nI (N + 1), lc_v W, lc_v C, B, D, now', T)) : wpY_first post (nI (N + 1), lc_v W, lc_v C, B, D, now, T) := by
  have hp : 3 ^ (N + 1) ≤ 729 := lc_pow_bd (by omega)
  have hb : ∀ k, lc_e W C B D N k < 1000 := fun k => by have := lc_e_bd hW hC B D N k; omega
  have hm : ∀ k, lc_M (lc_e W C B D N) k < 1000 := fun k => by
    have := (lc_M_le (f := lc_e W C B D N) (t := 10 + 18 * N) (m := k)).mpr (fun k' _ => lc_e_bd hW hC B D N k')
    omega
  have L : ∀ d k, k + d = 3 ^ (N + 1) → ∀ x1 now, lc_fi (lc_e W C B D N) k x1 → wY_first_12 post (nI (3 ^ (N + 1))) (d + 1) x1 (lc_sn (-1) (lc_M (lc_e W C B D N) k)) (nI k) (nI (N + 1)) (lc_v W) (lc_v C) B D now T := by
    intro d
    induction d with
    | zero =>
      intro k hk x1 now I
      have e : k = 3 ^ (N + 1) := hk
      subst e
      refine pk_le (3 ^ (N + 1)) (3 ^ (N + 1)) (fun _ => ?_) (fun z => absurd z (by omega))
      rcases I with ⟨I, rfl⟩ | ⟨I, k0, hk0, rfl, I2, I3⟩
      · exact h0 I now
      · exact h1 I k0 now ⟨hk0, I2, I3⟩
    | succ d ih =>
      intro k hk x1 now I
      refine pk_le (3 ^ (N + 1)) k (fun z => absurd z (by omega)) (fun _ => ?_)
      refine lc_y_write hN (by omega) (fun ok now' hn => ?_) (fun ok now' hn => ?_)
      · dsimp only
        refine br_f (by decide) (lc_y_sum hN hn ?_)
        have e := lc_e_t (W := W) (C := C) ok
        have e1 : nI (lc_sm W C N k) = lc_sn (-1) (lc_e W C B D N k) := by rw [e, lc_sn_s]
        rw [e1]
        by_cases c : lc_e W C B D N k ≤ lc_M (lc_e W C B D N) k
        · refine br_t ((lc_sn_le lc_m1 (hb k) (hm k)).mpr c) (nm_r (nI_1 k) ?_)
          have e2 : lc_M (lc_e W C B D N) (k + 1) = lc_M (lc_e W C B D N) k := Nat.max_eq_left c
          have h := ih (k + 1) (by omega) x1 now' (lc_fi_lo c I)
          rw [e2] at h
          exact h
        · refine br_f (fun z => c ((lc_sn_le lc_m1 (hb k) (hm k)).mp z)) (nm_r (nI_1 k) ?_)
          have e2 : lc_M (lc_e W C B D N) (k + 1) = lc_e W C B D N k := Nat.max_eq_right (by omega)
          have h := ih (k + 1) (by omega) (nI k) now' (lc_fi_up (by omega))
          rw [e2] at h
          exact h
      · dsimp only
        refine br_t rfl (nm_r (nI_1 k) ?_)
        have c : lc_e W C B D N k ≤ lc_M (lc_e W C B D N) k := by rw [lc_e_f ok]; exact Nat.zero_le _
        have e2 : lc_M (lc_e W C B D N) (k + 1) = lc_M (lc_e W C B D N) k := Nat.max_eq_left c
        have h := ih (k + 1) (by omega) x1 now' (lc_fi_lo c I)
        rw [e2] at h
        exact h
  unfold wpY_first
  dsimp only
  exact lc_y_lab hN ⟨3 ^ (N + 1) + 1, L (3 ^ (N + 1)) 0 (Nat.zero_add _) (-1) now (Or.inl ⟨rfl, rfl⟩)⟩
theorem lc_Fst_ok {W C : Nat → Nat} {B D : Nat → Int32} {N k : Nat} (h0 : 0 < lc_A W C B D N) (h : lc_Fst W C B D N k) : lc_ok B D N k = true ∧ lc_sm W C N k = lc_A W C B D N - 1 := by
  have h1 := h.2.1
  cases ok : lc_ok B D N k with
  | false => rw [lc_e_f ok] at h1; omega
  | true => rw [lc_e_t ok] at h1; exact ⟨rfl, by omega⟩
theorem lc_y_best {post : Int32 → SY → Prop} {N : Nat} (hN : N ≤ 5) {W C : Nat → Nat} (hW : ∀ j, W j ≤ 9) (hC : ∀ j, C j ≤ 9) {B D now T : Nat → Int32} (h : ∀ now', post (lc_sn (-2) (lc_A W C B D N)) (nI (N + 1), lc_v W, lc_v C, B, D, now', T)) : wpY_best post (nI (N + 1), lc_v W, lc_v C, B, D, now, T) := by
  have hp : 3 ^ (N + 1) ≤ 729 := lc_pow_bd (by omega)
  unfold wpY_best
  dsimp only
  refine lc_y_first hN hW hC (fun h0 now' => ?_) (fun h0 k now' hk => ?_)
  · dsimp only
    refine br_f (by decide) ?_
    have e := h now'
    rw [h0, lc_sn_0] at e
    exact e
  · dsimp only
    have hk1 := hk.1
    have hk2 := lc_Fst_ok h0 hk
    refine br_t (nI_pos' (by omega)) (lc_y_write hN hk1 (fun ok now2 hn => ?_) (fun ok now2 hn => ?_))
    · dsimp only
      refine lc_y_sum hN hn ?_
      have e := h now2
      rw [lc_sn_p (by omega), ← hk2.2] at e
      exact e
    · rw [hk2.1] at ok
      exact absurd ok (by decide)
theorem lc_y_label {post : Int32 → SY → Prop} {N i : Nat} (hN : N ≤ 5) (hi : i ≤ N) {W C : Nat → Nat} (hW : ∀ j, W j ≤ 9) (hC : ∀ j, C j ≤ 9) {B D now T : Nat → Int32} (h0 : lc_A W C B D N = 0 → ∀ now', post (-2) (nI (N + 1), lc_v W, lc_v C, B, D, now', T))
    (h1 : 0 < lc_A W C B D N → ∀ k now', lc_Fst W C B D N k → post (nI (lc_dg N k i)) (nI (N + 1), lc_v W, lc_v C, B, D, now', T)) : wpY_label post (nI (N + 1), lc_v W, lc_v C, B, D, now, T) (nI i) := by
  have hp : 3 ^ (N + 1) ≤ 729 := lc_pow_bd (by omega)
  unfold wpY_label wpY_isPosition
  dsimp only
  refine br_f (nI_pos (by omega)) (br_f (nI_ge (by omega) (by omega)) (br_f (by decide) ?_))
  refine lc_y_first hN hW hC (fun h0' now' => ?_) (fun h0' k now' hk => ?_)
  · dsimp only
    exact br_f (by decide) (h0 h0' now')
  · dsimp only
    have hk1 := hk.1
    have hk2 := lc_Fst_ok h0' hk
    refine br_t (nI_pos' (by omega)) (lc_y_write hN hk1 (fun ok now2 hn => ?_) (fun ok now2 hn => ?_))
    · dsimp only
      rw [nI_clamp (show i < 2 ^ 31 by omega), hn i hi]
      exact ⟨vp_in_nI (by omega) (by decide), h1 h0' k now2 hk⟩
    · rw [hk2.1] at ok
      exact absurd ok (by decide)
theorem lc_y_count {post : SY → Prop} {N : Nat} (hN : N ≤ 5) {W C : Nat → Nat} (hW : ∀ j, W j ≤ 9) (hC : ∀ j, C j ≤ 9) {B D now T : Nat → Int32} (h : ∀ now' T', (∀ s, s < 100 → T' s = nI (lc_T (lc_e W C B D N) (3 ^ (N + 1)) (s + 1))) → post (nI (N + 1), lc_v W, lc_v C, B, D, now', T')) : wpY_count post (nI (N + 1), lc_v W, lc_v C, B, D, now, T) := by
  have hp : 3 ^ (N + 1) ≤ 729 := lc_pow_bd (by omega)
  have L : ∀ d k, k + d = 3 ^ (N + 1) → ∀ now T, (∀ s, s < 100 → T s = nI (lc_T (lc_e W C B D N) k (s + 1))) → wY_count_28 post (nI (3 ^ (N + 1))) (d + 1) (nI k) (nI (N + 1)) (lc_v W) (lc_v C) B D now T := by
    intro d
    induction d with
    | zero =>
      intro k hk now T hT
      have e : k = 3 ^ (N + 1) := hk
      subst e
      exact pk_le (3 ^ (N + 1)) (3 ^ (N + 1)) (fun _ => h now T hT) (fun z => absurd z (by omega))
    | succ d ih =>
      intro k hk now T hT
      have hst : ∀ s, lc_T (lc_e W C B D N) (k + 1) (s + 1) = lc_T (lc_e W C B D N) k (s + 1) + (if lc_e W C B D N k = s + 1 then 1 else 0) := fun s => rfl
      refine pk_le (3 ^ (N + 1)) k (fun z => absurd z (by omega)) (fun _ => ?_)
      refine lc_y_write hN (by omega) (fun ok now' hn => ?_) (fun ok now' hn => ?_)
      · dsimp only
        refine br_f (by decide) (lc_y_sum hN hn ?_)
        have hs := lc_sm_bd hW hC N k
        rw [nI_clamp (show lc_sm W C N k < 2 ^ 31 by omega)]
        refine ⟨vp_in_nI (by omega) (by decide), vp_in_nI (by omega) (by decide), nm_e (nm_r (nI_1 k) (ih (k + 1) (by omega) now' _ ?_))⟩
        intro s hs2
        rw [hst, lc_e_t ok]
        by_cases c : s = lc_sm W C N k
        · rw [c, pk_us, hT _ (by omega), if_pos rfl, nI_1]
        · rw [pk_un c, hT s hs2, if_neg (by omega)]
          try rfl
      · dsimp only
        refine br_t rfl (nm_r (nI_1 k) (ih (k + 1) (by omega) now' T ?_))
        intro s hs2
        rw [hst, lc_e_f ok, if_neg (by omega), Nat.add_zero]
        exact hT s hs2
  have Z : ∀ d s, s + d = 100 → ∀ T : Nat → Int32, (∀ j, j < s → T j = 0) → wY_count_7 post (nI (3 ^ (N + 1))) (nI (N + 1)) (d + 1) (nI s) (lc_v W) (lc_v C) B D now T := by
    intro d
    induction d with
    | zero =>
      intro s hs T hT
      have e : s = 100 := hs
      subst e
      exact pk_le 100 100 (fun _ => ⟨3 ^ (N + 1) + 1, L (3 ^ (N + 1)) 0 (Nat.zero_add _) now T hT⟩) (fun z => absurd z (by omega))
    | succ d ih =>
      intro s hs T hT
      refine pk_le 100 s (fun z => absurd z (by omega)) (fun _ => ⟨vp_in_nI (by omega) (by decide), nm_e (nm_r (nI_1 s) (ih (s + 1) (by omega) _ ?_))⟩)
      rw [nI_clamp (show s < 2 ^ 31 by omega)]
      intro j hj
      by_cases c : j = s
      · rw [c, pk_us]
      · rw [pk_un c]
        exact hT j (by omega)
  unfold wpY_count
  dsimp only
  exact lc_y_lab hN ⟨100 + 1, Z 100 0 (Nat.zero_add _) T (fun j hj => absurd hj (Nat.not_lt_zero j))⟩
theorem lc_y_bestCount {post : Int32 → SY → Prop} {N : Nat} (hN : N ≤ 5) {W C : Nat → Nat} (hW : ∀ j, W j ≤ 9) (hC : ∀ j, C j ≤ 9) {B D now T : Nat → Int32} (h0 : lc_A W C B D N = 0 → ∀ now' T', post 0 (nI (N + 1), lc_v W, lc_v C, B, D, now', T'))
    (h1 : 0 < lc_A W C B D N → ∀ now' T', post (nI (lc_T (lc_e W C B D N) (3 ^ (N + 1)) (lc_A W C B D N))) (nI (N + 1), lc_v W, lc_v C, B, D, now', T')) : wpY_bestCount post (nI (N + 1), lc_v W, lc_v C, B, D, now, T) := by
  have hp : 3 ^ (N + 1) ≤ 729 := lc_pow_bd (by omega)
  unfold wpY_bestCount
  dsimp only
  refine lc_y_count hN hW hC (fun now' T' hT => ?_)
  dsimp only
  have L : ∀ c, c ≤ 100 → lc_A W C B D N ≤ c → wY_bestCount_7 post (nI (N + 1)) (lc_v W) (lc_v C) B D now' T' (c + 1) (nI c + (-1)) := by
    intro c
    induction c with
    | zero =>
      intro _ hA
      exact br_t (by decide) (h0 (by omega) now' T')
    | succ s ih =>
      intro hs hA
      rw [pk_m1]
      refine br_f (nI_pos (by omega)) ⟨vp_in_nI (by omega) (by decide), ?_⟩
      rw [nI_clamp (show s < 2 ^ 31 by omega), hT s (by omega)]
      have hb := lc_T_bd (lc_e W C B D N) (3 ^ (N + 1)) (s + 1)
      refine pk_le (lc_T (lc_e W C B D N) (3 ^ (N + 1)) (s + 1)) 0 (fun z => ?_) (fun z => ?_)
      · refine nm_e (ih (by omega) ?_)
        by_cases c : lc_A W C B D N = s + 1
        · have := lc_T_pos (f := lc_e W C B D N) (m := 3 ^ (N + 1)) (by show 0 < lc_A W C B D N; omega)
          have c2 : lc_M (lc_e W C B D N) (3 ^ (N + 1)) = s + 1 := c
          rw [c2] at this
          omega
        · omega
      · refine ⟨vp_in_nI (by omega) (by decide), ?_⟩
        have c : lc_A W C B D N = s + 1 := by
          apply Nat.le_antisymm hA
          apply Nat.le_of_not_lt
          intro y
          have := lc_T_above (f := lc_e W C B D N) (m := 3 ^ (N + 1)) y
          omega
        have h := h1 (by omega) now' T'
        rw [c] at h
        exact h
  have hA := lc_A_bd hW hC B D N
  exact ⟨100 + 1, L 100 (Nat.le_refl _) (by omega)⟩
theorem lc_y_ranked {post : Int32 → SY → Prop} {N k : Nat} (hN : N ≤ 5) (hk : k < 8) {W C : Nat → Nat} (hW : ∀ j, W j ≤ 9) (hC : ∀ j, C j ≤ 9) {B D now T : Nat → Int32} {g : Nat → Nat} (hg : lc_Top g (lc_K (lc_e W C B D N) (3 ^ (N + 1)))) (h : ∀ now' T', post (lc_sn (-2) (g k)) (nI (N + 1), lc_v W, lc_v C, B, D, now', T')) : wpY_ranked post (nI (N + 1), lc_v W, lc_v C, B, D, now, T) (nI k) := by
  have hp : 3 ^ (N + 1) ≤ 729 := lc_pow_bd (by omega)
  unfold wpY_ranked
  dsimp only
  refine br_f (nI_pos (by omega)) (br_t (nI_le (b := 7) (by omega) (by decide)) ?_)
  refine lc_y_count hN hW hC (fun now' T' hT => ?_)
  dsimp only
  have L : ∀ c, c ≤ 100 → lc_K (lc_e W C B D N) (3 ^ (N + 1)) (c + 1) ≤ k → wY_ranked_21 post (nI k) (nI (N + 1)) (lc_v W) (lc_v C) B D now' T' (c + 1) (nI (lc_K (lc_e W C B D N) (3 ^ (N + 1)) (c + 1))) (nI c + (-1)) := by
    intro c
    induction c with
    | zero =>
      intro _ hA
      refine br_t (by decide) ?_
      have h2 := hg k hk 1 (Nat.le_refl 1)
      have e : g k = 0 := by
        rw [Nat.zero_add] at hA
        omega
      have h3 := h now' T'
      rw [e, lc_sn_0] at h3
      exact h3
    | succ s ih =>
      intro hs hA
      rw [pk_m1]
      refine br_f (nI_pos (by omega)) ⟨vp_in_nI (by omega) (by decide), ?_⟩
      rw [nI_clamp (show s < 2 ^ 31 by omega), hT s (by omega), nI_add]
      have hst := lc_K_step (lc_e W C B D N) (3 ^ (N + 1)) (s + 1)
      have e : lc_K (lc_e W C B D N) (3 ^ (N + 1)) (s + 1 + 1) + lc_T (lc_e W C B D N) (3 ^ (N + 1)) (s + 1) = lc_K (lc_e W C B D N) (3 ^ (N + 1)) (s + 1) := by omega
      rw [e]
      have hb := lc_K_bd (lc_e W C B D N) (3 ^ (N + 1)) (s + 1)
      refine nm_e (pk_le (lc_K (lc_e W C B D N) (3 ^ (N + 1)) (s + 1)) k (fun z => ?_) (fun z => ?_))
      · exact nm_e (ih (by omega) z)
      · have h2 := hg k hk (s + 1) (by omega)
        have h3 := hg k hk (s + 1 + 1) (by omega)
        have e2 : g k = s + 1 := by omega
        have h4 := h now' T'
        rw [e2, lc_sn_s] at h4
        exact h4
  have hA := lc_A_bd hW hC B D N
  have h0 : lc_K (lc_e W C B D N) (3 ^ (N + 1)) (100 + 1) = 0 := lc_K_0 (by show lc_A W C B D N < 101; omega)
  have h5 := L 100 (Nat.le_refl _) (by omega)
  rw [h0] at h5
  exact ⟨100 + 1, h5⟩
theorem lc_y_isLabel {post : Int32 → Prop} {u : SY} {a : Nat} (ha : a < 3) (h : post 1) : wpY_isLabel post u (nI a) :=
  br_f (nI_pos (by omega)) (br_f (nI_nlt (a := 2) (by omega) (by decide)) h)
theorem lc_y_bestThrough {post : Int32 → SY → Prop} {N i a : Nat} (hN : N ≤ 5) (hi : i ≤ N) (ha : a < 3) {W C : Nat → Nat} (hW : ∀ j, W j ≤ 9) (hC : ∀ j, C j ≤ 9) {B D now T : Nat → Int32} (h : ∀ now', post (lc_sn (-2) (lc_M (fun k => if lc_dg N k i = a then lc_e W C B D N k else 0) (3 ^ (N + 1)))) (nI (N + 1), lc_v W, lc_v C, B, D, now', T)) : wpY_bestThrough post (nI (N + 1), lc_v W, lc_v C, B, D, now, T) (nI i) (nI a) := by
  have hp : 3 ^ (N + 1) ≤ 729 := lc_pow_bd (by omega)
  obtain ⟨f, hf⟩ : ∃ f : Nat → Nat, f = (fun k => if lc_dg N k i = a then lc_e W C B D N k else 0) := ⟨_, rfl⟩
  have hb2 : ∀ k, f k ≤ 10 + 18 * N := fun k => by
    rw [hf]
    show (if lc_dg N k i = a then lc_e W C B D N k else 0) ≤ _
    have := lc_e_bd hW hC B D N k
    split <;> omega
  have hb : ∀ k, f k < 1000 := fun k => by have := hb2 k; omega
  have hm : ∀ k, lc_M f k < 1000 := fun k => by
    have := (lc_M_le (f := f) (t := 10 + 18 * N) (m := k)).mpr (fun k' _ => hb2 k')
    omega
  rw [← hf] at h
  have L : ∀ d k, k + d = 3 ^ (N + 1) → ∀ now, wY_bestThrough_30 post (nI i) (nI a) (nI (3 ^ (N + 1))) (d + 1) (lc_sn (-2) (lc_M f k)) (nI k) (nI (N + 1)) (lc_v W) (lc_v C) B D now T := by
    intro d
    induction d with
    | zero =>
      intro k hk now
      have e : k = 3 ^ (N + 1) := hk
      subst e
      exact pk_le (3 ^ (N + 1)) (3 ^ (N + 1)) (fun _ => h now) (fun z => absurd z (by omega))
    | succ d ih =>
      intro k hk now
      have skip : ∀ now', f k = 0 → wY_bestThrough_30 post (nI i) (nI a) (nI (3 ^ (N + 1))) (d + 1) (lc_sn (-2) (lc_M f k)) (nI (k + 1)) (nI (N + 1)) (lc_v W) (lc_v C) B D now' T := by
        intro now' z
        have e2 : lc_M f (k + 1) = lc_M f k := Nat.max_eq_left (by omega)
        rw [← e2]
        exact ih (k + 1) (by omega) now'
      refine pk_le (3 ^ (N + 1)) k (fun z => absurd z (by omega)) (fun _ => ?_)
      refine lc_y_write hN (by omega) (fun ok now' hn => ?_) (fun ok now' hn => ?_)
      · dsimp only
        refine br_f (by decide) ⟨vp_in_nI (by omega) (by decide), ?_⟩
        rw [nI_clamp (show i < 2 ^ 31 by omega), hn i hi]
        have hd := lc_dg_lt N k i
        refine pk_eq (lc_dg N k i) a (fun z => ?_) (fun z => ?_)
        · refine lc_y_sum hN hn ?_
          have e : f k = lc_sm W C N k + 1 := by
            rw [hf, ← lc_e_t (W := W) (C := C) ok]
            exact if_pos z
          have e1 : nI (lc_sm W C N k) = lc_sn (-2) (f k) := by rw [e, lc_sn_s]
          rw [e1]
          by_cases c : f k ≤ lc_M f k
          · refine br_t ((lc_sn_le lc_m2 (hb k) (hm k)).mpr c) (nm_r (nI_1 k) ?_)
            have e2 : lc_M f (k + 1) = lc_M f k := Nat.max_eq_left c
            rw [← e2]
            exact ih (k + 1) (by omega) now'
          · refine br_f (fun z => c ((lc_sn_le lc_m2 (hb k) (hm k)).mp z)) (nm_r (nI_1 k) ?_)
            have e2 : lc_M f (k + 1) = f k := Nat.max_eq_right (by omega)
            rw [← e2]
            exact ih (k + 1) (by omega) now'
        · exact nm_r (nI_1 k) (skip now' (by rw [hf]; exact if_neg z))
      · dsimp only
        refine br_t rfl (nm_r (nI_1 k) (skip now' ?_))
        rw [hf]
        show (if lc_dg N k i = a then lc_e W C B D N k else 0) = 0
        rw [lc_e_f ok]
        split <;> rfl
  unfold wpY_bestThrough wpY_isPosition
  dsimp only
  refine br_f (nI_pos (by omega)) (br_f (nI_ge (by omega) (by omega)) (br_f (by decide) ?_))
  refine lc_y_isLabel ha (br_f (by decide) ?_)
  exact lc_y_lab hN ⟨3 ^ (N + 1) + 1, L (3 ^ (N + 1)) 0 (Nat.zero_add _) now⟩
theorem lc_y_total {post : Int64 → SY → Prop} {N : Nat} (hN : N ≤ 5) {W C : Nat → Nat} (hW : ∀ j, W j ≤ 9) (hC : ∀ j, C j ≤ 9) {B D now T : Nat → Int32} (h : ∀ now', post (lN (lc_S (lc_p W C B D N) (3 ^ (N + 1)))) (nI (N + 1), lc_v W, lc_v C, B, D, now', T)) : wpY_total post (nI (N + 1), lc_v W, lc_v C, B, D, now, T) := by
  have hp : 3 ^ (N + 1) ≤ 729 := lc_pow_bd (by omega)
  have L : ∀ d k, k + d = 3 ^ (N + 1) → ∀ now, wY_total_10 post (nI (3 ^ (N + 1))) (d + 1) (lN (lc_S (lc_p W C B D N) k)) (nI k) (nI (N + 1)) (lc_v W) (lc_v C) B D now T := by
    intro d
    induction d with
    | zero =>
      intro k hk now
      have e : k = 3 ^ (N + 1) := hk
      subst e
      exact pk_le (3 ^ (N + 1)) (3 ^ (N + 1)) (fun _ => h now) (fun z => absurd z (by omega))
    | succ d ih =>
      intro k hk now
      have hst : lc_S (lc_p W C B D N) (k + 1) = lc_S (lc_p W C B D N) k + lc_p W C B D N k := rfl
      refine pk_le (3 ^ (N + 1)) k (fun z => absurd z (by omega)) (fun _ => ?_)
      refine lc_y_write hN (by omega) (fun ok now' hn => ?_) (fun ok now' hn => ?_)
      · dsimp only
        refine br_f (by decide) (lc_y_prod hN hW hC hn ?_)
        rw [lN_add, ← lc_p_t ok, ← hst]
        exact nm_e (nm_r (nI_1 k) (ih (k + 1) (by omega) now'))
      · dsimp only
        rw [lc_p_f ok] at hst
        rw [← hst.trans (Nat.add_zero _)]
        exact br_t rfl (nm_r (nI_1 k) (ih (k + 1) (by omega) now'))
  unfold wpY_total
  dsimp only
  exact lc_y_lab hN ⟨3 ^ (N + 1) + 1, L (3 ^ (N + 1)) 0 (Nat.zero_add _) now⟩
theorem lc_y_through {post : Int64 → SY → Prop} {N i a : Nat} (hN : N ≤ 5) (hi : i ≤ N) (ha : a < 3) {W C : Nat → Nat} (hW : ∀ j, W j ≤ 9) (hC : ∀ j, C j ≤ 9) {B D now T : Nat → Int32} (h : ∀ now', post (lN (lc_S (fun k => if lc_dg N k i = a then lc_p W C B D N k else 0) (3 ^ (N + 1)))) (nI (N + 1), lc_v W, lc_v C, B, D, now', T)) : wpY_through post (nI (N + 1), lc_v W, lc_v C, B, D, now, T) (nI i) (nI a) := by
  have hp : 3 ^ (N + 1) ≤ 729 := lc_pow_bd (by omega)
  have L : ∀ d k, k + d = 3 ^ (N + 1) → ∀ now, wY_through_29 post (nI i) (nI a) (nI (3 ^ (N + 1))) (d + 1) (lN (lc_S (fun k => if lc_dg N k i = a then lc_p W C B D N k else 0) k)) (nI k) (nI (N + 1)) (lc_v W) (lc_v C) B D now T := by
    intro d
    induction d with
    | zero =>
      intro k hk now
      have e : k = 3 ^ (N + 1) := hk
      subst e
      exact pk_le (3 ^ (N + 1)) (3 ^ (N + 1)) (fun _ => h now) (fun z => absurd z (by omega))
    | succ d ih =>
      intro k hk now
      have hst : lc_S (fun k => if lc_dg N k i = a then lc_p W C B D N k else 0) (k + 1) = lc_S (fun k => if lc_dg N k i = a then lc_p W C B D N k else 0) k + (if lc_dg N k i = a then lc_p W C B D N k else 0) := rfl
      have ih2 := fun now' => ih (k + 1) (by omega) now'
      rw [hst] at ih2
      refine pk_le (3 ^ (N + 1)) k (fun z => absurd z (by omega)) (fun _ => ?_)
      refine lc_y_write hN (by omega) (fun ok now' hn => ?_) (fun ok now' hn => ?_)
      · dsimp only
        refine br_f (by decide) ⟨vp_in_nI (by omega) (by decide), ?_⟩
        rw [nI_clamp (show i < 2 ^ 31 by omega), hn i hi]
        have hd := lc_dg_lt N k i
        refine pk_eq (lc_dg N k i) a (fun z => ?_) (fun z => ?_)
        · refine lc_y_prod hN hW hC hn ?_
          rw [if_pos z, lc_p_t ok] at ih2
          rw [lN_add]
          exact nm_e (nm_r (nI_1 k) (ih2 now'))
        · rw [if_neg z, Nat.add_zero] at ih2
          exact nm_r (nI_1 k) (ih2 now')
      · dsimp only
        have z : (if lc_dg N k i = a then lc_p W C B D N k else 0) = 0 := by
          rw [lc_p_f ok]
          split <;> rfl
        rw [z, Nat.add_zero] at ih2
        exact br_t rfl (nm_r (nI_1 k) (ih2 now'))
  unfold wpY_through wpY_isPosition
  dsimp only
  refine br_f (nI_pos (by omega)) (br_f (nI_ge (by omega) (by omega)) (br_f (by decide) ?_))
  refine lc_y_isLabel ha (br_f (by decide) ?_)
  exact lc_y_lab hN ⟨3 ^ (N + 1) + 1, L (3 ^ (N + 1)) 0 (Nat.zero_add _) now⟩
theorem lc_y_thrC {post : Int64 → SY → Prop} {N i c : Nat} (hN : N ≤ 5) (hi : i + 1 ≤ N) (hc : c < 9) {W C : Nat → Nat} (hW : ∀ j, W j ≤ 9) (hC : ∀ j, C j ≤ 9) {B D now T : Nat → Int32} (h : ∀ now', post (lN (lc_S (fun k => if 3 * lc_dg N k i + lc_dg N k (i + 1) = c then lc_p W C B D N k else 0) (3 ^ (N + 1)))) (nI (N + 1), lc_v W, lc_v C, B, D, now', T)) : wpY_throughCouple post (nI (N + 1), lc_v W, lc_v C, B, D, now, T) (nI i) (nI c) := by
  have hp : 3 ^ (N + 1) ≤ 729 := lc_pow_bd (by omega)
  have L : ∀ d k, k + d = 3 ^ (N + 1) → ∀ now, wY_throughCouple_37 post (nI i) (nI c) (nI (3 ^ (N + 1))) (d + 1) (lN (lc_S (fun k => if 3 * lc_dg N k i + lc_dg N k (i + 1) = c then lc_p W C B D N k else 0) k)) (nI k) (nI (N + 1)) (lc_v W) (lc_v C) B D now T := by
    intro d
    induction d with
    | zero =>
      intro k hk now
      have e : k = 3 ^ (N + 1) := hk
      subst e
      exact pk_le (3 ^ (N + 1)) (3 ^ (N + 1)) (fun _ => h now) (fun z => absurd z (by omega))
    | succ d ih =>
      intro k hk now
      have hst : lc_S (fun k => if 3 * lc_dg N k i + lc_dg N k (i + 1) = c then lc_p W C B D N k else 0) (k + 1) = lc_S (fun k => if 3 * lc_dg N k i + lc_dg N k (i + 1) = c then lc_p W C B D N k else 0) k + (if 3 * lc_dg N k i + lc_dg N k (i + 1) = c then lc_p W C B D N k else 0) := rfl
      have ih2 := fun now' => ih (k + 1) (by omega) now'
      rw [hst] at ih2
      refine pk_le (3 ^ (N + 1)) k (fun z => absurd z (by omega)) (fun _ => ?_)
      refine lc_y_write hN (by omega) (fun ok now' hn => ?_) (fun ok now' hn => ?_)
      · dsimp only
        rw [nI_1 i]
        refine br_f (by decide) ⟨vp_in_nI (by omega) (by decide), vp_in_nI (by omega) (by decide), ?_⟩
        rw [nI_clamp (show i < 2 ^ 31 by omega), nI_clamp (show i + 1 < 2 ^ 31 by omega), hn i (by omega), hn (i + 1) hi, lc_i3]
        have hd := lc_dg_lt N k i
        have hd2 := lc_dg_lt N k (i + 1)
        refine pk_eq (3 * lc_dg N k i + lc_dg N k (i + 1)) c (fun z => ?_) (fun z => ?_)
        · refine lc_y_prod hN hW hC hn ?_
          rw [if_pos z, lc_p_t ok] at ih2
          rw [lN_add]
          exact nm_e (nm_r (nI_1 k) (ih2 now'))
        · rw [if_neg z, Nat.add_zero] at ih2
          exact nm_r (nI_1 k) (ih2 now')
      · dsimp only
        have z : (if 3 * lc_dg N k i + lc_dg N k (i + 1) = c then lc_p W C B D N k else 0) = 0 := by
          rw [lc_p_f ok]
          split <;> rfl
        rw [z, Nat.add_zero] at ih2
        exact br_t rfl (nm_r (nI_1 k) (ih2 now'))
  unfold wpY_throughCouple
  dsimp only
  have e2 : nI (N + 1) - 2 = nI (N - 1) := pk_sub (a := N + 1) (b := 2) (by omega)
  rw [e2]
  refine br_f (nI_pos (by omega)) (br_f (nI_nlt (by omega) (by omega)) (br_f (nI_pos (by omega)) (br_t (nI_le (b := 8) (by omega) (by decide)) ?_)))
  exact lc_y_lab hN ⟨3 ^ (N + 1) + 1, L (3 ^ (N + 1)) 0 (Nat.zero_add _) now⟩
end
section
/-! X: the front tables -/
theorem lc_x_start {post : SX → Prop} {a : Nat} (ha : a < 3) {W C : Nat → Nat} (hW : ∀ j, W j ≤ 9) {L R : Int32} {B D FS BS FA FB : Nat → Int32} {FP BP : Nat → Int64} {TN TX TA CH : Nat → Int32}
    (h : post (L, R, lc_v W, B, lc_v C, D, upd FS a (lc_sc (lc_fm W C B D 0 a)), BS, upd FA a (nI (lc_fk W C B D 0 a 1)), upd FB a (nI (lc_fb W C B D 0 a)), vp_updL FP a (lN (lc_fp W C B D 0 a)), BP, TN, TX, TA, CH)) :
    wpX_startFront post (L, R, lc_v W, B, lc_v C, D, FS, BS, FA, FB, FP, BP, TN, TX, TA, CH) (nI a) := by
  have hc : (nI a).toNatClampNeg = a := nI_clamp (by omega)
  have hi : vp_in (nI a) 18 := vp_in_nI (by omega) (by decide)
  unfold wpX_startFront
  dsimp only
  rw [hc]
  by_cases z : B a = 0
  · have e1 : lc_sc (lc_fm W C B D 0 a) = lc_v W a := by rw [lc_fm_0 ha, if_pos z, lc_sc_s]; rfl
    have e2 : nI (lc_fk W C B D 0 a 1) = 1 := by rw [lc_fk_0, lc_fm_0 ha, if_pos z, if_pos (by omega)]; rfl
    have e3 : nI (lc_fb W C B D 0 a) = 1 := by rw [lc_fb_0 ha, if_pos z]; rfl
    have e4 : lN (lc_fp W C B D 0 a) = (lc_v W a).toInt64 := by rw [lc_fp_0 ha, if_pos z]; exact (nI_l (lc_w9 hW a)).symm
    rw [e1, e2, e3, e4] at h
    refine ⟨hi, nm_e (br_t z ⟨hi, ?_⟩)⟩
    unfold wX_startFront_28
    rw [hc]
    refine ⟨hi, nm_e (br_t z ?_)⟩
    unfold wX_startFront_43
    rw [hc]
    refine ⟨hi, nm_e (br_t z ?_)⟩
    unfold wX_startFront_58
    rw [hc]
    exact ⟨hi, nm_e (br_t z ⟨hi, hi, nm_e h⟩)⟩
  · have e1 : lc_sc (lc_fm W C B D 0 a) = -1000 := by rw [lc_fm_0 ha, if_neg z, lc_sc_0]
    have e2 : nI (lc_fk W C B D 0 a 1) = 0 := by rw [lc_fk_0, lc_fm_0 ha, if_neg z, if_neg (by omega)]; rfl
    have e3 : nI (lc_fb W C B D 0 a) = 0 := by rw [lc_fb_0 ha, if_neg z]; rfl
    have e4 : lN (lc_fp W C B D 0 a) = 0 := by rw [lc_fp_0 ha, if_neg z]; rfl
    rw [e1, e2, e3, e4] at h
    refine ⟨hi, nm_e (br_f z ?_)⟩
    unfold wX_startFront_28
    rw [hc]
    refine ⟨hi, nm_e (br_f z ?_)⟩
    unfold wX_startFront_43
    rw [hc]
    refine ⟨hi, nm_e (br_f z ?_)⟩
    unfold wX_startFront_58
    rw [hc]
    exact ⟨hi, nm_e (br_f z ⟨hi, nm_e h⟩)⟩
theorem lc_x_173 {post : SX → Prop} {J : Int32 → (Nat → Int32) → (Nat → Int32) → (Nat → Int32) → (Nat → Int32) → (Nat → Int32) → (Nat → Int32) → (Nat → Int32) → (Nat → Int32) → (Nat → Int64) → (Nat → Int64) → (Nat → Int32) → (Nat → Int32) → (Nat → Int32) → (Nat → Int32) → Prop} {x1 : Int32} {a b c s A P fa fp : Nat} (ha : a < 3) (hb : b < 3) (hc : c < 18) (hs : s < 18) (hsc : s ≠ c) {W C : Nat → Nat} (hW : ∀ j, W j ≤ 9) (hC : ∀ j, C j ≤ 9) {L R : Int32} {B D FS BS FA FB : Nat → Int32} {FP BP : Nat → Int64} {TN TX TA CH : Nat → Int32} (hFA : FA s = nI fa) (hFP : FP s = lN fp)
    (h : J (nI (b + 1)) (lc_v W) B (lc_v C) D FS BS (upd FA c (nI (A + fa))) FB (vp_updL FP c (lN (P + fp * C (3 * b + a) * W c))) BP TN TX TA CH) :
    wX_fillFront_173 post J x1 (nI a) (nI c) (nI b) (nI s) L R (lc_v W) B (lc_v C) D FS BS (upd FA c (nI A)) FB (vp_updL FP c (lN P)) BP TN TX TA CH := by
  unfold wX_fillFront_173
  rw [nI_clamp (show c < 2 ^ 31 by omega), nI_clamp (show s < 2 ^ 31 by omega), lc_i3, nI_clamp (show 3 * b + a < 2 ^ 31 by omega)]
  have vc : vp_in (nI c) 18 := vp_in_nI hc (by decide)
  have vs : vp_in (nI s) 18 := vp_in_nI hs (by decide)
  refine ⟨vc, vs, vc, nm_r (e' := upd FA c (nI (A + fa))) ?_ ⟨vc, vs, vp_in_nI (by omega) (by decide), vc, vc, nm_r (e' := vp_updL FP c (lN (P + fp * C (3 * b + a) * W c))) ?_ (nm_r (nI_1 b) h)⟩⟩
  · rw [lc_uu, pk_us, pk_un hsc, hFA, nI_add]
  · rw [lc_uuL, pk_uLs, pk_uLn hsc, hFP]
    have e4 : (lc_v W c).toInt64 = lN (W c) := nI_l (lc_w9 hW c)
    have e5 : (lc_v C (3 * b + a)).toInt64 = lN (C (3 * b + a)) := nI_l (lc_w9 hC _)
    rw [e4, e5, lN_mul, lN_mul, lN_add]
theorem lc_x_146 {post : SX → Prop} {J : Int32 → (Nat → Int32) → (Nat → Int32) → (Nat → Int32) → (Nat → Int32) → (Nat → Int32) → (Nat → Int32) → (Nat → Int32) → (Nat → Int32) → (Nat → Int64) → (Nat → Int64) → (Nat → Int32) → (Nat → Int32) → (Nat → Int32) → (Nat → Int32) → Prop} {x1 : Int32} {a b c s q m x fbv : Nat} (hc : c < 18) (hs : s < 18) (hsc : s ≠ c) (hx : x < 1000) (hm : m < 1000) {L R : Int32} {W B C D FS BS FA FB : Nat → Int32} {FP BP : Nat → Int64} {TN TX TA CH : Nat → Int32} (hFS : FS c = lc_sc m) (hFB : FB s = nI fbv)
    (h : wX_fillFront_173 post J x1 (nI a) (nI c) (nI b) (nI s) L R W B C D FS BS FA (upd FB c (nI (if x = m then q + fbv else q))) FP BP TN TX TA CH) :
    wX_fillFront_146 post J x1 (nI a) (nI c) (nI b) (nI s) (lc_sc x) L R W B C D FS BS FA (upd FB c (nI q)) FP BP TN TX TA CH := by
  unfold wX_fillFront_146
  rw [nI_clamp (show c < 2 ^ 31 by omega), nI_clamp (show s < 2 ^ 31 by omega), hFS]
  have vc : vp_in (nI c) 18 := vp_in_nI hc (by decide)
  have vs : vp_in (nI s) 18 := vp_in_nI hs (by decide)
  refine ⟨vc, ?_⟩
  by_cases e : x = m
  · rw [if_pos e] at h
    refine br_t (by rw [e]) ⟨vc, vs, vc, nm_r (e' := upd FB c (nI (q + fbv))) ?_ h⟩
    rw [lc_uu, pk_us, pk_un hsc, hFB, nI_add]
  · rw [if_neg e] at h
    exact br_f (fun z => e ((lc_sc_eq hx hm).mp z)) h
def lc_mb (W C : Nat → Nat) (B D : Nat → Int32) (i a b : Nat) : Nat := lc_x W C B D i a b (lc_fm W C B D i b)
def lc_tb (W C : Nat → Nat) (B D : Nat → Int32) (i a b v : Nat) : Nat := lc_T (fun q => lc_x W C B D i a b (lc_f W C B D i b q)) (3 ^ i) v
def lc_ab (W C : Nat → Nat) (B D : Nat → Int32) (i a b : Nat) : Nat := lc_K (fun q => lc_x W C B D i a b (lc_f W C B D i b q)) (3 ^ i) 1
def lc_pb (W C : Nat → Nat) (B D : Nat → Int32) (i a b : Nat) : Nat := if D (3 * b + a) = 0 ∧ B (3 * (i + 1) + a) = 0 then lc_fp W C B D i b * C (3 * b + a) * W (3 * (i + 1) + a) else 0
def lc_FT (W C : Nat → Nat) (B D FS FA FB : Nat → Int32) (FP : Nat → Int64) (m : Nat) : Prop := ∀ i a, a < 3 → 3 * i + a < m → FS (3 * i + a) = lc_sc (lc_fm W C B D i a) ∧ FA (3 * i + a) = nI (lc_fk W C B D i a 1) ∧ FB (3 * i + a) = nI (lc_fb W C B D i a) ∧ FP (3 * i + a) = lN (lc_fp W C B D i a)
theorem lc_mb_skip {W C : Nat → Nat} {B D : Nat → Int32} {i a b : Nat} (hz : ¬ D (3 * b + a) = 0 ∨ lc_fm W C B D i b = 0) : lc_mb W C B D i a b = 0 ∧ lc_ab W C B D i a b = 0 := by
  have e : lc_mb W C B D i a b = 0 := by
    unfold lc_mb lc_x
    rcases hz with z | z
    · exact lc_xt_d z
    · rw [z, lc_xt_0]
  refine ⟨e, lc_K_0 ?_⟩
  rw [lc_fm_x]
  show lc_mb W C B D i a b < 1
  omega
theorem lc_fp_z {W C : Nat → Nat} {B D : Nat → Int32} {i a : Nat} (h : lc_fm W C B D i a = 0) : lc_fp W C B D i a = 0 := by
  apply lc_S_z
  intro q hq
  have h1 : lc_f W C B D i a q = 0 := by
    have := lc_M_ge (f := lc_f W C B D i a) hq
    unfold lc_fm at h
    omega
  cases ok : lc_ok B D i (3 * q + a) with
  | false => exact lc_p_f ok
  | true =>
    have h2 : lc_f W C B D i a q = _ := lc_e_t ok
    omega
theorem lc_pb_skip {W C : Nat → Nat} {B D : Nat → Int32} {i a b : Nat} (hz : ¬ D (3 * b + a) = 0 ∨ lc_fm W C B D i b = 0) : lc_pb W C B D i a b = 0 := by
  unfold lc_pb
  rcases hz with z | z
  · exact if_neg (fun y => z y.1)
  · rw [lc_fp_z z, Nat.zero_mul, Nat.zero_mul]
    split <;> rfl
theorem lc_x_ff {post : SX → Prop} {W C : Nat → Nat} (hW : ∀ j, W j ≤ 9) (hC : ∀ j, C j ≤ 9) {L R : Int32} {B D FS BS FA FB : Nat → Int32} {FP BP : Nat → Int64} {TN TX TA CH : Nat → Int32} {i a : Nat} (hi : i + 1 ≤ 5) (ha : a < 3) (hB : B (3 * (i + 1) + a) = 0) (hF : lc_FT W C B D FS FA FB FP (3 * (i + 1)))
    (h : post (L, R, lc_v W, B, lc_v C, D, upd FS (3 * (i + 1) + a) (lc_sc (lc_fm W C B D (i + 1) a)), BS, upd FA (3 * (i + 1) + a) (nI (lc_fk W C B D (i + 1) a 1)), upd FB (3 * (i + 1) + a) (nI (lc_fb W C B D (i + 1) a)), vp_updL FP (3 * (i + 1) + a) (lN (lc_fp W C B D (i + 1) a)), BP, TN, TX, TA, CH)) :
    ∀ d b, b + d = 3 → wX_fillFront_49 post (nI (i + 1)) (nI a) (nI (3 * (i + 1) + a)) L R (d + 1) (nI b) (lc_v W) B (lc_v C) D (upd FS (3 * (i + 1) + a) (lc_sc (lc_M (lc_mb W C B D i a) b))) BS (upd FA (3 * (i + 1) + a) (nI (lc_S (lc_ab W C B D i a) b))) (upd FB (3 * (i + 1) + a) (nI (lc_pt (lc_mb W C B D i a) (lc_tb W C B D i a) b))) (vp_updL FP (3 * (i + 1) + a) (lN (lc_S (lc_pb W C B D i a) b))) BP TN TX TA CH := by
  have hmbd : ∀ b, lc_mb W C B D i a b < 1000 := fun b => by
    have h1 := lc_fm_bd hW hC B D i b
    have h2 := hC (3 * b + a)
    have h3 := hW (3 * (i + 1) + a)
    unfold lc_mb lc_x lc_xt
    split <;> omega
  have hMbd : ∀ b, lc_M (lc_mb W C B D i a) b < 1000 := fun b => by
    have := (lc_M_le (f := lc_mb W C B D i a) (t := 999) (m := b)).mpr (fun k _ => by have := hmbd k; omega)
    omega
  intro d
  induction d with
  | zero =>
    intro b hb
    have e : b = 3 := hb
    subst e
    refine pk_le 3 3 (fun _ => ?_) (fun z => absurd z (by omega))
    rw [lc_fm_s ha, lc_fk_s ha, lc_fb_s ha, lc_fp_s ha] at h
    exact h
  | succ d ih =>
    intro b hb
    have hcs : 3 * i + b ≠ 3 * (i + 1) + a := by omega
    obtain ⟨f1, f2, f3, f4⟩ := hF i b (by omega) (by omega)
    have vc : vp_in (nI (3 * (i + 1) + a)) 18 := vp_in_nI (by omega) (by decide)
    have vs : vp_in (nI (3 * i + b)) 18 := vp_in_nI (by omega) (by decide)
    have v9 : vp_in (nI (3 * b + a)) 9 := vp_in_nI (by omega) (by decide)
    have skip : (¬ D (3 * b + a) = 0 ∨ lc_fm W C B D i b = 0) → wX_fillFront_49 post (nI (i + 1)) (nI a) (nI (3 * (i + 1) + a)) L R (d + 1) (nI (b + 1)) (lc_v W) B (lc_v C) D (upd FS (3 * (i + 1) + a) (lc_sc (lc_M (lc_mb W C B D i a) b))) BS (upd FA (3 * (i + 1) + a) (nI (lc_S (lc_ab W C B D i a) b))) (upd FB (3 * (i + 1) + a) (nI (lc_pt (lc_mb W C B D i a) (lc_tb W C B D i a) b))) (vp_updL FP (3 * (i + 1) + a) (lN (lc_S (lc_pb W C B D i a) b))) BP TN TX TA CH := by
      intro hz
      have h1 := lc_mb_skip hz
      have e1 : lc_M (lc_mb W C B D i a) (b + 1) = lc_M (lc_mb W C B D i a) b := Nat.max_eq_left (by rw [h1.1]; exact Nat.zero_le _)
      have e2 : lc_S (lc_ab W C B D i a) (b + 1) = lc_S (lc_ab W C B D i a) b := by
        show lc_S (lc_ab W C B D i a) b + lc_ab W C B D i a b = _
        rw [h1.2, Nat.add_zero]
      have e3 : lc_pt (lc_mb W C B D i a) (lc_tb W C B D i a) (b + 1) = lc_pt (lc_mb W C B D i a) (lc_tb W C B D i a) b := lc_pt_lo (lc_hT W C B D i a) (Or.inr h1.1)
      have e4 : lc_S (lc_pb W C B D i a) (b + 1) = lc_S (lc_pb W C B D i a) b := by
        show lc_S (lc_pb W C B D i a) b + lc_pb W C B D i a b = _
        rw [lc_pb_skip hz, Nat.add_zero]
      have h5 := ih (b + 1) (by omega)
      rw [e1, e2, e3, e4] at h5
      exact h5
    refine pk_le 3 b (fun z => absurd z (by omega)) (fun _ => nm_r (lc_i3m i b) ?_)
    rw [lc_i3, nI_clamp (show 3 * b + a < 2 ^ 31 by omega), nI_clamp (show 3 * i + b < 2 ^ 31 by omega), nI_clamp (show 3 * (i + 1) + a < 2 ^ 31 by omega), pk_un hcs, pk_un hcs, f1, f2]
    refine ⟨v9, ?_⟩
    by_cases hD : D (3 * b + a) = 0
    · refine br_t hD ⟨vs, ?_⟩
      have hfa := lc_fa_iff W C B D i b
      by_cases hz : lc_fm W C B D i b = 0
      · exact br_t (by rw [hfa.mpr hz]; rfl) (nm_r (nI_1 b) (skip (Or.inr hz)))
      · have hbd := lc_K_bd (lc_f W C B D i b) (3 ^ i) 1
        have hp : 3 ^ i ≤ 729 := lc_pow_bd (by omega)
        have hfb : lc_fk W C B D i b 1 ≤ 3 ^ i := hbd
        have hmb : lc_mb W C B D i a b = lc_fm W C B D i b + (C (3 * b + a) + W (3 * (i + 1) + a)) := lc_xt_p hD hB hz
        have hval : lc_sc (lc_fm W C B D i b) + lc_v C (3 * b + a) + lc_v W (3 * (i + 1) + a) = lc_sc (lc_mb W C B D i a b) := by
          rw [hmb]
          show lc_sc (lc_fm W C B D i b) + nI (C (3 * b + a)) + nI (W (3 * (i + 1) + a)) = _
          rw [lc_sc_add hz, lc_sc_add (by omega), Nat.add_assoc]
        have htb : lc_tb W C B D i a b (lc_mb W C B D i a b) = lc_fb W C B D i b := by
          rw [hmb]
          unfold lc_fb
          rw [if_neg hz]
          exact lc_Tx _ _ hD hB hz
        have hab : lc_ab W C B D i a b = lc_fk W C B D i b 1 := by
          have e : lc_ab W C B D i a b = _ := lc_Kx (lc_f W C B D i b) (3 ^ i) (Nat.le_refl 1)
          rw [e, if_pos ⟨hD, hB⟩]
          have e2 : max 1 (1 - (C (3 * b + a) + W (3 * (i + 1) + a))) = 1 := by omega
          rw [e2]
          rfl
        have hpb : lc_pb W C B D i a b = lc_fp W C B D i b * C (3 * b + a) * W (3 * (i + 1) + a) := if_pos ⟨hD, hB⟩
        have e2 : lc_S (lc_ab W C B D i a) (b + 1) = lc_S (lc_ab W C B D i a) b + lc_fk W C B D i b 1 := by rw [← hab]; rfl
        have e4 : lc_S (lc_pb W C B D i a) (b + 1) = lc_S (lc_pb W C B D i a) b + lc_fp W C B D i b * C (3 * b + a) * W (3 * (i + 1) + a) := by rw [← hpb]; rfl
        have h5 := ih (b + 1) (by omega)
        rw [e2, e4] at h5
        refine br_f (nI_ne0 (by omega) (by omega)) ⟨vs, v9, vc, nm_r hval ⟨vc, ?_⟩⟩
        rw [pk_us]
        by_cases hle : lc_mb W C B D i a b ≤ lc_M (lc_mb W C B D i a) b
        · have e1 : lc_M (lc_mb W C B D i a) (b + 1) = lc_M (lc_mb W C B D i a) b := Nat.max_eq_left hle
          refine br_t ((lc_sc_le (hmbd b) (hMbd b)).mpr hle) (lc_x_146 (m := lc_M (lc_mb W C B D i a) b) (fbv := lc_fb W C B D i b) (by omega) (by omega) hcs (hmbd b) (hMbd b) pk_us f3 (lc_x_173 ha (by omega) (by omega) (by omega) hcs hW hC f2 f4 ?_))
          have e3 : (if lc_mb W C B D i a b = lc_M (lc_mb W C B D i a) b then lc_pt (lc_mb W C B D i a) (lc_tb W C B D i a) b + lc_fb W C B D i b else lc_pt (lc_mb W C B D i a) (lc_tb W C B D i a) b) = lc_pt (lc_mb W C B D i a) (lc_tb W C B D i a) (b + 1) := by
            by_cases c : lc_mb W C B D i a b = lc_M (lc_mb W C B D i a) b
            · rw [if_pos c, lc_pt_eq (by omega) c.symm, htb]
            · rw [if_neg c, lc_pt_lo (M := lc_mb W C B D i a) (T := lc_tb W C B D i a) (b := b) (lc_hT W C B D i a) (Or.inl (by omega))]
          rw [e3, ← e1]
          exact h5
        · have e1 : lc_M (lc_mb W C B D i a) (b + 1) = lc_mb W C B D i a b := Nat.max_eq_right (by omega)
          have e3 : lc_pt (lc_mb W C B D i a) (lc_tb W C B D i a) (b + 1) = 0 + lc_fb W C B D i b := by
            rw [lc_pt_up (M := lc_mb W C B D i a) (T := lc_tb W C B D i a) (b := b) (lc_hT W C B D i a) (by omega), htb, Nat.zero_add]
          refine br_f (fun z => hle ((lc_sc_le (hmbd b) (hMbd b)).mp z)) ⟨vc, nm_r (lc_uu _ _ _ _) ⟨vc, nm_r (lc_uu _ _ _ _) ?_⟩⟩
          refine lc_x_146 (q := 0) (m := lc_mb W C B D i a b) (fbv := lc_fb W C B D i b) (by omega) (by omega) hcs (hmbd b) (hmbd b) pk_us f3 (lc_x_173 ha (by omega) (by omega) (by omega) hcs hW hC f2 f4 ?_)
          rw [if_pos rfl, ← e3, ← e1]
          rw [e1]
          rw [e1] at h5
          exact h5
    · exact br_f hD (nm_r (nI_1 b) (skip (Or.inl hD)))
theorem lc_x_fillFront {post : SX → Prop} {W C : Nat → Nat} (hW : ∀ j, W j ≤ 9) (hC : ∀ j, C j ≤ 9) {L R : Int32} {B D FS BS FA FB : Nat → Int32} {FP BP : Nat → Int64} {TN TX TA CH : Nat → Int32} {i a : Nat} (hi : i + 1 ≤ 5) (ha : a < 3) (hF : lc_FT W C B D FS FA FB FP (3 * (i + 1)))
    (h : post (L, R, lc_v W, B, lc_v C, D, upd FS (3 * (i + 1) + a) (lc_sc (lc_fm W C B D (i + 1) a)), BS, upd FA (3 * (i + 1) + a) (nI (lc_fk W C B D (i + 1) a 1)), upd FB (3 * (i + 1) + a) (nI (lc_fb W C B D (i + 1) a)), vp_updL FP (3 * (i + 1) + a) (lN (lc_fp W C B D (i + 1) a)), BP, TN, TX, TA, CH)) :
    wpX_fillFront post (L, R, lc_v W, B, lc_v C, D, FS, BS, FA, FB, FP, BP, TN, TX, TA, CH) (nI (i + 1)) (nI a) := by
  have vc : vp_in (nI (3 * (i + 1) + a)) 18 := vp_in_nI (by omega) (by decide)
  unfold wpX_fillFront
  dsimp only
  refine nm_r (lc_i3 (i + 1) a) ?_
  rw [nI_clamp (show 3 * (i + 1) + a < 2 ^ 31 by omega)]
  refine ⟨vc, nm_e ⟨vc, nm_e ⟨vc, nm_e ⟨vc, nm_e ⟨vc, ?_⟩⟩⟩⟩⟩
  by_cases hB : B (3 * (i + 1) + a) = 0
  · have h5 := lc_x_ff hW hC hi ha hB hF h 3 0 (by omega)
    exact br_t hB ⟨4, h5⟩
  · have e1 : lc_fm W C B D (i + 1) a = 0 := by
      rw [lc_fm_s ha]
      apply Nat.eq_zero_of_le_zero
      exact lc_M_le.mpr fun b _ => Nat.le_of_eq (lc_xt_b hB)
    have e2 : lc_fk W C B D (i + 1) a 1 = 0 := (lc_fa_iff W C B D (i + 1) a).mpr e1
    have e3 : lc_fb W C B D (i + 1) a = 0 := if_pos e1
    have e4 : lc_fp W C B D (i + 1) a = 0 := lc_fp_z e1
    rw [e1, e2, e3, e4] at h
    exact br_f hB h
end
section
/-! X: the back tables -/
theorem lc_x_137 {post : SX → Prop} {J : Int32 → Int64 → Int32 → Prop} {x1 x3 x4 : Int32} {a b s P q : Nat} (ha : a < 3) (hb : b < 3) (hs : s < 18) {W C : Nat → Nat} (hW : ∀ j, W j ≤ 9) (hC : ∀ j, C j ≤ 9) {L R : Int32} {B D FS BS FA FB : Nat → Int32} {FP BP : Nat → Int64} {TN TX TA CH : Nat → Int32} (hBP : BP s = lN q)
    (h : J x4 (lN (P + C (3 * a + b) * W s * q)) (nI (b + 1))) :
    wX_fillBack_137 post J x1 (nI a) x3 x4 (lN P) (nI b) (nI s) L R (lc_v W) B (lc_v C) D FS BS FA FB FP BP TN TX TA CH := by
  unfold wX_fillBack_137
  rw [lc_i3, nI_clamp (show 3 * a + b < 2 ^ 31 by omega), nI_clamp (show s < 2 ^ 31 by omega), hBP]
  have vs : vp_in (nI s) 18 := vp_in_nI hs (by decide)
  refine ⟨vp_in_nI (by omega) (by decide), vs, vs, nm_r (e' := lN (P + C (3 * a + b) * W s * q)) ?_ (nm_r (nI_1 b) h)⟩
  have e : lc_v C (3 * a + b) * lc_v W s = nI (C (3 * a + b) * W s) := pk_mul _ _
  have hb : C (3 * a + b) * W s ≤ 9 * 9 := Nat.mul_le_mul (hC _) (hW _)
  rw [e, nI_l (by omega), lN_mul, lN_add]
/-- the back tables of positions N - j, for (j, a) ahead of (m, b) -/
def lc_BT (W C : Nat → Nat) (B D : Nat → Int32) (N : Nat) (BS : Nat → Int32) (BP : Nat → Int64) (m b : Nat) : Prop := ∀ j a, a < 3 → j ≤ N → (j < m ∨ (j = m ∧ a < b)) → BS (3 * (N - j) + a) = lc_sc (lc_bs W C B D N j a) ∧ BP (3 * (N - j) + a) = lN (lc_bq W C B D N j a)
theorem lc_x_fb {post : SX → Prop} {W C : Nat → Nat} (hW : ∀ j, W j ≤ 9) (hC : ∀ j, C j ≤ 9) {R : Int32} {B D FS BS FA FB : Nat → Int32} {FP BP : Nat → Int64} {TN TX TA CH : Nat → Int32} {N i j a : Nat} {z0 : Int32} (hN : N ≤ 5) (hj : i + 1 + j = N) (ha : a < 3) (hF : lc_BT W C B D N BS BP (j + 1) 0)
    (h : post (nI (N + 1), R, lc_v W, B, lc_v C, D, FS, upd BS (3 * i + a) (lc_sc (lc_bs W C B D N (j + 1) a)), FA, FB, FP, vp_updL BP (3 * i + a) (lN (lc_bq W C B D N (j + 1) a)), TN, TX, TA, CH)) :
    ∀ d b, b + d = 3 → wX_fillBack_62 post (nI i) (nI a) (nI (3 * i + a)) (nI (N + 1)) R (lc_v W) B (lc_v C) D FS (upd BS (3 * i + a) z0) FA FB FP (vp_updL BP (3 * i + a) 1) TN TX TA CH (d + 1) (lc_sc (lc_M (lc_bx W C B D N j a) b)) (lN (lc_S (lc_by W C B D N j a) b)) (nI b) := by
  have hN1 : N - (j + 1) = i := by omega
  have hN2 : N - j = i + 1 := by omega
  have vc : vp_in (nI (3 * i + a)) 18 := vp_in_nI (by omega) (by decide)
  have hbd : ∀ b, lc_bx W C B D N j a b < 1000 := fun b => by
    have h1 := lc_bs_bd hW hC B D N j b
    have h2 := hC (3 * a + b)
    unfold lc_bx
    split <;> omega
  have hMbd : ∀ b, lc_M (lc_bx W C B D N j a) b < 1000 := fun b => by
    have := (lc_M_le (f := lc_bx W C B D N j a) (t := 999) (m := b)).mpr (fun k _ => by have := hbd k; omega)
    omega
  intro d
  induction d with
  | zero =>
    intro b hb
    have e : b = 3 := hb
    subst e
    refine pk_le 3 3 (fun _ => ?_) (fun z => absurd z (by omega))
    rw [nI_clamp (show 3 * i + a < 2 ^ 31 by omega), ← lc_bm_s, ← lc_bq_s]
    have hMb := hMbd 3
    rw [← lc_bm_s] at hMb
    refine ⟨vc, nm_r (lc_uuL _ _ _ _) ⟨vc, ?_⟩⟩
    have hbs : lc_bs W C B D N (j + 1) a = if B (3 * i + a) = 0 ∧ lc_bm W C B D N (j + 1) a ≠ 0 then W (3 * i + a) + lc_bm W C B D N (j + 1) a else 0 := by
      unfold lc_bs
      rw [hN1]
    rw [hbs] at h
    by_cases hB : B (3 * i + a) = 0
    · by_cases hz : lc_bm W C B D N (j + 1) a = 0
      · rw [if_neg (fun y => y.2 hz), lc_sc_0] at h
        exact br_t hB (br_f (fun y => ((lc_sc_nn hMb).mp y) hz) ⟨vc, nm_r (lc_uu _ _ _ _) h⟩)
      · rw [if_pos ⟨hB, hz⟩] at h
        refine br_t hB (br_t ((lc_sc_nn hMb).mpr hz) ⟨vc, vc, nm_r (e' := upd BS (3 * i + a) (lc_sc (W (3 * i + a) + lc_bm W C B D N (j + 1) a))) ?_ h⟩)
        rw [lc_uu, ← lc_add_sc hz]
        rfl
    · rw [if_neg (fun y => hB y.1), lc_sc_0] at h
      exact br_f hB ⟨vc, nm_r (lc_uu _ _ _ _) h⟩
  | succ d ih =>
    intro b hb
    have hcs : 3 * (i + 1) + b ≠ 3 * i + a := by omega
    obtain ⟨f1, f2⟩ := hF j b (by omega) (by omega) (Or.inl (by omega))
    rw [hN2] at f1 f2
    have vs : vp_in (nI (3 * (i + 1) + b)) 18 := vp_in_nI (by omega) (by decide)
    have v9 : vp_in (nI (3 * a + b)) 9 := vp_in_nI (by omega) (by decide)
    have hbsd : lc_bs W C B D N j b < 1000 := by have := lc_bs_bd hW hC B D N j b; omega
    have skip : (¬ D (3 * a + b) = 0 ∨ lc_bs W C B D N j b = 0) → wX_fillBack_62 post (nI i) (nI a) (nI (3 * i + a)) (nI (N + 1)) R (lc_v W) B (lc_v C) D FS (upd BS (3 * i + a) z0) FA FB FP (vp_updL BP (3 * i + a) 1) TN TX TA CH (d + 1) (lc_sc (lc_M (lc_bx W C B D N j a) b)) (lN (lc_S (lc_by W C B D N j a) b)) (nI (b + 1)) := by
      intro hz
      have h1 : lc_bx W C B D N j a b = 0 := if_neg (fun y => by rcases hz with z | z; exact z y.1; exact y.2 z)
      have h2 : lc_by W C B D N j a b = 0 := if_neg (fun y => by rcases hz with z | z; exact z y.1; exact y.2 z)
      have e1 : lc_M (lc_bx W C B D N j a) (b + 1) = lc_M (lc_bx W C B D N j a) b := Nat.max_eq_left (by rw [h1]; exact Nat.zero_le _)
      have e2 : lc_S (lc_by W C B D N j a) (b + 1) = lc_S (lc_by W C B D N j a) b := by
        show lc_S (lc_by W C B D N j a) b + lc_by W C B D N j a b = _
        rw [h2, Nat.add_zero]
      have h5 := ih (b + 1) (by omega)
      rw [e1, e2] at h5
      exact h5
    refine pk_le 3 b (fun z => absurd z (by omega)) (fun _ => nm_r (lc_i3p i b) ?_)
    rw [lc_i3, nI_clamp (show 3 * a + b < 2 ^ 31 by omega), nI_clamp (show 3 * (i + 1) + b < 2 ^ 31 by omega), pk_un hcs, f1]
    refine ⟨v9, ?_⟩
    by_cases hD : D (3 * a + b) = 0
    · refine br_t hD ⟨vs, ?_⟩
      by_cases hz : lc_bs W C B D N j b = 0
      · exact br_f (fun y => ((lc_sc_nn hbsd).mp y) hz) (nm_r (nI_1 b) (skip (Or.inr hz)))
      · have hbx : lc_bx W C B D N j a b = C (3 * a + b) + lc_bs W C B D N j b := if_pos ⟨hD, hz⟩
        have hby : lc_by W C B D N j a b = C (3 * a + b) * W (3 * (i + 1) + b) * lc_bq W C B D N j b := by
          rw [← hN2]
          exact if_pos ⟨hD, hz⟩
        have hval : lc_v C (3 * a + b) + lc_sc (lc_bs W C B D N j b) = lc_sc (lc_bx W C B D N j a b) := by
          rw [hbx]
          exact lc_add_sc hz _
        have e2 : lc_S (lc_by W C B D N j a) (b + 1) = lc_S (lc_by W C B D N j a) b + C (3 * a + b) * W (3 * (i + 1) + b) * lc_bq W C B D N j b := by rw [← hby]; rfl
        have h5 := ih (b + 1) (by omega)
        rw [e2] at h5
        refine br_t ((lc_sc_nn hbsd).mpr hz) ⟨v9, vs, nm_r hval ?_⟩
        have f2' : vp_updL BP (3 * i + a) 1 (3 * (i + 1) + b) = lN (lc_bq W C B D N j b) := by rw [pk_uLn hcs, f2]
        by_cases hle : lc_bx W C B D N j a b ≤ lc_M (lc_bx W C B D N j a) b
        · have e1 : lc_M (lc_bx W C B D N j a) (b + 1) = lc_M (lc_bx W C B D N j a) b := Nat.max_eq_left hle
          rw [e1] at h5
          exact br_t ((lc_sc_le (hbd b) (hMbd b)).mpr hle) (lc_x_137 ha (by omega) (by omega) hW hC f2' h5)
        · have e1 : lc_M (lc_bx W C B D N j a) (b + 1) = lc_bx W C B D N j a b := Nat.max_eq_right (by omega)
          rw [e1] at h5
          exact br_f (fun z => hle ((lc_sc_le (hbd b) (hMbd b)).mp z)) (lc_x_137 ha (by omega) (by omega) hW hC f2' h5)
    · exact br_f hD (nm_r (nI_1 b) (skip (Or.inl hD)))
theorem lc_x_32 {post : SX → Prop} {W C : Nat → Nat} (hW : ∀ j, W j ≤ 9) (hC : ∀ j, C j ≤ 9) {R : Int32} {B D FS BS FA FB : Nat → Int32} {FP BP : Nat → Int64} {TN TX TA CH : Nat → Int32} {N i j a : Nat} {z0 : Int32} (hN : N ≤ 5) (hj : i + j = N) (ha : a < 3) (hF : lc_BT W C B D N BS BP j 0)
    (hz : z0 = if B (3 * i + a) = 0 then nI (W (3 * i + a)) else -1000)
    (h : post (nI (N + 1), R, lc_v W, B, lc_v C, D, FS, upd BS (3 * i + a) (lc_sc (lc_bs W C B D N j a)), FA, FB, FP, vp_updL BP (3 * i + a) (lN (lc_bq W C B D N j a)), TN, TX, TA, CH)) :
    wX_fillBack_32 post (nI i) (nI a) (nI (3 * i + a)) z0 (nI (3 * i + a)) (nI (N + 1)) R (lc_v W) B (lc_v C) D FS BS FA FB FP BP TN TX TA CH := by
  have vc : vp_in (nI (3 * i + a)) 18 := vp_in_nI (by omega) (by decide)
  unfold wX_fillBack_32
  rw [nI_clamp (show 3 * i + a < 2 ^ 31 by omega), nI_pred]
  refine ⟨vc, nm_e ⟨vc, nm_e ?_⟩⟩
  cases j with
  | zero =>
    have e : i = N := hj
    subst e
    refine br_t rfl ?_
    have hbs : lc_bs W C B D i 0 a = if B (3 * i + a) = 0 then W (3 * i + a) + 1 else 0 := by
      unfold lc_bs
      rw [Nat.sub_zero, lc_bm_0]
      by_cases c : B (3 * i + a) = 0
      · rw [if_pos c, if_pos ⟨c, by omega⟩]
      · rw [if_neg c, if_neg (fun y => c y.1)]
    have e2 : lc_sc (lc_bs W C B D i 0 a) = z0 := by
      rw [hz, hbs]
      by_cases c : B (3 * i + a) = 0
      · rw [if_pos c, if_pos c, lc_sc_s]
      · rw [if_neg c, if_neg c, lc_sc_0]
    have e3 : lN (lc_bq W C B D i 0 a) = 1 := by rw [lc_bq_0]; rfl
    rw [e2, e3] at h
    exact h
  | succ j =>
    refine br_f (fun y => ?_) ⟨4, lc_x_fb hW hC hN (by omega) ha hF h 3 0 (by omega)⟩
    have := (nI_eq (by omega) (by omega)).mp y
    omega
theorem lc_x_fillBack {post : SX → Prop} {W C : Nat → Nat} (hW : ∀ j, W j ≤ 9) (hC : ∀ j, C j ≤ 9) {R : Int32} {B D FS BS FA FB : Nat → Int32} {FP BP : Nat → Int64} {TN TX TA CH : Nat → Int32} {N i j a : Nat} (hN : N ≤ 5) (hj : i + j = N) (ha : a < 3) (hF : lc_BT W C B D N BS BP j 0)
    (h : post (nI (N + 1), R, lc_v W, B, lc_v C, D, FS, upd BS (3 * i + a) (lc_sc (lc_bs W C B D N j a)), FA, FB, FP, vp_updL BP (3 * i + a) (lN (lc_bq W C B D N j a)), TN, TX, TA, CH)) :
    wpX_fillBack post (nI (N + 1), R, lc_v W, B, lc_v C, D, FS, BS, FA, FB, FP, BP, TN, TX, TA, CH) (nI i) (nI a) := by
  have vc : vp_in (nI (3 * i + a)) 18 := vp_in_nI (by omega) (by decide)
  unfold wpX_fillBack
  dsimp only
  refine nm_r (lc_i3 i a) ?_
  rw [nI_clamp (show 3 * i + a < 2 ^ 31 by omega)]
  refine ⟨vc, ?_⟩
  by_cases c : B (3 * i + a) = 0
  · exact br_t c ⟨vc, lc_x_32 hW hC hN hj ha hF (by rw [if_pos c]; rfl) h⟩
  · exact br_f c (lc_x_32 hW hC hN hj ha hF (by rw [if_neg c]) h)
end
section
/-! X: offer and rankCouple -/
theorem lc_ins_bd {x M : Nat} {g : Nat → Nat} (hx : x ≤ M) (hg : ∀ j, j < 8 → g j ≤ M) : ∀ j, j < 8 → lc_ins x g j ≤ M := by
  intro j hj
  have h1 := hg j hj
  have h2 := hg (j - 1) (by omega)
  unfold lc_ins
  split
  · exact h1
  · split
    · exact hx
    · exact h2
theorem lc_x_offer {post : SX → Prop} {L R : Int32} {W B C D FS BS FA FB : Nat → Int32} {FP BP : Nat → Int64} {TN TX TA CH : Nat → Int32} {p x M : Nat} {g : Nat → Nat} (hp : p + 8 ≤ 24) (hx : x ≤ M) (hM : M < 1000) (hg : ∀ j, j < 8 → TX (p + j) = lc_sc (g j)) (hgb : ∀ j, j < 8 → g j ≤ M) (hs : ∀ i j, i ≤ j → j < 8 → g j ≤ g i)
    (h : ∀ TX', (∀ j, j < 8 → TX' (p + j) = lc_sc (lc_ins x g j)) → (∀ j, j < p ∨ p + 8 ≤ j → TX' j = TX j) → post (L, R, W, B, C, D, FS, BS, FA, FB, FP, BP, TN, TX', TA, CH)) :
    wpX_offer post (L, R, W, B, C, D, FS, BS, FA, FB, FP, BP, TN, TX, TA, CH) (nI p) (lc_sc x) := by
  have Lp : ∀ k, k < 8 → ∀ cur : Nat → Int32, (∀ j, j ≤ k → cur (p + j) = lc_sc (g j)) → (∀ j, k < j → j < 8 → cur (p + j) = lc_sc (lc_ins x g j)) → (∀ j, j < p ∨ p + 8 ≤ j → cur j = TX j) → g k < x → wX_offer_18 post (nI p) (lc_sc x) L R (k + 1) (nI (p + k)) W B C D FS BS FA FB FP BP TN cur TA CH := by
    intro k
    induction k with
    | zero =>
      intro _ cur h1 h2 h3 h4
      refine br_t (nI_le (by omega) (by omega)) ⟨vp_in_nI (by omega) (by decide), nm_e (h _ ?_ ?_)⟩
      · rw [nI_clamp (show p + 0 < 2 ^ 31 by omega)]
        intro j hj
        by_cases e : j = 0
        · rw [e, pk_us, lc_ins_2 (by omega) (Or.inl rfl)]
        · rw [pk_un (by omega)]
          exact h2 j (by omega) hj
      · rw [nI_clamp (show p + 0 < 2 ^ 31 by omega)]
        intro j hj
        rw [pk_un (by omega)]
        exact h3 j hj
    | succ k ih =>
      intro hk cur h1 h2 h3 h4
      have e1 : nI (p + (k + 1)) - 1 = nI (p + k) := nI_pred (p + k)
      have e2 : nI (p + (k + 1)) + (-1) = nI (p + k) := pk_m1 (p + k)
      have vk : vp_in (nI (p + k)) 24 := vp_in_nI (by omega) (by decide)
      have vk1 : vp_in (nI (p + (k + 1))) 24 := vp_in_nI (by omega) (by decide)
      have b1 := hgb k (by omega)
      refine br_f (nI_ge (by omega) (by omega)) ?_
      rw [e1, nI_clamp (show p + k < 2 ^ 31 by omega), nI_clamp (show p + (k + 1) < 2 ^ 31 by omega), h1 k (by omega)]
      refine ⟨vk, ?_⟩
      by_cases c : x ≤ g k
      · refine br_t ((lc_sc_le (by omega) (by omega)).mpr c) ⟨vk1, nm_e (h _ ?_ ?_)⟩
        · intro j hj
          by_cases e : j = k + 1
          · rw [e, pk_us, lc_ins_2 (by omega) (Or.inr c)]
          · rw [pk_un (by omega)]
            by_cases f : j < k + 1
            · have := hs j k (by omega) (by omega)
              rw [h1 j (by omega), lc_ins_1 (by omega)]
            · exact h2 j (by omega) hj
        · intro j hj
          rw [pk_un (by omega)]
          exact h3 j hj
      · refine br_f (fun z => c ((lc_sc_le (by omega) (by omega)).mp z)) ⟨vk, vk1, nm_e (nm_r e2 (ih (by omega) _ ?_ ?_ ?_ (by omega)))⟩
        · intro j hj
          rw [pk_un (by omega)]
          exact h1 j (by omega)
        · intro j hj hj2
          by_cases e : j = k + 1
          · rw [e, pk_us, lc_ins_3 (by omega) (by omega) (by rw [Nat.add_sub_cancel]; exact c), Nat.add_sub_cancel]
          · rw [pk_un (by omega)]
            exact h2 j (by omega) hj2
        · intro j hj
          rw [pk_un (by omega)]
          exact h3 j hj
  unfold wpX_offer
  dsimp only
  have e0 : nI p + 8 - 1 = nI (p + 7) := by
    have e : nI p + 8 = nI (p + 8) := nI_add p 8
    rw [e]
    exact nI_pred (p + 7)
  refine nm_r e0 ?_
  rw [nI_clamp (show p + 7 < 2 ^ 31 by omega), hg 7 (by omega)]
  have b7 := hgb 7 (by omega)
  refine ⟨vp_in_nI (by omega) (by decide), ?_⟩
  by_cases c : g 7 < x
  · exact br_t ((lc_sc_lt (by omega) (by omega)).mpr c) ⟨7 + 1, Lp 7 (by omega) TX (fun j hj => hg j (by omega)) (fun j hj hj2 => absurd hj (by omega)) (fun j _ => rfl) c⟩
  · refine br_f (fun z => c ((lc_sc_lt (by omega) (by omega)).mp z)) (h TX ?_ (fun j _ => rfl))
    intro j hj
    have := hs j 7 (by omega) (by omega)
    rw [lc_ins_1 (by omega)]
    exact hg j hj
theorem lc_x_rankCouple {post : SX → Prop} {L R : Int32} {W C : Nat → Nat} (hW : ∀ j, W j ≤ 9) (hC : ∀ j, C j ≤ 9) {B D FS BS FA FB : Nat → Int32} {FP BP : Nat → Int64} {TN TX TA CH : Nat → Int32} {i a b M : Nat} {g gb K : Nat → Nat} (hi : i + 1 ≤ 5) (ha : a < 3) (hb : b < 3) (hM : M + 18 < 1000) (hgb : ∀ k, k < 8 → TN (8 * b + k) = lc_sc (gb k)) (hgbb : ∀ k, k < 8 → gb k ≤ M) (hg : ∀ j, j < 8 → TX (8 * a + j) = lc_sc (g j)) (hgM : ∀ j, j < 8 → g j ≤ M + 18) (hT : lc_Top g K)
    (h : ∀ TX' g', (∀ j, j < 8 → TX' (8 * a + j) = lc_sc (g' j)) → (∀ j, j < 8 → g' j ≤ M + 18) → lc_Top g' (fun t => K t + lc_K (fun k => lc_x W C B D i a b (gb k)) 8 t) → (∀ j, j < 8 * a ∨ 8 * a + 8 ≤ j → TX' j = TX j) → post (L, R, lc_v W, B, lc_v C, D, FS, BS, FA, FB, FP, BP, TN, TX', TA, CH)) :
    wpX_rankCouple post (L, R, lc_v W, B, lc_v C, D, FS, BS, FA, FB, FP, BP, TN, TX, TA, CH) (nI (i + 1)) (nI b) (nI a) := by
  have hw1 := hC (3 * b + a)
  have hw2 := hW (3 * (i + 1) + a)
  have v9 : vp_in (nI (3 * b + a)) 9 := vp_in_nI (by omega) (by decide)
  have vc : vp_in (nI (3 * (i + 1) + a)) 18 := vp_in_nI (by omega) (by decide)
  have none : ¬ (D (3 * b + a) = 0 ∧ B (3 * (i + 1) + a) = 0) → post (L, R, lc_v W, B, lc_v C, D, FS, BS, FA, FB, FP, BP, TN, TX, TA, CH) := by
    intro z
    refine h TX g hg hgM (lc_Top_to hT ?_) (fun j _ => rfl)
    intro j hj t ht
    have e : lc_K (fun k => lc_x W C B D i a b (gb k)) 8 t = _ := lc_Kx gb 8 ht
    rw [if_neg z] at e
    show j < K t ↔ j < K t + lc_K (fun k => lc_x W C B D i a b (gb k)) 8 t
    rw [e, Nat.add_zero]
  unfold wpX_rankCouple
  dsimp only
  rw [lc_i3, lc_i3, nI_clamp (show 3 * b + a < 2 ^ 31 by omega), nI_clamp (show 3 * (i + 1) + a < 2 ^ 31 by omega)]
  refine ⟨v9, ?_⟩
  by_cases hD : D (3 * b + a) = 0
  · refine br_t hD ⟨vc, ?_⟩
    by_cases hB : B (3 * (i + 1) + a) = 0
    · have ew : lc_v C (3 * b + a) + lc_v W (3 * (i + 1) + a) = nI (C (3 * b + a) + W (3 * (i + 1) + a)) := nI_add _ _
      refine br_t hB ⟨v9, vc, nm_r ew ?_⟩
      have Lp : ∀ d k, k + d = 8 → ∀ (TX' : Nat → Int32) (g' : Nat → Nat), (∀ j, j < 8 → TX' (8 * a + j) = lc_sc (g' j)) → (∀ j, j < 8 → g' j ≤ M + 18) → lc_Top g' (fun t => K t + lc_K (fun k => lc_x W C B D i a b (gb k)) k t) → (∀ j, j < 8 * a ∨ 8 * a + 8 ≤ j → TX' j = TX j) → wX_rankCouple_53 post (nI b) (nI a) (nI (C (3 * b + a) + W (3 * (i + 1) + a))) (d + 1) (nI k) L R (lc_v W) B (lc_v C) D FS BS FA FB FP BP TN TX' TA CH := by
        intro d
        induction d with
        | zero =>
          intro k hk TX' g' h1 h2 h3 h4
          have e : k = 8 := hk
          subst e
          exact pk_le 8 8 (fun _ => h TX' g' h1 h2 h3 h4) (fun z => absurd z (by omega))
        | succ d ih =>
          intro k hk TX' g' h1 h2 h3 h4
          have b1 := hgbb k (by omega)
          refine pk_le 8 k (fun z => absurd z (by omega)) (fun _ => ?_)
          rw [lc_i8, nI_clamp (show 8 * b + k < 2 ^ 31 by omega), hgb k (by omega)]
          refine ⟨vp_in_nI (by omega) (by decide), nm_e ?_⟩
          by_cases z : gb k = 0
          · refine br_t ((lc_sc_neg (by omega)).mpr z) (nm_r (nI_1 k) (ih (k + 1) (by omega) TX' g' h1 h2 (lc_Top_to h3 ?_) h4))
            intro j hj t ht
            have e : lc_K (fun k => lc_x W C B D i a b (gb k)) (k + 1) t = lc_K (fun k => lc_x W C B D i a b (gb k)) k t + (if t ≤ lc_x W C B D i a b (gb k) then 1 else 0) := rfl
            have e2 : lc_x W C B D i a b (gb k) = 0 := by rw [z]; exact lc_xt_0 _ _ _
            rw [e2, if_neg (by omega)] at e
            show j < K t + lc_K (fun k => lc_x W C B D i a b (gb k)) k t ↔ j < K t + lc_K (fun k => lc_x W C B D i a b (gb k)) (k + 1) t
            rw [e.trans (Nat.add_zero _)]
          · have ex : lc_x W C B D i a b (gb k) = gb k + (C (3 * b + a) + W (3 * (i + 1) + a)) := lc_xt_p hD hB z
            refine br_f (fun y => z ((lc_sc_neg (by omega)).mp y)) ?_
            rw [lc_i8', lc_sc_add z]
            refine lc_x_offer (M := M + 18) (g := g') (by omega) (by omega) (by omega) h1 h2 (fun i' j' hij hj => lc_Top_mono h3 hij hj) (fun TX2 q1 q2 => ?_)
            dsimp only
            refine nm_r (nI_1 k) (ih (k + 1) (by omega) TX2 (lc_ins (gb k + (C (3 * b + a) + W (3 * (i + 1) + a))) g') q1 (lc_ins_bd (by omega) h2) (lc_Top_to (lc_Top_ins h3 _) ?_) ?_)
            · intro j hj t ht
              show j < K t + lc_K (fun k => lc_x W C B D i a b (gb k)) k t + (if t ≤ gb k + (C (3 * b + a) + W (3 * (i + 1) + a)) then 1 else 0) ↔ j < K t + (lc_K (fun k => lc_x W C B D i a b (gb k)) k t + (if t ≤ lc_x W C B D i a b (gb k) then 1 else 0))
              rw [ex, Nat.add_assoc]
            · intro j hj
              rw [q2 j hj]
              exact h4 j hj
      exact ⟨8 + 1, Lp 8 0 (Nat.zero_add _) TX g hg hgM hT (fun j _ => rfl)⟩
    · exact br_f hB (none (fun y => hB y.2))
  · exact br_f hD (none (fun y => hD y.1))
end
section
/-! X: rankSums -/
/-- the ranks of position i lie in TN -/
def lc_RK (W C : Nat → Nat) (B D : Nat → Int32) (i : Nat) (TN : Nat → Int32) (h : Nat → Nat) : Prop := (∀ k, k < 24 → TN k = lc_sc (h k)) ∧ ∀ b, b < 3 → lc_Top (fun j => h (8 * b + j)) (lc_fk W C B D i b)
theorem lc_RK_bd {W C : Nat → Nat} (hW : ∀ j, W j ≤ 9) (hC : ∀ j, C j ≤ 9) {B D : Nat → Int32} {i : Nat} {TN : Nat → Int32} {h : Nat → Nat} (I : lc_RK W C B D i TN h) : ∀ b, b < 3 → ∀ j, j < 8 → h (8 * b + j) ≤ 10 + 18 * i := by
  intro b hb j hj
  by_cases z : h (8 * b + j) = 0
  · omega
  · have h1 : j < lc_fk W C B D i b (h (8 * b + j)) := (I.2 b hb j hj (h (8 * b + j)) (by omega)).mp (Nat.le_refl _)
    have h2 : h (8 * b + j) ≤ lc_fm W C B D i b := (lc_K_pos (f := lc_f W C B D i b) (m := 3 ^ i) (by omega)).mp (by show 0 < lc_fk W C B D i b (h (8 * b + j)); omega)
    have h3 := lc_fm_bd hW hC B D i b
    omega
section
variable {L R : Int32} {W B C D FS BS FA FB : Nat → Int32} {FP BP : Nat → Int64} {TN TX TA CH : Nat → Int32}
theorem lc_x_200 {post : SX → Prop} {g : Nat → Nat} (hg : ∀ k, k < 8 → TX k = lc_sc (g k)) (h : ∀ TA', (∀ k, k < 8 → TA' k = lc_sc (g k)) → post (L, R, W, B, C, D, FS, BS, FA, FB, FP, BP, TN, TX, TA', CH)) : ∀ d k, k + d = 8 → ∀ TA : Nat → Int32, (∀ j, j < k → TA j = lc_sc (g j)) → wX_rankSums_200 post L R (d + 1) (nI k) W B C D FS BS FA FB FP BP TN TX TA CH := by
  intro d
  induction d with
  | zero =>
    intro k hk TA hT
    have e : k = 8 := hk
    subst e
    exact pk_le 8 8 (fun _ => h TA hT) (fun z => absurd z (by omega))
  | succ d ih =>
    intro k hk TA hT
    refine pk_le 8 k (fun z => absurd z (by omega)) (fun _ => ?_)
    rw [nI_clamp (show k < 2 ^ 31 by omega), hg k (by omega)]
    refine ⟨vp_in_nI (by omega) (by decide), vp_in_nI (by omega) (by decide), nm_e (nm_r (nI_1 k) (ih (k + 1) (by omega) _ ?_))⟩
    intro j hj
    by_cases c : j = k
    · rw [c, pk_us]
    · rw [pk_un c]
      exact hT j (by omega)
theorem lc_x_166 {post : SX → Prop} {f : Nat → Nat} (hf : ∀ k, k < 24 → TN k = lc_sc (f k)) (hfb : ∀ k, k < 24 → f k ≤ 900) (h : ∀ TX' TA' g, (∀ k, k < 8 → TA' k = lc_sc (g k)) → lc_Top g (fun t => lc_K f 24 t) → (∀ j, j < 8 → g j ≤ 900) → post (L, R, W, B, C, D, FS, BS, FA, FB, FP, BP, TN, TX', TA', CH)) : ∀ d k, k + d = 24 → ∀ (TX : Nat → Int32) (g : Nat → Nat), (∀ j, j < 8 → TX j = lc_sc (g j)) → lc_Top g (fun t => lc_K f k t) → (∀ j, j < 8 → g j ≤ 900) → wX_rankSums_166 post (d + 1) (nI k) L R W B C D FS BS FA FB FP BP TN TX TA CH := by
  intro d
  induction d with
  | zero =>
    intro k hk TX g h1 h2 h3
    have e : k = 24 := hk
    subst e
    refine pk_le 24 24 (fun _ => ⟨8 + 1, ?_⟩) (fun z => absurd z (by omega))
    exact lc_x_200 h1 (fun TA' hT => h TX TA' g hT h2 h3) 8 0 (Nat.zero_add _) TA (fun j hj => absurd hj (Nat.not_lt_zero j))
  | succ d ih =>
    intro k hk TX g h1 h2 h3
    have b1 := hfb k (by omega)
    have vk : vp_in (nI k) 24 := vp_in_nI (by omega) (by decide)
    refine pk_le 24 k (fun z => absurd z (by omega)) (fun _ => ?_)
    rw [nI_clamp (show k < 2 ^ 31 by omega), hf k (by omega)]
    refine ⟨vk, ?_⟩
    by_cases z : f k = 0
    · refine br_t ((lc_sc_neg (by omega)).mpr z) (nm_r (nI_1 k) (ih (k + 1) (by omega) TX g h1 (lc_Top_to h2 ?_) h3))
      intro j hj t ht
      show j < lc_K f k t ↔ j < lc_K f k t + (if t ≤ f k then 1 else 0)
      rw [z, if_neg (by omega), Nat.add_zero]
    · refine br_f (fun y => z ((lc_sc_neg (by omega)).mp y)) ⟨vk, ?_⟩
      refine lc_x_offer (p := 0) (M := 900) (g := g) (by omega) b1 (by omega) (fun j hj => by rw [Nat.zero_add]; exact h1 j hj) h3 (fun i' j' hij hj => lc_Top_mono h2 hij hj) (fun TX2 q1 q2 => ?_)
      dsimp only
      refine nm_r (nI_1 k) (ih (k + 1) (by omega) TX2 (lc_ins (f k) g) (fun j hj => by have := q1 j hj; rw [Nat.zero_add] at this; exact this) (lc_Top_ins h2 (f k)) (lc_ins_bd b1 h3))
theorem lc_x_143 {post : SX → Prop} {f : Nat → Nat} (hf : ∀ k, k < 24 → TN k = lc_sc (f k)) (hfb : ∀ k, k < 24 → f k ≤ 900) (h : ∀ TX' TA' g, (∀ k, k < 8 → TA' k = lc_sc (g k)) → lc_Top g (fun t => lc_K f 24 t) → (∀ j, j < 8 → g j ≤ 900) → post (L, R, W, B, C, D, FS, BS, FA, FB, FP, BP, TN, TX', TA', CH)) : ∀ d k, k + d = 8 → ∀ TX : Nat → Int32, (∀ j, j < k → TX j = -1000) → wX_rankSums_143 post L R (d + 1) (nI k) W B C D FS BS FA FB FP BP TN TX TA CH := by
  intro d
  induction d with
  | zero =>
    intro k hk TX hT
    have e : k = 8 := hk
    subst e
    refine pk_le 8 8 (fun _ => ⟨24 + 1, ?_⟩) (fun z => absurd z (by omega))
    exact lc_x_166 hf hfb h 24 0 (Nat.zero_add _) TX (fun _ => 0) (fun j hj => by rw [hT j hj, lc_sc_0]) lc_Top_z (fun j _ => Nat.zero_le _)
  | succ d ih =>
    intro k hk TX hT
    refine pk_le 8 k (fun z => absurd z (by omega)) (fun _ => ⟨vp_in_nI (by omega) (by decide), nm_e (nm_r (nI_1 k) (ih (k + 1) (by omega) _ ?_))⟩)
    rw [nI_clamp (show k < 2 ^ 31 by omega)]
    intro j hj
    by_cases c : j = k
    · rw [c, pk_us]
    · rw [pk_un c]
      exact hT j (by omega)
theorem lc_x_111 {post : SX → Prop} {J : Int32 → Int32 → Int32 → (Nat → Int32) → (Nat → Int32) → (Nat → Int32) → (Nat → Int32) → (Nat → Int32) → (Nat → Int32) → (Nat → Int32) → (Nat → Int32) → (Nat → Int64) → (Nat → Int64) → (Nat → Int32) → (Nat → Int32) → (Nat → Int32) → (Nat → Int32) → Prop} {i : Nat} (h : ∀ TN', (∀ k, k < 24 → TN' k = TX k) → J (nI (i + 1)) L R W B C D FS BS FA FB FP BP TN' TX TA CH) : ∀ d k, k + d = 24 → ∀ TN : Nat → Int32, (∀ j, j < k → TN j = TX j) → wX_rankSums_111 post J (nI i) L R (d + 1) (nI k) W B C D FS BS FA FB FP BP TN TX TA CH := by
  intro d
  induction d with
  | zero =>
    intro k hk TN hT
    have e : k = 24 := hk
    subst e
    exact pk_le 24 24 (fun _ => nm_r (nI_1 i) (h TN hT)) (fun z => absurd z (by omega))
  | succ d ih =>
    intro k hk TN hT
    refine pk_le 24 k (fun z => absurd z (by omega)) (fun _ => ⟨vp_in_nI (by omega) (by decide), vp_in_nI (by omega) (by decide), nm_e (nm_r (nI_1 k) (ih (k + 1) (by omega) _ ?_))⟩)
    rw [nI_clamp (show k < 2 ^ 31 by omega)]
    intro j hj
    by_cases c : j = k
    · rw [c, pk_us]
    · rw [pk_un c]
      exact hT j (by omega)
theorem lc_x_63 {post : SX → Prop} {J : Int32 → Int32 → Int32 → (Nat → Int32) → (Nat → Int32) → (Nat → Int32) → (Nat → Int32) → (Nat → Int32) → (Nat → Int32) → (Nat → Int32) → (Nat → Int32) → (Nat → Int64) → (Nat → Int64) → (Nat → Int32) → (Nat → Int32) → (Nat → Int32) → (Nat → Int32) → Prop} {x1 : Int32} (h : ∀ TX', (∀ k, k < 24 → TX' k = -1000) → ∃ n, wX_rankSums_86 post J x1 n 0 L R W B C D FS BS FA FB FP BP TN TX' TA CH) : ∀ d k, k + d = 24 → ∀ TX : Nat → Int32, (∀ j, j < k → TX j = -1000) → wX_rankSums_63 post J x1 L R (d + 1) (nI k) W B C D FS BS FA FB FP BP TN TX TA CH := by
  intro d
  induction d with
  | zero =>
    intro k hk TX hT
    have e : k = 24 := hk
    subst e
    exact pk_le 24 24 (fun _ => h TX hT) (fun z => absurd z (by omega))
  | succ d ih =>
    intro k hk TX hT
    refine pk_le 24 k (fun z => absurd z (by omega)) (fun _ => ⟨vp_in_nI (by omega) (by decide), nm_e (nm_r (nI_1 k) (ih (k + 1) (by omega) _ ?_))⟩)
    rw [nI_clamp (show k < 2 ^ 31 by omega)]
    intro j hj
    by_cases c : j = k
    · rw [c, pk_us]
    · rw [pk_un c]
      exact hT j (by omega)
theorem lc_x_2 {post : SX → Prop} (h : ∀ TN', (∀ k, k < 24 → TN' k = -1000) → ∃ n, wX_rankSums_25 post L R n 0 W B C D FS BS FA FB FP BP TN' TX TA CH) : ∀ d k, k + d = 24 → ∀ TN : Nat → Int32, (∀ j, j < k → TN j = -1000) → wX_rankSums_2 post L R (d + 1) (nI k) W B C D FS BS FA FB FP BP TN TX TA CH := by
  intro d
  induction d with
  | zero =>
    intro k hk TN hT
    have e : k = 24 := hk
    subst e
    exact pk_le 24 24 (fun _ => h TN hT) (fun z => absurd z (by omega))
  | succ d ih =>
    intro k hk TN hT
    refine pk_le 24 k (fun z => absurd z (by omega)) (fun _ => ⟨vp_in_nI (by omega) (by decide), nm_e (nm_r (nI_1 k) (ih (k + 1) (by omega) _ ?_))⟩)
    rw [nI_clamp (show k < 2 ^ 31 by omega)]
    intro j hj
    by_cases c : j = k
    · rw [c, pk_us]
    · rw [pk_un c]
      exact hT j (by omega)
end
section
variable {L R : Int32} {W C : Nat → Nat} {B D FS BS FA FB : Nat → Int32} {FP BP : Nat → Int64} {TN TX TA CH : Nat → Int32}
/-- the nine couples of one position -/
theorem lc_x_86 {post : SX → Prop} {J : Int32 → Int32 → Int32 → (Nat → Int32) → (Nat → Int32) → (Nat → Int32) → (Nat → Int32) → (Nat → Int32) → (Nat → Int32) → (Nat → Int32) → (Nat → Int32) → (Nat → Int64) → (Nat → Int64) → (Nat → Int32) → (Nat → Int32) → (Nat → Int32) → (Nat → Int32) → Prop} (hW : ∀ j, W j ≤ 9) (hC : ∀ j, C j ≤ 9) {i : Nat} (hi : i + 1 ≤ 5) {f : Nat → Nat} (I : lc_RK W C B D i TN f)
    (h : ∀ TN' TX' f', lc_RK W C B D (i + 1) TN' f' → J (nI (i + 1 + 1)) L R (lc_v W) B (lc_v C) D FS BS FA FB FP BP TN' TX' TA CH) :
    ∀ d c, c + d = 9 → ∀ (TX : Nat → Int32) (g : Nat → Nat → Nat), (∀ a, a < 3 → ∀ j, j < 8 → TX (8 * a + j) = lc_sc (g a j)) → (∀ a, a < 3 → ∀ j, j < 8 → g a j ≤ 10 + 18 * i + 18) → (∀ a, a < 3 → lc_Top (g a) (fun t => lc_S (fun b => lc_K (fun k => lc_x W C B D i a b (f (8 * b + k))) 8 t) ((c + 2 - a) / 3))) → wX_rankSums_86 post J (nI (i + 1)) (d + 1) (nI c) L R (lc_v W) B (lc_v C) D FS BS FA FB FP BP TN TX TA CH := by
  intro d
  induction d with
  | zero =>
    intro c hc TX g h1 h2 h3
    have e : c = 9 := hc
    subst e
    refine pk_le 9 9 (fun _ => ⟨24 + 1, ?_⟩) (fun z => absurd z (by omega))
    refine lc_x_111 (fun TN' hT => h TN' TX (fun k => g (k / 8) (k % 8)) ⟨?_, ?_⟩) 24 0 (Nat.zero_add _) TN (fun j hj => absurd hj (Nat.not_lt_zero j))
    · intro k hk
      have e := h1 (k / 8) (by omega) (k % 8) (by omega)
      rw [Nat.div_add_mod] at e
      rw [hT k hk, e]
    · intro a ha
      have h4 := h3 a ha
      have e : (9 + 2 - a) / 3 = 3 := by omega
      rw [e] at h4
      have h5 := lc_Top_step (g := fun b k => f (8 * b + k)) ha I.2 h4
      intro j hj t ht
      have e1 : (8 * a + j) / 8 = a := by omega
      have e2 : (8 * a + j) % 8 = j := by omega
      show t ≤ g ((8 * a + j) / 8) ((8 * a + j) % 8) ↔ _
      rw [e1, e2]
      exact h5 j hj t ht
  | succ d ih =>
    intro c hc TX g h1 h2 h3
    refine pk_le 9 c (fun z => absurd z (by omega)) (fun _ => ⟨by decide, by decide, ?_⟩)
    have e1 : nI c / 3 = nI (c / 3) := pk_div (d := 3) (by omega) (by decide) (by decide)
    have e2 : nI c - nI c / 3 * 3 = nI (c % 3) := pk_rem (d := 3) (by omega) (by decide) (by decide)
    rw [e2, e1]
    refine lc_x_rankCouple (M := 10 + 18 * i) (gb := fun k => f (8 * (c / 3) + k)) (g := g (c % 3)) hW hC hi (by omega) (by omega) (by omega) (fun k hk => I.1 _ (by omega)) (fun k hk => lc_RK_bd hW hC I (c / 3) (by omega) k hk) (h1 (c % 3) (by omega)) (h2 (c % 3) (by omega)) (h3 (c % 3) (by omega)) (fun TX2 g2 q1 q2 q3 q4 => ?_)
    dsimp only
    refine nm_r (nI_1 c) (ih (c + 1) (by omega) TX2 (fun a j => if a = c % 3 then g2 j else g a j) ?_ ?_ ?_)
    · intro a ha j hj
      by_cases e : a = c % 3
      · show TX2 (8 * a + j) = lc_sc (if a = c % 3 then g2 j else g a j)
        rw [if_pos e, e]
        exact q1 j hj
      · show TX2 (8 * a + j) = lc_sc (if a = c % 3 then g2 j else g a j)
        rw [if_neg e, q4 (8 * a + j) (by omega)]
        exact h1 a ha j hj
    · intro a ha j hj
      show (if a = c % 3 then g2 j else g a j) ≤ _
      by_cases e : a = c % 3
      · rw [if_pos e]
        exact q2 j hj
      · rw [if_neg e]
        exact h2 a ha j hj
    · intro a ha
      by_cases e : a = c % 3
      · have e3 : (fun j => if a = c % 3 then g2 j else g a j) = g2 := by
          funext j
          exact if_pos e
        show lc_Top (fun j => if a = c % 3 then g2 j else g a j) _
        rw [e3]
        have e4 : (c + 1 + 2 - a) / 3 = c / 3 + 1 := by omega
        have e5 : (c + 2 - c % 3) / 3 = c / 3 := by omega
        rw [e4, e]
        rw [e5] at q3
        exact q3
      · have e3 : (fun j => if a = c % 3 then g2 j else g a j) = g a := by
          funext j
          exact if_neg e
        show lc_Top (fun j => if a = c % 3 then g2 j else g a j) _
        rw [e3]
        have e4 : (c + 1 + 2 - a) / 3 = (c + 2 - a) / 3 := by omega
        rw [e4]
        exact h3 a ha
theorem lc_x_53 {post : SX → Prop} (hW : ∀ j, W j ≤ 9) (hC : ∀ j, C j ≤ 9) {N : Nat} (hN : N ≤ 5)
    (h : ∀ TN' TX' TA' g, (∀ k, k < 8 → TA' k = lc_sc (g k)) → lc_Top g (lc_K (lc_e W C B D N) (3 ^ (N + 1))) → (∀ j, j < 8 → g j ≤ 900) → post (nI (N + 1), R, lc_v W, B, lc_v C, D, FS, BS, FA, FB, FP, BP, TN', TX', TA', CH)) :
    ∀ d i, i + d = N → ∀ (TN TX : Nat → Int32) (f : Nat → Nat), lc_RK W C B D i TN f → wX_rankSums_53 post (d + 1) (nI (i + 1)) (nI (N + 1)) R (lc_v W) B (lc_v C) D FS BS FA FB FP BP TN TX TA CH := by
  intro d
  induction d with
  | zero =>
    intro i hi TN TX f I
    have e : i = N := hi
    subst e
    refine pk_le (i + 1) (i + 1) (fun _ => ⟨8 + 1, ?_⟩) (fun z => absurd z (by omega))
    refine lc_x_143 (f := f) I.1 ?_ (fun TX' TA' g q1 q2 q3 => h TN TX' TA' g q1 (lc_Top_all (g := f) ?_ q2) q3) 8 0 (Nat.zero_add _) TX (fun j hj => absurd hj (Nat.not_lt_zero j))
    · intro k hk
      have := lc_RK_bd hW hC I (k / 8) (by omega) (k % 8) (by omega)
      rw [Nat.div_add_mod] at this
      omega
    · intro b hb
      rw [Nat.mul_comm b 8]
      exact I.2 b hb
  | succ d ih =>
    intro i hi TN TX f I
    refine pk_le (N + 1) (i + 1) (fun z => absurd z (by omega)) (fun _ => ⟨24 + 1, ?_⟩)
    refine lc_x_63 (fun TX' hT => ⟨9 + 1, ?_⟩) 24 0 (Nat.zero_add _) TX (fun j hj => absurd hj (Nat.not_lt_zero j))
    refine lc_x_86 hW hC (by omega) I (fun TN' TX' f' I' => ih (i + 1) (by omega) TN' TX' f' I') 9 0 (Nat.zero_add _) TX' (fun _ _ => 0) ?_ (fun _ _ _ _ => Nat.zero_le _) ?_
    · intro a ha j hj
      rw [hT _ (by omega)]
      exact lc_sc_0.symm
    · intro a ha
      have e : (0 + 2 - a) / 3 = 0 := by omega
      rw [e]
      exact lc_Top_z
theorem lc_x_25 {post : SX → Prop} (h : ∀ TN' f, lc_RK W C B D 0 TN' f → ∃ n, wX_rankSums_53 post n 1 L R (lc_v W) B (lc_v C) D FS BS FA FB FP BP TN' TX TA CH) (hF : ∀ a, a < 3 → FS a = lc_sc (lc_fm W C B D 0 a)) : ∀ d a, a + d = 3 → ∀ TN : Nat → Int32, (∀ k, k < 24 → TN k = lc_sc (if k % 8 = 0 ∧ k / 8 < a then lc_fm W C B D 0 (k / 8) else 0)) → wX_rankSums_25 post L R (d + 1) (nI a) (lc_v W) B (lc_v C) D FS BS FA FB FP BP TN TX TA CH := by
  intro d
  induction d with
  | zero =>
    intro a ha TN hT
    have e : a = 3 := ha
    subst e
    refine pk_le 3 3 (fun _ => h TN _ ⟨hT, fun b hb => lc_Top_0 ?_ ?_⟩) (fun z => absurd z (by omega))
    · have e1 : (8 * b + 0) / 8 = b := by omega
      have e2 : (8 * b + 0) % 8 = 0 := by omega
      show (if (8 * b + 0) % 8 = 0 ∧ (8 * b + 0) / 8 < 3 then lc_fm W C B D 0 ((8 * b + 0) / 8) else 0) = _
      rw [if_pos ⟨e2, by omega⟩, e1]
    · intro j hj hj2
      exact if_neg (fun y => by have := y.1; omega)
  | succ d ih =>
    intro a ha TN hT
    refine pk_le 3 a (fun z => absurd z (by omega)) (fun _ => ?_)
    rw [lc_i8', nI_clamp (show a < 2 ^ 31 by omega), nI_clamp (show 8 * a < 2 ^ 31 by omega), hF a (by omega)]
    refine ⟨vp_in_nI (by omega) (by decide), vp_in_nI (by omega) (by decide), nm_e (nm_r (nI_1 a) (ih (a + 1) (by omega) _ ?_))⟩
    intro k hk
    by_cases c : k = 8 * a
    · have e1 : k / 8 = a := by omega
      rw [if_pos ⟨by omega, by omega⟩, c, pk_us, ← c, e1]
    · rw [pk_un c, hT k hk]
      by_cases c2 : k % 8 = 0 ∧ k / 8 < a
      · rw [if_pos c2, if_pos ⟨c2.1, by omega⟩]
      · rw [if_neg c2, if_neg (fun y => c2 ⟨y.1, by omega⟩)]
theorem lc_x_rankSums {post : SX → Prop} (hW : ∀ j, W j ≤ 9) (hC : ∀ j, C j ≤ 9) {N : Nat} (hN : N ≤ 5) (hF : ∀ a, a < 3 → FS a = lc_sc (lc_fm W C B D 0 a))
    (h : ∀ TN' TX' TA' g, (∀ k, k < 8 → TA' k = lc_sc (g k)) → lc_Top g (lc_K (lc_e W C B D N) (3 ^ (N + 1))) → (∀ j, j < 8 → g j ≤ 900) → post (nI (N + 1), R, lc_v W, B, lc_v C, D, FS, BS, FA, FB, FP, BP, TN', TX', TA', CH)) :
    wpX_rankSums post (nI (N + 1), R, lc_v W, B, lc_v C, D, FS, BS, FA, FB, FP, BP, TN, TX, TA, CH) := by
  unfold wpX_rankSums
  dsimp only
  refine ⟨24 + 1, lc_x_2 (fun TN' hT => ⟨3 + 1, ?_⟩) 24 0 (Nat.zero_add _) TN (fun j hj => absurd hj (Nat.not_lt_zero j))⟩
  refine lc_x_25 (fun TN2 f I => ⟨N + 1, lc_x_53 hW hC hN h N 0 (Nat.zero_add _) TN2 TX f I⟩) hF 3 0 (Nat.zero_add _) TN' ?_
  intro k hk
  rw [if_neg (fun y => Nat.not_lt_zero _ y.2), lc_sc_0]
  exact hT k hk
end
end
section
/-! X: greatestSum, reaches, choose -/
section
variable {R : Int32} {W C : Nat → Nat} {B D FS BS FA FB : Nat → Int32} {FP BP : Nat → Int64} {TN TX TA CH : Nat → Int32}
theorem lc_x_great {post : Int32 → Prop} (hW : ∀ j, W j ≤ 9) (hC : ∀ j, C j ≤ 9) {N : Nat} (hN : N ≤ 5) (hF : ∀ a, a < 3 → FS (3 * N + a) = lc_sc (lc_fm W C B D N a)) (h : post (lc_sc (lc_A W C B D N))) : wpX_greatestSum post (nI (N + 1), R, lc_v W, B, lc_v C, D, FS, BS, FA, FB, FP, BP, TN, TX, TA, CH) := by
  have hb : ∀ a, lc_fm W C B D N a < 1000 := fun a => by have := lc_fm_bd hW hC B D N a; omega
  have hm : ∀ a, lc_M (lc_fm W C B D N) a < 1000 := fun a => by
    have := (lc_M_le (f := lc_fm W C B D N) (t := 999) (m := a)).mpr (fun k _ => by have := hb k; omega)
    omega
  have Lp : ∀ d a, a + d = 3 → wX_greatestSum_6 post (nI (N + 1)) R (lc_v W) B (lc_v C) D FS BS FA FB FP BP TN TX TA CH (d + 1) (lc_sc (lc_M (lc_fm W C B D N) a)) (nI a) := by
    intro d
    induction d with
    | zero =>
      intro a ha
      have e : a = 3 := ha
      subst e
      rw [lc_A_eq] at h
      exact pk_le 3 3 (fun _ => h) (fun z => absurd z (by omega))
    | succ d ih =>
      intro a ha
      refine pk_le 3 a (fun z => absurd z (by omega)) (fun _ => ?_)
      rw [lc_i3m, nI_clamp (show 3 * N + a < 2 ^ 31 by omega), hF a (by omega)]
      have vc : vp_in (nI (3 * N + a)) 18 := vp_in_nI (by omega) (by decide)
      refine ⟨vc, ?_⟩
      have h5 := ih (a + 1) (by omega)
      by_cases c : lc_fm W C B D N a ≤ lc_M (lc_fm W C B D N) a
      · have e : lc_M (lc_fm W C B D N) (a + 1) = lc_M (lc_fm W C B D N) a := Nat.max_eq_left c
        rw [e] at h5
        exact br_t ((lc_sc_le (hb a) (hm a)).mpr c) (nm_r (nI_1 a) h5)
      · have e : lc_M (lc_fm W C B D N) (a + 1) = lc_fm W C B D N a := Nat.max_eq_right (by omega)
        rw [e] at h5
        exact br_f (fun z => c ((lc_sc_le (hb a) (hm a)).mp z)) ⟨vc, nm_e (nm_r (nI_1 a) h5)⟩
  exact ⟨3 + 1, Lp 3 0 (Nat.zero_add _)⟩
def lc_Rch (C : Nat → Nat) (D : Nat → Int32) (i a s rs pd : Nat) : Prop := s ≠ 0 ∧ (i = 0 → s - 1 = rs) ∧ (i ≠ 0 → D (3 * pd + a) = 0 ∧ s - 1 + C (3 * pd + a) = rs)
theorem lc_x_reach {post : Int32 → Prop} {L : Int32} {i a s rs pd : Nat} (hi : i ≤ 5) (ha : a < 3) (hpd : pd < 3) (hs : s < 1000) (hrs : rs < 1000) (hBS : BS (3 * i + a) = lc_sc s) (hCH : i ≠ 0 → CH (i - 1) = nI pd) (hC : ∀ j, C j ≤ 9)
    (h1 : lc_Rch C D i a s rs pd → post 1) (h0 : ¬ lc_Rch C D i a s rs pd → post 0) : wpX_reaches post (L, R, lc_v W, B, lc_v C, D, FS, BS, FA, FB, FP, BP, TN, TX, TA, CH) (nI i) (nI a) (nI rs) := by
  unfold wpX_reaches
  dsimp only
  rw [lc_i3, nI_clamp (show 3 * i + a < 2 ^ 31 by omega), hBS]
  refine ⟨vp_in_nI (by omega) (by decide), nm_e ?_⟩
  by_cases z : s = 0
  · exact br_f (fun y => (lc_sc_nn hs).mp y z) (h0 (fun y => y.1 z))
  · refine br_t ((lc_sc_nn hs).mpr z) ?_
    rw [lc_sc_p z]
    cases i with
    | zero =>
      refine br_t rfl ?_
      exact pk_eq (s - 1) rs (fun e => h1 ⟨z, fun _ => e, fun y => absurd rfl y⟩) (fun e => h0 (fun y => e (y.2.1 rfl)))
    | succ i =>
      have hc : CH i = nI pd := hCH (by omega)
      have hw := hC (3 * pd + a)
      have v9 : vp_in (nI (3 * pd + a)) 9 := vp_in_nI (by omega) (by decide)
      refine br_f (nI_ne0 (by omega) (by omega)) ?_
      rw [nI_pred, nI_clamp (show i < 2 ^ 31 by omega), hc]
      refine ⟨vp_in_nI (by omega) (by decide), nm_r (lc_i3 pd a) ?_⟩
      rw [nI_clamp (show 3 * pd + a < 2 ^ 31 by omega)]
      refine ⟨v9, ?_⟩
      by_cases hD : D (3 * pd + a) = 0
      · refine br_t hD ⟨v9, ?_⟩
        exact pk_eq (s - 1 + C (3 * pd + a)) rs (fun e => h1 ⟨z, fun y => absurd y (by omega), fun _ => ⟨hD, e⟩⟩) (fun e => h0 (fun y => e (y.2.2 (by omega)).2)) (hx := nI_add _ _)
      · exact br_f hD (h0 (fun y => hD (y.2.2 (by omega)).1))
theorem lc_x_c17 {post : SX → Prop} {J : Int32 → Int32 → (Nat → Int32) → (Nat → Int32) → (Nat → Int32) → (Nat → Int32) → (Nat → Int32) → (Nat → Int32) → (Nat → Int32) → (Nat → Int32) → (Nat → Int64) → (Nat → Int64) → (Nat → Int32) → (Nat → Int32) → (Nat → Int32) → (Nat → Int32) → Prop} {L : Int32} {i d rs : Nat} (hd : d < 3) (P : Nat → Prop) (hR : ∀ a, a < 3 → ∀ q : Int32 → Prop, (P a → q 1) → (¬ P a → q 0) → wpX_reaches q (L, R, lc_v W, B, lc_v C, D, FS, BS, FA, FB, FP, BP, TN, TX, TA, CH) (nI i) (nI a) (nI rs)) (hlo : ∀ a, a < d → ¬ P a) (hat : P d)
    (h : wX_choose_38 post J (nI rs) (nI i) (nI d) L R (lc_v W) B (lc_v C) D FS BS FA FB FP BP TN TX TA CH) : ∀ m a, a + m = d → wX_choose_17 post J (nI rs) (nI i) L R (lc_v W) B (lc_v C) D FS BS FA FB FP BP TN TX TA CH (m + 1) (nI a) := by
  intro m
  induction m with
  | zero =>
    intro a ha
    have e : a = d := ha
    subst e
    refine pk_le 2 a (fun _ => h) (fun z => ?_)
    exact hR a hd _ (fun _ => br_f (by decide) h) (fun y => absurd hat y)
  | succ m ih =>
    intro a ha
    refine pk_le 2 a (fun z => absurd z (by omega)) (fun _ => ?_)
    exact hR a (by omega) _ (fun y => absurd y (hlo a (by omega))) (fun _ => br_t rfl (nm_r (nI_1 a) (ih (a + 1) (by omega))))
theorem lc_go_s {N i j p a : Nat} (e : i + 1 + j = N) (ha : a < 3) (hE : lc_e W C B D i p ≠ 0) : lc_cb (lc_e W C B D (i + 1) (3 * p + a)) (lc_bm W C B D N j a) = if D (3 * (p % 3) + a) = 0 ∧ lc_bs W C B D N j a ≠ 0 then lc_e W C B D i p + C (3 * (p % 3) + a) + lc_bs W C B D N j a - 1 else 0 := by
  have hN : N - j = i + 1 := by omega
  rw [lc_e_s ha]
  unfold lc_bs
  rw [hN]
  by_cases h2 : D (3 * (p % 3) + a) = 0
  · by_cases h3 : B (3 * (i + 1) + a) = 0
    · rw [lc_xt_p h2 h3 hE]
      by_cases h4 : lc_bm W C B D N j a = 0
      · rw [h4, lc_cb_0', if_neg (c := B (3 * (i + 1) + a) = 0 ∧ (0 : Nat) ≠ 0) (fun z => z.2 rfl), if_neg (fun z => z.2 rfl)]
      · rw [lc_cb_p (by omega) h4, if_pos (c := B (3 * (i + 1) + a) = 0 ∧ lc_bm W C B D N j a ≠ 0) ⟨h3, h4⟩, if_pos ⟨h2, by omega⟩]
        omega
    · rw [lc_xt_b h3, lc_cb_0, if_neg (c := B (3 * (i + 1) + a) = 0 ∧ lc_bm W C B D N j a ≠ 0) (fun z => h3 z.1), if_neg (fun z => z.2 rfl)]
  · rw [lc_xt_d h2, lc_cb_0, if_neg (fun z => h2 z.1)]
theorem lc_go_0 {N a : Nat} (ha : a < 3) : lc_cb (lc_e W C B D 0 (3 * 0 + a)) (lc_bm W C B D N N a) = lc_bs W C B D N N a := by
  rw [lc_e_0 ha]
  unfold lc_bs
  rw [Nat.sub_self, Nat.mul_zero, Nat.zero_add]
  by_cases h3 : B a = 0
  · rw [if_pos h3]
    by_cases h4 : lc_bm W C B D N N a = 0
    · rw [h4, lc_cb_0', if_neg (fun z => z.2 rfl)]
    · rw [lc_cb_p (by omega) h4, if_pos ⟨h3, h4⟩]
      omega
  · rw [if_neg h3, lc_cb_0, if_neg (fun z => h3 z.1)]
/-- what is left of the greatest sum ahead of position i -/
def lc_rs (W C : Nat → Nat) (B D : Nat → Int32) (N k : Nat) : Nat → Nat
  | 0 => lc_A W C B D N - 1
  | i + 1 => lc_A W C B D N - lc_e W C B D i (k / 3 ^ (N - i))
theorem lc_cb_ge {x y A : Nat} (h : lc_cb x y = A) (hA : 0 < A) : x ≠ 0 ∧ y ≠ 0 ∧ x ≤ A := by
  by_cases hx : x = 0
  · rw [hx, lc_cb_0] at h; omega
  · by_cases hy : y = 0
    · rw [hy, lc_cb_0'] at h; omega
    · rw [lc_cb_p hx hy] at h
      exact ⟨hx, hy, by omega⟩
theorem lc_reach_iff {N i j k a : Nat} (e : i + j = N) (ha : a < 3) (hA : 0 < lc_A W C B D N) (hk : lc_Fst W C B D N k) : lc_Rch C D i a (lc_bs W C B D N j a) (lc_rs W C B D N k i) (lc_dg N k (i - 1)) ↔ lc_cb (lc_e W C B D i (3 * (k / 3 ^ (j + 1)) + a)) (lc_bm W C B D N j a) = lc_A W C B D N := by
  cases i with
  | zero =>
    have e2 : j = N := by omega
    subst e2
    have e3 : k / 3 ^ (j + 1) = 0 := Nat.div_eq_of_lt hk.1
    rw [e3, lc_go_0 ha]
    unfold lc_Rch
    show lc_bs W C B D j j a ≠ 0 ∧ (0 = 0 → lc_bs W C B D j j a - 1 = lc_A W C B D j - 1) ∧ ((0 : Nat) ≠ 0 → _) ↔ _
    constructor
    · intro y
      have := y.2.1 rfl
      have := y.1
      omega
    · intro y
      exact ⟨by omega, fun _ => by omega, fun z => absurd rfl z⟩
  | succ i =>
    have e2 : N - i = j + 1 := by omega
    have hg := lc_go1 (i := i) (j := j + 1) (by omega) hk
    have hE := lc_cb_ge hg hA
    have e4 : lc_dg N k (i + 1 - 1) = k / 3 ^ (j + 1) % 3 := by
      rw [Nat.add_sub_cancel]
      unfold lc_dg
      rw [e2]
    rw [lc_go_s e ha hE.1, e4]
    unfold lc_Rch
    show lc_bs W C B D N j a ≠ 0 ∧ (i + 1 = 0 → _) ∧ (i + 1 ≠ 0 → D (3 * (k / 3 ^ (j + 1) % 3) + a) = 0 ∧ lc_bs W C B D N j a - 1 + C (3 * (k / 3 ^ (j + 1) % 3) + a) = lc_A W C B D N - lc_e W C B D i (k / 3 ^ (N - i))) ↔ _
    rw [e2]
    have hE2 := hE.1
    have hE3 := hE.2.2
    constructor
    · intro y
      have y2 := y.2.2 (by omega)
      have y1 := y.1
      rw [if_pos ⟨y2.1, y.1⟩]
      have y3 := y2.2
      omega
    · intro y
      by_cases c : D (3 * (k / 3 ^ (j + 1) % 3) + a) = 0 ∧ lc_bs W C B D N j a ≠ 0
      · rw [if_pos c] at y
        have c2 := c.2
        exact ⟨c.2, fun z => absurd z (by omega), fun _ => ⟨c.1, by omega⟩⟩
      · rw [if_neg c] at y
        omega
theorem lc_b3 : ∀ d, d < 3 → vp_nar .byte (nI d).toInt8.toInt32 = nI d := by
  intro d hd
  rw [pk_vb]
  have h : ∀ d, d < 3 → (nI d).toInt8.toInt32 = nI d := by decide +kernel
  exact h d hd
theorem lc_x_choose {post : SX → Prop} (hW : ∀ j, W j ≤ 9) (hC : ∀ j, C j ≤ 9) {N k : Nat} (hN : N ≤ 5) (hA : 0 < lc_A W C B D N) (hk : lc_Fst W C B D N k) (hF : ∀ a, a < 3 → FS (3 * N + a) = lc_sc (lc_fm W C B D N a)) (hB : lc_BT W C B D N BS BP (N + 1) 0)
    (h : ∀ CH', (∀ t, t ≤ N → CH' t = nI (lc_dg N k t)) → post (nI (N + 1), R, lc_v W, B, lc_v C, D, FS, BS, FA, FB, FP, BP, TN, TX, TA, CH')) :
    wpX_choose post (nI (N + 1), R, lc_v W, B, lc_v C, D, FS, BS, FA, FB, FP, BP, TN, TX, TA, CH) := by
  have hAb := lc_A_bd hW hC B D N
  have Lp : ∀ j i, i + j = N + 1 → ∀ CH : Nat → Int32, (∀ t, t < i → CH t = nI (lc_dg N k t)) → wX_choose_7 post (nI (N + 1)) R (j + 1) (nI (lc_rs W C B D N k i)) (nI i) (lc_v W) B (lc_v C) D FS BS FA FB FP BP TN TX TA CH := by
    intro j
    induction j with
    | zero =>
      intro i hi CH hc
      have e : i = N + 1 := hi
      subst e
      exact pk_le (N + 1) (N + 1) (fun _ => h CH (fun t ht => hc t (by omega))) (fun z => absurd z (by omega))
    | succ j ih =>
      intro i hi CH hc
      have e : i + j = N := by omega
      have hd := lc_dg_lt N k i
      have hpd := lc_dg_lt N k (i - 1)
      have hNi : N - i = j := by omega
      have hNj : N - j = i := by omega
      have hdg : lc_dg N k i = k / 3 ^ j % 3 := by unfold lc_dg; rw [hNi]
      have hk3 : k / 3 ^ j = 3 * (k / 3 ^ (j + 1)) + lc_dg N k i := by
        rw [hdg, Nat.pow_succ, ← Nat.div_div_eq_div_mul]
        exact (Nat.div_add_mod _ 3).symm
      have hg1 := lc_go1 e hk
      rw [← hdg] at hg1
      have hge := lc_cb_ge hg1 hA
      have hrsb : lc_rs W C B D N k i < 1000 := by
        cases i with
        | zero => show lc_A W C B D N - 1 < 1000; omega
        | succ i => show lc_A W C B D N - _ < 1000; omega
      refine pk_le (N + 1) i (fun z => absurd z (by omega)) (fun _ => ⟨lc_dg N k i + 1, ?_⟩)
      refine lc_x_c17 hd (fun a => lc_Rch C D i a (lc_bs W C B D N j a) (lc_rs W C B D N k i) (lc_dg N k (i - 1))) ?_ ?_ ?_ ?_ (lc_dg N k i) 0 (Nat.zero_add _)
      · intro a ha q q1 q0
        have hb1 := lc_bs_bd hW hC B D N j a
        have hb2 := (hB j a ha (by omega) (Or.inl (by omega))).1
        rw [hNj] at hb2
        exact lc_x_reach (by omega) ha hpd (by omega) hrsb hb2 (fun z => hc (i - 1) (by omega)) hC q1 q0
      · intro a ha y
        have y2 := (lc_reach_iff e (by omega) hA hk).mp y
        have y3 := lc_go2 (q := 3 * (k / 3 ^ (j + 1)) + a) e hA hk (by omega)
        rw [lc_m3 _ a (by omega)] at y3
        exact y3 y2
      · refine (lc_reach_iff e hd hA hk).mpr ?_
        rw [← hk3]
        exact hg1
      · unfold wX_choose_38
        rw [lc_b3 _ hd, nI_clamp (show i < 2 ^ 31 by omega)]
        refine ⟨vp_in_nI (by omega) (by decide), nm_e ?_⟩
        have vc : vp_in (nI (3 * i + lc_dg N k i)) 18 := vp_in_nI (by omega) (by decide)
        have hfin := ih (i + 1) (by omega) (upd CH i (nI (lc_dg N k i))) (fun t ht => by
          by_cases c : t = i
          · rw [c, pk_us]
          · rw [pk_un c]
            exact hc t (by omega))
        have hrs1 : lc_rs W C B D N k (i + 1) = lc_A W C B D N - lc_e W C B D i (k / 3 ^ j) := by
          show lc_A W C B D N - lc_e W C B D i (k / 3 ^ (N - i)) = _
          rw [hNi]
        cases i with
        | zero =>
          have hz : j = N := by omega
          have hk0 : k / 3 ^ (j + 1) = 0 := Nat.div_eq_of_lt (by rw [hz]; exact hk.1)
          have he : lc_e W C B D 0 (k / 3 ^ j) = if B (lc_dg N k 0) = 0 then W (lc_dg N k 0) + 1 else 0 := by
            rw [hk3, hk0, lc_e_0 hd]
          have hb0 : B (lc_dg N k 0) = 0 := Classical.byContradiction fun y => by
            rw [if_neg y] at he
            exact hge.1 he
          rw [if_pos hb0] at he
          have hle := hge.2.2
          rw [he] at hle hrs1
          refine br_t (by decide) ?_
          unfold wX_choose_70
          rw [lc_i3, nI_clamp (show 3 * 0 + lc_dg N k 0 < 2 ^ 31 by omega)]
          refine ⟨vc, nm_r (e' := nI (lc_rs W C B D N k (0 + 1))) ?_ (nm_r (nI_1 0) hfin)⟩
          rw [hrs1, Nat.mul_zero, Nat.zero_add]
          show nI (lc_A W C B D N - 1) - nI (W (lc_dg N k 0)) = _
          rw [pk_sub (by omega)]
          exact congrArg nI (by omega)
        | succ i =>
          have hcp : upd CH (i + 1) (nI (lc_dg N k (i + 1))) i = nI (lc_dg N k i) := by
            rw [pk_un (by omega)]
            exact hc i (by omega)
          have hd2 := lc_dg_lt N k i
          have e2 : N - i = j + 1 := by omega
          have hdg2 : lc_dg N k i = k / 3 ^ (j + 1) % 3 := by unfold lc_dg; rw [e2]
          have he : lc_e W C B D (i + 1) (k / 3 ^ j) = lc_xt (D (3 * lc_dg N k i + lc_dg N k (i + 1))) (B (3 * (i + 1) + lc_dg N k (i + 1))) (C (3 * lc_dg N k i + lc_dg N k (i + 1)) + W (3 * (i + 1) + lc_dg N k (i + 1))) (lc_e W C B D i (k / 3 ^ (j + 1))) := by
            rw [hk3, lc_e_s hd, hdg2]
          have hE : lc_e W C B D i (k / 3 ^ (j + 1)) ≠ 0 := fun y => by
            rw [y, lc_xt_0] at he
            exact hge.1 he
          have hDz : D (3 * lc_dg N k i + lc_dg N k (i + 1)) = 0 := Classical.byContradiction fun y => by
            rw [lc_xt_d y] at he
            exact hge.1 he
          have hBz : B (3 * (i + 1) + lc_dg N k (i + 1)) = 0 := Classical.byContradiction fun y => by
            rw [lc_xt_b y] at he
            exact hge.1 he
          rw [lc_xt_p hDz hBz hE] at he
          have hle := hge.2.2
          rw [he] at hle hrs1
          have hrs0 : lc_rs W C B D N k (i + 1) = lc_A W C B D N - lc_e W C B D i (k / 3 ^ (j + 1)) := by
            show lc_A W C B D N - lc_e W C B D i (k / 3 ^ (N - i)) = _
            rw [e2]
          refine br_f (nI_nle (by omega) (by omega)) ?_
          rw [nI_pred, nI_clamp (show i < 2 ^ 31 by omega), hcp, lc_i3, nI_clamp (show 3 * lc_dg N k i + lc_dg N k (i + 1) < 2 ^ 31 by omega)]
          refine ⟨vp_in_nI (by omega) (by decide), vp_in_nI (by omega) (by decide), nm_r (e' := nI (lc_A W C B D N - lc_e W C B D i (k / 3 ^ (j + 1)) - C (3 * lc_dg N k i + lc_dg N k (i + 1)))) ?_ ?_⟩
          · rw [hrs0]
            exact pk_sub (by omega)
          · unfold wX_choose_70
            rw [lc_i3, nI_clamp (show 3 * (i + 1) + lc_dg N k (i + 1) < 2 ^ 31 by omega)]
            refine ⟨vc, nm_r (e' := nI (lc_rs W C B D N k (i + 1 + 1))) ?_ (nm_r (nI_1 (i + 1)) hfin)⟩
            rw [hrs1]
            show nI (lc_A W C B D N - lc_e W C B D i (k / 3 ^ (j + 1)) - C (3 * lc_dg N k i + lc_dg N k (i + 1))) - nI (W (3 * (i + 1) + lc_dg N k (i + 1))) = _
            rw [pk_sub (by omega)]
            exact congrArg nI (by omega)
  unfold wpX_choose
  dsimp only
  refine lc_x_great hW hC hN hF ?_
  rw [lc_sc_p (by omega)]
  exact ⟨N + 1 + 1, Lp (N + 1) 0 (Nat.zero_add _) CH (fun t ht => absurd ht (Nat.not_lt_zero t))⟩
end
end
section
/-! X: fill -/
def lc_Tab (W C : Nat → Nat) (B D : Nat → Int32) (N : Nat) (FS BS FA FB : Nat → Int32) (FP BP : Nat → Int64) (TA CH : Nat → Int32) : Prop :=
  lc_FT W C B D FS FA FB FP (3 * (N + 1)) ∧ lc_BT W C B D N BS BP (N + 1) 0 ∧ (∃ g, (∀ k, k < 8 → TA k = lc_sc (g k)) ∧ lc_Top g (lc_K (lc_e W C B D N) (3 ^ (N + 1))) ∧ ∀ j, j < 8 → g j ≤ 900) ∧ (0 < lc_A W C B D N → ∀ k, lc_Fst W C B D N k → ∀ t, t ≤ N → CH t = nI (lc_dg N k t))
section
variable {R : Int32} {W C : Nat → Nat} {B D FS BS FA FB : Nat → Int32} {FP BP : Nat → Int64} {TN TX TA CH : Nat → Int32}
theorem lc_FT_up {i a : Nat} (ha : a < 3) (h : lc_FT W C B D FS FA FB FP (3 * i + a)) : lc_FT W C B D (upd FS (3 * i + a) (lc_sc (lc_fm W C B D i a))) (upd FA (3 * i + a) (nI (lc_fk W C B D i a 1))) (upd FB (3 * i + a) (nI (lc_fb W C B D i a))) (vp_updL FP (3 * i + a) (lN (lc_fp W C B D i a))) (3 * i + a + 1) := by
  intro i' a' ha' hl
  by_cases c : 3 * i' + a' = 3 * i + a
  · have e1 : i' = i := by omega
    have e2 : a' = a := by omega
    subst e1 e2
    rw [pk_us, pk_us, pk_us, pk_uLs]
    exact ⟨rfl, rfl, rfl, rfl⟩
  · rw [pk_un c, pk_un c, pk_un c, pk_uLn c]
    exact h i' a' ha' (by omega)
theorem lc_FT_le {m m' : Nat} (hm : m ≤ m') (h : lc_FT W C B D FS FA FB FP m') : lc_FT W C B D FS FA FB FP m := fun i a ha hl => h i a ha (by omega)
theorem lc_BT_up {N i j a : Nat} (e : i + j = N) (ha : a < 3) (h : lc_BT W C B D N BS BP j a) : lc_BT W C B D N (upd BS (3 * i + a) (lc_sc (lc_bs W C B D N j a))) (vp_updL BP (3 * i + a) (lN (lc_bq W C B D N j a))) j (a + 1) := by
  intro j' a' ha' hj hl
  by_cases c : 3 * (N - j') + a' = 3 * i + a
  · have e1 : j' = j := by omega
    have e2 : a' = a := by omega
    subst e1 e2
    rw [c, pk_us, pk_uLs]
    exact ⟨rfl, rfl⟩
  · rw [pk_un c, pk_uLn c]
    exact h j' a' ha' hj (by omega)
theorem lc_BT_lo {N j a : Nat} (h : lc_BT W C B D N BS BP j a) : lc_BT W C B D N BS BP j 0 := fun j' a' ha' hj hl => h j' a' ha' hj (by omega)
theorem lc_BT_nx {N j : Nat} (h : lc_BT W C B D N BS BP j 3) : lc_BT W C B D N BS BP (j + 1) 0 := fun j' a' ha' hj hl => h j' a' ha' hj (by omega)
theorem lc_x_f79 {post : SX → Prop} {J : Int32 → Int32 → Int32 → (Nat → Int32) → (Nat → Int32) → (Nat → Int32) → (Nat → Int32) → (Nat → Int32) → (Nat → Int32) → (Nat → Int32) → (Nat → Int32) → (Nat → Int64) → (Nat → Int64) → (Nat → Int32) → (Nat → Int32) → (Nat → Int32) → (Nat → Int32) → Prop} (hW : ∀ j, W j ≤ 9) (hC : ∀ j, C j ≤ 9) {N i j : Nat} (hN : N ≤ 5) (e : i + j = N)
    (h : ∀ BS' BP', lc_BT W C B D N BS' BP' (j + 1) 0 → J (nI i + (-1)) (nI (N + 1)) R (lc_v W) B (lc_v C) D FS BS' FA FB FP BP' TN TX TA CH) : ∀ d a, a + d = 3 → ∀ (BS : Nat → Int32) (BP : Nat → Int64), lc_BT W C B D N BS BP j a → wX_fill_79 post J (nI i) (d + 1) (nI a) (nI (N + 1)) R (lc_v W) B (lc_v C) D FS BS FA FB FP BP TN TX TA CH := by
  intro d
  induction d with
  | zero =>
    intro a ha BS BP I
    have e2 : a = 3 := ha
    subst e2
    exact pk_le 3 3 (fun _ => nm_e (h BS BP (lc_BT_nx I))) (fun z => absurd z (by omega))
  | succ d ih =>
    intro a ha BS BP I
    refine pk_le 3 a (fun z => absurd z (by omega)) (fun _ => ?_)
    refine lc_x_fillBack hW hC hN e (by omega) (lc_BT_lo I) ?_
    dsimp only
    exact nm_r (nI_1 a) (ih (a + 1) (by omega) _ _ (lc_BT_up e (by omega) I))
theorem lc_x_f73 {post : SX → Prop} (hW : ∀ j, W j ≤ 9) (hC : ∀ j, C j ≤ 9) {N : Nat} (hN : N ≤ 5) (hF : lc_FT W C B D FS FA FB FP (3 * (N + 1)))
    (h : ∀ BS' BP' TN' TX' TA' CH', lc_Tab W C B D N FS BS' FA FB FP BP' TA' CH' → post (nI (N + 1), R, lc_v W, B, lc_v C, D, FS, BS', FA, FB, FP, BP', TN', TX', TA', CH')) : ∀ c j, c + j = N + 1 → ∀ (BS : Nat → Int32) (BP : Nat → Int64), lc_BT W C B D N BS BP j 0 → wX_fill_73 post (c + 1) (nI c + (-1)) (nI (N + 1)) R (lc_v W) B (lc_v C) D FS BS FA FB FP BP TN TX TA CH := by
  have hF0 : ∀ a, a < 3 → FS a = lc_sc (lc_fm W C B D 0 a) := fun a ha => by
    have := (hF 0 a ha (by omega)).1
    rw [Nat.mul_zero, Nat.zero_add] at this
    exact this
  have hFN : ∀ a, a < 3 → FS (3 * N + a) = lc_sc (lc_fm W C B D N a) := fun a ha => (hF N a ha (by omega)).1
  have hAb := lc_A_bd hW hC B D N
  intro c
  induction c with
  | zero =>
    intro j hj BS BP I
    have e : j = N + 1 := by omega
    subst e
    refine br_t (by decide) ?_
    refine lc_x_rankSums hW hC hN hF0 (fun TN' TX' TA' g q1 q2 q3 => ?_)
    dsimp only
    refine lc_x_great hW hC hN hFN ?_
    by_cases z : lc_A W C B D N = 0
    · refine br_t ((lc_sc_neg (by omega)).mpr z) (h BS BP TN' TX' TA' CH ⟨hF, I, ⟨g, q1, q2, q3⟩, fun y => absurd z (by omega)⟩)
    · obtain ⟨k, hk1, hk2, hk3⟩ := lc_first (f := lc_e W C B D N) (m := 3 ^ (N + 1)) (by show 0 < lc_A W C B D N; omega)
      have hk : lc_Fst W C B D N k := ⟨hk1, hk2, hk3⟩
      refine br_f (fun y => z ((lc_sc_neg (by omega)).mp y)) (lc_x_choose hW hC hN (by omega) hk hFN I (fun CH' q4 => ?_))
      dsimp only
      refine h BS BP TN' TX' TA' CH' ⟨hF, I, ⟨g, q1, q2, q3⟩, fun _ k' hk' t ht => ?_⟩
      rw [lc_Fst_u hk' hk]
      exact q4 t ht
  | succ i ih =>
    intro j hj BS BP I
    rw [pk_m1]
    refine br_f (nI_pos (by omega)) ⟨3 + 1, ?_⟩
    exact lc_x_f79 (j := j) hW hC hN (by omega) (fun BS' BP' I' => ih (j + 1) (by omega) BS' BP' I') 3 0 (Nat.zero_add _) BS BP I
end
section
variable {R : Int32} {W C : Nat → Nat} {B D BS : Nat → Int32} {BP : Nat → Int64} {TN TX TA CH : Nat → Int32}
theorem lc_x_f43 {post : SX → Prop} {J : Int32 → Int32 → Int32 → (Nat → Int32) → (Nat → Int32) → (Nat → Int32) → (Nat → Int32) → (Nat → Int32) → (Nat → Int32) → (Nat → Int32) → (Nat → Int32) → (Nat → Int64) → (Nat → Int64) → (Nat → Int32) → (Nat → Int32) → (Nat → Int32) → (Nat → Int32) → Prop} (hW : ∀ j, W j ≤ 9) (hC : ∀ j, C j ≤ 9) {i : Nat} {L : Int32} (hi : i + 1 ≤ 5)
    (h : ∀ FS FA FB FP, lc_FT W C B D FS FA FB FP (3 * (i + 1 + 1)) → J (nI (i + 1 + 1)) L R (lc_v W) B (lc_v C) D FS BS FA FB FP BP TN TX TA CH) : ∀ d a, a + d = 3 → ∀ FS FA FB FP, lc_FT W C B D FS FA FB FP (3 * (i + 1) + a) → wX_fill_43 post J (nI (i + 1)) (d + 1) (nI a) L R (lc_v W) B (lc_v C) D FS BS FA FB FP BP TN TX TA CH := by
  intro d
  induction d with
  | zero =>
    intro a ha FS FA FB FP I
    have e2 : a = 3 := ha
    subst e2
    exact pk_le 3 3 (fun _ => nm_r (nI_1 (i + 1)) (h FS FA FB FP (lc_FT_le (by omega) I))) (fun z => absurd z (by omega))
  | succ d ih =>
    intro a ha FS FA FB FP I
    refine pk_le 3 a (fun z => absurd z (by omega)) (fun _ => ?_)
    refine lc_x_fillFront hW hC hi (by omega) (lc_FT_le (by omega) I) ?_
    dsimp only
    exact nm_r (nI_1 a) (ih (a + 1) (by omega) _ _ _ _ (lc_FT_up (by omega) I))
theorem lc_x_f33 {post : SX → Prop} (hW : ∀ j, W j ≤ 9) (hC : ∀ j, C j ≤ 9) {N : Nat} (hN : N ≤ 5)
    (h : ∀ FS BS FA FB FP BP TN TX TA CH, lc_Tab W C B D N FS BS FA FB FP BP TA CH → post (nI (N + 1), R, lc_v W, B, lc_v C, D, FS, BS, FA, FB, FP, BP, TN, TX, TA, CH)) : ∀ d i, i + d = N → ∀ FS FA FB FP, lc_FT W C B D FS FA FB FP (3 * (i + 1)) → wX_fill_33 post (d + 1) (nI (i + 1)) (nI (N + 1)) R (lc_v W) B (lc_v C) D FS BS FA FB FP BP TN TX TA CH := by
  intro d
  induction d with
  | zero =>
    intro i hi FS FA FB FP I
    have e2 : i = N := hi
    subst e2
    refine pk_le (i + 1) (i + 1) (fun _ => nm_r (e' := nI (i + 1) + (-1)) ?_ ⟨i + 1 + 1, ?_⟩) (fun z => absurd z (by omega))
    · rw [nI_pred, pk_m1]
    · exact lc_x_f73 hW hC hN I (fun BS' BP' TN' TX' TA' CH' q => h FS BS' FA FB FP BP' TN' TX' TA' CH' q) (i + 1) 0 (by omega) BS BP (fun j a ha hj hl => absurd hl (by omega))
  | succ d ih =>
    intro i hi FS FA FB FP I
    refine pk_le (N + 1) (i + 1) (fun z => absurd z (by omega)) (fun _ => ⟨3 + 1, ?_⟩)
    exact lc_x_f43 hW hC (by omega) (fun FS FA FB FP I' => ih (i + 1) (by omega) FS FA FB FP I') 3 0 (Nat.zero_add _) FS FA FB FP I
theorem lc_x_f15 {post : SX → Prop} (hW : ∀ j, W j ≤ 9) (hC : ∀ j, C j ≤ 9) {N : Nat} (hN : N ≤ 5)
    (h : ∀ FS BS FA FB FP BP TN TX TA CH, lc_Tab W C B D N FS BS FA FB FP BP TA CH → post (nI (N + 1), R, lc_v W, B, lc_v C, D, FS, BS, FA, FB, FP, BP, TN, TX, TA, CH)) : ∀ d a, a + d = 3 → ∀ FS FA FB FP, lc_FT W C B D FS FA FB FP a → wX_fill_15 post (d + 1) (nI a) (nI (N + 1)) R (lc_v W) B (lc_v C) D FS BS FA FB FP BP TN TX TA CH := by
  intro d
  induction d with
  | zero =>
    intro a ha FS FA FB FP I
    have e2 : a = 3 := ha
    subst e2
    exact pk_le 3 3 (fun _ => ⟨N + 1, lc_x_f33 hW hC hN h N 0 (Nat.zero_add _) FS FA FB FP I⟩) (fun z => absurd z (by omega))
  | succ d ih =>
    intro a ha FS FA FB FP I
    refine pk_le 3 a (fun z => absurd z (by omega)) (fun _ => ?_)
    refine lc_x_start (by omega) hW ?_
    dsimp only
    have e : 3 * 0 + a = a := by omega
    have I2 := lc_FT_up (i := 0) (a := a) (by omega) (by rw [e]; exact I)
    rw [e] at I2
    exact nm_r (nI_1 a) (ih (a + 1) (by omega) _ _ _ _ I2)
theorem lc_x_fill {post : SX → Prop} (hW : ∀ j, W j ≤ 9) (hC : ∀ j, C j ≤ 9) {N : Nat} (hN : N ≤ 5) {FS FA FB : Nat → Int32} {FP : Nat → Int64} (I : ¬ R = 0 → lc_Tab W C B D N FS BS FA FB FP BP TA CH)
    (h : ∀ R FS BS FA FB FP BP TN TX TA CH, lc_Tab W C B D N FS BS FA FB FP BP TA CH → post (nI (N + 1), R, lc_v W, B, lc_v C, D, FS, BS, FA, FB, FP, BP, TN, TX, TA, CH)) : wpX_fill post (nI (N + 1), R, lc_v W, B, lc_v C, D, FS, BS, FA, FB, FP, BP, TN, TX, TA, CH) := by
  unfold wpX_fill
  dsimp only
  refine br_c (fun _ => ⟨3 + 1, ?_⟩) (fun z => h R FS BS FA FB FP BP TN TX TA CH (I z))
  exact lc_x_f15 hW hC hN (fun FS BS FA FB FP BP TN TX TA CH q => h 1 FS BS FA FB FP BP TN TX TA CH q) 3 0 (Nat.zero_add _) FS FA FB FP (fun i a ha hl => absurd hl (Nat.not_lt_zero _))
end
end
section
/-! X: the answers; labels and places on both sides; the constructors -/
theorem lc_fm_B {W C : Nat → Nat} {B D : Nat → Int32} {i a : Nat} (ha : a < 3) (hB : ¬ B (3 * i + a) = 0) : lc_fm W C B D i a = 0 := by
  cases i with
  | zero =>
    rw [Nat.mul_zero, Nat.zero_add] at hB
    rw [lc_fm_0 ha, if_neg hB]
  | succ i =>
    rw [lc_fm_s ha]
    apply Nat.eq_zero_of_le_zero
    exact lc_M_le.mpr fun b _ => Nat.le_of_eq (lc_xt_b hB)
section
variable {R : Int32} {W C : Nat → Nat} {B D FS BS FA FB : Nat → Int32} {FP BP : Nat → Int64} {TN TX TA CH : Nat → Int32}
theorem lc_x_allowed {post : Int32 → SX → Prop} (hW : ∀ j, W j ≤ 9) (hC : ∀ j, C j ≤ 9) {N : Nat} (hN : N ≤ 5) (I : ¬ R = 0 → lc_Tab W C B D N FS BS FA FB FP BP TA CH)
    (h : ∀ R FS BS FA FB FP BP TN TX TA CH, lc_Tab W C B D N FS BS FA FB FP BP TA CH → post (nI (lc_K (lc_e W C B D N) (3 ^ (N + 1)) 1)) (nI (N + 1), R, lc_v W, B, lc_v C, D, FS, BS, FA, FB, FP, BP, TN, TX, TA, CH)) : wpX_allowed post (nI (N + 1), R, lc_v W, B, lc_v C, D, FS, BS, FA, FB, FP, BP, TN, TX, TA, CH) := by
  unfold wpX_allowed
  dsimp only
  refine lc_x_fill hW hC hN I (fun R FS BS FA FB FP BP TN TX TA CH q => ?_)
  dsimp only
  refine nm_r (lc_i3n N) ?_
  have e1 : nI (3 * N) + 2 = nI (3 * N + 2) := nI_add (3 * N) 2
  rw [e1, nI_1 (3 * N), nI_clamp (show 3 * N < 2 ^ 31 by omega), nI_clamp (show 3 * N + 1 < 2 ^ 31 by omega), nI_clamp (show 3 * N + 2 < 2 ^ 31 by omega)]
  refine ⟨vp_in_nI (by omega) (by decide), vp_in_nI (by omega) (by decide), vp_in_nI (by omega) (by decide), ?_⟩
  have f0 : FA (3 * N) = nI (lc_fk W C B D N 0 1) := (q.1 N 0 (by omega) (by omega)).2.1
  have f1 : FA (3 * N + 1) = nI (lc_fk W C B D N 1 1) := (q.1 N 1 (by omega) (by omega)).2.1
  have f2 : FA (3 * N + 2) = nI (lc_fk W C B D N 2 1) := (q.1 N 2 (by omega) (by omega)).2.1
  have e : nI (lc_fk W C B D N 0 1) + nI (lc_fk W C B D N 1 1) + nI (lc_fk W C B D N 2 1) = nI (lc_K (lc_e W C B D N) (3 ^ (N + 1)) 1) := by
    rw [lc_all_K, nI_add, nI_add]
    show _ = nI (0 + lc_fk W C B D N 0 1 + lc_fk W C B D N 1 1 + lc_fk W C B D N 2 1)
    rw [Nat.zero_add]
  rw [f0, f1, f2, e]
  exact h R FS BS FA FB FP BP TN TX TA CH q
theorem lc_x_total {post : Int64 → SX → Prop} (hW : ∀ j, W j ≤ 9) (hC : ∀ j, C j ≤ 9) {N : Nat} (hN : N ≤ 5) (I : ¬ R = 0 → lc_Tab W C B D N FS BS FA FB FP BP TA CH)
    (h : ∀ R FS BS FA FB FP BP TN TX TA CH, lc_Tab W C B D N FS BS FA FB FP BP TA CH → post (lN (lc_S (lc_p W C B D N) (3 ^ (N + 1)))) (nI (N + 1), R, lc_v W, B, lc_v C, D, FS, BS, FA, FB, FP, BP, TN, TX, TA, CH)) : wpX_total post (nI (N + 1), R, lc_v W, B, lc_v C, D, FS, BS, FA, FB, FP, BP, TN, TX, TA, CH) := by
  unfold wpX_total
  dsimp only
  refine lc_x_fill hW hC hN I (fun R FS BS FA FB FP BP TN TX TA CH q => ?_)
  dsimp only
  refine nm_r (lc_i3n N) ?_
  have e1 : nI (3 * N) + 2 = nI (3 * N + 2) := nI_add (3 * N) 2
  rw [e1, nI_1 (3 * N), nI_clamp (show 3 * N < 2 ^ 31 by omega), nI_clamp (show 3 * N + 1 < 2 ^ 31 by omega), nI_clamp (show 3 * N + 2 < 2 ^ 31 by omega)]
  refine ⟨vp_in_nI (by omega) (by decide), vp_in_nI (by omega) (by decide), vp_in_nI (by omega) (by decide), ?_⟩
  have f0 : FP (3 * N) = lN (lc_fp W C B D N 0) := (q.1 N 0 (by omega) (by omega)).2.2.2
  have f1 : FP (3 * N + 1) = lN (lc_fp W C B D N 1) := (q.1 N 1 (by omega) (by omega)).2.2.2
  have f2 : FP (3 * N + 2) = lN (lc_fp W C B D N 2) := (q.1 N 2 (by omega) (by omega)).2.2.2
  have e : lN (lc_fp W C B D N 0) + lN (lc_fp W C B D N 1) + lN (lc_fp W C B D N 2) = lN (lc_S (lc_p W C B D N) (3 ^ (N + 1))) := by
    rw [lc_all_S, lN_add, lN_add]
    show _ = lN (0 + lc_fp W C B D N 0 + lc_fp W C B D N 1 + lc_fp W C B D N 2)
    rw [Nat.zero_add]
  rw [f0, f1, f2, e]
  exact h R FS BS FA FB FP BP TN TX TA CH q
theorem lc_FTN {N : Nat} (q : lc_FT W C B D FS FA FB FP (3 * (N + 1))) : ∀ a, a < 3 → FS (3 * N + a) = lc_sc (lc_fm W C B D N a) := fun a ha => (q N a ha (by omega)).1
theorem lc_x_best {post : Int32 → SX → Prop} (hW : ∀ j, W j ≤ 9) (hC : ∀ j, C j ≤ 9) {N : Nat} (hN : N ≤ 5) (I : ¬ R = 0 → lc_Tab W C B D N FS BS FA FB FP BP TA CH)
    (h : ∀ R FS BS FA FB FP BP TN TX TA CH, lc_Tab W C B D N FS BS FA FB FP BP TA CH → post (lc_sn (-2) (lc_A W C B D N)) (nI (N + 1), R, lc_v W, B, lc_v C, D, FS, BS, FA, FB, FP, BP, TN, TX, TA, CH)) : wpX_best post (nI (N + 1), R, lc_v W, B, lc_v C, D, FS, BS, FA, FB, FP, BP, TN, TX, TA, CH) := by
  have hAb := lc_A_bd hW hC B D N
  unfold wpX_best
  dsimp only
  refine lc_x_fill hW hC hN I (fun R FS BS FA FB FP BP TN TX TA CH q => ?_)
  dsimp only
  refine lc_x_great hW hC hN (lc_FTN q.1) ?_
  have h5 := h R FS BS FA FB FP BP TN TX TA CH q
  by_cases z : lc_A W C B D N = 0
  · rw [z, lc_sn_0] at h5
    exact br_f (fun y => (lc_sc_nn (by omega)).mp y z) h5
  · rw [lc_sn_p z] at h5
    refine br_t ((lc_sc_nn (by omega)).mpr z) ?_
    rw [lc_sc_p z]
    exact h5
theorem lc_x_label {post : Int32 → SX → Prop} (hW : ∀ j, W j ≤ 9) (hC : ∀ j, C j ≤ 9) {N i : Nat} (hN : N ≤ 5) (hi : i ≤ N) (I : ¬ R = 0 → lc_Tab W C B D N FS BS FA FB FP BP TA CH)
    (h0 : lc_A W C B D N = 0 → ∀ R FS BS FA FB FP BP TN TX TA CH, lc_Tab W C B D N FS BS FA FB FP BP TA CH → post (-2) (nI (N + 1), R, lc_v W, B, lc_v C, D, FS, BS, FA, FB, FP, BP, TN, TX, TA, CH))
    (h1 : 0 < lc_A W C B D N → ∀ k, lc_Fst W C B D N k → ∀ R FS BS FA FB FP BP TN TX TA CH, lc_Tab W C B D N FS BS FA FB FP BP TA CH → post (nI (lc_dg N k i)) (nI (N + 1), R, lc_v W, B, lc_v C, D, FS, BS, FA, FB, FP, BP, TN, TX, TA, CH)) : wpX_label post (nI (N + 1), R, lc_v W, B, lc_v C, D, FS, BS, FA, FB, FP, BP, TN, TX, TA, CH) (nI i) := by
  have hAb := lc_A_bd hW hC B D N
  unfold wpX_label
  dsimp only
  refine br_f (nI_pos (by omega)) (br_t (nI_lt (by omega) (by omega)) ?_)
  refine lc_x_fill hW hC hN I (fun R FS BS FA FB FP BP TN TX TA CH q => ?_)
  dsimp only
  refine lc_x_great hW hC hN (lc_FTN q.1) ?_
  by_cases z : lc_A W C B D N = 0
  · exact br_f (fun y => (lc_sc_nn (by omega)).mp y z) (h0 z R FS BS FA FB FP BP TN TX TA CH q)
  · obtain ⟨k, hk1, hk2, hk3⟩ := lc_first (f := lc_e W C B D N) (m := 3 ^ (N + 1)) (by show 0 < lc_A W C B D N; omega)
    have hk : lc_Fst W C B D N k := ⟨hk1, hk2, hk3⟩
    refine br_t ((lc_sc_nn (by omega)).mpr z) ⟨vp_in_nI (by omega) (by decide), ?_⟩
    rw [nI_clamp (show i < 2 ^ 31 by omega), q.2.2.2 (by omega) k hk i hi]
    exact h1 (by omega) k hk R FS BS FA FB FP BP TN TX TA CH q
theorem lc_x_bestCount {post : Int32 → SX → Prop} (hW : ∀ j, W j ≤ 9) (hC : ∀ j, C j ≤ 9) {N : Nat} (hN : N ≤ 5) (I : ¬ R = 0 → lc_Tab W C B D N FS BS FA FB FP BP TA CH)
    (h0 : lc_A W C B D N = 0 → ∀ R FS BS FA FB FP BP TN TX TA CH, lc_Tab W C B D N FS BS FA FB FP BP TA CH → post 0 (nI (N + 1), R, lc_v W, B, lc_v C, D, FS, BS, FA, FB, FP, BP, TN, TX, TA, CH))
    (h1 : 0 < lc_A W C B D N → ∀ R FS BS FA FB FP BP TN TX TA CH, lc_Tab W C B D N FS BS FA FB FP BP TA CH → post (nI (lc_T (lc_e W C B D N) (3 ^ (N + 1)) (lc_A W C B D N))) (nI (N + 1), R, lc_v W, B, lc_v C, D, FS, BS, FA, FB, FP, BP, TN, TX, TA, CH)) : wpX_bestCount post (nI (N + 1), R, lc_v W, B, lc_v C, D, FS, BS, FA, FB, FP, BP, TN, TX, TA, CH) := by
  have hAb := lc_A_bd hW hC B D N
  unfold wpX_bestCount
  dsimp only
  refine lc_x_fill hW hC hN I (fun R FS BS FA FB FP BP TN TX TA CH q => ?_)
  dsimp only
  refine lc_x_great hW hC hN (lc_FTN q.1) ?_
  by_cases z : lc_A W C B D N = 0
  · exact br_f (fun y => (lc_sc_nn (by omega)).mp y z) (h0 z R FS BS FA FB FP BP TN TX TA CH q)
  · refine br_t ((lc_sc_nn (by omega)).mpr z) ?_
    have Lp : ∀ d a, a + d = 3 → wX_bestCount_19 post (lc_sc (lc_A W C B D N)) (nI (N + 1)) R (lc_v W) B (lc_v C) D FS BS FA FB FP BP TN TX TA CH (d + 1) (nI (lc_S (fun a => if lc_fm W C B D N a = lc_A W C B D N then lc_fb W C B D N a else 0) a)) (nI a) := by
      intro d
      induction d with
      | zero =>
        intro a ha
        have e : a = 3 := ha
        subst e
        rw [lc_cnt_T (by omega)]
        exact pk_le 3 3 (fun _ => h1 (by omega) R FS BS FA FB FP BP TN TX TA CH q) (fun z => absurd z (by omega))
      | succ d ih =>
        intro a ha
        obtain ⟨f1, f2, f3, f4⟩ := q.1 N a (by omega) (by omega)
        have hb := lc_fm_bd hW hC B D N a
        have vc : vp_in (nI (3 * N + a)) 18 := vp_in_nI (by omega) (by decide)
        have h5 := ih (a + 1) (by omega)
        have hst : lc_S (fun a => if lc_fm W C B D N a = lc_A W C B D N then lc_fb W C B D N a else 0) (a + 1) = lc_S (fun a => if lc_fm W C B D N a = lc_A W C B D N then lc_fb W C B D N a else 0) a + (if lc_fm W C B D N a = lc_A W C B D N then lc_fb W C B D N a else 0) := rfl
        rw [hst] at h5
        refine pk_le 3 a (fun z => absurd z (by omega)) (fun _ => ?_)
        rw [lc_i3m, nI_clamp (show 3 * N + a < 2 ^ 31 by omega), f1, f3]
        refine ⟨vc, ?_⟩
        by_cases c : lc_fm W C B D N a = lc_A W C B D N
        · rw [if_pos c] at h5
          exact br_t (by rw [c]) ⟨vc, nm_r (nI_add _ _) (nm_r (nI_1 a) h5)⟩
        · rw [if_neg c] at h5
          exact br_f (fun y => c ((lc_sc_eq (by omega) (by omega)).mp y)) (nm_r (nI_1 a) h5)
    exact ⟨3 + 1, Lp 3 0 (Nat.zero_add _)⟩
theorem lc_x_ranked {post : Int32 → SX → Prop} (hW : ∀ j, W j ≤ 9) (hC : ∀ j, C j ≤ 9) {N k : Nat} (hN : N ≤ 5) (hk : k < 8) (I : ¬ R = 0 → lc_Tab W C B D N FS BS FA FB FP BP TA CH)
    (h : ∀ g, lc_Top g (lc_K (lc_e W C B D N) (3 ^ (N + 1))) → ∀ R FS BS FA FB FP BP TN TX TA CH, lc_Tab W C B D N FS BS FA FB FP BP TA CH → post (lc_sn (-2) (g k)) (nI (N + 1), R, lc_v W, B, lc_v C, D, FS, BS, FA, FB, FP, BP, TN, TX, TA, CH)) : wpX_ranked post (nI (N + 1), R, lc_v W, B, lc_v C, D, FS, BS, FA, FB, FP, BP, TN, TX, TA, CH) (nI k) := by
  unfold wpX_ranked
  dsimp only
  refine br_f (nI_pos (by omega)) (br_t (nI_le (b := 7) (by omega) (by decide)) ?_)
  refine lc_x_fill hW hC hN I (fun R FS BS FA FB FP BP TN TX TA CH q => ?_)
  dsimp only
  obtain ⟨g, g1, g2, g3⟩ := q.2.2.1
  have h5 := h g g2 R FS BS FA FB FP BP TN TX TA CH q
  have b1 := g3 k hk
  have vk : vp_in (nI k) 8 := vp_in_nI hk (by decide)
  rw [nI_clamp (show k < 2 ^ 31 by omega), g1 k hk]
  refine ⟨vk, ?_⟩
  by_cases z : g k = 0
  · rw [z, lc_sn_0] at h5
    exact br_f (fun y => (lc_sc_nn (by omega)).mp y z) h5
  · rw [lc_sn_p z] at h5
    refine br_t ((lc_sc_nn (by omega)).mpr z) ⟨vk, ?_⟩
    rw [lc_sc_p z]
    exact h5
theorem lc_xl_1 {post : Int32 → Prop} {u : SX} {a : Nat} (ha : a < 3) (h : post 1) : wpX_isLabel post u (nI a) :=
  br_f (nI_pos (by omega)) (br_f (nI_nlt (a := 2) (by omega) (by decide)) h)
theorem lc_bad2 {v : Int32} (hv : nI 3 ≤ v) : ¬ v < 0 ∧ 2 < v := by
  have e3 : (nI 3).toInt = 3 := by decide
  have e2 : (2 : Int32).toInt = 2 := by decide
  have e0 : (0 : Int32).toInt = 0 := by decide
  rw [Int32.le_iff_toInt_le, e3] at hv
  rw [Int32.lt_iff_toInt_lt, Int32.lt_iff_toInt_lt, e2, e0]
  omega
theorem lc_xl_0 {post : Int32 → Prop} {u : SX} {v : Int32} (hv : v < 0 ∨ nI 3 ≤ v) (h : post 0) : wpX_isLabel post u v := by
  rcases hv with hv | hv
  · exact br_t hv h
  · exact br_f (lc_bad2 hv).1 (br_t (lc_bad2 hv).2 h)
theorem lc_yl_0 {post : Int32 → Prop} {u : SY} {v : Int32} (hv : v < 0 ∨ nI 3 ≤ v) (h : post 0) : wpY_isLabel post u v := by
  rcases hv with hv | hv
  · exact br_t hv h
  · exact br_f (lc_bad2 hv).1 (br_t (lc_bad2 hv).2 h)
theorem lc_nneg {N : Nat} (hN : N ≤ 6) {v : Int32} (hv : nI N ≤ v) : ¬ v < 0 := by
  have e0 : (0 : Int32).toInt = 0 := by decide
  rw [Int32.le_iff_toInt_le, nI_toInt (by omega)] at hv
  rw [Int32.lt_iff_toInt_lt, e0]
  omega
theorem lc_xp_1 {post : Int32 → Prop} {N i a : Nat} (hN : N ≤ 5) (hi : i ≤ N) (ha : a < 3) (h : post 1) : wpX_isPlace post (nI (N + 1), R, lc_v W, B, lc_v C, D, FS, BS, FA, FB, FP, BP, TN, TX, TA, CH) (nI i) (nI a) := by
  unfold wpX_isPlace
  dsimp only
  exact br_f (nI_pos (by omega)) (br_f (nI_ge (by omega) (by omega)) (lc_xl_1 ha (br_f (by decide) h)))
theorem lc_xp_0 {post : Int32 → Prop} {N : Nat} (hN : N ≤ 5) {v1 v2 : Int32} (hv : v1 < 0 ∨ nI (N + 1) ≤ v1) (h : post 0) : wpX_isPlace post (nI (N + 1), R, lc_v W, B, lc_v C, D, FS, BS, FA, FB, FP, BP, TN, TX, TA, CH) v1 v2 := by
  unfold wpX_isPlace
  dsimp only
  rcases hv with hv | hv
  · exact br_t hv h
  · exact br_f (lc_nneg (by omega) hv) (br_t hv h)
theorem lc_xp_0' {post : Int32 → Prop} {N i : Nat} (hN : N ≤ 5) (hi : i ≤ N) {v2 : Int32} (hv : v2 < 0 ∨ nI 3 ≤ v2) (h : post 0) : wpX_isPlace post (nI (N + 1), R, lc_v W, B, lc_v C, D, FS, BS, FA, FB, FP, BP, TN, TX, TA, CH) (nI i) v2 := by
  unfold wpX_isPlace
  dsimp only
  exact br_f (nI_pos (by omega)) (br_f (nI_ge (by omega) (by omega)) (lc_xl_0 hv (br_t rfl h)))
theorem lc_yp_1 {post : Int32 → Prop} {N i : Nat} {S Y E F now T : Nat → Int32} (hN : N ≤ 5) (hi : i ≤ N) (h : post 1) : wpY_isPosition post (nI (N + 1), S, Y, E, F, now, T) (nI i) :=
  br_f (nI_pos (by omega)) (br_f (nI_ge (by omega) (by omega)) h)
theorem lc_yp_0 {post : Int32 → Prop} {N : Nat} {S Y E F now T : Nat → Int32} (hN : N ≤ 5) {v : Int32} (hv : v < 0 ∨ nI (N + 1) ≤ v) (h : post 0) : wpY_isPosition post (nI (N + 1), S, Y, E, F, now, T) v := by
  rcases hv with hv | hv
  · exact br_t hv h
  · exact br_f (lc_nneg (by omega) hv) (br_t hv h)
theorem lc_x_bestThrough {post : Int32 → SX → Prop} (hW : ∀ j, W j ≤ 9) (hC : ∀ j, C j ≤ 9) {N i j a : Nat} (hN : N ≤ 5) (e : i + j = N) (ha : a < 3) (I : ¬ R = 0 → lc_Tab W C B D N FS BS FA FB FP BP TA CH)
    (h : ∀ R FS BS FA FB FP BP TN TX TA CH, lc_Tab W C B D N FS BS FA FB FP BP TA CH → post (lc_sn (-2) (lc_cb (lc_fm W C B D i a) (lc_bm W C B D N j a))) (nI (N + 1), R, lc_v W, B, lc_v C, D, FS, BS, FA, FB, FP, BP, TN, TX, TA, CH)) : wpX_bestThrough post (nI (N + 1), R, lc_v W, B, lc_v C, D, FS, BS, FA, FB, FP, BP, TN, TX, TA, CH) (nI i) (nI a) := by
  unfold wpX_bestThrough
  dsimp only
  refine lc_xp_1 hN (by omega) ha (br_f (by decide) ?_)
  refine lc_x_fill hW hC hN I (fun R FS BS FA FB FP BP TN TX TA CH q => ?_)
  dsimp only
  have hNj : N - j = i := by omega
  have f1 := (q.1 i a ha (by omega)).1
  have f2 := (q.2.1 j a ha (by omega) (Or.inl (by omega))).1
  rw [hNj] at f2
  have b1 := lc_fm_bd hW hC B D i a
  have b2 := lc_bs_bd hW hC B D N j a
  have vc : vp_in (nI (3 * i + a)) 18 := vp_in_nI (by omega) (by decide)
  have h5 := h R FS BS FA FB FP BP TN TX TA CH q
  refine nm_r (lc_i3 i a) ?_
  rw [nI_clamp (show 3 * i + a < 2 ^ 31 by omega), f1, f2]
  refine ⟨vc, ?_⟩
  by_cases z : lc_fm W C B D i a = 0
  · rw [z, lc_cb_0, lc_sn_0] at h5
    exact br_t ((lc_sc_neg (by omega)).mpr z) h5
  · refine br_f (fun y => z ((lc_sc_neg (by omega)).mp y)) ⟨vc, ?_⟩
    have hB : B (3 * i + a) = 0 := Classical.byContradiction fun y => z (lc_fm_B ha y)
    have hbs : lc_bs W C B D N j a = if B (3 * i + a) = 0 ∧ lc_bm W C B D N j a ≠ 0 then W (3 * i + a) + lc_bm W C B D N j a else 0 := by
      unfold lc_bs
      rw [hNj]
    by_cases z2 : lc_bm W C B D N j a = 0
    · rw [if_neg (fun y => y.2 z2)] at hbs
      rw [z2, lc_cb_0', lc_sn_0] at h5
      exact br_f (fun y => (lc_sc_nn (by omega)).mp y hbs) h5
    · rw [if_pos ⟨hB, z2⟩] at hbs
      have z3 : lc_bs W C B D N j a ≠ 0 := by omega
      refine br_t ((lc_sc_nn (by omega)).mpr z3) ⟨vc, vc, vc, ?_⟩
      have ev : lc_sc (lc_fm W C B D i a) + lc_sc (lc_bs W C B D N j a) - lc_v W (3 * i + a) = lc_sn (-2) (lc_cb (lc_fm W C B D i a) (lc_bm W C B D N j a)) := by
        rw [lc_sc_p z, lc_sc_p z3, nI_add, lc_cb_p z z2, lc_sn_p (by omega)]
        show nI _ - nI (W (3 * i + a)) = _
        rw [pk_sub (by omega)]
        exact congrArg nI (by omega)
      rw [ev]
      exact h5
theorem lc_x_through {post : Int64 → SX → Prop} (hW : ∀ j, W j ≤ 9) (hC : ∀ j, C j ≤ 9) {N i j a : Nat} (hN : N ≤ 5) (e : i + j = N) (ha : a < 3) (I : ¬ R = 0 → lc_Tab W C B D N FS BS FA FB FP BP TA CH)
    (h : ∀ R FS BS FA FB FP BP TN TX TA CH, lc_Tab W C B D N FS BS FA FB FP BP TA CH → post (lN (lc_fp W C B D i a * lc_bq W C B D N j a)) (nI (N + 1), R, lc_v W, B, lc_v C, D, FS, BS, FA, FB, FP, BP, TN, TX, TA, CH)) : wpX_through post (nI (N + 1), R, lc_v W, B, lc_v C, D, FS, BS, FA, FB, FP, BP, TN, TX, TA, CH) (nI i) (nI a) := by
  unfold wpX_through
  dsimp only
  refine lc_xp_1 hN (by omega) ha (br_f (by decide) ?_)
  refine lc_x_fill hW hC hN I (fun R FS BS FA FB FP BP TN TX TA CH q => ?_)
  dsimp only
  have hNj : N - j = i := by omega
  have f1 := (q.1 i a ha (by omega)).2.2.2
  have f2 := (q.2.1 j a ha (by omega) (Or.inl (by omega))).2
  rw [hNj] at f2
  have vc : vp_in (nI (3 * i + a)) 18 := vp_in_nI (by omega) (by decide)
  rw [lc_i3, nI_clamp (show 3 * i + a < 2 ^ 31 by omega), f1, f2, lN_mul]
  exact ⟨vc, vc, h R FS BS FA FB FP BP TN TX TA CH q⟩
theorem lc_x_thrC {post : Int64 → SX → Prop} (hW : ∀ j, W j ≤ 9) (hC : ∀ j, C j ≤ 9) {N i j c : Nat} (hN : N ≤ 5) (e : i + 1 + j = N) (hc : c < 9) (I : ¬ R = 0 → lc_Tab W C B D N FS BS FA FB FP BP TA CH)
    (h : ∀ R FS BS FA FB FP BP TN TX TA CH, lc_Tab W C B D N FS BS FA FB FP BP TA CH → post (lN (if D c = 0 ∧ B (3 * (i + 1) + c % 3) = 0 then lc_fp W C B D i (c / 3) * C c * W (3 * (i + 1) + c % 3) * lc_bq W C B D N j (c % 3) else 0)) (nI (N + 1), R, lc_v W, B, lc_v C, D, FS, BS, FA, FB, FP, BP, TN, TX, TA, CH)) : wpX_throughCouple post (nI (N + 1), R, lc_v W, B, lc_v C, D, FS, BS, FA, FB, FP, BP, TN, TX, TA, CH) (nI i) (nI c) := by
  unfold wpX_throughCouple
  dsimp only
  rw [nI_pred]
  refine br_f (nI_pos (by omega)) (br_f (nI_ge (by omega) (by omega)) (br_f (nI_pos (by omega)) (br_t (nI_le (b := 8) (by omega) (by decide)) ?_)))
  refine lc_x_fill hW hC hN I (fun R FS BS FA FB FP BP TN TX TA CH q => ?_)
  dsimp only
  have hNj : N - j = i + 1 := by omega
  have f1 := (q.1 i (c / 3) (by omega) (by omega)).2.2.2
  have f2 := (q.2.1 j (c % 3) (by omega) (by omega) (Or.inl (by omega))).2
  rw [hNj] at f2
  have e1 : nI c / 3 = nI (c / 3) := pk_div (d := 3) (by omega) (by decide) (by decide)
  have e2 : nI c - nI c / 3 * 3 = nI (c % 3) := pk_rem (d := 3) (by omega) (by decide) (by decide)
  have v9 : vp_in (nI c) 9 := vp_in_nI hc (by decide)
  have vn : vp_in (nI (3 * (i + 1) + c % 3)) 18 := vp_in_nI (by omega) (by decide)
  have h5 := h R FS BS FA FB FP BP TN TX TA CH q
  rw [e2]
  refine ⟨by decide, nm_r (lc_i3p i (c % 3)) ?_⟩
  rw [nI_clamp (show c < 2 ^ 31 by omega), nI_clamp (show 3 * (i + 1) + c % 3 < 2 ^ 31 by omega), e1, lc_i3, nI_clamp (show 3 * i + c / 3 < 2 ^ 31 by omega), f1, f2]
  refine ⟨v9, ?_⟩
  by_cases hD : D c = 0
  · refine br_t hD ⟨vn, ?_⟩
    by_cases hB : B (3 * (i + 1) + c % 3) = 0
    · refine br_t hB ⟨by decide, vp_in_nI (by omega) (by decide), v9, vn, vn, ?_⟩
      rw [if_pos ⟨hD, hB⟩] at h5
      have e4 : (lc_v W (3 * (i + 1) + c % 3)).toInt64 = lN (W (3 * (i + 1) + c % 3)) := nI_l (lc_w9 hW _)
      have e5 : (lc_v C c).toInt64 = lN (C c) := nI_l (lc_w9 hC _)
      rw [e4, e5, lN_mul, lN_mul, lN_mul]
      exact h5
    · rw [if_neg (fun y => hB y.2)] at h5
      exact br_f hB h5
  · rw [if_neg (fun y => hD y.1)] at h5
    exact br_f hD h5
end
/-! the constructors -/
def lc_one (k j : Nat) : Nat := if j < k then 1 else 0
theorem lc_one_9 (k : Nat) : ∀ j, lc_one k j ≤ 9 := fun j => by unfold lc_one; split <;> omega
theorem lc_one_0 : (fun _ => 0) = lc_v (lc_one 0) := by
  funext j
  show (0 : Int32) = nI (lc_one 0 j)
  unfold lc_one
  rw [if_neg (Nat.not_lt_zero j)]
  rfl
theorem lc_one_s (k : Nat) : upd (lc_v (lc_one k)) k 1 = lc_v (lc_one (k + 1)) := by
  funext j
  show (if j = k then (1 : Int32) else nI (lc_one k j)) = nI (lc_one (k + 1) j)
  unfold lc_one
  by_cases c : j = k
  · rw [if_pos c, if_pos (by omega)]
    rfl
  · rw [if_neg c]
    by_cases c2 : j < k
    · rw [if_pos c2, if_pos (by omega)]
    · rw [if_neg c2, if_neg (by omega)]
theorem lc_nb1 : vp_nar .byte 1 = 1 := by rw [vp_nar_byte]; decide
theorem lc_x_init {post : SX → Prop} {L : Int32} (h : post (L, 0, lc_v (lc_one 18), fun _ => 0, lc_v (lc_one 9), fun _ => 0, fun _ => 0, fun _ => 0, fun _ => 0, fun _ => 0, fun _ => 0, fun _ => 0, fun _ => 0, fun _ => 0, fun _ => 0, fun _ => 0)) : ∃ n, wX_init_143 post L 0 n 0 (fun _ => 0) (fun _ => 0) (fun _ => 0) (fun _ => 0) (fun _ => 0) (fun _ => 0) (fun _ => 0) (fun _ => 0) (fun _ => 0) (fun _ => 0) (fun _ => 0) (fun _ => 0) (fun _ => 0) (fun _ => 0) := by
  have L2 : ∀ d k, k + d = 9 → wX_init_164 post L 0 (d + 1) (nI k) (lc_v (lc_one 18)) (fun _ => 0) (lc_v (lc_one k)) (fun _ => 0) (fun _ => 0) (fun _ => 0) (fun _ => 0) (fun _ => 0) (fun _ => 0) (fun _ => 0) (fun _ => 0) (fun _ => 0) (fun _ => 0) (fun _ => 0) := by
    intro d
    induction d with
    | zero =>
      intro k hk
      have e : k = 9 := hk
      subst e
      exact pk_le 9 9 (fun _ => h) (fun z => absurd z (by omega))
    | succ d ih =>
      intro k hk
      refine pk_le 9 k (fun z => absurd z (by omega)) (fun _ => ⟨vp_in_nI (by omega) (by decide), nm_r (e' := lc_v (lc_one (k + 1))) ?_ (nm_r (nI_1 k) (ih (k + 1) (by omega)))⟩)
      rw [nI_clamp (show k < 2 ^ 31 by omega), lc_nb1, lc_one_s]
  have L1 : ∀ d k, k + d = 18 → wX_init_143 post L 0 (d + 1) (nI k) (lc_v (lc_one k)) (fun _ => 0) (fun _ => 0) (fun _ => 0) (fun _ => 0) (fun _ => 0) (fun _ => 0) (fun _ => 0) (fun _ => 0) (fun _ => 0) (fun _ => 0) (fun _ => 0) (fun _ => 0) (fun _ => 0) := by
    intro d
    induction d with
    | zero =>
      intro k hk
      have e : k = 18 := hk
      subst e
      have h5 := L2 9 0 (Nat.zero_add _)
      rw [← lc_one_0] at h5
      exact pk_le 18 18 (fun _ => ⟨9 + 1, h5⟩) (fun z => absurd z (by omega))
    | succ d ih =>
      intro k hk
      refine pk_le 18 k (fun z => absurd z (by omega)) (fun _ => ⟨vp_in_nI (by omega) (by decide), nm_r (e' := lc_v (lc_one (k + 1))) ?_ (nm_r (nI_1 k) (ih (k + 1) (by omega)))⟩)
      rw [nI_clamp (show k < 2 ^ 31 by omega), lc_nb1, lc_one_s]
  have h5 := L1 18 0 (Nat.zero_add _)
  rw [← lc_one_0] at h5
  exact ⟨18 + 1, h5⟩
theorem lc_y_init {post : SY → Prop} {L : Int32} (h : post (L, lc_v (lc_one 18), lc_v (lc_one 9), fun _ => 0, fun _ => 0, fun _ => 0, fun _ => 0)) : ∃ n, wY_init_79 post L n 0 (fun _ => 0) (fun _ => 0) (fun _ => 0) (fun _ => 0) (fun _ => 0) (fun _ => 0) := by
  have L2 : ∀ d k, k + d = 9 → wY_init_100 post L (d + 1) (nI k) (lc_v (lc_one 18)) (lc_v (lc_one k)) (fun _ => 0) (fun _ => 0) (fun _ => 0) (fun _ => 0) := by
    intro d
    induction d with
    | zero =>
      intro k hk
      have e : k = 9 := hk
      subst e
      exact pk_le 9 9 (fun _ => h) (fun z => absurd z (by omega))
    | succ d ih =>
      intro k hk
      refine pk_le 9 k (fun z => absurd z (by omega)) (fun _ => ⟨vp_in_nI (by omega) (by decide), nm_r (e' := lc_v (lc_one (k + 1))) ?_ (nm_r (nI_1 k) (ih (k + 1) (by omega)))⟩)
      rw [nI_clamp (show k < 2 ^ 31 by omega), lc_one_s]
  have L1 : ∀ d k, k + d = 18 → wY_init_79 post L (d + 1) (nI k) (lc_v (lc_one k)) (fun _ => 0) (fun _ => 0) (fun _ => 0) (fun _ => 0) (fun _ => 0) := by
    intro d
    induction d with
    | zero =>
      intro k hk
      have e : k = 18 := hk
      subst e
      have h5 := L2 9 0 (Nat.zero_add _)
      rw [← lc_one_0] at h5
      exact pk_le 18 18 (fun _ => ⟨9 + 1, h5⟩) (fun z => absurd z (by omega))
    | succ d ih =>
      intro k hk
      refine pk_le 18 k (fun z => absurd z (by omega)) (fun _ => ⟨vp_in_nI (by omega) (by decide), nm_r (e' := lc_v (lc_one (k + 1))) ?_ (nm_r (nI_1 k) (ih (k + 1) (by omega)))⟩)
      rw [nI_clamp (show k < 2 ^ 31 by omega), lc_one_s]
  have h5 := L1 18 0 (Nat.zero_add _)
  rw [← lc_one_0] at h5
  exact ⟨18 + 1, h5⟩
end
section
/-! the relation and what is owed -/
def i_Rel (k : Nat) (u : SX) (v : SY) : Prop := ∃ (N : Nat) (W C : Nat → Nat) (B D : Nat → Int32) (R : Int32) (FS BS FA FB : Nat → Int32) (FP BP : Nat → Int64) (TN TX TA CH now T : Nat → Int32), (N ≤ 5 ∧ (∀ j, W j ≤ 9) ∧ (∀ j, C j ≤ 9) ∧ (¬ R = 0 → lc_Tab W C B D N FS BS FA FB FP BP TA CH)) ∧ u = (nI (N + 1), R, lc_v W, B, lc_v C, D, FS, BS, FA, FB, FP, BP, TN, TX, TA, CH) ∧ v = (nI (N + 1), lc_v W, lc_v C, B, D, now, T)
theorem lc_mk {k N : Nat} {W C : Nat → Nat} {B D : Nat → Int32} {R : Int32} {FS BS FA FB : Nat → Int32} {FP BP : Nat → Int64} {TN TX TA CH now T : Nat → Int32} (hN : N ≤ 5) (hW : ∀ j, W j ≤ 9) (hC : ∀ j, C j ≤ 9) (I : ¬ R = 0 → lc_Tab W C B D N FS BS FA FB FP BP TA CH) : i_Rel k (nI (N + 1), R, lc_v W, B, lc_v C, D, FS, BS, FA, FB, FP, BP, TN, TX, TA, CH) (nI (N + 1), lc_v W, lc_v C, B, D, now, T) :=
  ⟨N, W, C, B, D, R, FS, BS, FA, FB, FP, BP, TN, TX, TA, CH, now, T, ⟨hN, hW, hC, I⟩, rfl, rfl⟩
def lc_set (W : Nat → Nat) (c w j : Nat) : Nat := if j = c then w else W j
theorem lc_set_9 {W : Nat → Nat} (hW : ∀ j, W j ≤ 9) {c w : Nat} (hw : w ≤ 9) : ∀ j, lc_set W c w j ≤ 9 := fun j => by
  have := hW j
  unfold lc_set
  split <;> omega
theorem lc_set_v (W : Nat → Nat) (c w : Nat) : upd (lc_v W) c (nI w) = lc_v (lc_set W c w) := by
  funext j
  show (if j = c then nI w else nI (W j)) = nI (lc_set W c w j)
  unfold lc_set
  split <;> rfl
theorem lc_b10 : ∀ d, d ≤ 9 → vp_nar .byte (nI d).toInt8.toInt32 = nI d := by
  intro d hd
  rw [pk_vb]
  have h : ∀ d, d < 10 → (nI d).toInt8.toInt32 = nI d := by decide +kernel
  exact h d (by omega)
theorem lc_in9 {v : Int32} (h0 : ¬ v < 0) (h9 : v ≤ 9) : ∃ w, w ≤ 9 ∧ v = nI w := nI_of2 (M := 9) (n := 9) (by decide) h0 h9
theorem lc_z0 {P : Prop} : ¬ (0 : Int32) = 0 → P := fun h => absurd rfl h
theorem i_up {k : Nat} {u : SX} {v : SY} (h : i_Rel k u v) : i_Rel (k + 4) u v := h
theorem i_vc0 (k0 : Int32) : wpX_init (fun u => wpY_init (fun v => i_Rel 1 u v) k0) k0 := by
  have key : ∃ N, N ≤ 5 ∧ (∀ post : SX → Prop, post (nI (N + 1), 0, lc_v (lc_one 18), fun _ => 0, lc_v (lc_one 9), fun _ => 0, fun _ => 0, fun _ => 0, fun _ => 0, fun _ => 0, fun _ => 0, fun _ => 0, fun _ => 0, fun _ => 0, fun _ => 0, fun _ => 0) → wpX_init post k0) ∧ (∀ post : SY → Prop, post (nI (N + 1), lc_v (lc_one 18), lc_v (lc_one 9), fun _ => 0, fun _ => 0, fun _ => 0, fun _ => 0) → wpY_init post k0) := by
    by_cases h1 : 1 ≤ k0
    · by_cases h6 : k0 ≤ 6
      · have h0 : ¬ k0 < 0 := lc_nneg (N := 1) (by decide) h1
        obtain ⟨j, hj, rfl⟩ := nI_of2 (M := 6) (n := 6) (by decide) h0 h6
        have hj1 : 1 ≤ j := (nI_leI (a := 1) (b := j) (by decide) (by omega)).mp h1
        have e : j - 1 + 1 = j := by omega
        refine ⟨j - 1, by omega, ?_⟩
        rw [e]
        exact ⟨fun post h => br_t h1 (br_t h6 (lc_x_init h)), fun post h => br_t h1 (br_t h6 (lc_y_init h))⟩
      · exact ⟨5, by omega, fun post h => br_t h1 (br_f h6 (lc_x_init h)), fun post h => br_t h1 (br_f h6 (lc_y_init h))⟩
    · exact ⟨0, by omega, fun post h => br_f h1 (lc_x_init h), fun post h => br_f h1 (lc_y_init h)⟩
  obtain ⟨N, hN, hX, hY⟩ := key
  exact hX _ (hY _ (lc_mk hN (lc_one_9 18) (lc_one_9 9) lc_z0))
theorem i_vc_weigh {k : Nat} {u : SX} {v : SY} (I : i_Rel k u v) (hk : k + 4 ≤ 2049) (v1 : Int32) (v2 : Int32) (v3 : Int32) : wpX_weigh (fun r u' => wpY_weigh (fun r' v' => r' = r ∧ i_Rel (k + 4) u' v') v v1 v2 v3) u v1 v2 v3 := by
  obtain ⟨N, W, C, B, D, R, FS, BS, FA, FB, FP, BP, TN, TX, TA, CH, now, T, ⟨hN, hW, hC, I⟩, rfl, rfl⟩ := I
  rcases pk_ix v1 (n := N + 1) (by omega) with b1 | b1 | ⟨i, hi, rfl⟩
  · unfold wpX_weigh
    try dsimp only
    refine lc_xp_0 hN (Or.inl b1) (br_t rfl ?_)
    try dsimp only
    unfold wpY_weigh
    try dsimp only
    exact lc_yp_0 hN (Or.inl b1) (br_t rfl ⟨rfl, lc_mk hN hW hC I⟩)
  · unfold wpX_weigh
    try dsimp only
    refine lc_xp_0 hN (Or.inr b1) (br_t rfl ?_)
    try dsimp only
    unfold wpY_weigh
    try dsimp only
    exact lc_yp_0 hN (Or.inr b1) (br_t rfl ⟨rfl, lc_mk hN hW hC I⟩)
  · rcases pk_ix v2 (n := 3) (by omega) with b2 | b2 | ⟨a, ha, rfl⟩
    · unfold wpX_weigh
      try dsimp only
      refine lc_xp_0' hN (by omega) (Or.inl b2) (br_t rfl ?_)
      try dsimp only
      unfold wpY_weigh
      try dsimp only
      exact lc_yp_1 hN (by omega) (br_f (by decide) (lc_yl_0 (Or.inl b2) (br_t rfl ⟨rfl, lc_mk hN hW hC I⟩)))
    · unfold wpX_weigh
      try dsimp only
      refine lc_xp_0' hN (by omega) (Or.inr b2) (br_t rfl ?_)
      try dsimp only
      unfold wpY_weigh
      try dsimp only
      exact lc_yp_1 hN (by omega) (br_f (by decide) (lc_yl_0 (Or.inr b2) (br_t rfl ⟨rfl, lc_mk hN hW hC I⟩)))
    · unfold wpX_weigh
      try dsimp only
      refine lc_xp_1 hN (by omega) ha (br_f (by decide) ?_)
      rw [lc_i3, nI_clamp (show 3 * i + a < 2 ^ 31 by omega)]
      have vc : vp_in (nI (3 * i + a)) 18 := vp_in_nI (by omega) (by decide)
      by_cases h0 : v3 < 0
      · refine br_t h0 ?_
        try dsimp only
        unfold wpY_weigh
        try dsimp only
        exact lc_yp_1 hN (by omega) (br_f (by decide) (lc_y_isLabel ha (br_f (by decide) (br_t h0 ⟨rfl, lc_mk hN hW hC I⟩))))
      · by_cases h9 : v3 ≤ 9
        · obtain ⟨w, hw, rfl⟩ := lc_in9 h0 h9
          refine br_f h0 (br_t h9 ⟨vc, nm_r (e' := lc_v (lc_set W (3 * i + a) w)) (by rw [lc_b10 w hw, lc_set_v]) ?_⟩)
          try dsimp only
          unfold wpY_weigh
          try dsimp only
          refine lc_yp_1 hN (by omega) (br_f (by decide) (lc_y_isLabel ha (br_f (by decide) (br_f h0 (br_t h9 ?_)))))
          rw [lc_i3, nI_clamp (show 3 * i + a < 2 ^ 31 by omega)]
          exact ⟨vc, nm_r (lc_set_v _ _ _) ⟨rfl, lc_mk hN (lc_set_9 hW hw) hC lc_z0⟩⟩
        · refine br_f h0 (br_f h9 ?_)
          try dsimp only
          unfold wpY_weigh
          try dsimp only
          exact lc_yp_1 hN (by omega) (br_f (by decide) (lc_y_isLabel ha (br_f (by decide) (br_f h0 (br_f h9 ⟨rfl, lc_mk hN hW hC I⟩)))))
theorem i_vc_bar {k : Nat} {u : SX} {v : SY} (I : i_Rel k u v) (hk : k + 4 ≤ 2049) (v1 : Int32) (v2 : Int32) (v3 : Int32) : wpX_bar (fun r u' => wpY_bar (fun r' v' => r' = r ∧ i_Rel (k + 4) u' v') v v1 v2 (lw_bz v3)) u v1 v2 (lw_bz v3) := by
  obtain ⟨N, W, C, B, D, R, FS, BS, FA, FB, FP, BP, TN, TX, TA, CH, now, T, ⟨hN, hW, hC, I⟩, rfl, rfl⟩ := I
  rcases pk_ix v1 (n := N + 1) (by omega) with b1 | b1 | ⟨i, hi, rfl⟩
  · unfold wpX_bar
    try dsimp only
    refine lc_xp_0 hN (Or.inl b1) (br_t rfl ?_)
    try dsimp only
    unfold wpY_bar
    try dsimp only
    exact lc_yp_0 hN (Or.inl b1) (br_t rfl ⟨rfl, lc_mk hN hW hC I⟩)
  · unfold wpX_bar
    try dsimp only
    refine lc_xp_0 hN (Or.inr b1) (br_t rfl ?_)
    try dsimp only
    unfold wpY_bar
    try dsimp only
    exact lc_yp_0 hN (Or.inr b1) (br_t rfl ⟨rfl, lc_mk hN hW hC I⟩)
  · rcases pk_ix v2 (n := 3) (by omega) with b2 | b2 | ⟨a, ha, rfl⟩
    · unfold wpX_bar
      try dsimp only
      refine lc_xp_0' hN (by omega) (Or.inl b2) (br_t rfl ?_)
      try dsimp only
      unfold wpY_bar
      try dsimp only
      exact lc_yp_1 hN (by omega) (br_f (by decide) (lc_yl_0 (Or.inl b2) (br_t rfl ⟨rfl, lc_mk hN hW hC I⟩)))
    · unfold wpX_bar
      try dsimp only
      refine lc_xp_0' hN (by omega) (Or.inr b2) (br_t rfl ?_)
      try dsimp only
      unfold wpY_bar
      try dsimp only
      exact lc_yp_1 hN (by omega) (br_f (by decide) (lc_yl_0 (Or.inr b2) (br_t rfl ⟨rfl, lc_mk hN hW hC I⟩)))
    · unfold wpX_bar
      try dsimp only
      refine lc_xp_1 hN (by omega) ha (br_f (by decide) ?_)
      rw [lc_i3, nI_clamp (show 3 * i + a < 2 ^ 31 by omega)]
      have vc : vp_in (nI (3 * i + a)) 18 := vp_in_nI (by omega) (by decide)
      refine ⟨vc, nm_e ?_⟩
      try dsimp only
      unfold wpY_bar
      try dsimp only
      refine lc_yp_1 hN (by omega) (br_f (by decide) (lc_y_isLabel ha (br_f (by decide) ?_)))
      rw [lc_i3, nI_clamp (show 3 * i + a < 2 ^ 31 by omega)]
      exact ⟨vc, nm_e ⟨rfl, lc_mk hN hW hC lc_z0⟩⟩
theorem i_vc_weighCouple {k : Nat} {u : SX} {v : SY} (I : i_Rel k u v) (hk : k + 4 ≤ 2049) (v1 : Int32) (v2 : Int32) (v3 : Int32) : wpX_weighCouple (fun r u' => wpY_weighCouple (fun r' v' => r' = r ∧ i_Rel (k + 4) u' v') v v1 v2 v3) u v1 v2 v3 := by
  obtain ⟨N, W, C, B, D, R, FS, BS, FA, FB, FP, BP, TN, TX, TA, CH, now, T, ⟨hN, hW, hC, I⟩, rfl, rfl⟩ := I
  rcases pk_ix v1 (n := 3) (by omega) with b1 | b1 | ⟨i, hi, rfl⟩
  · unfold wpX_weighCouple
    try dsimp only
    refine lc_xl_0 (Or.inl b1) (br_t rfl ?_)
    try dsimp only
    unfold wpY_weighCouple
    try dsimp only
    exact lc_yl_0 (Or.inl b1) (br_t rfl ⟨rfl, lc_mk hN hW hC I⟩)
  · unfold wpX_weighCouple
    try dsimp only
    refine lc_xl_0 (Or.inr b1) (br_t rfl ?_)
    try dsimp only
    unfold wpY_weighCouple
    try dsimp only
    exact lc_yl_0 (Or.inr b1) (br_t rfl ⟨rfl, lc_mk hN hW hC I⟩)
  · rcases pk_ix v2 (n := 3) (by omega) with b2 | b2 | ⟨a, ha, rfl⟩
    · unfold wpX_weighCouple
      try dsimp only
      refine lc_xl_1 hi (br_f (by decide) (lc_xl_0 (Or.inl b2) (br_t rfl ?_)))
      try dsimp only
      unfold wpY_weighCouple
      try dsimp only
      exact lc_y_isLabel hi (br_f (by decide) (lc_yl_0 (Or.inl b2) (br_t rfl ⟨rfl, lc_mk hN hW hC I⟩)))
    · unfold wpX_weighCouple
      try dsimp only
      refine lc_xl_1 hi (br_f (by decide) (lc_xl_0 (Or.inr b2) (br_t rfl ?_)))
      try dsimp only
      unfold wpY_weighCouple
      try dsimp only
      exact lc_y_isLabel hi (br_f (by decide) (lc_yl_0 (Or.inr b2) (br_t rfl ⟨rfl, lc_mk hN hW hC I⟩)))
    · unfold wpX_weighCouple
      try dsimp only
      refine lc_xl_1 hi (br_f (by decide) (lc_xl_1 ha (br_f (by decide) ?_)))
      rw [lc_i3, nI_clamp (show 3 * i + a < 2 ^ 31 by omega)]
      have vc : vp_in (nI (3 * i + a)) 9 := vp_in_nI (by omega) (by decide)
      by_cases h0 : v3 < 0
      · refine br_t h0 ?_
        try dsimp only
        unfold wpY_weighCouple
        try dsimp only
        exact lc_y_isLabel hi (br_f (by decide) (lc_y_isLabel ha (br_f (by decide) (br_t h0 ⟨rfl, lc_mk hN hW hC I⟩))))
      · by_cases h9 : v3 ≤ 9
        · obtain ⟨w, hw, rfl⟩ := lc_in9 h0 h9
          refine br_f h0 (br_t h9 ⟨vc, nm_r (e' := lc_v (lc_set C (3 * i + a) w)) (by rw [lc_b10 w hw, lc_set_v]) ?_⟩)
          try dsimp only
          unfold wpY_weighCouple
          try dsimp only
          refine lc_y_isLabel hi (br_f (by decide) (lc_y_isLabel ha (br_f (by decide) (br_f h0 (br_t h9 ?_)))))
          rw [lc_i3, nI_clamp (show 3 * i + a < 2 ^ 31 by omega)]
          exact ⟨vc, nm_r (lc_set_v _ _ _) ⟨rfl, lc_mk hN hW (lc_set_9 hC hw) lc_z0⟩⟩
        · refine br_f h0 (br_f h9 ?_)
          try dsimp only
          unfold wpY_weighCouple
          try dsimp only
          exact lc_y_isLabel hi (br_f (by decide) (lc_y_isLabel ha (br_f (by decide) (br_f h0 (br_f h9 ⟨rfl, lc_mk hN hW hC I⟩)))))
theorem i_vc_barCouple {k : Nat} {u : SX} {v : SY} (I : i_Rel k u v) (hk : k + 4 ≤ 2049) (v1 : Int32) (v2 : Int32) (v3 : Int32) : wpX_barCouple (fun r u' => wpY_barCouple (fun r' v' => r' = r ∧ i_Rel (k + 4) u' v') v v1 v2 (lw_bz v3)) u v1 v2 (lw_bz v3) := by
  obtain ⟨N, W, C, B, D, R, FS, BS, FA, FB, FP, BP, TN, TX, TA, CH, now, T, ⟨hN, hW, hC, I⟩, rfl, rfl⟩ := I
  rcases pk_ix v1 (n := 3) (by omega) with b1 | b1 | ⟨i, hi, rfl⟩
  · unfold wpX_barCouple
    try dsimp only
    refine lc_xl_0 (Or.inl b1) (br_t rfl ?_)
    try dsimp only
    unfold wpY_barCouple
    try dsimp only
    exact lc_yl_0 (Or.inl b1) (br_t rfl ⟨rfl, lc_mk hN hW hC I⟩)
  · unfold wpX_barCouple
    try dsimp only
    refine lc_xl_0 (Or.inr b1) (br_t rfl ?_)
    try dsimp only
    unfold wpY_barCouple
    try dsimp only
    exact lc_yl_0 (Or.inr b1) (br_t rfl ⟨rfl, lc_mk hN hW hC I⟩)
  · rcases pk_ix v2 (n := 3) (by omega) with b2 | b2 | ⟨a, ha, rfl⟩
    · unfold wpX_barCouple
      try dsimp only
      refine lc_xl_1 hi (br_f (by decide) (lc_xl_0 (Or.inl b2) (br_t rfl ?_)))
      try dsimp only
      unfold wpY_barCouple
      try dsimp only
      exact lc_y_isLabel hi (br_f (by decide) (lc_yl_0 (Or.inl b2) (br_t rfl ⟨rfl, lc_mk hN hW hC I⟩)))
    · unfold wpX_barCouple
      try dsimp only
      refine lc_xl_1 hi (br_f (by decide) (lc_xl_0 (Or.inr b2) (br_t rfl ?_)))
      try dsimp only
      unfold wpY_barCouple
      try dsimp only
      exact lc_y_isLabel hi (br_f (by decide) (lc_yl_0 (Or.inr b2) (br_t rfl ⟨rfl, lc_mk hN hW hC I⟩)))
    · unfold wpX_barCouple
      try dsimp only
      refine lc_xl_1 hi (br_f (by decide) (lc_xl_1 ha (br_f (by decide) ?_)))
      rw [lc_i3, nI_clamp (show 3 * i + a < 2 ^ 31 by omega)]
      have vc : vp_in (nI (3 * i + a)) 9 := vp_in_nI (by omega) (by decide)
      refine ⟨vc, nm_e ?_⟩
      try dsimp only
      unfold wpY_barCouple
      try dsimp only
      refine lc_y_isLabel hi (br_f (by decide) (lc_y_isLabel ha (br_f (by decide) ?_)))
      rw [lc_i3, nI_clamp (show 3 * i + a < 2 ^ 31 by omega)]
      exact ⟨vc, nm_e ⟨rfl, lc_mk hN hW hC lc_z0⟩⟩
theorem i_vc_allowed {k : Nat} {u : SX} {v : SY} (I : i_Rel k u v) (hk : k + 4 ≤ 2049) : wpX_allowed (fun r u' => wpY_allowed (fun r' v' => r' = r ∧ i_Rel (k + 4) u' v') v) u := by
  obtain ⟨N, W, C, B, D, R, FS, BS, FA, FB, FP, BP, TN, TX, TA, CH, now, T, ⟨hN, hW, hC, I⟩, rfl, rfl⟩ := I
  refine lc_x_allowed hW hC hN I (fun R FS BS FA FB FP BP TN TX TA CH q => ?_)
  try dsimp only
  exact lc_y_allowed hN (fun now' => ⟨rfl, lc_mk hN hW hC (fun _ => q)⟩)
theorem i_vc_best {k : Nat} {u : SX} {v : SY} (I : i_Rel k u v) (hk : k + 4 ≤ 2049) : wpX_best (fun r u' => wpY_best (fun r' v' => r' = r ∧ i_Rel (k + 4) u' v') v) u := by
  obtain ⟨N, W, C, B, D, R, FS, BS, FA, FB, FP, BP, TN, TX, TA, CH, now, T, ⟨hN, hW, hC, I⟩, rfl, rfl⟩ := I
  refine lc_x_best hW hC hN I (fun R FS BS FA FB FP BP TN TX TA CH q => ?_)
  try dsimp only
  exact lc_y_best hN hW hC (fun now' => ⟨rfl, lc_mk hN hW hC (fun _ => q)⟩)
theorem i_vc_label {k : Nat} {u : SX} {v : SY} (I : i_Rel k u v) (hk : k + 4 ≤ 2049) (v1 : Int32) : wpX_label (fun r u' => wpY_label (fun r' v' => r' = r ∧ i_Rel (k + 4) u' v') v v1) u v1 := by
  obtain ⟨N, W, C, B, D, R, FS, BS, FA, FB, FP, BP, TN, TX, TA, CH, now, T, ⟨hN, hW, hC, I⟩, rfl, rfl⟩ := I
  rcases pk_ix v1 (n := N + 1) (by omega) with b1 | b1 | ⟨i, hi, rfl⟩
  · unfold wpX_label
    try dsimp only
    refine br_t b1 ?_
    try dsimp only
    unfold wpY_label
    try dsimp only
    exact lc_yp_0 hN (Or.inl b1) (br_t rfl ⟨rfl, lc_mk hN hW hC I⟩)
  · unfold wpX_label
    try dsimp only
    refine br_f (lc_nneg (by omega) b1) (br_f (Int32.not_lt.mpr b1) ?_)
    try dsimp only
    unfold wpY_label
    try dsimp only
    exact lc_yp_0 hN (Or.inr b1) (br_t rfl ⟨rfl, lc_mk hN hW hC I⟩)
  · refine lc_x_label hW hC hN (by omega) I (fun h0 R FS BS FA FB FP BP TN TX TA CH q => ?_) (fun h0 k' hk' R FS BS FA FB FP BP TN TX TA CH q => ?_)
    · try dsimp only
      exact lc_y_label hN (by omega) hW hC (fun _ now' => ⟨rfl, lc_mk hN hW hC (fun _ => q)⟩) (fun h1 => absurd h1 (by omega))
    · try dsimp only
      exact lc_y_label hN (by omega) hW hC (fun h1 => absurd h0 (by omega)) (fun _ k2 now' hk2 => ⟨by rw [lc_Fst_u hk2 hk'], lc_mk hN hW hC (fun _ => q)⟩)
theorem i_vc_bestCount {k : Nat} {u : SX} {v : SY} (I : i_Rel k u v) (hk : k + 4 ≤ 2049) : wpX_bestCount (fun r u' => wpY_bestCount (fun r' v' => r' = r ∧ i_Rel (k + 4) u' v') v) u := by
  obtain ⟨N, W, C, B, D, R, FS, BS, FA, FB, FP, BP, TN, TX, TA, CH, now, T, ⟨hN, hW, hC, I⟩, rfl, rfl⟩ := I
  refine lc_x_bestCount hW hC hN I (fun h0 R FS BS FA FB FP BP TN TX TA CH q => ?_) (fun h0 R FS BS FA FB FP BP TN TX TA CH q => ?_)
  · try dsimp only
    exact lc_y_bestCount hN hW hC (fun _ now' T' => ⟨rfl, lc_mk hN hW hC (fun _ => q)⟩) (fun h1 => absurd h1 (by omega))
  · try dsimp only
    exact lc_y_bestCount hN hW hC (fun h1 => absurd h0 (by omega)) (fun _ now' T' => ⟨rfl, lc_mk hN hW hC (fun _ => q)⟩)
theorem lc_bad8 {v : Int32} (hv : nI 8 ≤ v) : ¬ v < 0 ∧ ¬ v ≤ 7 := by
  have e3 : (nI 8).toInt = 8 := by decide
  have e2 : (7 : Int32).toInt = 7 := by decide
  have e0 : (0 : Int32).toInt = 0 := by decide
  rw [Int32.le_iff_toInt_le, e3] at hv
  rw [Int32.lt_iff_toInt_lt, Int32.le_iff_toInt_le, e2, e0]
  omega
theorem lc_bad9 {v : Int32} (hv : nI 9 ≤ v) : ¬ v < 0 ∧ ¬ v ≤ 8 := by
  have e3 : (nI 9).toInt = 9 := by decide
  have e2 : (8 : Int32).toInt = 8 := by decide
  have e0 : (0 : Int32).toInt = 0 := by decide
  rw [Int32.le_iff_toInt_le, e3] at hv
  rw [Int32.lt_iff_toInt_lt, Int32.le_iff_toInt_le, e2, e0]
  omega
theorem lc_n2 {N : Nat} (hN : N ≤ 5) {v : Int32} (hv : nI N ≤ v) : nI (N + 1) - 2 < v := by
  have e : (nI (N + 1) - 2).toInt = (N : Int) - 1 := by
    have h : N = 0 ∨ N = 1 ∨ N = 2 ∨ N = 3 ∨ N = 4 ∨ N = 5 := by omega
    rcases h with h | h | h | h | h | h <;> subst h <;> decide
  rw [Int32.le_iff_toInt_le, nI_toInt (by omega)] at hv
  rw [Int32.lt_iff_toInt_lt, e]
  omega
theorem i_vc_ranked {k : Nat} {u : SX} {v : SY} (I : i_Rel k u v) (hk : k + 4 ≤ 2049) (v1 : Int32) : wpX_ranked (fun r u' => wpY_ranked (fun r' v' => r' = r ∧ i_Rel (k + 4) u' v') v v1) u v1 := by
  obtain ⟨N, W, C, B, D, R, FS, BS, FA, FB, FP, BP, TN, TX, TA, CH, now, T, ⟨hN, hW, hC, I⟩, rfl, rfl⟩ := I
  rcases pk_ix v1 (n := 8) (by omega) with b1 | b1 | ⟨i, hi, rfl⟩
  · unfold wpX_ranked
    try dsimp only
    refine br_t b1 ?_
    try dsimp only
    unfold wpY_ranked
    try dsimp only
    exact br_t b1 ⟨rfl, lc_mk hN hW hC I⟩
  · have b2 := lc_bad8 b1
    unfold wpX_ranked
    try dsimp only
    refine br_f b2.1 (br_f b2.2 ?_)
    try dsimp only
    unfold wpY_ranked
    try dsimp only
    exact br_f b2.1 (br_f b2.2 ⟨rfl, lc_mk hN hW hC I⟩)
  · refine lc_x_ranked hW hC hN hi I (fun g hg R FS BS FA FB FP BP TN TX TA CH q => ?_)
    try dsimp only
    exact lc_y_ranked hN hi hW hC hg (fun now' T' => ⟨rfl, lc_mk hN hW hC (fun _ => q)⟩)
theorem i_vc_bestThrough {k : Nat} {u : SX} {v : SY} (I : i_Rel k u v) (hk : k + 4 ≤ 2049) (v1 : Int32) (v2 : Int32) : wpX_bestThrough (fun r u' => wpY_bestThrough (fun r' v' => r' = r ∧ i_Rel (k + 4) u' v') v v1 v2) u v1 v2 := by
  obtain ⟨N, W, C, B, D, R, FS, BS, FA, FB, FP, BP, TN, TX, TA, CH, now, T, ⟨hN, hW, hC, I⟩, rfl, rfl⟩ := I
  rcases pk_ix v1 (n := N + 1) (by omega) with b1 | b1 | ⟨i, hi, rfl⟩
  · unfold wpX_bestThrough
    try dsimp only
    refine lc_xp_0 hN (Or.inl b1) (br_t rfl ?_)
    try dsimp only
    unfold wpY_bestThrough
    try dsimp only
    exact lc_yp_0 hN (Or.inl b1) (br_t rfl ⟨rfl, lc_mk hN hW hC I⟩)
  · unfold wpX_bestThrough
    try dsimp only
    refine lc_xp_0 hN (Or.inr b1) (br_t rfl ?_)
    try dsimp only
    unfold wpY_bestThrough
    try dsimp only
    exact lc_yp_0 hN (Or.inr b1) (br_t rfl ⟨rfl, lc_mk hN hW hC I⟩)
  · rcases pk_ix v2 (n := 3) (by omega) with b2 | b2 | ⟨a, ha, rfl⟩
    · unfold wpX_bestThrough
      try dsimp only
      refine lc_xp_0' hN (by omega) (Or.inl b2) (br_t rfl ?_)
      try dsimp only
      unfold wpY_bestThrough
      try dsimp only
      exact lc_yp_1 hN (by omega) (br_f (by decide) (lc_yl_0 (Or.inl b2) (br_t rfl ⟨rfl, lc_mk hN hW hC I⟩)))
    · unfold wpX_bestThrough
      try dsimp only
      refine lc_xp_0' hN (by omega) (Or.inr b2) (br_t rfl ?_)
      try dsimp only
      unfold wpY_bestThrough
      try dsimp only
      exact lc_yp_1 hN (by omega) (br_f (by decide) (lc_yl_0 (Or.inr b2) (br_t rfl ⟨rfl, lc_mk hN hW hC I⟩)))
    · refine lc_x_bestThrough (j := N - i) hW hC hN (by omega) ha I (fun R FS BS FA FB FP BP TN TX TA CH q => ?_)
      try dsimp only
      exact lc_y_bestThrough hN (by omega) ha hW hC (fun now' => ⟨by rw [lc_mx (j := N - i) (by omega) ha], lc_mk hN hW hC (fun _ => q)⟩)
theorem i_vc_total {k : Nat} {u : SX} {v : SY} (I : i_Rel k u v) (hk : k + 4 ≤ 2049) : wpX_total (fun r u' => wpY_total (fun r' v' => r' = r ∧ i_Rel (k + 4) u' v') v) u := by
  obtain ⟨N, W, C, B, D, R, FS, BS, FA, FB, FP, BP, TN, TX, TA, CH, now, T, ⟨hN, hW, hC, I⟩, rfl, rfl⟩ := I
  refine lc_x_total hW hC hN I (fun R FS BS FA FB FP BP TN TX TA CH q => ?_)
  try dsimp only
  exact lc_y_total hN hW hC (fun now' => ⟨rfl, lc_mk hN hW hC (fun _ => q)⟩)
theorem i_vc_through {k : Nat} {u : SX} {v : SY} (I : i_Rel k u v) (hk : k + 4 ≤ 2049) (v1 : Int32) (v2 : Int32) : wpX_through (fun r u' => wpY_through (fun r' v' => r' = r ∧ i_Rel (k + 4) u' v') v v1 v2) u v1 v2 := by
  obtain ⟨N, W, C, B, D, R, FS, BS, FA, FB, FP, BP, TN, TX, TA, CH, now, T, ⟨hN, hW, hC, I⟩, rfl, rfl⟩ := I
  rcases pk_ix v1 (n := N + 1) (by omega) with b1 | b1 | ⟨i, hi, rfl⟩
  · unfold wpX_through
    try dsimp only
    refine lc_xp_0 hN (Or.inl b1) (br_t rfl ?_)
    try dsimp only
    unfold wpY_through
    try dsimp only
    exact lc_yp_0 hN (Or.inl b1) (br_t rfl ⟨rfl, lc_mk hN hW hC I⟩)
  · unfold wpX_through
    try dsimp only
    refine lc_xp_0 hN (Or.inr b1) (br_t rfl ?_)
    try dsimp only
    unfold wpY_through
    try dsimp only
    exact lc_yp_0 hN (Or.inr b1) (br_t rfl ⟨rfl, lc_mk hN hW hC I⟩)
  · rcases pk_ix v2 (n := 3) (by omega) with b2 | b2 | ⟨a, ha, rfl⟩
    · unfold wpX_through
      try dsimp only
      refine lc_xp_0' hN (by omega) (Or.inl b2) (br_t rfl ?_)
      try dsimp only
      unfold wpY_through
      try dsimp only
      exact lc_yp_1 hN (by omega) (br_f (by decide) (lc_yl_0 (Or.inl b2) (br_t rfl ⟨rfl, lc_mk hN hW hC I⟩)))
    · unfold wpX_through
      try dsimp only
      refine lc_xp_0' hN (by omega) (Or.inr b2) (br_t rfl ?_)
      try dsimp only
      unfold wpY_through
      try dsimp only
      exact lc_yp_1 hN (by omega) (br_f (by decide) (lc_yl_0 (Or.inr b2) (br_t rfl ⟨rfl, lc_mk hN hW hC I⟩)))
    · refine lc_x_through (j := N - i) hW hC hN (by omega) ha I (fun R FS BS FA FB FP BP TN TX TA CH q => ?_)
      try dsimp only
      exact lc_y_through hN (by omega) ha hW hC (fun now' => ⟨by rw [lc_thr (j := N - i) (by omega) ha], lc_mk hN hW hC (fun _ => q)⟩)
theorem i_vc_throughCouple {k : Nat} {u : SX} {v : SY} (I : i_Rel k u v) (hk : k + 4 ≤ 2049) (v1 : Int32) (v2 : Int32) : wpX_throughCouple (fun r u' => wpY_throughCouple (fun r' v' => r' = r ∧ i_Rel (k + 4) u' v') v v1 v2) u v1 v2 := by
  obtain ⟨N, W, C, B, D, R, FS, BS, FA, FB, FP, BP, TN, TX, TA, CH, now, T, ⟨hN, hW, hC, I⟩, rfl, rfl⟩ := I
  rcases pk_ix v1 (n := N) (by omega) with b1 | b1 | ⟨i, hi, rfl⟩
  · unfold wpX_throughCouple
    try dsimp only
    refine br_t b1 ?_
    try dsimp only
    unfold wpY_throughCouple
    try dsimp only
    exact br_t b1 ⟨rfl, lc_mk hN hW hC I⟩
  · have b2 := lc_nneg (by omega) b1
    unfold wpX_throughCouple
    try dsimp only
    refine br_f b2 (br_t (by rw [nI_pred]; exact b1) ?_)
    try dsimp only
    unfold wpY_throughCouple
    try dsimp only
    exact br_f b2 (br_t (lc_n2 hN b1) ⟨rfl, lc_mk hN hW hC I⟩)
  · have n1 : ¬ nI (N + 1) - 1 ≤ nI i := by rw [nI_pred]; exact nI_ge hi (by omega)
    have n2 : ¬ nI (N + 1) - 2 < nI i := by
      have e2 : nI (N + 1) - 2 = nI (N - 1) := pk_sub (a := N + 1) (b := 2) (by omega)
      rw [e2]
      exact nI_nlt (by omega) (by omega)
    have n0 : ¬ nI i < 0 := nI_pos (by omega)
    rcases pk_ix v2 (n := 9) (by omega) with b1 | b1 | ⟨c, hc, rfl⟩
    · unfold wpX_throughCouple
      try dsimp only
      refine br_f n0 (br_f n1 (br_t b1 ?_))
      try dsimp only
      unfold wpY_throughCouple
      try dsimp only
      exact br_f n0 (br_f n2 (br_t b1 ⟨rfl, lc_mk hN hW hC I⟩))
    · have b2 := lc_bad9 b1
      unfold wpX_throughCouple
      try dsimp only
      refine br_f n0 (br_f n1 (br_f b2.1 (br_f b2.2 ?_)))
      try dsimp only
      unfold wpY_throughCouple
      try dsimp only
      exact br_f n0 (br_f n2 (br_f b2.1 (br_f b2.2 ⟨rfl, lc_mk hN hW hC I⟩)))
    · refine lc_x_thrC (j := N - (i + 1)) hW hC hN (by omega) hc I (fun R FS BS FA FB FP BP TN TX TA CH q => ?_)
      try dsimp only
      refine lc_y_thrC hN (by omega) hc hW hC (fun now' => ⟨?_, lc_mk hN hW hC (fun _ => q)⟩)
      have t := lc_thc (W := W) (C := C) (B := B) (D := D) (N := N) (i := i) (j := N - (i + 1)) (by omega) (c / 3) (c % 3) (by omega) (by omega)
      rw [Nat.div_add_mod] at t
      rw [t]
end
