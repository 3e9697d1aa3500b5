section
/-! pure rows to paste: stores, nI and lN arithmetic, masks, shifts, narrowing, branches by naturals (pk_le, pk_lt, pk_eq), loops (lp1 .. lp16: the measure of the state; rp1 ..: recursion), negatives. Take what you need -/
theorem pk_us {f : Nat → Int32} {k : Nat} {x : Int32} : upd f k x k = x := if_pos rfl
theorem pk_un {f : Nat → Int32} {k j : Nat} {x : Int32} (h : j ≠ k) : upd f k x j = f j := if_neg h
theorem pk_uLs {f : Nat → Int64} {k : Nat} {x : Int64} : vp_updL f k x k = x := if_pos rfl
theorem pk_uLn {f : Nat → Int64} {k j : Nat} {x : Int64} (h : j ≠ k) : vp_updL f k x j = f j := if_neg h
theorem pk_sub {a b : Nat} (h : b ≤ a) : nI a - nI b = nI (a - b) := by
  obtain ⟨c, rfl⟩ : ∃ c, a = c + b := ⟨a - b, by omega⟩
  rw [← nI_add, Int32.add_sub_cancel, Nat.add_sub_cancel]
theorem pk_m1 (n : Nat) : nI (n + 1) + (-1) = nI n := by
  rw [← nI_1, Int32.add_assoc, show (1 : Int32) + (-1) = 0 from rfl, Int32.add_zero]
theorem pk_mul (a b : Nat) : nI a * nI b = nI (a * b) := (Int32.ofNat_mul a b).symm
theorem pk_div {a d : Nat} (ha : a < 2 ^ 31) (h0 : 0 < d) (hd : d < 2 ^ 31) : nI a / nI d = nI (a / d) := by
  apply Int32.toInt_inj.mp
  rw [lg_idiv_nonneg (by rw [nI_toInt ha]; omega) (by rw [nI_toInt hd]; omega), nI_toInt ha, nI_toInt hd, nI_toInt (Nat.lt_of_le_of_lt (Nat.div_le_self a d) ha)]
  first | rfl | exact (Int.natCast_ediv _ _).symm
theorem pk_rem {a d : Nat} (ha : a < 2 ^ 31) (h0 : 0 < d) (hd : d < 2 ^ 31) : nI a - nI a / nI d * nI d = nI (a % d) := by
  rw [pk_div ha h0 hd, pk_mul, pk_sub (Nat.div_mul_le_self a d)]
  exact congrArg nI (by have := Nat.div_add_mod' a d; omega)
theorem pk_sub_toInt {a b : Nat} (ha : a < 2 ^ 30) (hb : b < 2 ^ 30) : (nI a - nI b).toInt = (a : Int) - b := by
  rw [Int32.toInt_sub, nI_toInt (by omega), nI_toInt (by omega)]
  exact Int.bmod_eq_of_le (by omega) (by omega)
theorem pk_sneg {a b : Nat} (hb : b < 2 ^ 30) (h : a < b) : nI a - nI b < 0 := by
  rw [Int32.lt_iff_toInt_lt, pk_sub_toInt (by omega) hb, show (0 : Int32).toInt = 0 from by decide]
  omega
theorem pk_ix (x : Int32) {n : Nat} (hn : n < 2 ^ 31) : x < 0 ∨ nI n ≤ x ∨ ∃ j : Nat, j < n ∧ x = nI j := by
  by_cases h : x < 0
  · exact Or.inl h
  · obtain ⟨j, hj, rfl⟩ := nI_of h
    by_cases h2 : j < n
    · exact Or.inr (Or.inr ⟨j, h2, rfl⟩)
    · exact Or.inr (Or.inl (nI_le (by omega) hj))
theorem pk_le {x y : Int32} {A B : Prop} (a b : Nat) (f : a ≤ b → A) (g : b < a → B) (hx : x = nI a := by rfl) (hy : y = nI b := by rfl) (ha : a < 2 ^ 31 := by omega) (hb : b < 2 ^ 31 := by omega) : (x ≤ y → A) ∧ (¬ x ≤ y → B) := by
  subst hx hy
  rw [nI_leI ha hb]
  exact ⟨f, fun z => g (by omega)⟩
theorem pk_lt {x y : Int32} {A B : Prop} (a b : Nat) (f : a < b → A) (g : b ≤ a → B) (hx : x = nI a := by rfl) (hy : y = nI b := by rfl) (ha : a < 2 ^ 31 := by omega) (hb : b < 2 ^ 31 := by omega) : (x < y → A) ∧ (¬ x < y → B) := by
  subst hx hy
  rw [nI_ltI ha hb]
  exact ⟨f, fun z => g (by omega)⟩
theorem pk_eq {x y : Int32} {A B : Prop} (a b : Nat) (f : a = b → A) (g : a ≠ b → B) (hx : x = nI a := by rfl) (hy : y = nI b := by rfl) (ha : a < 2 ^ 31 := by omega) (hb : b < 2 ^ 31 := by omega) : (x = y → A) ∧ (¬ x = y → B) := by
  subst hx hy
  rw [nI_eq ha hb]
  exact ⟨f, g⟩
theorem pk_in {x : Int32} (n N : Nat) (h : n < N) (hx : x = nI n := by rfl) (hN : N < 2 ^ 31 := by omega) : vp_in x N := by
  subst hx
  exact vp_in_nI h hN
theorem pk_cl {x : Int32} (n : Nat) (hx : x = nI n := by rfl) (h : n < 2 ^ 31 := by omega) : x.toNatClampNeg = n := by
  subst hx
  exact nI_clamp h
theorem gc_len {f : Nat → Int32} {k j : Nat} {x : Int32} : upd f k x j = if j = k then x else f j := rfl
theorem gc_cl {n : Nat} (h : n < 2147483648) : (nI n).toNatClampNeg = n := nI_clamp (by omega)
theorem gc_in {n N : Nat} (h : n < N) (hN : N < 2147483648) : vp_in (nI n) N := vp_in_nI h (by omega)
theorem gc_3 (n : Nat) : 3 * nI n = nI (3 * n) := by rw [show (3 : Int32) = nI 3 from rfl, pk_mul]
theorem gc_4 (n : Nat) : 4 * nI n = nI (4 * n) := by rw [show (4 : Int32) = nI 4 from rfl, pk_mul]
theorem gc_9 (n : Nat) : 9 * nI n = nI (9 * n) := by rw [show (9 : Int32) = nI 9 from rfl, pk_mul]
theorem gc_p2 (n : Nat) : nI n + 2 = nI (n + 2) := by rw [show (2 : Int32) = nI 2 from rfl, nI_add]
theorem gc_p5 (n : Nat) : nI n + 5 = nI (n + 5) := by rw [show (5 : Int32) = nI 5 from rfl, nI_add]
theorem gc_p6 (n : Nat) : nI n + 6 = nI (n + 6) := by rw [show (6 : Int32) = nI 6 from rfl, nI_add]
theorem gc_s1 {n : Nat} (h : 1 ≤ n) : nI n - 1 = nI (n - 1) := by rw [show (1 : Int32) = nI 1 from rfl, pk_sub h]
theorem gc_s2 {n : Nat} (h : 2 ≤ n) : nI n - 2 = nI (n - 2) := by rw [show (2 : Int32) = nI 2 from rfl, pk_sub h]
theorem gc_ne {a b : Nat} (h : a ≠ b) (ha : a < 2147483648) (hb : b < 2147483648) : ¬ nI a = nI b := fun e => h ((nI_eq (by omega) (by omega)).mp e)
theorem gc_inj {a b : Nat} (h : nI a = nI b) (ha : a < 2147483648) (hb : b < 2147483648) : a = b := (nI_eq (by omega) (by omega)).mp h
theorem gc_ne0 {a : Nat} (h : a ≠ 0) (ha : a < 2147483648) : ¬ nI a = 0 := gc_ne (b := 0) h ha (by decide)
theorem gc_nm1 (a : Nat) (ha : a < 2147483648) : ¬ nI a = -1 := by
  intro e
  have h := congrArg Int32.toInt e
  rw [nI_toInt (by omega)] at h
  have : (-1 : Int32).toInt = -1 := by decide
  omega
theorem gc_nneg (a : Nat) (ha : a < 2147483648) : ¬ nI a < 0 := nI_pos (by omega)
theorem gc_pos (a : Nat) (ha : a < 2147483648) : 0 ≤ nI a := nI_pos' (by omega)
end
section
-- types
def gc_td (t : Int32) : Int32 := if t ≤ 4 then 0 else (t - 4) / 4
def gc_tc (t : Int32) : Int32 := if t ≤ 4 then 0 else (t - 4) - (t - 4) / 4 * 4
def gc_ta (d c : Int32) : Int32 := if d = 0 ∧ c = 0 then 3 else 4 + 4 * d + c
def gc_ft (g t : Int32) : Bool := decide (t = 0) || decide (t = g) || (!decide (t < 3) && decide (g = 3))
def gc_at (s t : Int32) : Bool := decide (s = t) || decide (s = 0) || decide (t = 0)
def gc_co (s t : Int32) : Bool := gc_at s t || (!decide (s < 3) && !decide (t < 3) && gc_at (gc_td s) (gc_td t) && gc_at (gc_tc s) (gc_tc t))
def gc_fn (t : Int32) : Int32 := if t = 0 then 3 else t
def gc_T (t : Int32) : Prop := ∃ j : Nat, j < 20 ∧ j ≠ 4 ∧ t = nI j
def gc_A (t : Int32) : Prop := ∃ j : Nat, j < 4 ∧ t = nI j
def gc_G (g : Int32) : Prop := ∃ j : Nat, 1 ≤ j ∧ j ≤ 3 ∧ g = nI j
theorem gc_A_T {t : Int32} (h : gc_A t) : gc_T t := by
  obtain ⟨j, hj, rfl⟩ := h
  exact ⟨j, by omega, by omega, rfl⟩
theorem gc_td_A_c : ∀ j, j < 20 → ∃ i, i < 4 ∧ gc_td (nI j) = nI i := by decide +kernel
theorem gc_tc_A_c : ∀ j, j < 20 → ∃ i, i < 4 ∧ gc_tc (nI j) = nI i := by decide +kernel
theorem gc_td_A {t : Int32} (h : gc_T t) : gc_A (gc_td t) := by
  obtain ⟨j, hj, _, rfl⟩ := h
  exact gc_td_A_c j hj
theorem gc_tc_A {t : Int32} (h : gc_T t) : gc_A (gc_tc t) := by
  obtain ⟨j, hj, _, rfl⟩ := h
  exact gc_tc_A_c j hj
theorem gc_ta_c : ∀ i, i < 4 → ∀ j, j < 4 → gc_td (gc_ta (nI i) (nI j)) = nI i ∧ gc_tc (gc_ta (nI i) (nI j)) = nI j ∧ ∃ k, k < 20 ∧ k ≠ 4 ∧ 3 ≤ k ∧ gc_ta (nI i) (nI j) = nI k := by decide +kernel
theorem gc_ta_T {d c : Int32} (hd : gc_A d) (hc : gc_A c) : gc_T (gc_ta d c) := by
  obtain ⟨i, hi, rfl⟩ := hd
  obtain ⟨j, hj, rfl⟩ := hc
  obtain ⟨_, _, k, h1, h2, _, h3⟩ := gc_ta_c i hi j hj
  exact ⟨k, h1, h2, h3⟩
theorem gc_ta_d {d c : Int32} (hd : gc_A d) (hc : gc_A c) : gc_td (gc_ta d c) = d := by
  obtain ⟨i, hi, rfl⟩ := hd
  obtain ⟨j, hj, rfl⟩ := hc
  exact (gc_ta_c i hi j hj).1
theorem gc_ta_cc {d c : Int32} (hd : gc_A d) (hc : gc_A c) : gc_tc (gc_ta d c) = c := by
  obtain ⟨i, hi, rfl⟩ := hd
  obtain ⟨j, hj, rfl⟩ := hc
  exact (gc_ta_c i hi j hj).2.1
theorem gc_td0 : gc_td 0 = 0 := by decide +kernel
theorem gc_tc0 : gc_tc 0 = 0 := by decide +kernel
theorem gc_td3 : gc_td 3 = 0 := by decide +kernel
theorem gc_tc3 : gc_tc 3 = 0 := by decide +kernel
theorem gc_tdfn (t : Int32) : gc_td (gc_fn t) = gc_td t := by
  unfold gc_fn
  by_cases h : t = 0
  · rw [if_pos h, h, gc_td0, gc_td3]
  · rw [if_neg h]
theorem gc_tcfn (t : Int32) : gc_tc (gc_fn t) = gc_tc t := by
  unfold gc_fn
  by_cases h : t = 0
  · rw [if_pos h, h, gc_tc0, gc_tc3]
  · rw [if_neg h]
theorem gc_at_iff {s t : Int32} : gc_at s t = true ↔ s = t ∨ s = 0 ∨ t = 0 := by
  unfold gc_at
  simp only [Bool.or_eq_true, decide_eq_true_eq, or_assoc]
theorem gc_ft_iff {g t : Int32} : gc_ft g t = true ↔ t = 0 ∨ t = g ∨ (¬ t < 3 ∧ g = 3) := by
  unfold gc_ft
  simp only [Bool.or_eq_true, Bool.and_eq_true, Bool.not_eq_true', decide_eq_true_eq, decide_eq_false_iff_not, or_assoc]
theorem gc_co_iff {s t : Int32} : gc_co s t = true ↔ (s = t ∨ s = 0 ∨ t = 0) ∨ (¬ s < 3 ∧ ¬ t < 3 ∧ (gc_td s = gc_td t ∨ gc_td s = 0 ∨ gc_td t = 0) ∧ (gc_tc s = gc_tc t ∨ gc_tc s = 0 ∨ gc_tc t = 0)) := by
  unfold gc_co
  simp only [Bool.or_eq_true, Bool.and_eq_true, Bool.not_eq_true', decide_eq_false_iff_not, gc_at_iff, and_assoc]
theorem gc_ft0 (g : Int32) : gc_ft g 0 = true := gc_ft_iff.mpr (Or.inl rfl)
theorem gc_co_d {s t : Int32} (h : gc_co s t = true) : gc_td s = gc_td t ∨ gc_td s = 0 ∨ gc_td t = 0 := by
  rcases gc_co_iff.mp h with (h | h | h) | ⟨_, _, h, _⟩
  · exact Or.inl (by rw [h])
  · exact Or.inr (Or.inl (by rw [h, gc_td0]))
  · exact Or.inr (Or.inr (by rw [h, gc_td0]))
  · exact h
theorem gc_co_c {s t : Int32} (h : gc_co s t = true) : gc_tc s = gc_tc t ∨ gc_tc s = 0 ∨ gc_tc t = 0 := by
  rcases gc_co_iff.mp h with (h | h | h) | ⟨_, _, _, h⟩
  · exact Or.inl (by rw [h])
  · exact Or.inr (Or.inl (by rw [h, gc_tc0]))
  · exact Or.inr (Or.inr (by rw [h, gc_tc0]))
  · exact h
-- vectors of labels
def gc_zv : Nat → Int32 := fun _ => 0
def gc_sq (a b : Nat → Int32) : Nat → Int32 := fun k => if 3 ≤ k ∧ k < 6 then (if b k = 0 then a k else b k) else (if a k = 0 then b k else a k)
def gc_ly (s t p : Int32) : Nat → Int32 := fun k =>
  if 3 ≤ k ∧ k < 6 then (if gc_td t = 0 ∧ ¬ gc_td s = 0 ∧ gc_ft (nI (k - 2)) (gc_td s) = false then p else 0)
  else if 6 ≤ k ∧ k < 9 then (if gc_tc s = 0 ∧ ¬ gc_tc t = 0 ∧ gc_ft (nI (k - 5)) (gc_tc t) = false then p else 0)
  else 0
def gc_cv (s t p : Int32) : Nat → Int32 := fun k =>
  if k < 3 then (if s = 0 ∧ gc_ft (nI (k + 1)) t = false then p else 0) else gc_ly (gc_fn s) (gc_fn t) p k
def gc_ev (w : Nat → Int32) : Nat → Int32 := fun k => if k < 3 then w (6 + k) else 0
def gc_ap (a b : Nat → Int32) : Prop := (∀ k, k < 3 → a k = b k) ∧ (b 2 = 0 → ∀ k, k < 9 → a k = b k)
def gc_row (lb : Nat → Int32) (c : Nat) : Nat → Int32 := fun k => lb (9 * c + k)
theorem gc_sq_z (a : Nat → Int32) : gc_sq gc_zv a = a := by
  funext k
  unfold gc_sq gc_zv
  by_cases h : 3 ≤ k ∧ k < 6
  · rw [if_pos h]
    by_cases hb : a k = 0
    · rw [if_pos hb, hb]
    · rw [if_neg hb]
  · rw [if_neg h, if_pos rfl]
theorem gc_z_sq (a : Nat → Int32) : gc_sq a gc_zv = a := by
  funext k
  unfold gc_sq gc_zv
  by_cases h : 3 ≤ k ∧ k < 6
  · rw [if_pos h, if_pos rfl]
  · rw [if_neg h]
    by_cases hb : a k = 0
    · rw [if_pos hb, hb]
    · rw [if_neg hb]
theorem gc_sq_as (a b c : Nat → Int32) : gc_sq (gc_sq a b) c = gc_sq a (gc_sq b c) := by
  funext k
  unfold gc_sq
  by_cases h : 3 ≤ k ∧ k < 6
  · simp only [if_pos h]
    by_cases hc : c k = 0
    · simp only [if_pos hc]
    · simp only [if_neg hc]
  · simp only [if_neg h]
    by_cases ha : a k = 0
    · simp only [if_pos ha]
    · simp only [if_neg ha]
theorem gc_sq_lo {a b : Nat → Int32} {k : Nat} (h : k < 3) : gc_sq a b k = if a k = 0 then b k else a k := by
  unfold gc_sq
  rw [if_neg (by omega)]
theorem gc_sq_lo0 {a b : Nat → Int32} {k : Nat} (h : k < 3) (ha : a k = 0) : gc_sq a b k = b k := by
  rw [gc_sq_lo h, if_pos ha]
theorem gc_sq_lo1 {a b : Nat → Int32} {k : Nat} (h : k < 3) (ha : ¬ a k = 0) : gc_sq a b k = a k := by
  rw [gc_sq_lo h, if_neg ha]
theorem gc_ap_rfl (a : Nat → Int32) : gc_ap a a := ⟨fun _ _ => rfl, fun _ _ _ => rfl⟩
theorem gc_ap_of {a b : Nat → Int32} (h : ∀ k, k < 9 → a k = b k) : gc_ap a b := ⟨fun k hk => h k (by omega), fun _ => h⟩
theorem gc_ap_tr {a b c : Nat → Int32} (h : gc_ap a b) (g : gc_ap b c) : gc_ap a c :=
  ⟨fun k hk => (h.1 k hk).trans (g.1 k hk), fun z k hk => (h.2 ((g.1 2 (by omega)).trans z) k hk).trans (g.2 z k hk)⟩
theorem gc_sq_at {a b a' b' : Nat → Int32} {k : Nat} (ha : a k = a' k) (hb : b k = b' k) : gc_sq a b k = gc_sq a' b' k := by
  unfold gc_sq
  rw [ha, hb]
theorem gc_ap_sq {a b a' b' : Nat → Int32} (h : gc_ap a a') (g : gc_ap b b') : gc_ap (gc_sq a b) (gc_sq a' b') := by
  refine ⟨fun k hk => gc_sq_at (h.1 k hk) (g.1 k hk), fun z k hk => ?_⟩
  rw [gc_sq_lo (by omega)] at z
  by_cases ha : a' 2 = 0
  · rw [if_pos ha] at z
    exact gc_sq_at (h.2 ha k hk) (g.2 z k hk)
  · rw [if_neg ha] at z
    exact absurd z ha
theorem gc_ly_lo {s t p : Int32} {k : Nat} (h : k < 3) : gc_ly s t p k = 0 := by
  unfold gc_ly
  rw [if_neg (by omega), if_neg (by omega)]
theorem gc_ly_in {s t p : Int32} {k : Nat} (h : 1 ≤ k ∧ k ≤ 3) : gc_ly s t p (2 + k) = if gc_td t = 0 ∧ ¬ gc_td s = 0 ∧ gc_ft (nI k) (gc_td s) = false then p else 0 := by
  unfold gc_ly
  rw [if_pos (by omega), show 2 + k - 2 = k by omega]
theorem gc_ly_out {s t p : Int32} {k : Nat} (h : 1 ≤ k ∧ k ≤ 3) : gc_ly s t p (5 + k) = if gc_tc s = 0 ∧ ¬ gc_tc t = 0 ∧ gc_ft (nI k) (gc_tc t) = false then p else 0 := by
  unfold gc_ly
  rw [if_neg (by omega), if_pos (by omega), show 5 + k - 5 = k by omega]
theorem gc_ly_same (s p : Int32) : gc_ly s s p = gc_zv := by
  funext k
  unfold gc_ly gc_zv
  by_cases h : 3 ≤ k ∧ k < 6
  · rw [if_pos h, if_neg (fun z => z.2.1 z.1)]
  · rw [if_neg h]
    by_cases h : 6 ≤ k ∧ k < 9
    · rw [if_pos h, if_neg (fun z => z.2.1 z.1)]
    · rw [if_neg h]
theorem gc_ly_0 {s t : Int32} (p : Int32) (h1 : gc_td s = 0) (h2 : gc_tc t = 0) : gc_ly s t p = gc_zv := by
  funext k
  unfold gc_ly gc_zv
  by_cases h : 3 ≤ k ∧ k < 6
  · rw [if_pos h, if_neg (fun z => z.2.1 h1)]
  · rw [if_neg h]
    by_cases h : 6 ≤ k ∧ k < 9
    · rw [if_pos h, if_neg (fun z => z.2.1 h2)]
    · rw [if_neg h]
-- the meaning of a function value's type
def gc_FT (d c : Int32) (w : Nat → Int32) (V : Int32) : Prop := ∀ k : Nat, 1 ≤ k ∧ k ≤ 3 →
  (gc_ft (nI k) c = true → w (5 + k) = 0 → gc_ft (nI k) (gc_tc V) = true) ∧ (gc_ft (nI k) (gc_td V) = true → w (2 + k) = 0 → gc_ft (nI k) d = true)
theorem gc_FT_0 {d c : Int32} (hd : gc_A d) (hc : gc_A c) : gc_FT d c gc_zv (gc_ta d c) := by
  intro k hk
  rw [gc_ta_d hd hc, gc_ta_cc hd hc]
  exact ⟨fun h _ => h, fun h _ => h⟩
theorem gc_FT_v {d c : Int32} {w : Nat → Int32} {V V' : Int32} (h : gc_FT d c w V) (h1 : gc_td V' = gc_td V) (h2 : gc_tc V' = gc_tc V) : gc_FT d c w V' := by
  intro k hk
  rw [h1, h2]
  exact h k hk
theorem gc_FT_ly {d c s t p : Int32} {w : Nat → Int32} (h : gc_FT d c w s) (hp : ¬ p = 0) (hd : gc_td s = gc_td t ∨ gc_td s = 0 ∨ gc_td t = 0) (hc : gc_tc s = gc_tc t ∨ gc_tc s = 0 ∨ gc_tc t = 0) : gc_FT d c (gc_sq w (gc_ly s t p)) t := by
  intro k hk
  refine ⟨fun h1 h2 => ?_, fun h1 h2 => ?_⟩
  · unfold gc_sq at h2
    rw [if_neg (by omega)] at h2
    by_cases hw : w (5 + k) = 0
    · rw [if_pos hw, gc_ly_out hk] at h2
      have h3 := (h k hk).1 h1 hw
      rcases hc with e | e | e
      · rw [← e]; exact h3
      · by_cases e0 : gc_tc t = 0
        · rw [e0]; exact gc_ft0 _
        · by_cases ef : gc_ft (nI k) (gc_tc t) = false
          · rw [if_pos ⟨e, e0, ef⟩] at h2
            exact absurd h2 hp
          · exact (Bool.not_eq_false _).mp ef
      · rw [e]; exact gc_ft0 _
    · rw [if_neg hw] at h2
      exact absurd h2 hw
  · unfold gc_sq at h2
    rw [if_pos (by omega)] at h2
    by_cases hl : gc_ly s t p (2 + k) = 0
    · rw [if_pos hl] at h2
      refine (h k hk).2 ?_ h2
      rw [gc_ly_in hk] at hl
      rcases hd with e | e | e
      · rw [e]; exact h1
      · rw [e]; exact gc_ft0 _
      · by_cases e0 : gc_td s = 0
        · rw [e0]; exact gc_ft0 _
        · by_cases ef : gc_ft (nI k) (gc_td s) = false
          · rw [if_pos ⟨e, e0, ef⟩] at hl
            exact absurd hl hp
          · exact (Bool.not_eq_false _).mp ef
    · rw [if_neg hl] at h2
      exact absurd h2 hl
theorem gc_FT_w {d c : Int32} {w w' : Nat → Int32} {V : Int32} (h : gc_FT d c w V) (e : ∀ k, 3 ≤ k → k < 9 → w' k = w k) : gc_FT d c w' V := by
  intro k hk
  rw [e (5 + k) (by omega) (by omega), e (2 + k) (by omega) (by omega)]
  exact h k hk
theorem gc_cv_hi {s t p : Int32} {k : Nat} (h : 3 ≤ k) : gc_cv s t p k = gc_ly (gc_fn s) (gc_fn t) p k := by
  unfold gc_cv
  rw [if_neg (by omega)]
theorem gc_FT_cv {d c s t p : Int32} {w : Nat → Int32} (h : gc_FT d c w (gc_fn s)) (hp : ¬ p = 0) (hco : gc_co s t = true) : gc_FT d c (gc_sq w (gc_ly (gc_fn s) (gc_fn t) p)) (gc_fn t) := by
  refine gc_FT_ly h hp ?_ ?_
  · rw [gc_tdfn, gc_tdfn]; exact gc_co_d hco
  · rw [gc_tcfn, gc_tcfn]; exact gc_co_c hco
theorem gc_cv_same (s p : Int32) : gc_cv s s p = gc_zv := by
  funext k
  unfold gc_cv
  by_cases h : k < 3
  · rw [if_pos h, if_neg]
    · rfl
    · intro z
      have := z.2
      rw [z.1, gc_ft0] at this
      exact Bool.noConfusion this
  · rw [if_neg h, gc_ly_same]
theorem gc_cv_lo {s t p : Int32} {k : Nat} (h : 1 ≤ k ∧ k ≤ 3) : gc_cv s t p (k - 1) = if s = 0 ∧ gc_ft (nI k) t = false then p else 0 := by
  unfold gc_cv
  rw [if_pos (by omega), show k - 1 + 1 = k by omega]
theorem gc_not_lt3 {k : Nat} (h : k ≤ 3) (h2 : ¬ nI k < 3) : k = 3 := by
  have h3 : ¬ k < 3 := fun z => h2 (nI_lt (a := k) (b := 3) z (by decide))
  omega
theorem gc_cv_ft {s t p : Int32} {k : Nat} (hk : 1 ≤ k ∧ k ≤ 3) (hp : ¬ p = 0) (hco : gc_co s t = true) (hs : gc_ft (nI k) s = true) (h0 : gc_cv s t p (k - 1) = 0) : gc_ft (nI k) t = true := by
  rw [gc_cv_lo hk] at h0
  by_cases z : s = 0
  · by_cases f : gc_ft (nI k) t = false
    · rw [if_pos ⟨z, f⟩] at h0
      exact absurd h0 hp
    · exact (Bool.not_eq_false _).mp f
  · rcases gc_co_iff.mp hco with (h | h | h) | ⟨h1, h2, _, _⟩
    · rw [← h]; exact hs
    · exact absurd h z
    · rw [h]; exact gc_ft0 _
    · have h3 : k = 3 := by
        rcases gc_ft_iff.mp hs with h | h | h
        · exact absurd h z
        · rw [h] at h1
          exact gc_not_lt3 hk.2 h1
        · exact gc_inj (b := 3) h.2 (by omega) (by decide)
      exact gc_ft_iff.mpr (Or.inr (Or.inr ⟨h2, by rw [h3]; rfl⟩))
theorem gc_ft_ge {g t : Int32} (h : gc_ft g t = true) (h0 : ¬ t = 0) (ht : ¬ t < 3) (hg : gc_G g) : g = 3 := by
  obtain ⟨j, h1, h2, rfl⟩ := hg
  rcases gc_ft_iff.mp h with e | e | e
  · exact absurd e h0
  · rw [e] at ht
    rw [gc_not_lt3 h2 ht]
    rfl
  · exact e.2
theorem gc_le5 {x : Int32} : 5 ≤ x ↔ ¬ x ≤ 4 := by
  rw [Int32.le_iff_toInt_le, Int32.le_iff_toInt_le]
  have h5 : (5 : Int32).toInt = 5 := by decide
  have h4 : (4 : Int32).toInt = 4 := by decide
  omega
theorem gc_lt5 {x : Int32} : x < 5 ↔ x ≤ 4 := by
  rw [Int32.le_iff_toInt_le, Int32.lt_iff_toInt_lt]
  have h5 : (5 : Int32).toInt = 5 := by decide
  have h4 : (4 : Int32).toInt = 4 := by decide
  omega
theorem gc_td_le {t : Int32} (h : t ≤ 4) : gc_td t = 0 := by unfold gc_td; rw [if_pos h]
theorem gc_tc_le {t : Int32} (h : t ≤ 4) : gc_tc t = 0 := by unfold gc_tc; rw [if_pos h]
end
section
section
variable {f_maxNodes f_maxFuel f_nodeCount f_outcome f_programRoot f_faultKind f_faultNode f_walkTop f_contextDepth f_coercionCount f_compiledCount f_cellCount f_closureCount f_top f_running f_atNode f_atEnv f_valueTag f_valueData f_valueCoercion f_typeOfResult f_fuelSpent f_blamedLabel : Int32} {a_kinds a_operands a_hasParent a_inProgram a_nodeType a_siteTargets a_siteCoercions a_walkNode a_walkStep a_contextType a_labels a_draft a_cellNext a_cellTag a_cellData a_cellCoercion a_closureNode a_closureEnv a_frameNode a_frameStage a_frameEnv a_framePending a_frameData a_frameCoercion : Nat → Int32}
theorem gx_dom {post : Int32 → Prop} {p : Int32} (h : post (gc_td p)) : wpX_domain post (f_maxNodes, f_maxFuel, f_nodeCount, f_outcome, f_programRoot, f_faultKind, f_faultNode, f_walkTop, f_contextDepth, f_coercionCount, f_compiledCount, f_cellCount, f_closureCount, f_top, f_running, f_atNode, f_atEnv, f_valueTag, f_valueData, f_valueCoercion, f_typeOfResult, f_fuelSpent, f_blamedLabel, a_kinds, a_operands, a_hasParent, a_inProgram, a_nodeType, a_siteTargets, a_siteCoercions, a_walkNode, a_walkStep, a_contextType, a_labels, a_draft, a_cellNext, a_cellTag, a_cellData, a_cellCoercion, a_closureNode, a_closureEnv, a_frameNode, a_frameStage, a_frameEnv, a_framePending, a_frameData, a_frameCoercion) p := by
  unfold gc_td at h
  refine br_c (fun hc => ?_) (fun hc => ⟨by decide, ?_⟩)
  · rwa [if_pos hc] at h
  · rwa [if_neg hc] at h
theorem gx_cod {post : Int32 → Prop} {p : Int32} (h : post (gc_tc p)) : wpX_codomain post (f_maxNodes, f_maxFuel, f_nodeCount, f_outcome, f_programRoot, f_faultKind, f_faultNode, f_walkTop, f_contextDepth, f_coercionCount, f_compiledCount, f_cellCount, f_closureCount, f_top, f_running, f_atNode, f_atEnv, f_valueTag, f_valueData, f_valueCoercion, f_typeOfResult, f_fuelSpent, f_blamedLabel, a_kinds, a_operands, a_hasParent, a_inProgram, a_nodeType, a_siteTargets, a_siteCoercions, a_walkNode, a_walkStep, a_contextType, a_labels, a_draft, a_cellNext, a_cellTag, a_cellData, a_cellCoercion, a_closureNode, a_closureEnv, a_frameNode, a_frameStage, a_frameEnv, a_framePending, a_frameData, a_frameCoercion) p := by
  unfold gc_tc at h
  refine br_c (fun hc => ?_) (fun hc => ⟨by decide, ?_⟩)
  · rwa [if_pos hc] at h
  · rwa [if_neg hc] at h
theorem gx_fits {post : Int32 → Prop} {g t : Int32} (h1 : gc_ft g t = true → post 1) (h0 : gc_ft g t = false → post 0) : wpX_fits post (f_maxNodes, f_maxFuel, f_nodeCount, f_outcome, f_programRoot, f_faultKind, f_faultNode, f_walkTop, f_contextDepth, f_coercionCount, f_compiledCount, f_cellCount, f_closureCount, f_top, f_running, f_atNode, f_atEnv, f_valueTag, f_valueData, f_valueCoercion, f_typeOfResult, f_fuelSpent, f_blamedLabel, a_kinds, a_operands, a_hasParent, a_inProgram, a_nodeType, a_siteTargets, a_siteCoercions, a_walkNode, a_walkStep, a_contextType, a_labels, a_draft, a_cellNext, a_cellTag, a_cellData, a_cellCoercion, a_closureNode, a_closureEnv, a_frameNode, a_frameStage, a_frameEnv, a_framePending, a_frameData, a_frameCoercion) g t := by
  have h0' : ¬ gc_ft g t = true → post 0 := fun z => h0 ((Bool.not_eq_true _).mp z)
  rw [gc_ft_iff] at h1 h0'
  refine br_c (fun a => h1 (Or.inl a)) (fun a => br_c (fun b => h1 (Or.inr (Or.inl b))) (fun b => br_c (fun c => h0' ?_) (fun c => br_c (fun d => h1 (Or.inr (Or.inr ⟨c, d⟩))) (fun d => h0' ?_))))
  · rintro (z | z | z)
    · exact a z
    · exact b z
    · exact z.1 c
  · rintro (z | z | z)
    · exact a z
    · exact b z
    · exact d z.2
theorem gx_clearDraft_l {post : SX → Prop} {e : Nat} (he : e ≤ 9) : ∀ m k, k + m = e → ∀ (dr : Nat → Int32) n, m < n →
    (∀ dr' : Nat → Int32, (∀ j, k ≤ j → j < e → dr' j = 0) → (∀ j, (j < k ∨ e ≤ j) → dr' j = dr j) → post (f_maxNodes, f_maxFuel, f_nodeCount, f_outcome, f_programRoot, f_faultKind, f_faultNode, f_walkTop, f_contextDepth, f_coercionCount, f_compiledCount, f_cellCount, f_closureCount, f_top, f_running, f_atNode, f_atEnv, f_valueTag, f_valueData, f_valueCoercion, f_typeOfResult, f_fuelSpent, f_blamedLabel, a_kinds, a_operands, a_hasParent, a_inProgram, a_nodeType, a_siteTargets, a_siteCoercions, a_walkNode, a_walkStep, a_contextType, a_labels, dr', a_cellNext, a_cellTag, a_cellData, a_cellCoercion, a_closureNode, a_closureEnv, a_frameNode, a_frameStage, a_frameEnv, a_framePending, a_frameData, a_frameCoercion)) →
    wX_clearDraft_2 post (nI e) f_maxNodes f_maxFuel f_nodeCount f_outcome f_programRoot f_faultKind f_faultNode f_walkTop f_contextDepth f_coercionCount f_compiledCount f_cellCount f_closureCount f_top f_running f_atNode f_atEnv f_valueTag f_valueData f_valueCoercion f_typeOfResult f_fuelSpent f_blamedLabel n (nI k) a_kinds a_operands a_hasParent a_inProgram a_nodeType a_siteTargets a_siteCoercions a_walkNode a_walkStep a_contextType a_labels dr a_cellNext a_cellTag a_cellData a_cellCoercion a_closureNode a_closureEnv a_frameNode a_frameStage a_frameEnv a_framePending a_frameData a_frameCoercion := by
  intro m
  induction m with
  | zero =>
    intro k hk dr n hn H
    obtain ⟨n, rfl⟩ : ∃ q, n = q + 1 := ⟨n - 1, by omega⟩
    exact pk_le e k (fun _ => H dr (fun j h1 h2 => by omega) (fun j _ => rfl)) (fun h => by omega)
  | succ m ih =>
    intro k hk dr n hn H
    obtain ⟨n, rfl⟩ : ∃ q, n = q + 1 := ⟨n - 1, by omega⟩
    refine pk_le e k (fun h => by omega) (fun _ => pk_le 9 k (fun h => by omega) (fun _ => ⟨gc_in (by omega) (by decide), ?_⟩))
    refine nm_e (nm_r (nI_1 k) ?_)
    refine ih (k + 1) (by omega) _ n (by omega) (fun dr' h1 h2 => H dr' (fun j h3 h4 => ?_) (fun j h3 => ?_))
    · by_cases hj : k + 1 ≤ j
      · exact h1 j hj h4
      · rw [h2 j (by omega), gc_len, gc_cl (by omega), if_pos (by omega)]
    · rw [h2 j (by omega), gc_len, gc_cl (by omega), if_neg (by omega)]
theorem gx_clearDraft {post : SX → Prop} {b e : Nat} (hb : b ≤ e) (he : e ≤ 9)
    (H : ∀ dr' : Nat → Int32, (∀ j, b ≤ j → j < e → dr' j = 0) → (∀ j, (j < b ∨ e ≤ j) → dr' j = a_draft j) → post (f_maxNodes, f_maxFuel, f_nodeCount, f_outcome, f_programRoot, f_faultKind, f_faultNode, f_walkTop, f_contextDepth, f_coercionCount, f_compiledCount, f_cellCount, f_closureCount, f_top, f_running, f_atNode, f_atEnv, f_valueTag, f_valueData, f_valueCoercion, f_typeOfResult, f_fuelSpent, f_blamedLabel, a_kinds, a_operands, a_hasParent, a_inProgram, a_nodeType, a_siteTargets, a_siteCoercions, a_walkNode, a_walkStep, a_contextType, a_labels, dr', a_cellNext, a_cellTag, a_cellData, a_cellCoercion, a_closureNode, a_closureEnv, a_frameNode, a_frameStage, a_frameEnv, a_framePending, a_frameData, a_frameCoercion)) :
    wpX_clearDraft post (f_maxNodes, f_maxFuel, f_nodeCount, f_outcome, f_programRoot, f_faultKind, f_faultNode, f_walkTop, f_contextDepth, f_coercionCount, f_compiledCount, f_cellCount, f_closureCount, f_top, f_running, f_atNode, f_atEnv, f_valueTag, f_valueData, f_valueCoercion, f_typeOfResult, f_fuelSpent, f_blamedLabel, a_kinds, a_operands, a_hasParent, a_inProgram, a_nodeType, a_siteTargets, a_siteCoercions, a_walkNode, a_walkStep, a_contextType, a_labels, a_draft, a_cellNext, a_cellTag, a_cellData, a_cellCoercion, a_closureNode, a_closureEnv, a_frameNode, a_frameStage, a_frameEnv, a_framePending, a_frameData, a_frameCoercion) (nI b) (nI e) :=
  ⟨_, gx_clearDraft_l he (e - b) b (by omega) a_draft _ (Nat.lt_succ_self _) H⟩
theorem gx_same_l {post : Int32 → Prop} {id : Nat} (hid : id < 800) : ∀ m k, k + m = 9 → ∀ n, m < n →
    ((∀ j, k ≤ j → j < 9 → a_labels (9 * id + j) = a_draft j) → post 1) → post 0 →
    wX_sameAsDraft_2 post (nI id) f_maxNodes f_maxFuel f_nodeCount f_outcome f_programRoot f_faultKind f_faultNode f_walkTop f_contextDepth f_coercionCount f_compiledCount f_cellCount f_closureCount f_top f_running f_atNode f_atEnv f_valueTag f_valueData f_valueCoercion f_typeOfResult f_fuelSpent f_blamedLabel a_kinds a_operands a_hasParent a_inProgram a_nodeType a_siteTargets a_siteCoercions a_walkNode a_walkStep a_contextType a_labels a_draft a_cellNext a_cellTag a_cellData a_cellCoercion a_closureNode a_closureEnv a_frameNode a_frameStage a_frameEnv a_framePending a_frameData a_frameCoercion n (nI k) := by
  intro m
  induction m with
  | zero =>
    intro k hk n hn H1 H0
    obtain ⟨n, rfl⟩ : ∃ q, n = q + 1 := ⟨n - 1, by omega⟩
    exact pk_le 9 k (fun _ => H1 (fun j h1 h2 => by omega)) (fun h => by omega)
  | succ m ih =>
    intro k hk n hn H1 H0
    obtain ⟨n, rfl⟩ : ∃ q, n = q + 1 := ⟨n - 1, by omega⟩
    have e : 9 * nI id + nI k = nI (9 * id + k) := by rw [gc_9, nI_add]
    refine pk_le 9 k (fun h => by omega) (fun _ => ⟨?_, gc_in (by omega) (by decide), br_c (fun q => ?_) (fun q => H0)⟩)
    · rw [e]; exact gc_in (by omega) (by decide)
    · rw [e, gc_cl (by omega), gc_cl (by omega)] at q
      refine nm_r (nI_1 k) (ih (k + 1) (by omega) n (by omega) (fun h => H1 (fun j h1 h2 => ?_)) H0)
      by_cases hj : j = k
      · rw [hj]; exact q
      · exact h j (by omega) h2
theorem gx_intern45 {post : Int32 → SX → Prop} {cc : Nat} (hcc : cc < 800)
    (H : ∀ lb' : Nat → Int32, (∀ j, j < 9 * cc → lb' j = a_labels j) → (∀ j, j < 9 → lb' (9 * cc + j) = a_draft j) → post (nI cc) (f_maxNodes, f_maxFuel, f_nodeCount, f_outcome, f_programRoot, f_faultKind, f_faultNode, f_walkTop, f_contextDepth, nI (cc + 1), f_compiledCount, f_cellCount, f_closureCount, f_top, f_running, f_atNode, f_atEnv, f_valueTag, f_valueData, f_valueCoercion, f_typeOfResult, f_fuelSpent, f_blamedLabel, a_kinds, a_operands, a_hasParent, a_inProgram, a_nodeType, a_siteTargets, a_siteCoercions, a_walkNode, a_walkStep, a_contextType, lb', a_draft, a_cellNext, a_cellTag, a_cellData, a_cellCoercion, a_closureNode, a_closureEnv, a_frameNode, a_frameStage, a_frameEnv, a_framePending, a_frameData, a_frameCoercion)) :
    ∀ m k, k + m = 9 → ∀ (lb : Nat → Int32) n, m < n → (∀ j, j < 9 * cc → lb j = a_labels j) → (∀ j, j < k → lb (9 * cc + j) = a_draft j) →
    wX_intern_45 post (nI cc) f_maxNodes f_maxFuel f_nodeCount f_outcome f_programRoot f_faultKind f_faultNode f_walkTop f_contextDepth (nI cc) f_compiledCount f_cellCount f_closureCount f_top f_running f_atNode f_atEnv f_valueTag f_valueData f_valueCoercion f_typeOfResult f_fuelSpent f_blamedLabel n (nI k) a_kinds a_operands a_hasParent a_inProgram a_nodeType a_siteTargets a_siteCoercions a_walkNode a_walkStep a_contextType lb a_draft a_cellNext a_cellTag a_cellData a_cellCoercion a_closureNode a_closureEnv a_frameNode a_frameStage a_frameEnv a_framePending a_frameData a_frameCoercion := by
  intro m
  induction m with
  | zero =>
    intro k hk lb n hn h1 h2
    obtain ⟨n, rfl⟩ : ∃ q, n = q + 1 := ⟨n - 1, by omega⟩
    refine pk_le 9 k (fun _ => nm_r (nI_1 cc) (H lb h1 (fun j hj => h2 j (by omega)))) (fun h => by omega)
  | succ m ih =>
    intro k hk lb n hn h1 h2
    obtain ⟨n, rfl⟩ : ∃ q, n = q + 1 := ⟨n - 1, by omega⟩
    have e : 9 * nI cc + nI k = nI (9 * cc + k) := by rw [gc_9, nI_add]
    refine pk_le 9 k (fun h => by omega) (fun _ => ⟨gc_in (by omega) (by decide), ?_, ?_⟩)
    · rw [e]; exact gc_in (by omega) (by decide)
    · refine nm_e (nm_r (nI_1 k) (ih (k + 1) (by omega) _ n (by omega) (fun j hj => ?_) (fun j hj => ?_)))
      · rw [e, gc_cl (by omega), gc_len, if_neg (by omega)]; exact h1 j hj
      · rw [e, gc_cl (by omega), gc_cl (by omega), gc_len]
        by_cases hjk : j = k
        · rw [if_pos (by omega), hjk]
        · rw [if_neg (by omega)]; exact h2 j (by omega)
def gc_Ext (n : Nat) (lb : Nat → Int32) (cc : Nat) (lb' : Nat → Int32) (cc' : Nat) : Prop := cc ≤ cc' ∧ cc' ≤ cc + n ∧ ∀ j, j < 9 * cc → lb' j = lb j
theorem gx_intern {post : Int32 → SX → Prop} {cc : Nat} (hcc : cc < 800)
    (H : ∀ (id : Nat) (lb' : Nat → Int32) (cc' : Nat), gc_Ext 1 a_labels cc lb' cc' → id < cc' → (∀ j, j < 9 → gc_row lb' id j = a_draft j) → post (nI id) (f_maxNodes, f_maxFuel, f_nodeCount, f_outcome, f_programRoot, f_faultKind, f_faultNode, f_walkTop, f_contextDepth, nI cc', f_compiledCount, f_cellCount, f_closureCount, f_top, f_running, f_atNode, f_atEnv, f_valueTag, f_valueData, f_valueCoercion, f_typeOfResult, f_fuelSpent, f_blamedLabel, a_kinds, a_operands, a_hasParent, a_inProgram, a_nodeType, a_siteTargets, a_siteCoercions, a_walkNode, a_walkStep, a_contextType, lb', a_draft, a_cellNext, a_cellTag, a_cellData, a_cellCoercion, a_closureNode, a_closureEnv, a_frameNode, a_frameStage, a_frameEnv, a_framePending, a_frameData, a_frameCoercion)) :
    wpX_intern post (f_maxNodes, f_maxFuel, f_nodeCount, f_outcome, f_programRoot, f_faultKind, f_faultNode, f_walkTop, f_contextDepth, nI cc, f_compiledCount, f_cellCount, f_closureCount, f_top, f_running, f_atNode, f_atEnv, f_valueTag, f_valueData, f_valueCoercion, f_typeOfResult, f_fuelSpent, f_blamedLabel, a_kinds, a_operands, a_hasParent, a_inProgram, a_nodeType, a_siteTargets, a_siteCoercions, a_walkNode, a_walkStep, a_contextType, a_labels, a_draft, a_cellNext, a_cellTag, a_cellData, a_cellCoercion, a_closureNode, a_closureEnv, a_frameNode, a_frameStage, a_frameEnv, a_framePending, a_frameData, a_frameCoercion) := by
  have L : ∀ m i, i + m = cc → ∀ n, m < n → wX_intern_2 post f_maxNodes f_maxFuel f_nodeCount f_outcome f_programRoot f_faultKind f_faultNode f_walkTop f_contextDepth (nI cc) f_compiledCount f_cellCount f_closureCount f_top f_running f_atNode f_atEnv f_valueTag f_valueData f_valueCoercion f_typeOfResult f_fuelSpent f_blamedLabel a_kinds a_operands a_hasParent a_inProgram a_nodeType a_siteTargets a_siteCoercions a_walkNode a_walkStep a_contextType a_labels a_draft a_cellNext a_cellTag a_cellData a_cellCoercion a_closureNode a_closureEnv a_frameNode a_frameStage a_frameEnv a_framePending a_frameData a_frameCoercion n (nI i) := by
    intro m
    induction m with
    | zero =>
      intro i hi n hn
      obtain ⟨n, rfl⟩ : ∃ q, n = q + 1 := ⟨n - 1, by omega⟩
      refine pk_le cc i (fun _ => pk_lt cc 800 (fun _ => ?_) (fun h => by omega)) (fun h => by omega)
      exact ⟨10, gx_intern45 hcc (fun lb' h1 h2 => H cc lb' (cc + 1) ⟨by omega, by omega, h1⟩ (by omega) h2) 9 0 rfl a_labels 10 (by omega) (fun j _ => rfl) (fun j hj => absurd hj (Nat.not_lt_zero j))⟩
    | succ m ih =>
      intro i hi n hn
      obtain ⟨n, rfl⟩ : ∃ q, n = q + 1 := ⟨n - 1, by omega⟩
      refine pk_le cc i (fun h => by omega) (fun _ => ?_)
      refine ⟨10, gx_same_l (by omega) 9 0 rfl 10 (by omega) (fun h => ?_) ?_⟩
      · exact br_f (by decide) (H i a_labels cc ⟨by omega, by omega, fun _ _ => rfl⟩ (by omega) (fun j hj => h j (by omega) hj))
      · exact br_t rfl (nm_r (nI_1 i) (ih (i + 1) (by omega) n (by omega)))
  exact ⟨_, L cc 0 (by omega) (cc + 1) (by omega)⟩
end
end
section
theorem gc_Ext_row {n : Nat} {lb : Nat → Int32} {cc : Nat} {lb' : Nat → Int32} {cc' : Nat} (h : gc_Ext n lb cc lb' cc') {id k : Nat} (hi : id < cc) (hk : k < 9) : gc_row lb' id k = gc_row lb id k := h.2.2 _ (by omega)
theorem gc_Ext_rfl (n : Nat) (lb : Nat → Int32) (cc : Nat) : gc_Ext n lb cc lb cc := ⟨by omega, by omega, fun _ _ => rfl⟩
theorem gc_Ext_tr {n m : Nat} {lb : Nat → Int32} {cc : Nat} {lb' : Nat → Int32} {cc' : Nat} {lb'' : Nat → Int32} {cc'' : Nat} (h : gc_Ext n lb cc lb' cc') (g : gc_Ext m lb' cc' lb'' cc'') : gc_Ext (n + m) lb cc lb'' cc'' := by
  obtain ⟨h1, h2, h3⟩ := h
  obtain ⟨g1, g2, g3⟩ := g
  exact ⟨by omega, by omega, fun j hj => (g3 j (by omega)).trans (h3 j hj)⟩
theorem gc_Ext_le {n m : Nat} {lb : Nat → Int32} {cc : Nat} {lb' : Nat → Int32} {cc' : Nat} (h : gc_Ext n lb cc lb' cc') (hm : n ≤ m) : gc_Ext m lb cc lb' cc' := ⟨h.1, by have := h.2.1; omega, h.2.2⟩
theorem gc_row0 {lb : Nat → Int32} (hz : ∀ k, k < 9 → lb k = 0) {k : Nat} (hk : k < 9) : gc_row lb 0 k = 0 := by
  show lb (9 * 0 + k) = 0
  rw [show 9 * 0 + k = k by omega]
  exact hz k hk
theorem gc_Ext_z {n : Nat} {lb : Nat → Int32} {cc : Nat} {lb' : Nat → Int32} {cc' : Nat} (h : gc_Ext n lb cc lb' cc') (hc : 1 ≤ cc) (hz : ∀ k, k < 9 → lb k = 0) : ∀ k, k < 9 → lb' k = 0 := fun k hk => (h.2.2 k (by omega)).trans (hz k hk)
theorem gc_sq_r0 {lb : Nat → Int32} (hz : ∀ k, k < 9 → lb k = 0) (a : Nat → Int32) {k : Nat} (hk : k < 9) : gc_sq (gc_row lb 0) a k = a k := by
  rw [gc_sq_at (a' := gc_zv) (b' := a) (gc_row0 hz hk) rfl, gc_sq_z]
theorem gc_r0_sq {lb : Nat → Int32} (hz : ∀ k, k < 9 → lb k = 0) (a : Nat → Int32) {k : Nat} (hk : k < 9) : gc_sq a (gc_row lb 0) k = a k := by
  rw [gc_sq_at (a' := a) (b' := gc_zv) rfl (gc_row0 hz hk), gc_z_sq]
section
variable {f_maxNodes f_maxFuel f_nodeCount f_outcome f_programRoot f_faultKind f_faultNode f_walkTop f_contextDepth f_coercionCount f_compiledCount f_cellCount f_closureCount f_top f_running f_atNode f_atEnv f_valueTag f_valueData f_valueCoercion f_typeOfResult f_fuelSpent f_blamedLabel : Int32} {a_kinds a_operands a_hasParent a_inProgram a_nodeType a_siteTargets a_siteCoercions a_walkNode a_walkStep a_contextType a_labels a_draft a_cellNext a_cellTag a_cellData a_cellCoercion a_closureNode a_closureEnv a_frameNode a_frameStage a_frameEnv a_framePending a_frameData a_frameCoercion : Nat → Int32}
theorem gx_dseq_l {post : SX → Prop} {a b : Nat} (ha : a < 800) (hb : b < 800)
    (H : ∀ dr' : Nat → Int32, (∀ j, j < 9 → dr' j = gc_sq (gc_row a_labels a) (gc_row a_labels b) j) → post (f_maxNodes, f_maxFuel, f_nodeCount, f_outcome, f_programRoot, f_faultKind, f_faultNode, f_walkTop, f_contextDepth, f_coercionCount, f_compiledCount, f_cellCount, f_closureCount, f_top, f_running, f_atNode, f_atEnv, f_valueTag, f_valueData, f_valueCoercion, f_typeOfResult, f_fuelSpent, f_blamedLabel, a_kinds, a_operands, a_hasParent, a_inProgram, a_nodeType, a_siteTargets, a_siteCoercions, a_walkNode, a_walkStep, a_contextType, a_labels, dr', a_cellNext, a_cellTag, a_cellData, a_cellCoercion, a_closureNode, a_closureEnv, a_frameNode, a_frameStage, a_frameEnv, a_framePending, a_frameData, a_frameCoercion)) :
    ∀ m k, k + m = 9 → ∀ (dr : Nat → Int32) n, m < n → (∀ j, j < k → dr j = gc_sq (gc_row a_labels a) (gc_row a_labels b) j) →
    wX_draftSequence_2 post (nI a) (nI b) f_maxNodes f_maxFuel f_nodeCount f_outcome f_programRoot f_faultKind f_faultNode f_walkTop f_contextDepth f_coercionCount f_compiledCount f_cellCount f_closureCount f_top f_running f_atNode f_atEnv f_valueTag f_valueData f_valueCoercion f_typeOfResult f_fuelSpent f_blamedLabel n (nI k) a_kinds a_operands a_hasParent a_inProgram a_nodeType a_siteTargets a_siteCoercions a_walkNode a_walkStep a_contextType a_labels dr a_cellNext a_cellTag a_cellData a_cellCoercion a_closureNode a_closureEnv a_frameNode a_frameStage a_frameEnv a_framePending a_frameData a_frameCoercion := by
  intro m
  induction m with
  | zero =>
    intro k hk dr n hn h
    obtain ⟨n, rfl⟩ : ∃ q, n = q + 1 := ⟨n - 1, by omega⟩
    exact pk_le 9 k (fun _ => H dr (fun j hj => h j (by omega))) (fun h => by omega)
  | succ m ih =>
    intro k hk dr n hn h
    obtain ⟨n, rfl⟩ : ∃ q, n = q + 1 := ⟨n - 1, by omega⟩
    have e1 : 9 * nI a + nI k = nI (9 * a + k) := by rw [gc_9, nI_add]
    have e2 : 9 * nI b + nI k = nI (9 * b + k) := by rw [gc_9, nI_add]
    have hi : vp_in (nI k) 9 := gc_in (by omega) (by decide)
    have W : ∀ v, v = gc_sq (gc_row a_labels a) (gc_row a_labels b) k → wX_draftSequence_2 post (nI a) (nI b) f_maxNodes f_maxFuel f_nodeCount f_outcome f_programRoot f_faultKind f_faultNode f_walkTop f_contextDepth f_coercionCount f_compiledCount f_cellCount f_closureCount f_top f_running f_atNode f_atEnv f_valueTag f_valueData f_valueCoercion f_typeOfResult f_fuelSpent f_blamedLabel n (nI (k + 1)) a_kinds a_operands a_hasParent a_inProgram a_nodeType a_siteTargets a_siteCoercions a_walkNode a_walkStep a_contextType a_labels (upd dr (nI k).toNatClampNeg v) a_cellNext a_cellTag a_cellData a_cellCoercion a_closureNode a_closureEnv a_frameNode a_frameStage a_frameEnv a_framePending a_frameData a_frameCoercion := by
      intro v hv
      refine ih (k + 1) (by omega) _ n (by omega) (fun j hj => ?_)
      rw [gc_cl (by omega), gc_len]
      by_cases hjk : j = k
      · rw [if_pos hjk, hjk]; exact hv
      · rw [if_neg hjk]; exact h j (by omega)
    refine pk_le 9 k (fun h => by omega) (fun _ => ⟨by rw [e1]; exact gc_in (by omega) (by decide), ?_⟩)
    refine nm_r (e' := gc_row a_labels a k) (by rw [e1, gc_cl (by omega)]; rfl) ⟨by rw [e2]; exact gc_in (by omega) (by decide), ?_⟩
    refine nm_r (e' := gc_row a_labels b k) (by rw [e2, gc_cl (by omega)]; rfl) ?_
    have Z : (k < 3 ∨ 6 ≤ k) → wX_draftSequence_66 post (wX_draftSequence_2 post (nI a) (nI b) f_maxNodes f_maxFuel f_nodeCount f_outcome f_programRoot f_faultKind f_faultNode f_walkTop f_contextDepth f_coercionCount f_compiledCount f_cellCount f_closureCount f_top f_running f_atNode f_atEnv f_valueTag f_valueData f_valueCoercion f_typeOfResult f_fuelSpent f_blamedLabel n) (nI a) (nI b) (nI k) (gc_row a_labels a k) (gc_row a_labels b k) f_maxNodes f_maxFuel f_nodeCount f_outcome f_programRoot f_faultKind f_faultNode f_walkTop f_contextDepth f_coercionCount f_compiledCount f_cellCount f_closureCount f_top f_running f_atNode f_atEnv f_valueTag f_valueData f_valueCoercion f_typeOfResult f_fuelSpent f_blamedLabel a_kinds a_operands a_hasParent a_inProgram a_nodeType a_siteTargets a_siteCoercions a_walkNode a_walkStep a_contextType a_labels dr a_cellNext a_cellTag a_cellData a_cellCoercion a_closureNode a_closureEnv a_frameNode a_frameStage a_frameEnv a_framePending a_frameData a_frameCoercion := by
      intro hh
      refine br_c (fun z => ⟨hi, nm_e (nm_r (nI_1 k) (W _ ?_))⟩) (fun z => ⟨hi, nm_e (nm_r (nI_1 k) (W _ ?_))⟩)
      · unfold gc_sq; rw [if_neg (by omega), if_pos z]
      · unfold gc_sq; rw [if_neg (by omega), if_neg z]
    refine pk_lt k 3 (fun h => Z (Or.inl h)) (fun h3 => pk_le 6 k (fun h => Z (Or.inr h)) (fun h6 => ?_))
    refine br_c (fun z => ⟨hi, nm_e (nm_r (nI_1 k) (W _ ?_))⟩) (fun z => ⟨hi, nm_e (nm_r (nI_1 k) (W _ ?_))⟩)
    · unfold gc_sq; rw [if_pos (by omega), if_pos z]
    · unfold gc_sq; rw [if_pos (by omega), if_neg z]
theorem gx_dseq {post : SX → Prop} {a b : Nat} (ha : a < 800) (hb : b < 800)
    (H : ∀ dr' : Nat → Int32, (∀ j, j < 9 → dr' j = gc_sq (gc_row a_labels a) (gc_row a_labels b) j) → post (f_maxNodes, f_maxFuel, f_nodeCount, f_outcome, f_programRoot, f_faultKind, f_faultNode, f_walkTop, f_contextDepth, f_coercionCount, f_compiledCount, f_cellCount, f_closureCount, f_top, f_running, f_atNode, f_atEnv, f_valueTag, f_valueData, f_valueCoercion, f_typeOfResult, f_fuelSpent, f_blamedLabel, a_kinds, a_operands, a_hasParent, a_inProgram, a_nodeType, a_siteTargets, a_siteCoercions, a_walkNode, a_walkStep, a_contextType, a_labels, dr', a_cellNext, a_cellTag, a_cellData, a_cellCoercion, a_closureNode, a_closureEnv, a_frameNode, a_frameStage, a_frameEnv, a_framePending, a_frameData, a_frameCoercion)) :
    wpX_draftSequence post (f_maxNodes, f_maxFuel, f_nodeCount, f_outcome, f_programRoot, f_faultKind, f_faultNode, f_walkTop, f_contextDepth, f_coercionCount, f_compiledCount, f_cellCount, f_closureCount, f_top, f_running, f_atNode, f_atEnv, f_valueTag, f_valueData, f_valueCoercion, f_typeOfResult, f_fuelSpent, f_blamedLabel, a_kinds, a_operands, a_hasParent, a_inProgram, a_nodeType, a_siteTargets, a_siteCoercions, a_walkNode, a_walkStep, a_contextType, a_labels, a_draft, a_cellNext, a_cellTag, a_cellData, a_cellCoercion, a_closureNode, a_closureEnv, a_frameNode, a_frameStage, a_frameEnv, a_framePending, a_frameData, a_frameCoercion) (nI a) (nI b) :=
  ⟨10, gx_dseq_l ha hb H 9 0 rfl a_draft 10 (by omega) (fun j hj => absurd hj (Nat.not_lt_zero j))⟩
theorem gx_compose {post : Int32 → SX → Prop} {cc a b : Nat} (hcc : cc < 800) (ha : a < cc) (hb : b < cc) (hz : ∀ k, k < 9 → a_labels k = 0)
    (H : ∀ (id : Nat) (lb' : Nat → Int32) (cc' : Nat) (dr' : Nat → Int32), gc_Ext 1 a_labels cc lb' cc' → id < cc' → gc_ap (gc_row lb' id) (gc_sq (gc_row a_labels a) (gc_row a_labels b)) → post (nI id) (f_maxNodes, f_maxFuel, f_nodeCount, f_outcome, f_programRoot, f_faultKind, f_faultNode, f_walkTop, f_contextDepth, nI cc', f_compiledCount, f_cellCount, f_closureCount, f_top, f_running, f_atNode, f_atEnv, f_valueTag, f_valueData, f_valueCoercion, f_typeOfResult, f_fuelSpent, f_blamedLabel, a_kinds, a_operands, a_hasParent, a_inProgram, a_nodeType, a_siteTargets, a_siteCoercions, a_walkNode, a_walkStep, a_contextType, lb', dr', a_cellNext, a_cellTag, a_cellData, a_cellCoercion, a_closureNode, a_closureEnv, a_frameNode, a_frameStage, a_frameEnv, a_framePending, a_frameData, a_frameCoercion)) :
    wpX_compose post (f_maxNodes, f_maxFuel, f_nodeCount, f_outcome, f_programRoot, f_faultKind, f_faultNode, f_walkTop, f_contextDepth, nI cc, f_compiledCount, f_cellCount, f_closureCount, f_top, f_running, f_atNode, f_atEnv, f_valueTag, f_valueData, f_valueCoercion, f_typeOfResult, f_fuelSpent, f_blamedLabel, a_kinds, a_operands, a_hasParent, a_inProgram, a_nodeType, a_siteTargets, a_siteCoercions, a_walkNode, a_walkStep, a_contextType, a_labels, a_draft, a_cellNext, a_cellTag, a_cellData, a_cellCoercion, a_closureNode, a_closureEnv, a_frameNode, a_frameStage, a_frameEnv, a_framePending, a_frameData, a_frameCoercion) (nI a) (nI b) := by
  refine pk_eq a 0 (fun e => ?_) (fun ea => pk_eq b 0 (fun e => ?_) (fun eb => ?_))
  · subst e
    exact H b a_labels cc a_draft (gc_Ext_rfl _ _ _) hb (gc_ap_of (fun k hk => (gc_sq_r0 hz _ hk).symm))
  · subst e
    exact H a a_labels cc a_draft (gc_Ext_rfl _ _ _) ha (gc_ap_of (fun k hk => (gc_r0_sq hz _ hk).symm))
  · refine gx_dseq (by omega) (by omega) (fun dr' hd => ?_)
    refine br_c (fun z => ?_) (fun z => ?_)
    · exact gx_intern hcc (fun id lb' cc' h1 h2 h3 => H id lb' cc' dr' h1 h2 (gc_ap_of (fun k hk => (h3 k hk).trans (hd k hk))))
    · refine gx_clearDraft (b := 3) (e := 9) (by decide) (by decide) (fun dr'' g1 g2 => ?_)
      refine gx_intern hcc (fun id lb' cc' h1 h2 h3 => H id lb' cc' dr'' h1 h2 ⟨fun k hk => (h3 k (by omega)).trans ((g2 k (by omega)).trans (hd k (by omega))), fun z2 => absurd ((hd 2 (by decide)).trans z2) z⟩)
theorem gx_delay {post : SX → Prop} {cc a b t : Nat} (hcc : cc < 800) (ha : a < cc) (hb : b < cc) (ht : t < 132) (hz : ∀ k, k < 9 → a_labels k = 0) (hp : a_framePending t = nI b)
    (H : ∀ (id : Nat) (lb' : Nat → Int32) (cc' : Nat) (dr' : Nat → Int32), gc_Ext 1 a_labels cc lb' cc' → id < cc' → gc_ap (gc_row lb' id) (gc_sq (gc_row a_labels a) (gc_row a_labels b)) → post (f_maxNodes, f_maxFuel, f_nodeCount, f_outcome, f_programRoot, f_faultKind, f_faultNode, f_walkTop, f_contextDepth, nI cc', f_compiledCount, f_cellCount, f_closureCount, nI t, f_running, f_atNode, f_atEnv, f_valueTag, f_valueData, f_valueCoercion, f_typeOfResult, f_fuelSpent, f_blamedLabel, a_kinds, a_operands, a_hasParent, a_inProgram, a_nodeType, a_siteTargets, a_siteCoercions, a_walkNode, a_walkStep, a_contextType, lb', dr', a_cellNext, a_cellTag, a_cellData, a_cellCoercion, a_closureNode, a_closureEnv, a_frameNode, a_frameStage, a_frameEnv, upd a_framePending t (nI id), a_frameData, a_frameCoercion)) :
    wpX_delay post (f_maxNodes, f_maxFuel, f_nodeCount, f_outcome, f_programRoot, f_faultKind, f_faultNode, f_walkTop, f_contextDepth, nI cc, f_compiledCount, f_cellCount, f_closureCount, nI t, f_running, f_atNode, f_atEnv, f_valueTag, f_valueData, f_valueCoercion, f_typeOfResult, f_fuelSpent, f_blamedLabel, a_kinds, a_operands, a_hasParent, a_inProgram, a_nodeType, a_siteTargets, a_siteCoercions, a_walkNode, a_walkStep, a_contextType, a_labels, a_draft, a_cellNext, a_cellTag, a_cellData, a_cellCoercion, a_closureNode, a_closureEnv, a_frameNode, a_frameStage, a_frameEnv, a_framePending, a_frameData, a_frameCoercion) (nI a) := by
  have hi : vp_in (nI t) 132 := gc_in ht (by decide)
  have e : a_framePending (nI t).toNatClampNeg = nI b := by rw [gc_cl (by omega)]; exact hp
  refine ⟨hi, ?_⟩
  rw [e]
  refine gx_compose hcc ha hb hz (fun id lb' cc' dr' h1 h2 h3 => ⟨hi, nm_r (e' := upd a_framePending t (nI id)) (by rw [gc_cl (by omega)]) (H id lb' cc' dr' h1 h2 h3)⟩)
theorem gx_wrap {post : Int32 → SX → Prop} {cc a b : Nat} (hcc : cc < 800) (ha : a < cc) (hb : b < cc)
    (H : ∀ (id : Nat) (lb' : Nat → Int32) (cc' : Nat) (dr' : Nat → Int32), gc_Ext 1 a_labels cc lb' cc' → id < cc' → (∀ k, 3 ≤ k → k < 9 → gc_row lb' id k = gc_sq (gc_row a_labels a) (gc_row a_labels b) k) → post (nI id) (f_maxNodes, f_maxFuel, f_nodeCount, f_outcome, f_programRoot, f_faultKind, f_faultNode, f_walkTop, f_contextDepth, nI cc', f_compiledCount, f_cellCount, f_closureCount, f_top, f_running, f_atNode, f_atEnv, f_valueTag, f_valueData, f_valueCoercion, f_typeOfResult, f_fuelSpent, f_blamedLabel, a_kinds, a_operands, a_hasParent, a_inProgram, a_nodeType, a_siteTargets, a_siteCoercions, a_walkNode, a_walkStep, a_contextType, lb', dr', a_cellNext, a_cellTag, a_cellData, a_cellCoercion, a_closureNode, a_closureEnv, a_frameNode, a_frameStage, a_frameEnv, a_framePending, a_frameData, a_frameCoercion)) :
    wpX_wrap post (f_maxNodes, f_maxFuel, f_nodeCount, f_outcome, f_programRoot, f_faultKind, f_faultNode, f_walkTop, f_contextDepth, nI cc, f_compiledCount, f_cellCount, f_closureCount, f_top, f_running, f_atNode, f_atEnv, f_valueTag, f_valueData, f_valueCoercion, f_typeOfResult, f_fuelSpent, f_blamedLabel, a_kinds, a_operands, a_hasParent, a_inProgram, a_nodeType, a_siteTargets, a_siteCoercions, a_walkNode, a_walkStep, a_contextType, a_labels, a_draft, a_cellNext, a_cellTag, a_cellData, a_cellCoercion, a_closureNode, a_closureEnv, a_frameNode, a_frameStage, a_frameEnv, a_framePending, a_frameData, a_frameCoercion) (nI a) (nI b) := by
  refine gx_dseq (by omega) (by omega) (fun dr' hd => ?_)
  refine gx_clearDraft (b := 0) (e := 3) (by decide) (by decide) (fun dr'' g1 g2 => ?_)
  exact gx_intern hcc (fun id lb' cc' h1 h2 h3 => H id lb' cc' dr'' h1 h2 (fun k h4 h5 => (h3 k h5).trans ((g2 k (by omega)).trans (hd k h5))))
theorem gx_pass {post : Int32 → SX → Prop} {cc p g c : Nat} (hcc : cc < 800) (hp : p < cc) (hg : 1 ≤ g ∧ g ≤ 3) (hz : ∀ k, k < 9 → a_labels k = 0) (hv : g = 3 → f_valueCoercion = nI c ∧ c < cc)
    (H0 : ¬ gc_row a_labels p (g - 1) = 0 → post 0 (f_maxNodes, f_maxFuel, f_nodeCount, 4, f_programRoot, f_faultKind, f_faultNode, f_walkTop, f_contextDepth, nI cc, f_compiledCount, f_cellCount, f_closureCount, f_top, 0, f_atNode, f_atEnv, nI g, f_valueData, f_valueCoercion, f_typeOfResult, f_fuelSpent, gc_row a_labels p (g - 1), a_kinds, a_operands, a_hasParent, a_inProgram, a_nodeType, a_siteTargets, a_siteCoercions, a_walkNode, a_walkStep, a_contextType, a_labels, a_draft, a_cellNext, a_cellTag, a_cellData, a_cellCoercion, a_closureNode, a_closureEnv, a_frameNode, a_frameStage, a_frameEnv, a_framePending, a_frameData, a_frameCoercion))
    (H1 : gc_row a_labels p (g - 1) = 0 → ¬ g = 3 → post 1 (f_maxNodes, f_maxFuel, f_nodeCount, f_outcome, f_programRoot, f_faultKind, f_faultNode, f_walkTop, f_contextDepth, nI cc, f_compiledCount, f_cellCount, f_closureCount, f_top, f_running, f_atNode, f_atEnv, nI g, f_valueData, f_valueCoercion, f_typeOfResult, f_fuelSpent, f_blamedLabel, a_kinds, a_operands, a_hasParent, a_inProgram, a_nodeType, a_siteTargets, a_siteCoercions, a_walkNode, a_walkStep, a_contextType, a_labels, a_draft, a_cellNext, a_cellTag, a_cellData, a_cellCoercion, a_closureNode, a_closureEnv, a_frameNode, a_frameStage, a_frameEnv, a_framePending, a_frameData, a_frameCoercion))
    (H3 : gc_row a_labels p (g - 1) = 0 → g = 3 → ∀ (id : Nat) (lb' : Nat → Int32) (cc' : Nat) (dr' : Nat → Int32), gc_Ext 1 a_labels cc lb' cc' → id < cc' → (∀ k, 3 ≤ k → k < 9 → gc_row lb' id k = gc_sq (gc_row a_labels c) (gc_row a_labels p) k) → post 1 (f_maxNodes, f_maxFuel, f_nodeCount, f_outcome, f_programRoot, f_faultKind, f_faultNode, f_walkTop, f_contextDepth, nI cc', f_compiledCount, f_cellCount, f_closureCount, f_top, f_running, f_atNode, f_atEnv, nI g, f_valueData, nI id, f_typeOfResult, f_fuelSpent, f_blamedLabel, a_kinds, a_operands, a_hasParent, a_inProgram, a_nodeType, a_siteTargets, a_siteCoercions, a_walkNode, a_walkStep, a_contextType, lb', dr', a_cellNext, a_cellTag, a_cellData, a_cellCoercion, a_closureNode, a_closureEnv, a_frameNode, a_frameStage, a_frameEnv, a_framePending, a_frameData, a_frameCoercion)) :
    wpX_pass post (f_maxNodes, f_maxFuel, f_nodeCount, f_outcome, f_programRoot, f_faultKind, f_faultNode, f_walkTop, f_contextDepth, nI cc, f_compiledCount, f_cellCount, f_closureCount, f_top, f_running, f_atNode, f_atEnv, nI g, f_valueData, f_valueCoercion, f_typeOfResult, f_fuelSpent, f_blamedLabel, a_kinds, a_operands, a_hasParent, a_inProgram, a_nodeType, a_siteTargets, a_siteCoercions, a_walkNode, a_walkStep, a_contextType, a_labels, a_draft, a_cellNext, a_cellTag, a_cellData, a_cellCoercion, a_closureNode, a_closureEnv, a_frameNode, a_frameStage, a_frameEnv, a_framePending, a_frameData, a_frameCoercion) (nI p) := by
  refine pk_eq p 0 (fun e => ?_) (fun ep => ?_)
  · subst e
    have z : gc_row a_labels 0 (g - 1) = 0 := gc_row0 hz (by omega)
    by_cases h : g = 3
    · obtain ⟨e, hc⟩ := hv h
      subst e
      exact H3 z h c a_labels cc a_draft (gc_Ext_rfl _ _ _) hc (fun k _ hk => (gc_r0_sq hz _ hk).symm)
    · exact H1 z h
  · have e : 9 * nI p + nI g - 1 = nI (9 * p + (g - 1)) := by
      rw [gc_9, nI_add, gc_s1 (by omega)]
      exact congrArg nI (by omega)
    refine ⟨by rw [e]; exact gc_in (by omega) (by decide), nm_r (e' := gc_row a_labels p (g - 1)) (by rw [e, gc_cl (by omega)]; rfl) ?_⟩
    refine br_c (fun z => pk_eq g 3 (fun h => ?_) (fun h => H1 z h)) (fun z => H0 z)
    obtain ⟨e, hc⟩ := hv h
    subst e
    exact gx_wrap hcc hc hp (fun id lb' cc' dr' h1 h2 h3 => H3 z h id lb' cc' dr' h1 h2 h3)
theorem gx_exit_l {post : Int32 → SX → Prop} {cc c : Nat} (hcc : cc < 800) (hc : c < 800)
    (H : ∀ (id : Nat) (lb' : Nat → Int32) (cc' : Nat) (dr' : Nat → Int32), gc_Ext 1 a_labels cc lb' cc' → id < cc' → (∀ k, k < 9 → gc_row lb' id k = gc_ev (gc_row a_labels c) k) → post (nI id) (f_maxNodes, f_maxFuel, f_nodeCount, f_outcome, f_programRoot, f_faultKind, f_faultNode, f_walkTop, f_contextDepth, nI cc', f_compiledCount, f_cellCount, f_closureCount, f_top, f_running, f_atNode, f_atEnv, f_valueTag, f_valueData, f_valueCoercion, f_typeOfResult, f_fuelSpent, f_blamedLabel, a_kinds, a_operands, a_hasParent, a_inProgram, a_nodeType, a_siteTargets, a_siteCoercions, a_walkNode, a_walkStep, a_contextType, lb', dr', a_cellNext, a_cellTag, a_cellData, a_cellCoercion, a_closureNode, a_closureEnv, a_frameNode, a_frameStage, a_frameEnv, a_framePending, a_frameData, a_frameCoercion)) :
    ∀ m k, k + m = 3 → ∀ (dr : Nat → Int32) n, m < n → (∀ j, j < k → dr j = gc_row a_labels c (6 + j)) → (∀ j, 3 ≤ j → j < 9 → dr j = 0) →
    wX_exitOf_15 post (nI c) f_maxNodes f_maxFuel f_nodeCount f_outcome f_programRoot f_faultKind f_faultNode f_walkTop f_contextDepth (nI cc) f_compiledCount f_cellCount f_closureCount f_top f_running f_atNode f_atEnv f_valueTag f_valueData f_valueCoercion f_typeOfResult f_fuelSpent f_blamedLabel n (nI k) a_kinds a_operands a_hasParent a_inProgram a_nodeType a_siteTargets a_siteCoercions a_walkNode a_walkStep a_contextType a_labels dr a_cellNext a_cellTag a_cellData a_cellCoercion a_closureNode a_closureEnv a_frameNode a_frameStage a_frameEnv a_framePending a_frameData a_frameCoercion := by
  intro m
  induction m with
  | zero =>
    intro k hk dr n hn h g
    obtain ⟨n, rfl⟩ : ∃ q, n = q + 1 := ⟨n - 1, by omega⟩
    refine pk_le 3 k (fun _ => ?_) (fun h => by omega)
    refine gx_intern hcc (fun id lb' cc' h1 h2 h3 => H id lb' cc' dr h1 h2 (fun j hj => (h3 j hj).trans ?_))
    unfold gc_ev
    by_cases hj3 : j < 3
    · rw [if_pos hj3]; exact h j (by omega)
    · rw [if_neg hj3]; exact g j (by omega) hj
  | succ m ih =>
    intro k hk dr n hn h g
    obtain ⟨n, rfl⟩ : ∃ q, n = q + 1 := ⟨n - 1, by omega⟩
    have e1 : 9 * nI c + 6 + nI k = nI (9 * c + (6 + k)) := by rw [gc_9, gc_p6, nI_add]; exact congrArg nI (by omega)
    refine pk_le 3 k (fun h => by omega) (fun _ => ⟨by rw [e1]; exact gc_in (by omega) (by decide), gc_in (by omega) (by decide), ?_⟩)
    refine nm_r (e' := upd dr k (gc_row a_labels c (6 + k))) (by rw [e1, gc_cl (by omega), gc_cl (by omega)]; rfl) (nm_r (nI_1 k) (ih (k + 1) (by omega) _ n (by omega) (fun j hj => ?_) (fun j h1 h2 => ?_)))
    · rw [gc_len]
      by_cases hjk : j = k
      · rw [if_pos hjk, hjk]
      · rw [if_neg hjk]; exact h j (by omega)
    · rw [gc_len, if_neg (by omega)]; exact g j h1 h2
theorem gx_exit {post : Int32 → SX → Prop} {cc c : Nat} (hcc : cc < 800) (hc : c < cc) (hz : ∀ k, k < 9 → a_labels k = 0)
    (H : ∀ (id : Nat) (lb' : Nat → Int32) (cc' : Nat) (dr' : Nat → Int32), gc_Ext 1 a_labels cc lb' cc' → id < cc' → (∀ k, k < 9 → gc_row lb' id k = gc_ev (gc_row a_labels c) k) → post (nI id) (f_maxNodes, f_maxFuel, f_nodeCount, f_outcome, f_programRoot, f_faultKind, f_faultNode, f_walkTop, f_contextDepth, nI cc', f_compiledCount, f_cellCount, f_closureCount, f_top, f_running, f_atNode, f_atEnv, f_valueTag, f_valueData, f_valueCoercion, f_typeOfResult, f_fuelSpent, f_blamedLabel, a_kinds, a_operands, a_hasParent, a_inProgram, a_nodeType, a_siteTargets, a_siteCoercions, a_walkNode, a_walkStep, a_contextType, lb', dr', a_cellNext, a_cellTag, a_cellData, a_cellCoercion, a_closureNode, a_closureEnv, a_frameNode, a_frameStage, a_frameEnv, a_framePending, a_frameData, a_frameCoercion)) :
    wpX_exitOf post (f_maxNodes, f_maxFuel, f_nodeCount, f_outcome, f_programRoot, f_faultKind, f_faultNode, f_walkTop, f_contextDepth, nI cc, f_compiledCount, f_cellCount, f_closureCount, f_top, f_running, f_atNode, f_atEnv, f_valueTag, f_valueData, f_valueCoercion, f_typeOfResult, f_fuelSpent, f_blamedLabel, a_kinds, a_operands, a_hasParent, a_inProgram, a_nodeType, a_siteTargets, a_siteCoercions, a_walkNode, a_walkStep, a_contextType, a_labels, a_draft, a_cellNext, a_cellTag, a_cellData, a_cellCoercion, a_closureNode, a_closureEnv, a_frameNode, a_frameStage, a_frameEnv, a_framePending, a_frameData, a_frameCoercion) (nI c) := by
  refine pk_eq c 0 (fun e => ?_) (fun ec => ?_)
  · subst e
    refine H 0 a_labels cc a_draft (gc_Ext_rfl _ _ _) hc (fun k hk => ?_)
    rw [gc_row0 hz hk]
    unfold gc_ev
    by_cases hk3 : k < 3
    · rw [if_pos hk3, gc_row0 hz (by omega)]
    · rw [if_neg hk3]
  · refine gx_clearDraft (b := 0) (e := 9) (by decide) (by decide) (fun dr' g1 g2 => ?_)
    exact ⟨4, gx_exit_l hcc (by omega) H 3 0 rfl dr' 4 (by omega) (fun j hj => absurd hj (Nat.not_lt_zero j)) (fun j h1 h2 => g1 j (by omega) h2)⟩
theorem gx_bind {post : Int32 → SX → Prop} {m : Nat} {p0 p1 p2 p3 : Int32} (hm : m < 260)
    (H : post (nI m) (f_maxNodes, f_maxFuel, f_nodeCount, f_outcome, f_programRoot, f_faultKind, f_faultNode, f_walkTop, f_contextDepth, f_coercionCount, f_compiledCount, nI (m + 1), f_closureCount, f_top, f_running, f_atNode, f_atEnv, f_valueTag, f_valueData, f_valueCoercion, f_typeOfResult, f_fuelSpent, f_blamedLabel, a_kinds, a_operands, a_hasParent, a_inProgram, a_nodeType, a_siteTargets, a_siteCoercions, a_walkNode, a_walkStep, a_contextType, a_labels, a_draft, upd a_cellNext m p0, upd a_cellTag m p1, upd a_cellData m p2, upd a_cellCoercion m p3, a_closureNode, a_closureEnv, a_frameNode, a_frameStage, a_frameEnv, a_framePending, a_frameData, a_frameCoercion)) :
    wpX_bind post (f_maxNodes, f_maxFuel, f_nodeCount, f_outcome, f_programRoot, f_faultKind, f_faultNode, f_walkTop, f_contextDepth, f_coercionCount, f_compiledCount, nI m, f_closureCount, f_top, f_running, f_atNode, f_atEnv, f_valueTag, f_valueData, f_valueCoercion, f_typeOfResult, f_fuelSpent, f_blamedLabel, a_kinds, a_operands, a_hasParent, a_inProgram, a_nodeType, a_siteTargets, a_siteCoercions, a_walkNode, a_walkStep, a_contextType, a_labels, a_draft, a_cellNext, a_cellTag, a_cellData, a_cellCoercion, a_closureNode, a_closureEnv, a_frameNode, a_frameStage, a_frameEnv, a_framePending, a_frameData, a_frameCoercion) p0 p1 p2 p3 := by
  have hi : vp_in (nI m) 260 := gc_in hm (by decide)
  refine pk_lt m 260 (fun _ => ⟨hi, ?_⟩) (fun h => by omega)
  refine nm_r (e' := upd a_cellNext m p0) (by rw [gc_cl (by omega)]) ⟨hi, ?_⟩
  refine nm_r (e' := upd a_cellTag m p1) (by rw [gc_cl (by omega)]) ⟨hi, ?_⟩
  refine nm_r (e' := upd a_cellData m p2) (by rw [gc_cl (by omega)]) ⟨hi, ?_⟩
  refine nm_r (e' := upd a_cellCoercion m p3) (by rw [gc_cl (by omega)]) (nm_r (nI_1 m) H)
end
end
section
section
variable {f_maxNodes f_maxFuel f_nodeCount f_outcome f_programRoot f_faultKind f_faultNode f_walkTop f_contextDepth f_coercionCount f_compiledCount f_cellCount f_closureCount f_top f_running f_atNode f_atEnv f_valueTag f_valueData f_valueCoercion f_typeOfResult f_fuelSpent f_blamedLabel : Int32} {a_kinds a_operands a_hasParent a_inProgram a_nodeType a_siteTargets a_siteCoercions a_walkNode a_walkStep a_contextType a_labels a_draft a_cellNext a_cellTag a_cellData a_cellCoercion a_closureNode a_closureEnv a_frameNode a_frameStage a_frameEnv a_framePending a_frameData a_frameCoercion : Nat → Int32}
theorem gx_enter {post : SX → Prop} {cc c q m g P s ce t : Nat} (hcc : cc + 3 ≤ 800) (hc : c < cc) (hz : ∀ k, k < 9 → a_labels k = 0) (hc1 : 1 ≤ cc)
    (hq : q < 132) (hm : m < 48) (hN : a_closureNode q = nI m) (hg : 1 ≤ g ∧ g ≤ 3) (ht : t < 132) (hP : a_framePending t = nI P) (hPc : P < cc)
    (hs : a_siteCoercions (3 * m) = nI s) (hsc : s < cc) (hce : ce + 2 ≤ 260)
    (H0 : ¬ gc_row a_labels c (2 + g) = 0 → post (f_maxNodes, f_maxFuel, f_nodeCount, 4, f_programRoot, f_faultKind, f_faultNode, f_walkTop, f_contextDepth, nI cc, f_compiledCount, nI ce, f_closureCount, nI t, 0, f_atNode, f_atEnv, nI g, f_valueData, f_valueCoercion, f_typeOfResult, f_fuelSpent, -(gc_row a_labels c (2 + g)), a_kinds, a_operands, a_hasParent, a_inProgram, a_nodeType, a_siteTargets, a_siteCoercions, a_walkNode, a_walkStep, a_contextType, a_labels, a_draft, a_cellNext, a_cellTag, a_cellData, a_cellCoercion, a_closureNode, a_closureEnv, a_frameNode, a_frameStage, a_frameEnv, a_framePending, a_frameData, a_frameCoercion))
    (H1 : gc_row a_labels c (2 + g) = 0 → ∀ (id : Nat) (lb' : Nat → Int32) (cc' : Nat) (dr' fp' : Nat → Int32), gc_Ext 3 a_labels cc lb' cc' → id < cc' →
      gc_ap (gc_row lb' id) (gc_sq (gc_row a_labels s) (gc_sq (gc_ev (gc_row a_labels c)) (gc_row a_labels P))) → fp' t = nI id → (∀ j, j ≠ t → fp' j = a_framePending j) →
      post (f_maxNodes, f_maxFuel, f_nodeCount, f_outcome, f_programRoot, f_faultKind, f_faultNode, f_walkTop, f_contextDepth, nI cc', f_compiledCount, nI (ce + 2), f_closureCount, nI t, f_running, a_operands (3 * m + 2), nI (ce + 1), nI g, f_valueData, f_valueCoercion, f_typeOfResult, f_fuelSpent, f_blamedLabel, a_kinds, a_operands, a_hasParent, a_inProgram, a_nodeType, a_siteTargets, a_siteCoercions, a_walkNode, a_walkStep, a_contextType, lb', dr', upd (upd a_cellNext ce (a_closureEnv q)) (ce + 1) (nI ce), upd (upd a_cellTag ce 3) (ce + 1) (nI g), upd (upd a_cellData ce (nI q)) (ce + 1) f_valueData, upd (upd a_cellCoercion ce 0) (ce + 1) f_valueCoercion, a_closureNode, a_closureEnv, a_frameNode, a_frameStage, a_frameEnv, fp', a_frameData, a_frameCoercion)) :
    wpX_enter post (f_maxNodes, f_maxFuel, f_nodeCount, f_outcome, f_programRoot, f_faultKind, f_faultNode, f_walkTop, f_contextDepth, nI cc, f_compiledCount, nI ce, f_closureCount, nI t, f_running, f_atNode, f_atEnv, nI g, f_valueData, f_valueCoercion, f_typeOfResult, f_fuelSpent, f_blamedLabel, a_kinds, a_operands, a_hasParent, a_inProgram, a_nodeType, a_siteTargets, a_siteCoercions, a_walkNode, a_walkStep, a_contextType, a_labels, a_draft, a_cellNext, a_cellTag, a_cellData, a_cellCoercion, a_closureNode, a_closureEnv, a_frameNode, a_frameStage, a_frameEnv, a_framePending, a_frameData, a_frameCoercion) (nI q) (nI c) := by
  have e : 9 * nI c + 2 + nI g = nI (9 * c + (2 + g)) := by rw [gc_9, gc_p2, nI_add]; exact congrArg nI (by omega)
  have hi : vp_in (nI q) 132 := gc_in hq (by decide)
  refine ⟨by rw [e]; exact gc_in (by omega) (by decide), nm_r (e' := gc_row a_labels c (2 + g)) (by rw [e, gc_cl (by omega)]; rfl) (br_c (fun z => ⟨hi, nm_r (e' := nI m) (by rw [gc_cl (by omega)]; exact hN) ?_⟩) (fun z => H0 z))⟩
  refine gx_exit (by omega) hc hz (fun i1 lb1 cc1 dr1 x1 x2 x3 => ?_)
  have x1' := x1.1
  have x1'' := x1.2.1
  refine gx_delay (b := P) (by omega) x2 (by omega) ht (gc_Ext_z x1 hc1 hz) hP (fun i2 lb2 cc2 dr2 y1 y2 y3 => ?_)
  have y1' := y1.1
  have y1'' := y1.2.1
  refine ⟨by rw [gc_3]; exact gc_in (by omega) (by decide), ?_⟩
  have es : a_siteCoercions (3 * nI m).toNatClampNeg = nI s := by rw [gc_3, gc_cl (by omega)]; exact hs
  rw [es]
  refine gx_delay (b := i2) (by omega) (by omega) y2 ht (gc_Ext_z y1 (by omega) (gc_Ext_z x1 hc1 hz)) (by rw [gc_len, if_pos rfl]) (fun i3 lb3 cc3 dr3 w1 w2 w3 => ?_)
  refine ⟨hi, ?_⟩
  refine gx_bind (by omega) ?_
  refine gx_bind (by omega) ?_
  refine ⟨by rw [gc_3, gc_p2]; exact gc_in (by omega) (by decide), nm_r (e' := a_operands (3 * m + 2)) (by rw [gc_3, gc_p2, gc_cl (by omega)]) ?_⟩
  have eq : a_closureEnv (nI q).toNatClampNeg = a_closureEnv q := by rw [gc_cl (by omega)]
  rw [eq]
  refine H1 z i3 lb3 cc3 dr3 _ (gc_Ext_tr (gc_Ext_tr x1 y1) w1) w2 ?_ (by rw [gc_len, if_pos rfl]) (fun j hj => by rw [gc_len, if_neg hj, gc_len, if_neg hj])
  refine gc_ap_tr w3 ?_
  refine gc_ap_sq (gc_ap_of (fun k hk => gc_Ext_row (gc_Ext_tr x1 y1) hsc hk)) ?_
  refine gc_ap_tr y3 (gc_ap_sq (gc_ap_of x3) (gc_ap_of (fun k hk => gc_Ext_row x1 hPc hk)))
theorem gx_push {post : SX → Prop} {t : Nat} {n p : Int32} (ht : t + 1 < 132)
    (H : post (f_maxNodes, f_maxFuel, f_nodeCount, f_outcome, f_programRoot, f_faultKind, f_faultNode, f_walkTop, f_contextDepth, f_coercionCount, f_compiledCount, f_cellCount, f_closureCount, nI (t + 1), f_running, f_atNode, f_atEnv, f_valueTag, f_valueData, f_valueCoercion, f_typeOfResult, f_fuelSpent, f_blamedLabel, a_kinds, a_operands, a_hasParent, a_inProgram, a_nodeType, a_siteTargets, a_siteCoercions, a_walkNode, a_walkStep, a_contextType, a_labels, a_draft, a_cellNext, a_cellTag, a_cellData, a_cellCoercion, a_closureNode, a_closureEnv, upd a_frameNode (t + 1) n, upd a_frameStage (t + 1) 0, upd a_frameEnv (t + 1) f_atEnv, upd a_framePending (t + 1) p, a_frameData, a_frameCoercion)) :
    wpX_push post (f_maxNodes, f_maxFuel, f_nodeCount, f_outcome, f_programRoot, f_faultKind, f_faultNode, f_walkTop, f_contextDepth, f_coercionCount, f_compiledCount, f_cellCount, f_closureCount, nI t, f_running, f_atNode, f_atEnv, f_valueTag, f_valueData, f_valueCoercion, f_typeOfResult, f_fuelSpent, f_blamedLabel, a_kinds, a_operands, a_hasParent, a_inProgram, a_nodeType, a_siteTargets, a_siteCoercions, a_walkNode, a_walkStep, a_contextType, a_labels, a_draft, a_cellNext, a_cellTag, a_cellData, a_cellCoercion, a_closureNode, a_closureEnv, a_frameNode, a_frameStage, a_frameEnv, a_framePending, a_frameData, a_frameCoercion) n p := by
  have hi : vp_in (nI (t + 1)) 132 := gc_in ht (by decide)
  refine pk_lt (t + 1) 132 (fun _ => ?_) (fun h => by omega) (hx := nI_1 t)
  refine nm_r (nI_1 t) ⟨hi, ?_⟩
  refine nm_r (e' := upd a_frameNode (t + 1) n) (by rw [gc_cl (by omega)]) ⟨hi, ?_⟩
  refine nm_r (e' := upd a_frameStage (t + 1) 0) (by rw [gc_cl (by omega)]) ⟨hi, ?_⟩
  refine nm_r (e' := upd a_frameEnv (t + 1) f_atEnv) (by rw [gc_cl (by omega)]) ⟨hi, ?_⟩
  exact nm_r (e' := upd a_framePending (t + 1) p) (by rw [gc_cl (by omega)]) H
theorem gx_close {post : SX → Prop} {q : Nat} {n : Int32} (hq : q < 132)
    (H : post (f_maxNodes, f_maxFuel, f_nodeCount, f_outcome, f_programRoot, f_faultKind, f_faultNode, f_walkTop, f_contextDepth, f_coercionCount, f_compiledCount, f_cellCount, nI (q + 1), f_top, f_running, -1, f_atEnv, 3, nI q, 0, f_typeOfResult, f_fuelSpent, f_blamedLabel, a_kinds, a_operands, a_hasParent, a_inProgram, a_nodeType, a_siteTargets, a_siteCoercions, a_walkNode, a_walkStep, a_contextType, a_labels, a_draft, a_cellNext, a_cellTag, a_cellData, a_cellCoercion, upd a_closureNode q n, upd a_closureEnv q f_atEnv, a_frameNode, a_frameStage, a_frameEnv, a_framePending, a_frameData, a_frameCoercion)) :
    wpX_close post (f_maxNodes, f_maxFuel, f_nodeCount, f_outcome, f_programRoot, f_faultKind, f_faultNode, f_walkTop, f_contextDepth, f_coercionCount, f_compiledCount, f_cellCount, nI q, f_top, f_running, f_atNode, f_atEnv, f_valueTag, f_valueData, f_valueCoercion, f_typeOfResult, f_fuelSpent, f_blamedLabel, a_kinds, a_operands, a_hasParent, a_inProgram, a_nodeType, a_siteTargets, a_siteCoercions, a_walkNode, a_walkStep, a_contextType, a_labels, a_draft, a_cellNext, a_cellTag, a_cellData, a_cellCoercion, a_closureNode, a_closureEnv, a_frameNode, a_frameStage, a_frameEnv, a_framePending, a_frameData, a_frameCoercion) n := by
  have hi : vp_in (nI q) 132 := gc_in hq (by decide)
  refine pk_lt q 132 (fun _ => ⟨hi, ?_⟩) (fun h => by omega)
  refine nm_r (e' := upd a_closureNode q n) (by rw [gc_cl (by omega)]) ⟨hi, ?_⟩
  refine nm_r (e' := upd a_closureEnv q f_atEnv) (by rw [gc_cl (by omega)]) (nm_r (nI_1 q) ?_)
  exact H
theorem gx_await {post : SX → Prop} {t n : Nat} {ch : Int32} (ht : t < 132) (hn : n < 48)
    (H : post (f_maxNodes, f_maxFuel, f_nodeCount, f_outcome, f_programRoot, f_faultKind, f_faultNode, f_walkTop, f_contextDepth, f_coercionCount, f_compiledCount, f_cellCount, f_closureCount, nI t, f_running, ch, a_frameEnv t, f_valueTag, f_valueData, f_valueCoercion, f_typeOfResult, f_fuelSpent, f_blamedLabel, a_kinds, a_operands, a_hasParent, a_inProgram, a_nodeType, a_siteTargets, a_siteCoercions, a_walkNode, a_walkStep, a_contextType, a_labels, a_draft, a_cellNext, a_cellTag, a_cellData, a_cellCoercion, a_closureNode, a_closureEnv, a_frameNode, upd a_frameStage t 1, a_frameEnv, upd a_framePending t (a_siteCoercions (3 * n + 1)), upd a_frameData t f_valueData, upd a_frameCoercion t f_valueCoercion)) :
    wpX_awaitSecond post (f_maxNodes, f_maxFuel, f_nodeCount, f_outcome, f_programRoot, f_faultKind, f_faultNode, f_walkTop, f_contextDepth, f_coercionCount, f_compiledCount, f_cellCount, f_closureCount, nI t, f_running, f_atNode, f_atEnv, f_valueTag, f_valueData, f_valueCoercion, f_typeOfResult, f_fuelSpent, f_blamedLabel, a_kinds, a_operands, a_hasParent, a_inProgram, a_nodeType, a_siteTargets, a_siteCoercions, a_walkNode, a_walkStep, a_contextType, a_labels, a_draft, a_cellNext, a_cellTag, a_cellData, a_cellCoercion, a_closureNode, a_closureEnv, a_frameNode, a_frameStage, a_frameEnv, a_framePending, a_frameData, a_frameCoercion) (nI n) ch := by
  have hi : vp_in (nI t) 132 := gc_in ht (by decide)
  have e : 3 * nI n + 1 = nI (3 * n + 1) := by rw [gc_3, nI_1]
  refine ⟨hi, ?_⟩
  refine nm_r (e' := upd a_frameStage t 1) (by rw [gc_cl (by omega)]) ⟨hi, ?_⟩
  refine nm_r (e' := upd a_frameData t f_valueData) (by rw [gc_cl (by omega)]) ⟨hi, ?_⟩
  refine nm_r (e' := upd a_frameCoercion t f_valueCoercion) (by rw [gc_cl (by omega)]) ⟨by rw [e]; exact gc_in (by omega) (by decide), hi, ?_⟩
  refine nm_r (e' := upd a_framePending t (a_siteCoercions (3 * n + 1))) (by rw [e, gc_cl (by omega), gc_cl (by omega)]) ⟨hi, ?_⟩
  exact nm_r (e' := a_frameEnv t) (by rw [gc_cl (by omega)]) H
end
end
section
section
variable {g_capacity g_fuel g_count g_state g_wrongKind g_wrongNode g_program g_used g_blamed g_resType g_vTag g_vVal g_vLay g_todo g_todoEnv g_closures g_bindings g_layers g_depth : Int32} {b_kinds b_ops b_parent b_types b_cNode b_cEnv b_bTag b_bVal b_bLay b_bNext b_lSource b_lTarget b_lLabel b_lInner b_frNode b_frEnv b_frPhase b_frVal b_frLay : Nat → Int32}
theorem gy_dom {post : Int32 → Prop} {p : Int32} (h : post (gc_td p)) : wpY_dom post (g_capacity, g_fuel, g_count, g_state, g_wrongKind, g_wrongNode, g_program, g_used, g_blamed, g_resType, g_vTag, g_vVal, g_vLay, g_todo, g_todoEnv, g_closures, g_bindings, g_layers, g_depth, b_kinds, b_ops, b_parent, b_types, b_cNode, b_cEnv, b_bTag, b_bVal, b_bLay, b_bNext, b_lSource, b_lTarget, b_lLabel, b_lInner, b_frNode, b_frEnv, b_frPhase, b_frVal, b_frLay) p := by
  unfold gc_td at h
  refine br_c (fun hc => ⟨by decide, ?_⟩) (fun hc => ?_)
  · rwa [if_neg (gc_le5.mp hc)] at h
  · have h4 : p ≤ 4 := Classical.byContradiction (fun z => hc (gc_le5.mpr z))
    rwa [if_pos h4] at h
theorem gy_cod {post : Int32 → Prop} {p : Int32} (h : post (gc_tc p)) : wpY_cod post (g_capacity, g_fuel, g_count, g_state, g_wrongKind, g_wrongNode, g_program, g_used, g_blamed, g_resType, g_vTag, g_vVal, g_vLay, g_todo, g_todoEnv, g_closures, g_bindings, g_layers, g_depth, b_kinds, b_ops, b_parent, b_types, b_cNode, b_cEnv, b_bTag, b_bVal, b_bLay, b_bNext, b_lSource, b_lTarget, b_lLabel, b_lInner, b_frNode, b_frEnv, b_frPhase, b_frVal, b_frLay) p := by
  unfold gc_tc at h
  refine br_c (fun hc => ⟨by decide, ?_⟩) (fun hc => ?_)
  · rwa [if_neg (gc_le5.mp hc)] at h
  · have h4 : p ≤ 4 := Classical.byContradiction (fun z => hc (gc_le5.mpr z))
    rwa [if_pos h4] at h
theorem gy_fits {post : Int32 → Prop} {g t : Int32} (h1 : gc_ft g t = true → post 1) (h0 : gc_ft g t = false → post 0) : wpY_fits post (g_capacity, g_fuel, g_count, g_state, g_wrongKind, g_wrongNode, g_program, g_used, g_blamed, g_resType, g_vTag, g_vVal, g_vLay, g_todo, g_todoEnv, g_closures, g_bindings, g_layers, g_depth, b_kinds, b_ops, b_parent, b_types, b_cNode, b_cEnv, b_bTag, b_bVal, b_bLay, b_bNext, b_lSource, b_lTarget, b_lLabel, b_lInner, b_frNode, b_frEnv, b_frPhase, b_frVal, b_frLay) g t := by
  have h0' : ¬ gc_ft g t = true → post 0 := fun z => h0 ((Bool.not_eq_true _).mp z)
  rw [gc_ft_iff] at h1 h0'
  refine br_c (fun a => h1 (Or.inl a)) (fun a => br_c (fun b => h1 (Or.inr (Or.inl b))) (fun b => br_c (fun c => h0' ?_) (fun c => br_c (fun d => h1 (Or.inr (Or.inr ⟨c, d⟩))) (fun d => h0' ?_))))
  · rintro (z | z | z)
    · exact a z
    · exact b z
    · exact z.1 c
  · rintro (z | z | z)
    · exact a z
    · exact b z
    · exact d z.2
theorem gy_bind {post : Int32 → SY → Prop} {m : Nat} {p0 p1 p2 p3 : Int32} (hm : m < 400)
    (H : post (nI m) (g_capacity, g_fuel, g_count, g_state, g_wrongKind, g_wrongNode, g_program, g_used, g_blamed, g_resType, g_vTag, g_vVal, g_vLay, g_todo, g_todoEnv, g_closures, nI (m + 1), g_layers, g_depth, b_kinds, b_ops, b_parent, b_types, b_cNode, b_cEnv, upd b_bTag m p1, upd b_bVal m p2, upd b_bLay m p3, upd b_bNext m p0, b_lSource, b_lTarget, b_lLabel, b_lInner, b_frNode, b_frEnv, b_frPhase, b_frVal, b_frLay)) :
    wpY_bind post (g_capacity, g_fuel, g_count, g_state, g_wrongKind, g_wrongNode, g_program, g_used, g_blamed, g_resType, g_vTag, g_vVal, g_vLay, g_todo, g_todoEnv, g_closures, nI m, g_layers, g_depth, b_kinds, b_ops, b_parent, b_types, b_cNode, b_cEnv, b_bTag, b_bVal, b_bLay, b_bNext, b_lSource, b_lTarget, b_lLabel, b_lInner, b_frNode, b_frEnv, b_frPhase, b_frVal, b_frLay) p0 p1 p2 p3 := by
  have hi : vp_in (nI m) 400 := gc_in hm (by decide)
  refine ⟨hi, ?_⟩
  refine nm_r (e' := upd b_bNext m p0) (by rw [gc_cl (by omega)]) ⟨hi, ?_⟩
  refine nm_r (e' := upd b_bTag m p1) (by rw [gc_cl (by omega)]) ⟨hi, ?_⟩
  refine nm_r (e' := upd b_bVal m p2) (by rw [gc_cl (by omega)]) ⟨hi, ?_⟩
  refine nm_r (e' := upd b_bLay m p3) (by rw [gc_cl (by omega)]) (nm_r (nI_1 m) ?_)
  have e : nI (m + 1) - 1 = nI m := by rw [gc_s1 (by omega)]; rfl
  rw [e]
  exact H
theorem gy_layer {post : SY → Prop} {m : Nat} {p0 p1 p2 : Int32} (hm : m < 600)
    (H : post (g_capacity, g_fuel, g_count, g_state, g_wrongKind, g_wrongNode, g_program, g_used, g_blamed, g_resType, g_vTag, g_vVal, nI m, g_todo, g_todoEnv, g_closures, g_bindings, nI (m + 1), g_depth, b_kinds, b_ops, b_parent, b_types, b_cNode, b_cEnv, b_bTag, b_bVal, b_bLay, b_bNext, upd b_lSource m p0, upd b_lTarget m p1, upd b_lLabel m p2, upd b_lInner m g_vLay, b_frNode, b_frEnv, b_frPhase, b_frVal, b_frLay)) :
    wpY_layer post (g_capacity, g_fuel, g_count, g_state, g_wrongKind, g_wrongNode, g_program, g_used, g_blamed, g_resType, g_vTag, g_vVal, g_vLay, g_todo, g_todoEnv, g_closures, g_bindings, nI m, g_depth, b_kinds, b_ops, b_parent, b_types, b_cNode, b_cEnv, b_bTag, b_bVal, b_bLay, b_bNext, b_lSource, b_lTarget, b_lLabel, b_lInner, b_frNode, b_frEnv, b_frPhase, b_frVal, b_frLay) p0 p1 p2 := by
  have hi : vp_in (nI m) 600 := gc_in hm (by decide)
  refine ⟨hi, ?_⟩
  refine nm_r (e' := upd b_lSource m p0) (by rw [gc_cl (by omega)]) ⟨hi, ?_⟩
  refine nm_r (e' := upd b_lTarget m p1) (by rw [gc_cl (by omega)]) ⟨hi, ?_⟩
  refine nm_r (e' := upd b_lLabel m p2) (by rw [gc_cl (by omega)]) ⟨hi, ?_⟩
  exact nm_r (e' := upd b_lInner m g_vLay) (by rw [gc_cl (by omega)]) (nm_r (nI_1 m) H)
end
def gr_LV (nl : Nat) (lw : Nat → Nat → Int32) (lay : Int32) (w : Nat → Int32) : Prop := (lay = -1 ∧ w = gc_zv) ∨ ∃ l, l < nl ∧ lay = nI l ∧ w = lw l
def gr_LT (nl : Nat) (lS lT lL lI : Nat → Int32) (lw : Nat → Nat → Int32) : Prop := ∀ l, l < nl → (¬ lL l = 0) ∧ ∃ w, gr_LV l lw (lI l) w ∧ lw l = gc_sq w (gc_ly (lS l) (lT l) (lL l))
theorem gr_LV_mono {nl nl' : Nat} {lw lw' : Nat → Nat → Int32} {lay : Int32} {w : Nat → Int32} (h : gr_LV nl lw lay w) (hn : nl ≤ nl') (e : ∀ l, l < nl → lw' l = lw l) : gr_LV nl' lw' lay w := by
  rcases h with h | ⟨l, h1, h2, h3⟩
  · exact Or.inl h
  · exact Or.inr ⟨l, by omega, h2, by rw [e l h1]; exact h3⟩
theorem gr_LT_add {nl : Nat} {lS lT lL lI : Nat → Int32} {lw : Nat → Nat → Int32} (h : gr_LT nl lS lT lL lI lw) {s t p lay : Int32} {w : Nat → Int32} (hp : ¬ p = 0) (hl : gr_LV nl lw lay w) :
    gr_LT (nl + 1) (upd lS nl s) (upd lT nl t) (upd lL nl p) (upd lI nl lay) (fun l => if l = nl then gc_sq w (gc_ly s t p) else lw l) := by
  intro l hln
  by_cases e : l = nl
  · subst e
    refine ⟨by rw [gc_len, if_pos rfl]; exact hp, w, ?_, ?_⟩
    · rw [gc_len, if_pos rfl]
      exact gr_LV_mono hl (Nat.le_refl _) (fun i hi => if_neg (by omega))
    · show (if l = l then gc_sq w (gc_ly s t p) else lw l) = _
      rw [if_pos rfl, gc_len, if_pos rfl, gc_len, if_pos rfl, gc_len, if_pos rfl]
  · obtain ⟨h1, v, h2, h3⟩ := h l (by omega)
    refine ⟨by rw [gc_len, if_neg e]; exact h1, v, ?_, ?_⟩
    · rw [gc_len, if_neg e]
      exact gr_LV_mono h2 (Nat.le_refl _) (fun i hi => if_neg (by omega))
    · show (if l = nl then gc_sq w (gc_ly s t p) else lw l) = _
      rw [if_neg e, gc_len, if_neg e, gc_len, if_neg e, gc_len, if_neg e]
      exact h3
section
variable {g_capacity g_fuel g_count g_state g_wrongKind g_wrongNode g_program g_used g_blamed g_resType g_vTag g_vVal g_vLay g_todo g_todoEnv g_closures g_bindings g_layers g_depth : Int32} {b_kinds b_ops b_parent b_types b_cNode b_cEnv b_bTag b_bVal b_bLay b_bNext b_lSource b_lTarget b_lLabel b_lInner b_frNode b_frEnv b_frPhase b_frVal b_frLay : Nat → Int32}
theorem gy_wayIn_l {post : Int32 → Prop} {nl k : Nat} {lw : Nat → Nat → Int32} (hk : 1 ≤ k ∧ k ≤ 3) (hnl : nl ≤ 600) (ht : gr_LT nl b_lSource b_lTarget b_lLabel b_lInner lw) :
    ∀ m (lay : Int32) (w : Nat → Int32), gr_LV m lw lay w → m ≤ nl → ∀ i n, i + m ≤ 600 → m < n → post (-(w (2 + k))) → wY_wayIn_5 post (nI k) g_capacity g_fuel g_count g_state g_wrongKind g_wrongNode g_program g_used g_blamed g_resType g_vTag g_vVal g_vLay g_todo g_todoEnv g_closures g_bindings g_layers g_depth b_kinds b_ops b_parent b_types b_cNode b_cEnv b_bTag b_bVal b_bLay b_bNext b_lSource b_lTarget b_lLabel b_lInner b_frNode b_frEnv b_frPhase b_frVal b_frLay n lay (nI i) := by
  intro m
  induction m with
  | zero =>
    intro lay w hl hm i n hi hn H
    obtain ⟨n, rfl⟩ : ∃ q, n = q + 1 := ⟨n - 1, by omega⟩
    rcases hl with ⟨h1, h2⟩ | ⟨l, h1, _⟩
    · subst h1 h2
      have e0 : -gc_zv (2 + k) = 0 := by unfold gc_zv; decide
      rw [e0] at H
      refine pk_le 600 i (fun _ => H) (fun _ => br_t (by decide) H)
    · omega
  | succ m ih =>
    intro lay w hl hm i n hi hn H
    obtain ⟨n, rfl⟩ : ∃ q, n = q + 1 := ⟨n - 1, by omega⟩
    rcases hl with ⟨h1, h2⟩ | ⟨l, h1, h2, h3⟩
    · exact ih lay w (Or.inl ⟨h1, h2⟩) (by omega) i (n + 1) (by omega) (by omega) H
    · subst h2
      obtain ⟨g1, v, g2, g3⟩ := ht l (by omega)
      have hin : vp_in (nI l) 600 := gc_in (by omega) (by decide)
      have C : w (2 + k) = v (2 + k) → wY_wayIn_5 post (nI k) g_capacity g_fuel g_count g_state g_wrongKind g_wrongNode g_program g_used g_blamed g_resType g_vTag g_vVal g_vLay g_todo g_todoEnv g_closures g_bindings g_layers g_depth b_kinds b_ops b_parent b_types b_cNode b_cEnv b_bTag b_bVal b_bLay b_bNext b_lSource b_lTarget b_lLabel b_lInner b_frNode b_frEnv b_frPhase b_frVal b_frLay n (b_lInner l) (nI (i + 1)) := by
        intro e
        rw [e] at H
        exact ih _ v (gr_LV_mono g2 (by omega) (fun _ _ => rfl)) (by omega) (i + 1) n (by omega) (by omega) H
      have ew : w (2 + k) = if gc_ly (b_lSource l) (b_lTarget l) (b_lLabel l) (2 + k) = 0 then v (2 + k) else gc_ly (b_lSource l) (b_lTarget l) (b_lLabel l) (2 + k) := by
        rw [h3, g3]; unfold gc_sq; rw [if_pos (by omega)]
      have eL := gc_ly_in (s := b_lSource l) (t := b_lTarget l) (p := b_lLabel l) hk
      refine pk_le 600 i (fun _ => by omega) (fun _ => br_f (gc_nneg l (by omega)) ⟨hin, ?_⟩)
      refine gy_dom ⟨hin, gy_dom ?_⟩
      rw [gc_cl (by omega)]
      refine br_c (fun z1 => br_c (fun z2 => ⟨hin, ?_⟩) (fun z2 => gy_fits (fun z3 => br_f (by decide) ⟨hin, ?_⟩) (fun z3 => br_t rfl ⟨hin, ?_⟩))) (fun z1 => ⟨hin, ?_⟩)
      · refine nm_e (nm_r (nI_1 i) (C ?_))
        exact ew.trans (if_pos (eL.trans (if_neg (fun z => z.2.1 z2))))
      · refine nm_e (nm_r (nI_1 i) (C ?_))
        exact ew.trans (if_pos (eL.trans (if_neg (fun z => Bool.noConfusion (z3.symm.trans z.2.2)))))
      · have q := eL.trans (if_pos ⟨z1, z2, z3⟩)
        rw [q, if_neg g1] at ew
        rw [← ew]
        exact H
      · refine nm_e (nm_r (nI_1 i) (C ?_))
        exact ew.trans (if_pos (eL.trans (if_neg (fun z => z1 z.1))))
theorem gy_wayIn {post : Int32 → Prop} {nl k : Nat} {lw : Nat → Nat → Int32} {lay : Int32} {w : Nat → Int32} (hk : 1 ≤ k ∧ k ≤ 3) (hnl : nl ≤ 600) (ht : gr_LT nl b_lSource b_lTarget b_lLabel b_lInner lw)
    (hl : gr_LV nl lw lay w) (H : post (-(w (2 + k)))) : wpY_wayIn post (g_capacity, g_fuel, g_count, g_state, g_wrongKind, g_wrongNode, g_program, g_used, g_blamed, g_resType, g_vTag, g_vVal, g_vLay, g_todo, g_todoEnv, g_closures, g_bindings, g_layers, g_depth, b_kinds, b_ops, b_parent, b_types, b_cNode, b_cEnv, b_bTag, b_bVal, b_bLay, b_bNext, b_lSource, b_lTarget, b_lLabel, b_lInner, b_frNode, b_frEnv, b_frPhase, b_frVal, b_frLay) lay (nI k) :=
  ⟨nl + 1, gy_wayIn_l hk hnl ht nl lay w hl (Nat.le_refl _) 0 (nl + 1) (by omega) (by omega) H⟩
theorem gy_wayOut_l {post : Int32 → Prop} {nl k : Nat} {lw : Nat → Nat → Int32} (hk : 1 ≤ k ∧ k ≤ 3) (hnl : nl ≤ 600) (ht : gr_LT nl b_lSource b_lTarget b_lLabel b_lInner lw) :
    ∀ m (lay : Int32) (w : Nat → Int32), gr_LV m lw lay w → m ≤ nl → ∀ (fd : Int32) i n, i + m ≤ 600 → m < n → post (if w (5 + k) = 0 then fd else w (5 + k)) → wY_wayOut_8 post (nI k) g_capacity g_fuel g_count g_state g_wrongKind g_wrongNode g_program g_used g_blamed g_resType g_vTag g_vVal g_vLay g_todo g_todoEnv g_closures g_bindings g_layers g_depth b_kinds b_ops b_parent b_types b_cNode b_cEnv b_bTag b_bVal b_bLay b_bNext b_lSource b_lTarget b_lLabel b_lInner b_frNode b_frEnv b_frPhase b_frVal b_frLay n lay fd (nI i) := by
  intro m
  induction m with
  | zero =>
    intro lay w hl hm fd i n hi hn H
    obtain ⟨n, rfl⟩ : ∃ q, n = q + 1 := ⟨n - 1, by omega⟩
    rcases hl with ⟨h1, h2⟩ | ⟨l, h1, _⟩
    · subst h1 h2
      have H' : post fd := H
      refine pk_le 600 i (fun _ => H') (fun _ => br_t (by decide) H')
    · omega
  | succ m ih =>
    intro lay w hl hm fd i n hi hn H
    obtain ⟨n, rfl⟩ : ∃ q, n = q + 1 := ⟨n - 1, by omega⟩
    rcases hl with ⟨h1, h2⟩ | ⟨l, h1, h2, h3⟩
    · exact ih lay w (Or.inl ⟨h1, h2⟩) (by omega) fd i (n + 1) (by omega) (by omega) H
    · subst h2
      obtain ⟨g1, v, g2, g3⟩ := ht l (by omega)
      have hin : vp_in (nI l) 600 := gc_in (by omega) (by decide)
      have ew : w (5 + k) = if v (5 + k) = 0 then gc_ly (b_lSource l) (b_lTarget l) (b_lLabel l) (5 + k) else v (5 + k) := by
        rw [h3, g3]; unfold gc_sq; rw [if_neg (by omega)]
      have eL := gc_ly_out (s := b_lSource l) (t := b_lTarget l) (p := b_lLabel l) hk
      have C : ∀ fd', (v (5 + k) = 0 → fd' = if w (5 + k) = 0 then fd else w (5 + k)) → wY_wayOut_8 post (nI k) g_capacity g_fuel g_count g_state g_wrongKind g_wrongNode g_program g_used g_blamed g_resType g_vTag g_vVal g_vLay g_todo g_todoEnv g_closures g_bindings g_layers g_depth b_kinds b_ops b_parent b_types b_cNode b_cEnv b_bTag b_bVal b_bLay b_bNext b_lSource b_lTarget b_lLabel b_lInner b_frNode b_frEnv b_frPhase b_frVal b_frLay n (b_lInner l) fd' (nI (i + 1)) := by
        intro fd' e
        refine ih _ v (gr_LV_mono g2 (by omega) (fun _ _ => rfl)) (by omega) fd' (i + 1) n (by omega) (by omega) ?_
        by_cases z : v (5 + k) = 0
        · rw [if_pos z, e z]; exact H
        · rw [if_neg z] at ew
          rw [if_neg z, ← ew]
          rw [← ew] at z
          rw [if_neg z] at H
          exact H
      refine pk_le 600 i (fun _ => by omega) (fun _ => br_f (gc_nneg l (by omega)) ⟨hin, ?_⟩)
      refine gy_cod ⟨hin, gy_cod ?_⟩
      rw [gc_cl (by omega)]
      refine br_c (fun z1 => br_c (fun z2 => ⟨hin, ?_⟩) (fun z2 => gy_fits (fun z3 => br_f (by decide) ⟨hin, ?_⟩) (fun z3 => br_t rfl ⟨hin, ?_⟩))) (fun z1 => ⟨hin, ?_⟩)
      · refine nm_e (nm_r (nI_1 i) (C _ (fun z => ?_)))
        rw [ew, if_pos z, eL.trans (if_neg (fun z => z.2.1 z2)), if_pos rfl]
      · refine nm_e (nm_r (nI_1 i) (C _ (fun z => ?_)))
        rw [ew, if_pos z, eL.trans (if_neg (fun z => Bool.noConfusion (z3.symm.trans z.2.2))), if_pos rfl]
      · refine nm_e ⟨hin, nm_e (nm_r (nI_1 i) (C _ (fun z => ?_)))⟩
        rw [ew, if_pos z, eL.trans (if_pos ⟨z1, z2, z3⟩), if_neg g1]
      · refine nm_e (nm_r (nI_1 i) (C _ (fun z => ?_)))
        rw [ew, if_pos z, eL.trans (if_neg (fun z => z1 z.1)), if_pos rfl]
theorem gy_wayOut {post : Int32 → Prop} {nl k : Nat} {lw : Nat → Nat → Int32} {lay : Int32} {w : Nat → Int32} (hk : 1 ≤ k ∧ k ≤ 3) (hnl : nl ≤ 600) (ht : gr_LT nl b_lSource b_lTarget b_lLabel b_lInner lw)
    (hl : gr_LV nl lw lay w) (H : post (w (5 + k))) : wpY_wayOut post (g_capacity, g_fuel, g_count, g_state, g_wrongKind, g_wrongNode, g_program, g_used, g_blamed, g_resType, g_vTag, g_vVal, g_vLay, g_todo, g_todoEnv, g_closures, g_bindings, g_layers, g_depth, b_kinds, b_ops, b_parent, b_types, b_cNode, b_cEnv, b_bTag, b_bVal, b_bLay, b_bNext, b_lSource, b_lTarget, b_lLabel, b_lInner, b_frNode, b_frEnv, b_frPhase, b_frVal, b_frLay) lay (nI k) := by
  refine ⟨nl + 1, gy_wayOut_l hk hnl ht nl lay w hl (Nat.le_refl _) 0 0 (nl + 1) (by omega) (by omega) ?_⟩
  by_cases z : w (5 + k) = 0
  · rw [if_pos z, ← z]; exact H
  · rw [if_neg z]; exact H
end
end
section
def gc_pc (k : Nat) : Nat := if k = 4 ∨ k = 6 ∨ k = 7 then 0 else if k = 3 then 2 else 1
def gc_nc (k : Nat) : Nat := if k = 3 ∨ k = 8 then 1 else if k = 4 ∨ k = 5 ∨ k = 7 then 2 else if k = 6 then 3 else 0
def gc_ns (k : Nat) : Nat := if k = 7 then 0 else gc_nc k
theorem gc_tab_c : ∀ k, k < 9 → (k ≤ 2 ∧ gc_ns k = 0 ∧ gc_pc k = 1 ∧ gc_nc k = 0) ∨ (k = 3 ∧ gc_ns k = 1 ∧ gc_pc k = 2 ∧ gc_nc k = 1) ∨ (k = 4 ∧ gc_ns k = 2 ∧ gc_pc k = 0 ∧ gc_nc k = 2) ∨ (k = 5 ∧ gc_ns k = 2 ∧ gc_pc k = 1 ∧ gc_nc k = 2) ∨ (k = 6 ∧ gc_ns k = 3 ∧ gc_pc k = 0 ∧ gc_nc k = 3) ∨ (k = 7 ∧ gc_ns k = 0 ∧ gc_pc k = 0 ∧ gc_nc k = 2) ∨ (k = 8 ∧ gc_ns k = 1 ∧ gc_pc k = 1 ∧ gc_nc k = 1) := by decide +kernel
theorem gc_tab {k : Nat} (h : k ≤ 8) : (k ≤ 2 ∧ gc_ns k = 0 ∧ gc_pc k = 1 ∧ gc_nc k = 0) ∨ (k = 3 ∧ gc_ns k = 1 ∧ gc_pc k = 2 ∧ gc_nc k = 1) ∨ (k = 4 ∧ gc_ns k = 2 ∧ gc_pc k = 0 ∧ gc_nc k = 2) ∨ (k = 5 ∧ gc_ns k = 2 ∧ gc_pc k = 1 ∧ gc_nc k = 2) ∨ (k = 6 ∧ gc_ns k = 3 ∧ gc_pc k = 0 ∧ gc_nc k = 3) ∨ (k = 7 ∧ gc_ns k = 0 ∧ gc_pc k = 0 ∧ gc_nc k = 2) ∨ (k = 8 ∧ gc_ns k = 1 ∧ gc_pc k = 1 ∧ gc_nc k = 1) := gc_tab_c k (by omega)
def gc_tg (O ty : Nat → Int32) (κ n k : Nat) (s : Int32) : Int32 := if κ = 3 then O (3 * n + 1) else if κ = 4 then (if k = 2 then gc_td (ty (O (3 * n)).toNatClampNeg) else gc_fn s) else if κ = 5 then 1 else if κ = 6 then (if k = 1 then 2 else ty n) else O (3 * n)
theorem gc_lab_d {n k : Nat} (hn : n < 1000) (hk : k ≤ 3) : nI (4 * n + k) / 4 = nI n := by
  rw [show (4 : Int32) = nI 4 from rfl, pk_div (by omega) (by decide) (by decide)]
  exact congrArg nI (by omega)
theorem gc_lab_r {n k : Nat} (hn : n < 1000) (hk : k ≤ 3) : nI (4 * n + k) - nI (4 * n + k) / 4 * 4 = nI k := by
  rw [show (4 : Int32) = nI 4 from rfl, pk_rem (by omega) (by decide) (by decide)]
  exact congrArg nI (by omega)
theorem gc_T_pos {t : Int32} (h : gc_T t) : 0 ≤ t := by
  obtain ⟨j, h1, _, rfl⟩ := h
  exact gc_pos j (by omega)
theorem gc_T_nr {t : Int32} (h : gc_T t) : ¬ t = -9999 := by
  obtain ⟨j, h1, _, rfl⟩ := h
  intro e
  have := gc_pos j (by omega)
  rw [e] at this
  exact absurd this (by decide)
section
variable {g_capacity g_fuel g_count g_state g_wrongKind g_wrongNode g_program g_used g_blamed g_resType g_vTag g_vVal g_vLay g_todo g_todoEnv g_closures g_bindings g_layers g_depth : Int32} {b_kinds b_ops b_parent b_types b_cNode b_cEnv b_bTag b_bVal b_bLay b_bNext b_lSource b_lTarget b_lLabel b_lInner b_frNode b_frEnv b_frPhase b_frVal b_frLay : Nat → Int32}
theorem gy_siteChild {post : Int32 → Prop} {n κ k : Nat} (hn : n < 48) (hK : b_kinds n = nI κ) (hκ : κ ≤ 8) (hk : k ≤ 3)
    (H1 : 1 ≤ k → k ≤ gc_ns κ → post (b_ops (3 * n + gc_pc κ + (k - 1)))) (H0 : ¬ (1 ≤ k ∧ k ≤ gc_ns κ) → post (-1)) : wpY_siteChild post (g_capacity, g_fuel, g_count, g_state, g_wrongKind, g_wrongNode, g_program, g_used, g_blamed, g_resType, g_vTag, g_vVal, g_vLay, g_todo, g_todoEnv, g_closures, g_bindings, g_layers, g_depth, b_kinds, b_ops, b_parent, b_types, b_cNode, b_cEnv, b_bTag, b_bVal, b_bLay, b_bNext, b_lSource, b_lTarget, b_lLabel, b_lInner, b_frNode, b_frEnv, b_frPhase, b_frVal, b_frLay) (nI n) (nI k) := by
  have T := gc_tab hκ
  have L : ∀ (x : Int32) (i : Nat), x = nI i → 1 ≤ k → k ≤ gc_ns κ → i = 3 * n + gc_pc κ + (k - 1) → vp_in x 144 ∧ post (b_ops x.toNatClampNeg) := by
    intro x i e h1 h2 h3
    subst e
    refine ⟨gc_in (by omega) (by decide), ?_⟩
    rw [gc_cl (by omega), h3]
    exact H1 h1 h2
  have e2 : 3 * nI n + 2 = nI (3 * n + 2) := by rw [gc_3, gc_p2]
  have e1 : 3 * nI n + 1 = nI (3 * n + 1) := by rw [gc_3, nI_1]
  have ek : 3 * nI n + nI k = nI (3 * n + k) := by rw [gc_3, nI_add]
  have ekm : 1 ≤ k → 3 * nI n + nI k - 1 = nI (3 * n + k - 1) := fun h => by rw [gc_3, nI_add, gc_s1 (by omega)]
  have c111 : ¬ (1 ≤ k ∧ k ≤ gc_ns κ) ∨ κ = 8 → wY_siteChild_111 post (nI n) (nI k) (nI κ) g_capacity g_fuel g_count g_state g_wrongKind g_wrongNode g_program g_used g_blamed g_resType g_vTag g_vVal g_vLay g_todo g_todoEnv g_closures g_bindings g_layers g_depth b_kinds b_ops b_parent b_types b_cNode b_cEnv b_bTag b_bVal b_bLay b_bNext b_lSource b_lTarget b_lLabel b_lInner b_frNode b_frEnv b_frPhase b_frVal b_frLay := by
    intro h
    exact pk_eq κ 8 (fun e => pk_eq k 1 (fun e3 => L _ _ e1 (by omega) (by omega) (by omega)) (fun _ => H0 (by omega))) (fun e => H0 (by omega))
  have c82 : ¬ (1 ≤ k ∧ k ≤ gc_ns κ) ∨ κ = 6 ∨ κ = 8 → wY_siteChild_82 post (nI n) (nI k) (nI κ) g_capacity g_fuel g_count g_state g_wrongKind g_wrongNode g_program g_used g_blamed g_resType g_vTag g_vVal g_vLay g_todo g_todoEnv g_closures g_bindings g_layers g_depth b_kinds b_ops b_parent b_types b_cNode b_cEnv b_bTag b_bVal b_bLay b_bNext b_lSource b_lTarget b_lLabel b_lInner b_frNode b_frEnv b_frPhase b_frVal b_frLay := by
    intro h
    exact pk_eq κ 6 (fun e => pk_lt k 1 (fun e3 => c111 (by omega)) (fun _ => pk_lt 3 k (fun _ => c111 (by omega)) (fun _ => L _ _ (ekm (by omega)) (by omega) (by omega) (by omega)))) (fun e => c111 (by omega))
  have c56 : ¬ (1 ≤ k ∧ k ≤ gc_ns κ) ∨ κ = 5 ∨ κ = 6 ∨ κ = 8 → wY_siteChild_56 post (nI n) (nI k) (nI κ) g_capacity g_fuel g_count g_state g_wrongKind g_wrongNode g_program g_used g_blamed g_resType g_vTag g_vVal g_vLay g_todo g_todoEnv g_closures g_bindings g_layers g_depth b_kinds b_ops b_parent b_types b_cNode b_cEnv b_bTag b_bVal b_bLay b_bNext b_lSource b_lTarget b_lLabel b_lInner b_frNode b_frEnv b_frPhase b_frVal b_frLay := by
    intro h
    exact pk_eq κ 5 (fun e => pk_eq k 1 (fun e3 => L _ _ ek (by omega) (by omega) (by omega)) (fun _ => pk_eq k 2 (fun _ => L _ _ ek (by omega) (by omega) (by omega)) (fun _ => c82 (by omega)))) (fun e => c82 (by omega))
  have c28 : ¬ (1 ≤ k ∧ k ≤ gc_ns κ) ∨ κ = 4 ∨ κ = 5 ∨ κ = 6 ∨ κ = 8 → wY_siteChild_28 post (nI n) (nI k) (nI κ) g_capacity g_fuel g_count g_state g_wrongKind g_wrongNode g_program g_used g_blamed g_resType g_vTag g_vVal g_vLay g_todo g_todoEnv g_closures g_bindings g_layers g_depth b_kinds b_ops b_parent b_types b_cNode b_cEnv b_bTag b_bVal b_bLay b_bNext b_lSource b_lTarget b_lLabel b_lInner b_frNode b_frEnv b_frPhase b_frVal b_frLay := by
    intro h
    exact pk_eq κ 4 (fun e => pk_eq k 1 (fun e3 => L _ _ (ekm (by omega)) (by omega) (by omega) (by omega)) (fun _ => pk_eq k 2 (fun _ => L _ _ (ekm (by omega)) (by omega) (by omega) (by omega)) (fun _ => c56 (by omega)))) (fun e => c56 (by omega))
  refine ⟨gc_in hn (by decide), nm_r (e' := nI κ) (by rw [gc_cl (by omega)]; exact hK) ?_⟩
  exact pk_eq κ 3 (fun e => pk_eq k 1 (fun _ => L _ _ e2 (by omega) (by omega) (by omega)) (fun _ => c28 (by omega))) (fun e => c28 (by omega))
theorem gy_src {post : Int32 → Prop} {cnt n κ k c : Nat} (hst : ¬ g_state < 2) (hn : n < cnt) (hc : cnt ≤ 48) (hty : 0 ≤ b_types n) (hK : b_kinds n = nI κ) (hκ : κ ≤ 8)
    (h1 : 1 ≤ k) (h2 : k ≤ gc_ns κ) (hch : b_ops (3 * n + gc_pc κ + (k - 1)) = nI c) (hcc : c < 48) (H : post (b_types c)) : wpY_siteSource post (g_capacity, g_fuel, nI cnt, g_state, g_wrongKind, g_wrongNode, g_program, g_used, g_blamed, g_resType, g_vTag, g_vVal, g_vLay, g_todo, g_todoEnv, g_closures, g_bindings, g_layers, g_depth, b_kinds, b_ops, b_parent, b_types, b_cNode, b_cEnv, b_bTag, b_bVal, b_bLay, b_bNext, b_lSource, b_lTarget, b_lLabel, b_lInner, b_frNode, b_frEnv, b_frPhase, b_frVal, b_frLay) (nI (4 * n + k)) := by
  have T := gc_tab hκ
  refine br_f hst (pk_le 1 (4 * n + k) (fun _ => ⟨by decide, nm_r (e' := nI n) (gc_lab_d (by omega) (by omega)) ?_⟩) (fun h => by omega))
  refine pk_le cnt n (fun h => by omega) (fun _ => ⟨gc_in (by omega) (by decide), br_t (by rw [gc_cl (by omega)]; exact hty) ⟨by decide, ?_⟩⟩)
  rw [gc_lab_r (by omega) (by omega)]
  refine gy_siteChild (by omega) hK hκ (by omega) (fun _ _ => ?_) (fun h => absurd ⟨h1, h2⟩ h)
  rw [hch]
  refine br_t (gc_pos c (by omega)) ⟨gc_in hcc (by decide), ?_⟩
  rw [gc_cl (by omega)]
  exact H
theorem gy_tgt {post : Int32 → Prop} {cnt n κ k c : Nat} (hst : ¬ g_state < 2) (hn : n < cnt) (hc : cnt ≤ 48) (hty : 0 ≤ b_types n) (hK : b_kinds n = nI κ) (hκ : κ ≤ 8)
    (h1 : 1 ≤ k) (h2 : k ≤ gc_ns κ) (hch : b_ops (3 * n + gc_pc κ + (k - 1)) = nI c) (hcc : c < 48) (hT : gc_T (b_types c)) (h0 : κ = 4 → ∃ c0, c0 < 48 ∧ b_ops (3 * n) = nI c0)
    (H : post (gc_tg b_ops b_types κ n k (b_types c))) : wpY_siteTarget post (g_capacity, g_fuel, nI cnt, g_state, g_wrongKind, g_wrongNode, g_program, g_used, g_blamed, g_resType, g_vTag, g_vVal, g_vLay, g_todo, g_todoEnv, g_closures, g_bindings, g_layers, g_depth, b_kinds, b_ops, b_parent, b_types, b_cNode, b_cEnv, b_bTag, b_bVal, b_bLay, b_bNext, b_lSource, b_lTarget, b_lLabel, b_lInner, b_frNode, b_frEnv, b_frPhase, b_frVal, b_frLay) (nI (4 * n + k)) := by
  have T := gc_tab hκ
  unfold wpY_siteTarget
  refine gy_src hst hn hc hty hK hκ h1 h2 hch hcc ?_
  refine (br_f (gc_T_nr hT) ⟨by decide, nm_r (e' := nI n) (gc_lab_d (by omega) (by omega)) ⟨by decide, nm_r (e' := nI k) (gc_lab_r (by omega) (by omega)) ?_⟩⟩)
  have hi : vp_in (nI n) 48 := gc_in (by omega) (by decide)
  have eK : b_kinds (nI n).toNatClampNeg = nI κ := by rw [gc_cl (by omega)]; exact hK
  have e1 : 3 * nI n + 1 = nI (3 * n + 1) := by rw [gc_3, nI_1]
  rw [eK]
  unfold gc_tg at H
  refine ⟨hi, pk_eq κ 3 (fun e => ⟨?_, ?_⟩) (fun e3 => ⟨hi, pk_eq κ 4 (fun e => pk_eq k 2 (fun ek => ?_) (fun ek => ?_)) (fun e4 => ⟨hi, pk_eq κ 5 (fun e => ?_) (fun e5 => ⟨hi, pk_eq κ 6 (fun e => pk_eq k 1 (fun ek => ?_) (fun ek => ⟨hi, ?_⟩)) (fun e6 => ⟨?_, ?_⟩)⟩)⟩)⟩)⟩
  · rw [e1]; exact gc_in (by omega) (by decide)
  · rw [e1, gc_cl (by omega)]; rw [if_pos e] at H; exact H
  · obtain ⟨c0, hc0, e0⟩ := h0 e
    rw [if_neg e3, if_pos e, if_pos ek] at H
    refine ⟨by rw [gc_3]; exact gc_in (by omega) (by decide), ?_, ?_⟩
    · rw [gc_3, gc_cl (by omega), e0]; exact gc_in hc0 (by decide)
    · rw [gc_3, gc_cl (by omega)]; exact gy_dom H
  · rw [if_neg e3, if_pos e, if_neg ek] at H
    unfold gc_fn at H
    refine br_c (fun z => ?_) (fun z => ?_)
    · rw [if_pos z] at H; exact H
    · rw [if_neg z] at H; exact H
  · rw [if_neg e3, if_neg e4, if_pos e] at H; exact H
  · rw [if_neg e3, if_neg e4, if_neg e5, if_pos e, if_pos ek] at H; exact H
  · rw [if_neg e3, if_neg e4, if_neg e5, if_pos e, if_neg ek] at H
    rw [gc_cl (by omega)]; exact H
  · rw [gc_3]; exact gc_in (by omega) (by decide)
  · rw [if_neg e3, if_neg e4, if_neg e5, if_neg e6] at H
    rw [gc_3, gc_cl (by omega)]; exact H
theorem gy_castF {post : SY → Prop} {cnt n κ k c g nl : Nat} {s t : Int32} (hst : g_state = 2) (hn : n < cnt) (hc : cnt ≤ 48) (hty : 0 ≤ b_types n) (hK : b_kinds n = nI κ) (hκ : κ ≤ 8) (h1 : 1 ≤ k) (h2 : k ≤ gc_ns κ) (hch : b_ops (3 * n + gc_pc κ + (k - 1)) = nI c) (hcc : c < 48) (h0 : κ = 4 → ∃ c0, c0 < 48 ∧ b_ops (3 * n) = nI c0) (hs : b_types c = s) (hT : gc_T s) (ht : gc_tg b_ops b_types κ n k s = t) (hg : 1 ≤ g ∧ g ≤ 3) (hz : ¬ gc_cv s t (nI (4 * n + k)) (g - 1) = 0)
    (H0 : post (g_capacity, g_fuel, nI cnt, 4, g_wrongKind, g_wrongNode, g_program, g_used, gc_cv s t (nI (4 * n + k)) (g - 1), g_resType, nI g, g_vVal, g_vLay, g_todo, g_todoEnv, g_closures, g_bindings, nI nl, g_depth, b_kinds, b_ops, b_parent, b_types, b_cNode, b_cEnv, b_bTag, b_bVal, b_bLay, b_bNext, b_lSource, b_lTarget, b_lLabel, b_lInner, b_frNode, b_frEnv, b_frPhase, b_frVal, b_frLay)) : wpY_cast post (g_capacity, g_fuel, nI cnt, g_state, g_wrongKind, g_wrongNode, g_program, g_used, g_blamed, g_resType, nI g, g_vVal, g_vLay, g_todo, g_todoEnv, g_closures, g_bindings, nI nl, g_depth, b_kinds, b_ops, b_parent, b_types, b_cNode, b_cEnv, b_bTag, b_bVal, b_bLay, b_bNext, b_lSource, b_lTarget, b_lLabel, b_lInner, b_frNode, b_frEnv, b_frPhase, b_frVal, b_frLay) (nI (4 * n + k)) := by
  have T := gc_tab hκ
  have hst' : ¬ g_state < 2 := by rw [hst]; decide
  subst hs
  unfold wpY_cast
  refine gy_src hst' hn hc hty hK hκ h1 h2 hch hcc ?_
  refine gy_tgt hst' hn hc hty hK hκ h1 h2 hch hcc hT h0 ?_
  rw [ht]
  have hne : ¬ b_types c = t := fun e => hz (by rw [← e, gc_cv_same]; rfl)
  rw [gc_cv_lo hg] at hz H0
  by_cases hh : b_types c = 0 ∧ gc_ft (nI g) t = false
  · rw [if_pos hh] at H0
    refine br_f hne (br_t hh.1 (gy_fits (fun hf => absurd hf (by rw [hh.2]; decide)) (fun _ => br_t rfl (br_t hst H0))))
  · rw [if_neg hh] at hz
    exact absurd rfl hz
theorem gy_castP {cnt n κ k c g nl : Nat} {s t : Int32} (hst : g_state = 2) (hn : n < cnt) (hc : cnt ≤ 48) (hty : 0 ≤ b_types n) (hK : b_kinds n = nI κ) (hκ : κ ≤ 8) (h1 : 1 ≤ k) (h2 : k ≤ gc_ns κ) (hch : b_ops (3 * n + gc_pc κ + (k - 1)) = nI c) (hcc : c < 48) (h0 : κ = 4 → ∃ c0, c0 < 48 ∧ b_ops (3 * n) = nI c0) (hs : b_types c = s) (hT : gc_T s) (ht : gc_tg b_ops b_types κ n k s = t) (hg : 1 ≤ g ∧ g ≤ 3) {lw : Nat → Nat → Int32} {w : Nat → Int32} (hco : gc_co s t = true) (hz : gc_cv s t (nI (4 * n + k)) (g - 1) = 0)
    (hfs : gc_ft (nI g) s = true) (hnl : nl < 600) (hLT : gr_LT nl b_lSource b_lTarget b_lLabel b_lInner lw) (hLV : g = 3 → gr_LV nl lw g_vLay w) :
    ∃ (nl' : Nat) (lay' : Int32) (lS lT lL lI : Nat → Int32) (lw' : Nat → Nat → Int32), nl ≤ nl' ∧ nl' ≤ nl + 1 ∧ gr_LT nl' lS lT lL lI lw' ∧ (∀ l, l < nl → lw' l = lw l) ∧
      (g = 3 → gr_LV nl' lw' lay' (gc_sq w (gc_ly (gc_fn s) (gc_fn t) (nI (4 * n + k))))) ∧
      ∀ post : SY → Prop, post (g_capacity, g_fuel, nI cnt, g_state, g_wrongKind, g_wrongNode, g_program, g_used, g_blamed, g_resType, nI g, g_vVal, lay', g_todo, g_todoEnv, g_closures, g_bindings, nI nl', g_depth, b_kinds, b_ops, b_parent, b_types, b_cNode, b_cEnv, b_bTag, b_bVal, b_bLay, b_bNext, lS, lT, lL, lI, b_frNode, b_frEnv, b_frPhase, b_frVal, b_frLay) → wpY_cast post (g_capacity, g_fuel, nI cnt, g_state, g_wrongKind, g_wrongNode, g_program, g_used, g_blamed, g_resType, nI g, g_vVal, g_vLay, g_todo, g_todoEnv, g_closures, g_bindings, nI nl, g_depth, b_kinds, b_ops, b_parent, b_types, b_cNode, b_cEnv, b_bTag, b_bVal, b_bLay, b_bNext, b_lSource, b_lTarget, b_lLabel, b_lInner, b_frNode, b_frEnv, b_frPhase, b_frVal, b_frLay) (nI (4 * n + k)) := by
  have T := gc_tab hκ
  have hst' : ¬ g_state < 2 := by rw [hst]; decide
  have hp : ¬ nI (4 * n + k) = 0 := gc_ne0 (by omega) (by omega)
  have hgG : gc_G (nI g) := ⟨g, hg.1, hg.2, rfl⟩
  subst hs
  have N : gc_ly (gc_fn (b_types c)) (gc_fn t) (nI (4 * n + k)) = gc_zv → (∀ post : SY → Prop, post (g_capacity, g_fuel, nI cnt, g_state, g_wrongKind, g_wrongNode, g_program, g_used, g_blamed, g_resType, nI g, g_vVal, g_vLay, g_todo, g_todoEnv, g_closures, g_bindings, nI nl, g_depth, b_kinds, b_ops, b_parent, b_types, b_cNode, b_cEnv, b_bTag, b_bVal, b_bLay, b_bNext, b_lSource, b_lTarget, b_lLabel, b_lInner, b_frNode, b_frEnv, b_frPhase, b_frVal, b_frLay) → wpY_cast post (g_capacity, g_fuel, nI cnt, g_state, g_wrongKind, g_wrongNode, g_program, g_used, g_blamed, g_resType, nI g, g_vVal, g_vLay, g_todo, g_todoEnv, g_closures, g_bindings, nI nl, g_depth, b_kinds, b_ops, b_parent, b_types, b_cNode, b_cEnv, b_bTag, b_bVal, b_bLay, b_bNext, b_lSource, b_lTarget, b_lLabel, b_lInner, b_frNode, b_frEnv, b_frPhase, b_frVal, b_frLay) (nI (4 * n + k))) →
      ∃ (nl' : Nat) (lay' : Int32) (lS lT lL lI : Nat → Int32) (lw' : Nat → Nat → Int32), nl ≤ nl' ∧ nl' ≤ nl + 1 ∧ gr_LT nl' lS lT lL lI lw' ∧ (∀ l, l < nl → lw' l = lw l) ∧
      (g = 3 → gr_LV nl' lw' lay' (gc_sq w (gc_ly (gc_fn (b_types c)) (gc_fn t) (nI (4 * n + k))))) ∧
      ∀ post : SY → Prop, post (g_capacity, g_fuel, nI cnt, g_state, g_wrongKind, g_wrongNode, g_program, g_used, g_blamed, g_resType, nI g, g_vVal, lay', g_todo, g_todoEnv, g_closures, g_bindings, nI nl', g_depth, b_kinds, b_ops, b_parent, b_types, b_cNode, b_cEnv, b_bTag, b_bVal, b_bLay, b_bNext, lS, lT, lL, lI, b_frNode, b_frEnv, b_frPhase, b_frVal, b_frLay) → wpY_cast post (g_capacity, g_fuel, nI cnt, g_state, g_wrongKind, g_wrongNode, g_program, g_used, g_blamed, g_resType, nI g, g_vVal, g_vLay, g_todo, g_todoEnv, g_closures, g_bindings, nI nl, g_depth, b_kinds, b_ops, b_parent, b_types, b_cNode, b_cEnv, b_bTag, b_bVal, b_bLay, b_bNext, b_lSource, b_lTarget, b_lLabel, b_lInner, b_frNode, b_frEnv, b_frPhase, b_frVal, b_frLay) (nI (4 * n + k)) := by
    intro z H
    refine ⟨nl, g_vLay, b_lSource, b_lTarget, b_lLabel, b_lInner, lw, Nat.le_refl _, by omega, hLT, fun _ _ => rfl, fun e => ?_, H⟩
    rw [z, gc_z_sq]
    exact hLV e
  have A : ∀ s' t', g = 3 → s' = gc_fn (b_types c) → t' = gc_fn t → (∀ post : SY → Prop, wpY_layer post (g_capacity, g_fuel, nI cnt, g_state, g_wrongKind, g_wrongNode, g_program, g_used, g_blamed, g_resType, nI g, g_vVal, g_vLay, g_todo, g_todoEnv, g_closures, g_bindings, nI nl, g_depth, b_kinds, b_ops, b_parent, b_types, b_cNode, b_cEnv, b_bTag, b_bVal, b_bLay, b_bNext, b_lSource, b_lTarget, b_lLabel, b_lInner, b_frNode, b_frEnv, b_frPhase, b_frVal, b_frLay) s' t' (nI (4 * n + k)) → wpY_cast post (g_capacity, g_fuel, nI cnt, g_state, g_wrongKind, g_wrongNode, g_program, g_used, g_blamed, g_resType, nI g, g_vVal, g_vLay, g_todo, g_todoEnv, g_closures, g_bindings, nI nl, g_depth, b_kinds, b_ops, b_parent, b_types, b_cNode, b_cEnv, b_bTag, b_bVal, b_bLay, b_bNext, b_lSource, b_lTarget, b_lLabel, b_lInner, b_frNode, b_frEnv, b_frPhase, b_frVal, b_frLay) (nI (4 * n + k))) →
      ∃ (nl' : Nat) (lay' : Int32) (lS lT lL lI : Nat → Int32) (lw' : Nat → Nat → Int32), nl ≤ nl' ∧ nl' ≤ nl + 1 ∧ gr_LT nl' lS lT lL lI lw' ∧ (∀ l, l < nl → lw' l = lw l) ∧
      (g = 3 → gr_LV nl' lw' lay' (gc_sq w (gc_ly (gc_fn (b_types c)) (gc_fn t) (nI (4 * n + k))))) ∧
      ∀ post : SY → Prop, post (g_capacity, g_fuel, nI cnt, g_state, g_wrongKind, g_wrongNode, g_program, g_used, g_blamed, g_resType, nI g, g_vVal, lay', g_todo, g_todoEnv, g_closures, g_bindings, nI nl', g_depth, b_kinds, b_ops, b_parent, b_types, b_cNode, b_cEnv, b_bTag, b_bVal, b_bLay, b_bNext, lS, lT, lL, lI, b_frNode, b_frEnv, b_frPhase, b_frVal, b_frLay) → wpY_cast post (g_capacity, g_fuel, nI cnt, g_state, g_wrongKind, g_wrongNode, g_program, g_used, g_blamed, g_resType, nI g, g_vVal, g_vLay, g_todo, g_todoEnv, g_closures, g_bindings, nI nl, g_depth, b_kinds, b_ops, b_parent, b_types, b_cNode, b_cEnv, b_bTag, b_bVal, b_bLay, b_bNext, b_lSource, b_lTarget, b_lLabel, b_lInner, b_frNode, b_frEnv, b_frPhase, b_frVal, b_frLay) (nI (4 * n + k)) := by
    intro s' t' e3 es et H
    refine ⟨nl + 1, nI nl, _, _, _, _, fun l => if l = nl then gc_sq w (gc_ly s' t' (nI (4 * n + k))) else lw l, by omega, by omega, gr_LT_add hLT hp (hLV e3), fun l hl => if_neg (by omega), fun _ => ?_, fun post hpost => H post (gy_layer hnl hpost)⟩
    refine Or.inr ⟨nl, by omega, rfl, ?_⟩
    show _ = if nl = nl then _ else _
    rw [if_pos rfl, es, et]
  have R : ∀ post : SY → Prop, ((b_types c = t → post (g_capacity, g_fuel, nI cnt, g_state, g_wrongKind, g_wrongNode, g_program, g_used, g_blamed, g_resType, nI g, g_vVal, g_vLay, g_todo, g_todoEnv, g_closures, g_bindings, nI nl, g_depth, b_kinds, b_ops, b_parent, b_types, b_cNode, b_cEnv, b_bTag, b_bVal, b_bLay, b_bNext, b_lSource, b_lTarget, b_lLabel, b_lInner, b_frNode, b_frEnv, b_frPhase, b_frVal, b_frLay)) ∧ (¬ b_types c = t → ((b_types c = 0 → wpY_fits (fun r_161 => (((r_161 = 0 → (wpY_fail (fun u => post u) (g_capacity, g_fuel, nI cnt, g_state, g_wrongKind, g_wrongNode, g_program, g_used, g_blamed, g_resType, nI g, g_vVal, g_vLay, g_todo, g_todoEnv, g_closures, g_bindings, nI nl, g_depth, b_kinds, b_ops, b_parent, b_types, b_cNode, b_cEnv, b_bTag, b_bVal, b_bLay, b_bNext, b_lSource, b_lTarget, b_lLabel, b_lInner, b_frNode, b_frEnv, b_frPhase, b_frVal, b_frLay) (nI (4 * n + k)))) ∧ (¬ r_161 = 0 → (((t < 5 → (post (g_capacity, g_fuel, nI cnt, g_state, g_wrongKind, g_wrongNode, g_program, g_used, g_blamed, g_resType, nI g, g_vVal, g_vLay, g_todo, g_todoEnv, g_closures, g_bindings, nI nl, g_depth, b_kinds, b_ops, b_parent, b_types, b_cNode, b_cEnv, b_bTag, b_bVal, b_bLay, b_bNext, b_lSource, b_lTarget, b_lLabel, b_lInner, b_frNode, b_frEnv, b_frPhase, b_frVal, b_frLay))) ∧ (¬ t < 5 → (wpY_layer (fun u => post u) (g_capacity, g_fuel, nI cnt, g_state, g_wrongKind, g_wrongNode, g_program, g_used, g_blamed, g_resType, nI g, g_vVal, g_vLay, g_todo, g_todoEnv, g_closures, g_bindings, nI nl, g_depth, b_kinds, b_ops, b_parent, b_types, b_cNode, b_cEnv, b_bTag, b_bVal, b_bLay, b_bNext, b_lSource, b_lTarget, b_lLabel, b_lInner, b_frNode, b_frEnv, b_frPhase, b_frVal, b_frLay) 3 t (nI (4 * n + k)))))))))) (g_capacity, g_fuel, nI cnt, g_state, g_wrongKind, g_wrongNode, g_program, g_used, g_blamed, g_resType, nI g, g_vVal, g_vLay, g_todo, g_todoEnv, g_closures, g_bindings, nI nl, g_depth, b_kinds, b_ops, b_parent, b_types, b_cNode, b_cEnv, b_bTag, b_bVal, b_bLay, b_bNext, b_lSource, b_lTarget, b_lLabel, b_lInner, b_frNode, b_frEnv, b_frPhase, b_frVal, b_frLay) (nI g) t) ∧ (¬ b_types c = 0 → ((t = 0 → ((b_types c < 5 → post (g_capacity, g_fuel, nI cnt, g_state, g_wrongKind, g_wrongNode, g_program, g_used, g_blamed, g_resType, nI g, g_vVal, g_vLay, g_todo, g_todoEnv, g_closures, g_bindings, nI nl, g_depth, b_kinds, b_ops, b_parent, b_types, b_cNode, b_cEnv, b_bTag, b_bVal, b_bLay, b_bNext, b_lSource, b_lTarget, b_lLabel, b_lInner, b_frNode, b_frEnv, b_frPhase, b_frVal, b_frLay)) ∧ (¬ b_types c < 5 → wpY_layer (fun u => post u) (g_capacity, g_fuel, nI cnt, g_state, g_wrongKind, g_wrongNode, g_program, g_used, g_blamed, g_resType, nI g, g_vVal, g_vLay, g_todo, g_todoEnv, g_closures, g_bindings, nI nl, g_depth, b_kinds, b_ops, b_parent, b_types, b_cNode, b_cEnv, b_bTag, b_bVal, b_bLay, b_bNext, b_lSource, b_lTarget, b_lLabel, b_lInner, b_frNode, b_frEnv, b_frPhase, b_frVal, b_frLay) (b_types c) 3 (nI (4 * n + k))))) ∧ (¬ t = 0 → wpY_layer (fun u => post u) (g_capacity, g_fuel, nI cnt, g_state, g_wrongKind, g_wrongNode, g_program, g_used, g_blamed, g_resType, nI g, g_vVal, g_vLay, g_todo, g_todoEnv, g_closures, g_bindings, nI nl, g_depth, b_kinds, b_ops, b_parent, b_types, b_cNode, b_cEnv, b_bTag, b_bVal, b_bLay, b_bNext, b_lSource, b_lTarget, b_lLabel, b_lInner, b_frNode, b_frEnv, b_frPhase, b_frVal, b_frLay) (b_types c) t (nI (4 * n + k)))))))) →
      wpY_cast post (g_capacity, g_fuel, nI cnt, g_state, g_wrongKind, g_wrongNode, g_program, g_used, g_blamed, g_resType, nI g, g_vVal, g_vLay, g_todo, g_todoEnv, g_closures, g_bindings, nI nl, g_depth, b_kinds, b_ops, b_parent, b_types, b_cNode, b_cEnv, b_bTag, b_bVal, b_bLay, b_bNext, b_lSource, b_lTarget, b_lLabel, b_lInner, b_frNode, b_frEnv, b_frPhase, b_frVal, b_frLay) (nI (4 * n + k)) := by
    intro post H
    unfold wpY_cast
    refine gy_src hst' hn hc hty hK hκ h1 h2 hch hcc ?_
    refine gy_tgt hst' hn hc hty hK hκ h1 h2 hch hcc hT h0 ?_
    rw [ht]
    exact H
  by_cases hne : b_types c = t
  · exact N (by rw [← hne, gc_ly_same]) (fun post H => R post (br_t hne H))
  · by_cases hs0 : b_types c = 0
    · have hf : gc_ft (nI g) t = true := gc_cv_ft hg hp hco hfs hz
      by_cases z : t < 5
      · exact N (gc_ly_0 _ (by rw [gc_tdfn, hs0, gc_td0]) (by rw [gc_tcfn]; exact gc_tc_le (gc_lt5.mp z))) (fun post H => R post (br_f hne (br_t hs0 (gy_fits (fun _ => br_f (by decide) (br_t z H)) (fun h => absurd h (by rw [hf]; decide))))))
      · have ht0 : ¬ t = 0 := fun e => z (by rw [e]; decide)
        have ht3 : ¬ t < 3 := fun e => z (Int32.lt_trans e (by decide))
        exact A 3 t (gc_inj (b := 3) (gc_ft_ge hf ht0 ht3 hgG) (by omega) (by decide)) (by unfold gc_fn; rw [if_pos hs0]) (by unfold gc_fn; rw [if_neg ht0]) (fun post H => R post (br_f hne (br_t hs0 (gy_fits (fun _ => br_f (by decide) (br_f z H)) (fun h => absurd h (by rw [hf]; decide))))))
    · by_cases ht0 : t = 0
      · by_cases z : b_types c < 5
        · exact N (gc_ly_0 _ (by rw [gc_tdfn]; exact gc_td_le (gc_lt5.mp z)) (by rw [gc_tcfn, ht0, gc_tc0])) (fun post H => R post (br_f hne (br_f hs0 (br_t ht0 (br_t z H)))))
        · have hs3 : ¬ b_types c < 3 := fun e => z (Int32.lt_trans e (by decide))
          exact A _ 3 (gc_inj (b := 3) (gc_ft_ge hfs hs0 hs3 hgG) (by omega) (by decide)) (by unfold gc_fn; rw [if_neg hs0]) (by unfold gc_fn; rw [if_pos ht0]) (fun post H => R post (br_f hne (br_f hs0 (br_t ht0 (br_f z H)))))
      · rcases gc_co_iff.mp hco with (e | e | e) | ⟨e, _⟩
        · exact absurd e hne
        · exact absurd e hs0
        · exact absurd e ht0
        · exact A _ _ (gc_inj (b := 3) (gc_ft_ge hfs hs0 e hgG) (by omega) (by decide)) (by unfold gc_fn; rw [if_neg hs0]) (by unfold gc_fn; rw [if_neg ht0]) (fun post H => R post (br_f hne (br_f hs0 (br_f ht0 H))))
end
end
section
-- the relation's pieces
def gr_ext (O ty : Nat → Int32) (κ n w : Nat) (G : List Int32) : List Int32 :=
  if κ = 3 then O (3 * n) :: gc_ta (O (3 * n)) (O (3 * n + 1)) :: G else if κ = 7 ∧ w = 1 then ty (O (3 * n)).toNatClampNeg :: G else G
def gr_ch (O : Nat → Int32) (κ n w : Nat) : Nat := (O (3 * n + gc_pc κ + w)).toNatClampNeg
def gr_t (O ty : Nat → Int32) (κ n k : Nat) : Int32 := gc_tg O ty κ n k (ty (gr_ch O κ n (k - 1)))
def gr_sv (O ty : Nat → Int32) (κ n k : Nat) : Nat → Int32 := gc_cv (ty (gr_ch O κ n (k - 1))) (gr_t O ty κ n k) (nI (4 * n + k))
def gr_rule (O ty : Nat → Int32) (G : Nat → List Int32) (κ n : Nat) : Prop :=
  (κ = 0 → ty n = 1) ∧ (κ = 1 → ty n = 2 ∧ (O (3 * n) = 0 ∨ O (3 * n) = 1)) ∧
  (κ = 2 → ∃ i, i < 16 ∧ O (3 * n) = nI i ∧ (G n)[i]? = some (ty n)) ∧
  (κ = 3 → gc_A (O (3 * n)) ∧ gc_A (O (3 * n + 1)) ∧ ty n = gc_ta (O (3 * n)) (O (3 * n + 1))) ∧
  (κ = 4 → ty n = gc_tc (ty (gr_ch O κ n 0)) ∧ ¬ ty (gr_ch O κ n 0) = 1 ∧ ¬ ty (gr_ch O κ n 0) = 2) ∧
  (κ = 5 → ∃ op, op ≤ 4 ∧ O (3 * n) = nI op ∧ ty n = if op < 3 then 1 else 2) ∧
  (κ = 7 → ty n = ty (gr_ch O κ n 1)) ∧ (κ = 8 → ty n = O (3 * n))
def gr_site (O ty st sc lb : Nat → Int32) (comp κ n k : Nat) : Prop :=
  st (3 * n + (k - 1)) = gr_t O ty κ n k ∧ gc_T (gr_t O ty κ n k) ∧ gc_co (ty (gr_ch O κ n (k - 1))) (gr_t O ty κ n k) = true ∧
  ∃ id, sc (3 * n + (k - 1)) = nI id ∧ id < comp ∧ ∀ j, j < 9 → gc_row lb id j = gr_sv O ty κ n k j
def gr_N (K O ty ip : Nat → Int32) (G : Nat → List Int32) (nt st sc lb : Nat → Int32) (comp cnt n : Nat) : Prop :=
  n < cnt ∧ ∃ κ, K n = nI κ ∧ κ ≤ 8 ∧ gc_T (ty n) ∧ nt n = ty n ∧
  (∀ w, w < gc_nc κ → ∃ c, O (3 * n + gc_pc κ + w) = nI c ∧ c < n ∧ ip c = 1 ∧ gc_T (ty c) ∧ G c = gr_ext O ty κ n w (G n)) ∧
  (∀ k, 1 ≤ k → k ≤ gc_ns κ → gr_site O ty st sc lb comp κ n k) ∧ gr_rule O ty G κ n
def gr_CK (K O ty ip : Nat → Int32) (G : Nat → List Int32) (nt st sc lb : Nat → Int32) (comp cnt : Nat) : Prop :=
  ∀ n, n < 48 → (ip n = 0 ∧ ty n = -1) ∨ (ip n = 1 ∧ gr_N K O ty ip G nt st sc lb comp cnt n)
-- environments, values
def gr_Env (nb : Nat) (eT : Nat → List Int32) (xe ye : Int32) (g : List Int32) : Prop := (xe = 0 ∧ ye = -1 ∧ g = []) ∨ ∃ b, b < nb ∧ xe = nI (b + 1) ∧ ye = nI b ∧ eT b = g
def gr_Fn (O : Nat → Int32) (nc : Nat) (cm : Nat → Nat) (q : Nat) (w : Nat → Int32) (V : Int32) : Prop := q < nc ∧ gc_FT (O (3 * cm q)) (O (3 * cm q + 1)) w V
def gr_VY (O : Nat → Int32) (nc : Nat) (cm : Nat → Nat) (nl : Nat) (lw : Nat → Nat → Int32) (g : Nat) (data lay T : Int32) (w : Nat → Int32) : Prop :=
  (1 ≤ g ∧ g ≤ 3) ∧ gc_ft (nI g) T = true ∧ (g = 2 → data = 0 ∨ data = 1) ∧ (g = 3 → ∃ q, data = nI q ∧ gr_LV nl lw lay w ∧ gr_Fn O nc cm q w (gc_fn T))
def gr_VX (lb : Nat → Int32) (cc g : Nat) (co : Int32) (w : Nat → Int32) : Prop := g = 3 → ∃ c, co = nI c ∧ c < cc ∧ ∀ k, 3 ≤ k → k < 9 → gc_row lb c k = w k
def gr_TB (K O ip : Nat → Int32) (G : Nat → List Int32) (lb : Nat → Int32) (cc nb : Nat) (eT : Nat → List Int32) (nc : Nat) (cm : Nat → Nat) (nl : Nat) (lw : Nat → Nat → Int32)
    (cNx cT cD cC xn xe bN bT bV bL cN cE lS lT lL lI : Nat → Int32) : Prop :=
  gr_LT nl lS lT lL lI lw ∧
  (∀ b, b < nb → ∃ T g' g w, eT b = T :: g' ∧ gr_Env b eT (cNx (b + 1)) (bN b) g' ∧ bT b = nI g ∧ cT (b + 1) = nI g ∧ cD (b + 1) = bV b ∧ gr_VY O nc cm nl lw g (bV b) (bL b) T w ∧ gr_VX lb cc g (cC (b + 1)) w) ∧
  (∀ q, q < nc → cN q = nI (cm q) ∧ xn q = nI (cm q) ∧ cm q < 48 ∧ ip (cm q) = 1 ∧ K (cm q) = 3 ∧ gr_Env nb eT (xe q) (cE q) (G (cm q)))
-- growth of the tables
def gr_Gr (lb : Nat → Int32) (cc nb : Nat) (eT : Nat → List Int32) (nc : Nat) (cm : Nat → Nat) (nl : Nat) (lw : Nat → Nat → Int32)
    (lb' : Nat → Int32) (cc' nb' : Nat) (eT' : Nat → List Int32) (nc' : Nat) (cm' : Nat → Nat) (nl' : Nat) (lw' : Nat → Nat → Int32) : Prop :=
  (cc ≤ cc' ∧ ∀ j, j < 9 * cc → lb' j = lb j) ∧ (nb ≤ nb' ∧ ∀ b, b < nb → eT' b = eT b) ∧ (nc ≤ nc' ∧ ∀ q, q < nc → cm' q = cm q) ∧ (nl ≤ nl' ∧ ∀ l, l < nl → lw' l = lw l)
theorem gr_Gr_rfl (lb : Nat → Int32) (cc nb : Nat) (eT : Nat → List Int32) (nc : Nat) (cm : Nat → Nat) (nl : Nat) (lw : Nat → Nat → Int32) : gr_Gr lb cc nb eT nc cm nl lw lb cc nb eT nc cm nl lw :=
  ⟨⟨Nat.le_refl _, fun _ _ => rfl⟩, ⟨Nat.le_refl _, fun _ _ => rfl⟩, ⟨Nat.le_refl _, fun _ _ => rfl⟩, ⟨Nat.le_refl _, fun _ _ => rfl⟩⟩
theorem gr_Env_mono {nb nb' : Nat} {eT eT' : Nat → List Int32} {xe ye : Int32} {g : List Int32} (h : gr_Env nb eT xe ye g) (h1 : nb ≤ nb') (h2 : ∀ b, b < nb → eT' b = eT b) : gr_Env nb' eT' xe ye g := by
  rcases h with h | ⟨b, a1, a2, a3, a4⟩
  · exact Or.inl h
  · exact Or.inr ⟨b, by omega, a2, a3, (h2 b a1).trans a4⟩
theorem gr_Fn_mono {O : Nat → Int32} {nc nc' : Nat} {cm cm' : Nat → Nat} {q : Nat} {w : Nat → Int32} {V : Int32} (h : gr_Fn O nc cm q w V) (h1 : nc ≤ nc') (h2 : ∀ q, q < nc → cm' q = cm q) : gr_Fn O nc' cm' q w V := by
  obtain ⟨a, b⟩ := h
  refine ⟨by omega, ?_⟩
  rw [h2 q a]
  exact b
theorem gr_VY_mono {O : Nat → Int32} {nc nc' : Nat} {cm cm' : Nat → Nat} {nl nl' : Nat} {lw lw' : Nat → Nat → Int32} {g : Nat} {data lay T : Int32} {w : Nat → Int32} (h : gr_VY O nc cm nl lw g data lay T w)
    (h1 : nc ≤ nc') (h2 : ∀ q, q < nc → cm' q = cm q) (h3 : nl ≤ nl') (h4 : ∀ l, l < nl → lw' l = lw l) : gr_VY O nc' cm' nl' lw' g data lay T w := by
  obtain ⟨a, b, c, d⟩ := h
  refine ⟨a, b, c, fun e => ?_⟩
  obtain ⟨q, d1, d2, d3⟩ := d e
  exact ⟨q, d1, gr_LV_mono d2 h3 h4, gr_Fn_mono d3 h1 h2⟩
theorem gr_VX_mono {lb lb' : Nat → Int32} {cc cc' g : Nat} {co : Int32} {w : Nat → Int32} (h : gr_VX lb cc g co w) (h1 : cc ≤ cc') (h2 : ∀ j, j < 9 * cc → lb' j = lb j) : gr_VX lb' cc' g co w := by
  intro e
  obtain ⟨c, a1, a2, a3⟩ := h e
  exact ⟨c, a1, by omega, fun k k1 k2 => (h2 _ (by omega)).trans (a3 k k1 k2)⟩
-- frames
abbrev gr_Q : Type := (Nat → Int32) × Int32 × Nat × Nat × Nat
section
variable (K O ty ip : Nat → Int32) (G : Nat → List Int32) (lb : Nat → Int32) (cc nb : Nat) (eT : Nat → List Int32) (nc : Nat) (cm : Nat → Nat) (nl : Nat) (lw : Nat → Nat → Int32)
def gr_FC (n ph val lay : Int32) (Q Q' : gr_Q) : Prop :=
  (∃ m, n = nI m ∧ m < 48 ∧ ip m = 1 ∧ K m = 8 ∧ ph = 0 ∧ Q.2.1 = ty m ∧ Q' = (gc_sq (gr_sv O ty 8 m 1) Q.1, ty (gr_ch O 8 m 0), Q.2.2.1 + 1, Q.2.2.2.1, Q.2.2.2.2)) ∨
  (∃ m j, n = nI m ∧ m < 48 ∧ ip m = 1 ∧ K m = 6 ∧ (1 ≤ j ∧ j ≤ 2) ∧ ph = nI j ∧ Q.2.1 = ty m ∧ Q' = (gc_sq (gr_sv O ty 6 m (j + 1)) Q.1, ty (gr_ch O 6 m j), Q.2.2.1 + 1, Q.2.2.2.1, Q.2.2.2.2)) ∨
  (∃ q w V, (n = -1 ∨ ∃ m, n = nI m ∧ m < 48 ∧ K m = 4) ∧ ph = 2 ∧ val = nI q ∧ gr_LV nl lw lay w ∧ gr_Fn O nc cm q w V ∧ gc_T V ∧ Q.2.1 = gc_tc V ∧
    Q' = (gc_sq (gc_sq (gr_sv O ty 3 (cm q) 1) (gc_ev w)) Q.1, ty (gr_ch O 3 (cm q) 0), Q.2.2.1 + 1, Q.2.2.2.1, Q.2.2.2.2))
def gr_FR (n env ph val lay xn xs xe xd xc : Int32) (Q Q' : gr_Q) : Prop :=
  ∃ m, n = nI m ∧ xn = nI m ∧ m < 48 ∧ ip m = 1 ∧ gr_Env nb eT xe env (G m) ∧ Q.2.1 = ty m ∧ xs = ph ∧
  ((K m = 6 ∧ ph = 0 ∧ Q' = (gr_sv O ty 6 m 1, ty (gr_ch O 6 m 0), Q.2.2.1 + 2, Q.2.2.2.1, Q.2.2.2.2 + 2)) ∨
   (K m = 7 ∧ ph = 0 ∧ Q' = (gc_zv, ty (gr_ch O 7 m 0), Q.2.2.1 + 1, Q.2.2.2.1 + 2, Q.2.2.2.2 + 1)) ∨
   (K m = 5 ∧ ph = 0 ∧ Q' = (gr_sv O ty 5 m 1, ty (gr_ch O 5 m 0), Q.2.2.1 + 2, Q.2.2.2.1, Q.2.2.2.2 + 2)) ∨
   (K m = 5 ∧ ph = 1 ∧ xd = val ∧ Q' = (gr_sv O ty 5 m 2, ty (gr_ch O 5 m 1), Q.2.2.1 + 1, Q.2.2.2.1, Q.2.2.2.2 + 1)) ∨
   (K m = 4 ∧ ph = 0 ∧ Q' = (gr_sv O ty 4 m 1, ty (gr_ch O 4 m 0), Q.2.2.1 + 3, Q.2.2.2.1 + 2, Q.2.2.2.2 + 5)) ∨
   (K m = 4 ∧ ph = 1 ∧ (∃ q w, val = nI q ∧ xd = nI q ∧ gr_LV nl lw lay w ∧ gr_VX lb cc 3 xc w ∧ gr_Fn O nc cm q w (gc_fn (ty (gr_ch O 4 m 0)))) ∧ Q' = (gr_sv O ty 4 m 2, ty (gr_ch O 4 m 1), Q.2.2.1 + 2, Q.2.2.2.1 + 2, Q.2.2.2.2 + 4)))
def gr_Stk (rT : Int32) (fN fE fP fV fL xN xS xE xP xD xC : Nat → Int32) : Nat → Nat → gr_Q → Prop
  | 0 => fun t Q => t = 0 ∧ Q = (gc_zv, rT, 0, 0, 0)
  | d + 1 => fun t Q => ∃ Q0, (gr_FC K O ty ip nc cm nl lw (fN d) (fP d) (fV d) (fL d) Q0 Q ∧ gr_Stk rT fN fE fP fV fL xN xS xE xP xD xC d t Q0) ∨
      (∃ t', t = t' + 1 ∧ gr_FR K O ty ip G lb cc nb eT nc cm nl lw (fN d) (fE d) (fP d) (fV d) (fL d) (xN t) (xS t) (xE t) (xD t) (xC t) Q0 Q ∧
        (∃ P, xP t' = nI P ∧ P < cc ∧ gc_ap (gc_row lb P) Q0.1) ∧ gr_Stk rT fN fE fP fV fL xN xS xE xP xD xC d t' Q0)
end
section
variable {K O ty ip : Nat → Int32} {G : Nat → List Int32} {lb : Nat → Int32} {cc nb : Nat} {eT : Nat → List Int32} {nc : Nat} {cm : Nat → Nat} {nl : Nat} {lw : Nat → Nat → Int32}
variable {lb' : Nat → Int32} {cc' nb' : Nat} {eT' : Nat → List Int32} {nc' : Nat} {cm' : Nat → Nat} {nl' : Nat} {lw' : Nat → Nat → Int32}
theorem gr_FC_mono {n ph val lay : Int32} {Q Q' : gr_Q} (g : gr_Gr lb cc nb eT nc cm nl lw lb' cc' nb' eT' nc' cm' nl' lw') (h : gr_FC K O ty ip nc cm nl lw n ph val lay Q Q') : gr_FC K O ty ip nc' cm' nl' lw' n ph val lay Q Q' := by
  obtain ⟨_, _, ⟨g1, g2⟩, ⟨g3, g4⟩⟩ := g
  rcases h with h | h | ⟨q, w, V, h1, h2, h3, h4, h5, hT, h6, h7⟩
  · exact Or.inl h
  · exact Or.inr (Or.inl h)
  · refine Or.inr (Or.inr ⟨q, w, V, h1, h2, h3, gr_LV_mono h4 g3 g4, gr_Fn_mono h5 g1 g2, hT, h6, ?_⟩)
    rw [g2 q h5.1]
    exact h7
theorem gr_FR_mono {n env ph val lay xn xs xe xd xc : Int32} {Q Q' : gr_Q} (g : gr_Gr lb cc nb eT nc cm nl lw lb' cc' nb' eT' nc' cm' nl' lw')
    (h : gr_FR K O ty ip G lb cc nb eT nc cm nl lw n env ph val lay xn xs xe xd xc Q Q') : gr_FR K O ty ip G lb' cc' nb' eT' nc' cm' nl' lw' n env ph val lay xn xs xe xd xc Q Q' := by
  obtain ⟨⟨ga, gb⟩, ⟨gc, gd⟩, ⟨g1, g2⟩, ⟨g3, g4⟩⟩ := g
  obtain ⟨m, a1, a2, a3, a4, a5, a6, a7, h⟩ := h
  refine ⟨m, a1, a2, a3, a4, gr_Env_mono a5 gc gd, a6, a7, ?_⟩
  rcases h with h | h | h | h | h | ⟨h1, h2, ⟨q, w, b1, b2, b3, b4, b5⟩, h3⟩
  · exact Or.inl h
  · exact Or.inr (Or.inl h)
  · exact Or.inr (Or.inr (Or.inl h))
  · exact Or.inr (Or.inr (Or.inr (Or.inl h)))
  · exact Or.inr (Or.inr (Or.inr (Or.inr (Or.inl h))))
  · exact Or.inr (Or.inr (Or.inr (Or.inr (Or.inr ⟨h1, h2, ⟨q, w, b1, b2, gr_LV_mono b3 g3 g4, gr_VX_mono b4 ga gb, gr_Fn_mono b5 g1 g2⟩, h3⟩))))
theorem gr_Stk_mono {rT : Int32} {fN fE fP fV fL xN xS xE xP xD xC fN' fE' fP' fV' fL' xN' xS' xE' xP' xD' xC' : Nat → Int32} (g : gr_Gr lb cc nb eT nc cm nl lw lb' cc' nb' eT' nc' cm' nl' lw') :
    ∀ (d t : Nat) (Q : gr_Q), gr_Stk K O ty ip G lb cc nb eT nc cm nl lw rT fN fE fP fV fL xN xS xE xP xD xC d t Q →
    (∀ f, f < d → fN' f = fN f ∧ fE' f = fE f ∧ fP' f = fP f ∧ fV' f = fV f ∧ fL' f = fL f) →
    (∀ j, j ≤ t → xN' j = xN j ∧ xS' j = xS j ∧ xE' j = xE j ∧ xD' j = xD j ∧ xC' j = xC j) → (∀ j, j < t → xP' j = xP j) →
    gr_Stk K O ty ip G lb' cc' nb' eT' nc' cm' nl' lw' rT fN' fE' fP' fV' fL' xN' xS' xE' xP' xD' xC' d t Q := by
  intro d
  induction d with
  | zero => intro t Q h _ _ _; exact h
  | succ d ih =>
    intro t Q h hf hx hp
    obtain ⟨Q0, h⟩ := h
    obtain ⟨e1, e2, e3, e4, e5⟩ := hf d (by omega)
    rcases h with ⟨h1, h2⟩ | ⟨t', h1, h2, ⟨P, p1, p2, p3⟩, h4⟩
    · refine ⟨Q0, Or.inl ⟨?_, ih t Q0 h2 (fun f hf' => hf f (by omega)) hx hp⟩⟩
      rw [e1, e3, e4, e5]
      exact gr_FC_mono g h1
    · obtain ⟨x1, x2, x3, x4, x5⟩ := hx t (Nat.le_refl _)
      refine ⟨Q0, Or.inr ⟨t', h1, ?_, ⟨P, (hp t' (by omega)).trans p1, by have := g.1.1; omega, ?_⟩, ih t' Q0 h4 (fun f hf' => hf f (by omega)) (fun j hj => hx j (by omega)) (fun j hj => hp j (by omega))⟩⟩
      · rw [e1, e2, e3, e4, e5, x1, x2, x3, x4, x5]
        exact gr_FR_mono g h2
      · exact gc_ap_tr (gc_ap_of (fun k hk => g.1.2 _ (by omega))) p3
theorem gr_Stk_le {rT : Int32} {fN fE fP fV fL xN xS xE xP xD xC : Nat → Int32} : ∀ (d t : Nat) (Q : gr_Q), gr_Stk K O ty ip G lb cc nb eT nc cm nl lw rT fN fE fP fV fL xN xS xE xP xD xC d t Q → t ≤ d := by
  intro d
  induction d with
  | zero => intro t Q h; exact Nat.le_of_eq h.1
  | succ d ih =>
    intro t Q h
    obtain ⟨Q0, ⟨_, h2⟩ | ⟨t', h1, _, _, h4⟩⟩ := h
    · have := ih t Q0 h2; omega
    · have := ih t' Q0 h4; omega
end
end
section
section
variable {f_maxNodes f_maxFuel f_nodeCount f_outcome f_programRoot f_faultKind f_faultNode f_walkTop f_contextDepth f_coercionCount f_compiledCount f_cellCount f_closureCount f_top f_running f_atNode f_atEnv f_valueTag f_valueData f_valueCoercion f_typeOfResult f_fuelSpent f_blamedLabel : Int32} {a_kinds a_operands a_hasParent a_inProgram a_nodeType a_siteTargets a_siteCoercions a_walkNode a_walkStep a_contextType a_labels a_draft a_cellNext a_cellTag a_cellData a_cellCoercion a_closureNode a_closureEnv a_frameNode a_frameStage a_frameEnv a_framePending a_frameData a_frameCoercion : Nat → Int32}
theorem gx_fetch_l {post : SX → Prop} {i : Nat} (hi : i < 100) (cell : Nat → Nat) (hc : ∀ j, j ≤ i → cell j < 260) (hn : ∀ j, j < i → a_cellNext (cell j) = nI (cell (j + 1)))
    (H : post (f_maxNodes, f_maxFuel, f_nodeCount, f_outcome, f_programRoot, f_faultKind, f_faultNode, f_walkTop, f_contextDepth, f_coercionCount, f_compiledCount, f_cellCount, f_closureCount, f_top, f_running, -1, f_atEnv, a_cellTag (cell i), a_cellData (cell i), a_cellCoercion (cell i), f_typeOfResult, f_fuelSpent, f_blamedLabel, a_kinds, a_operands, a_hasParent, a_inProgram, a_nodeType, a_siteTargets, a_siteCoercions, a_walkNode, a_walkStep, a_contextType, a_labels, a_draft, a_cellNext, a_cellTag, a_cellData, a_cellCoercion, a_closureNode, a_closureEnv, a_frameNode, a_frameStage, a_frameEnv, a_framePending, a_frameData, a_frameCoercion)) :
    ∀ m j, j + m = i → ∀ n, m < n → wX_fetch_7 post (nI i) f_maxNodes f_maxFuel f_nodeCount f_outcome f_programRoot f_faultKind f_faultNode f_walkTop f_contextDepth f_coercionCount f_compiledCount f_cellCount f_closureCount f_top f_running f_atNode f_atEnv f_valueTag f_valueData f_valueCoercion f_typeOfResult f_fuelSpent f_blamedLabel a_kinds a_operands a_hasParent a_inProgram a_nodeType a_siteTargets a_siteCoercions a_walkNode a_walkStep a_contextType a_labels a_draft a_cellNext a_cellTag a_cellData a_cellCoercion a_closureNode a_closureEnv a_frameNode a_frameStage a_frameEnv a_framePending a_frameData a_frameCoercion n (nI (cell j)) (nI j) := by
  intro m
  induction m with
  | zero =>
    intro j hj n hn
    obtain ⟨n, rfl⟩ : ∃ q, n = q + 1 := ⟨n - 1, by omega⟩
    have e : j = i := by omega
    subst e
    have hin : vp_in (nI (cell j)) 260 := gc_in (hc j (by omega)) (by decide)
    have hlt := hc j (by omega)
    refine pk_le j j (fun _ => ⟨hin, hin, hin, ?_⟩) (fun h => by omega)
    rw [gc_cl (by omega)]
    exact H
  | succ m ih =>
    intro j hj n hn'
    obtain ⟨n, rfl⟩ : ∃ q, n = q + 1 := ⟨n - 1, by omega⟩
    have hlt := hc j (by omega)
    refine pk_le i j (fun h => by omega) (fun _ => ⟨gc_in hlt (by decide), nm_r (e' := nI (cell (j + 1))) (by rw [gc_cl (by omega)]; exact hn j (by omega)) (nm_r (nI_1 j) (ih (j + 1) (by omega) n (by omega)))⟩)
theorem gx_fetch {post : SX → Prop} {i : Nat} (hi : i < 100) (cell : Nat → Nat) (hc : ∀ j, j ≤ i → cell j < 260) (hn : ∀ j, j < i → a_cellNext (cell j) = nI (cell (j + 1))) (h0 : f_atEnv = nI (cell 0))
    (H : post (f_maxNodes, f_maxFuel, f_nodeCount, f_outcome, f_programRoot, f_faultKind, f_faultNode, f_walkTop, f_contextDepth, f_coercionCount, f_compiledCount, f_cellCount, f_closureCount, f_top, f_running, -1, f_atEnv, a_cellTag (cell i), a_cellData (cell i), a_cellCoercion (cell i), f_typeOfResult, f_fuelSpent, f_blamedLabel, a_kinds, a_operands, a_hasParent, a_inProgram, a_nodeType, a_siteTargets, a_siteCoercions, a_walkNode, a_walkStep, a_contextType, a_labels, a_draft, a_cellNext, a_cellTag, a_cellData, a_cellCoercion, a_closureNode, a_closureEnv, a_frameNode, a_frameStage, a_frameEnv, a_framePending, a_frameData, a_frameCoercion)) :
    wpX_fetch post (f_maxNodes, f_maxFuel, f_nodeCount, f_outcome, f_programRoot, f_faultKind, f_faultNode, f_walkTop, f_contextDepth, f_coercionCount, f_compiledCount, f_cellCount, f_closureCount, f_top, f_running, f_atNode, f_atEnv, f_valueTag, f_valueData, f_valueCoercion, f_typeOfResult, f_fuelSpent, f_blamedLabel, a_kinds, a_operands, a_hasParent, a_inProgram, a_nodeType, a_siteTargets, a_siteCoercions, a_walkNode, a_walkStep, a_contextType, a_labels, a_draft, a_cellNext, a_cellTag, a_cellData, a_cellCoercion, a_closureNode, a_closureEnv, a_frameNode, a_frameStage, a_frameEnv, a_framePending, a_frameData, a_frameCoercion) (nI i) := by
  subst h0
  exact ⟨i + 1, gx_fetch_l hi cell hc hn H i 0 (by omega) (i + 1) (by omega)⟩
theorem gx_visit_lo {post : SX → Prop} {a : Nat} {k : Int32} (ha : a < 48) (hK : a_kinds a = k) (hk : k < 3) (H : wX_visit_44 post (nI a) k f_maxNodes f_maxFuel f_nodeCount f_outcome f_programRoot f_faultKind f_faultNode f_walkTop f_contextDepth f_coercionCount f_compiledCount f_cellCount f_closureCount f_top f_running (nI a) f_atEnv f_valueTag f_valueData f_valueCoercion f_typeOfResult f_fuelSpent f_blamedLabel a_kinds a_operands a_hasParent a_inProgram a_nodeType a_siteTargets a_siteCoercions a_walkNode a_walkStep a_contextType a_labels a_draft a_cellNext a_cellTag a_cellData a_cellCoercion a_closureNode a_closureEnv a_frameNode a_frameStage a_frameEnv a_framePending a_frameData a_frameCoercion) : wpX_visit post (f_maxNodes, f_maxFuel, f_nodeCount, f_outcome, f_programRoot, f_faultKind, f_faultNode, f_walkTop, f_contextDepth, f_coercionCount, f_compiledCount, f_cellCount, f_closureCount, f_top, f_running, nI a, f_atEnv, f_valueTag, f_valueData, f_valueCoercion, f_typeOfResult, f_fuelSpent, f_blamedLabel, a_kinds, a_operands, a_hasParent, a_inProgram, a_nodeType, a_siteTargets, a_siteCoercions, a_walkNode, a_walkStep, a_contextType, a_labels, a_draft, a_cellNext, a_cellTag, a_cellData, a_cellCoercion, a_closureNode, a_closureEnv, a_frameNode, a_frameStage, a_frameEnv, a_framePending, a_frameData, a_frameCoercion) :=
  ⟨gc_in ha (by decide), nm_r (e' := k) (by rw [gc_cl (by omega)]; exact hK) (br_t hk H)⟩
theorem gx_visit_hi {post : SX → Prop} {a sp mf : Nat} {k : Int32} (ha : a < 48) (hK : a_kinds a = k) (hk : ¬ k < 3) (hs : sp < mf) (hm : mf ≤ 128) (H : wX_visit_44 post (nI a) k f_maxNodes (nI mf) f_nodeCount f_outcome f_programRoot f_faultKind f_faultNode f_walkTop f_contextDepth f_coercionCount f_compiledCount f_cellCount f_closureCount f_top f_running (nI a) f_atEnv f_valueTag f_valueData f_valueCoercion f_typeOfResult (nI (sp + 1)) f_blamedLabel a_kinds a_operands a_hasParent a_inProgram a_nodeType a_siteTargets a_siteCoercions a_walkNode a_walkStep a_contextType a_labels a_draft a_cellNext a_cellTag a_cellData a_cellCoercion a_closureNode a_closureEnv a_frameNode a_frameStage a_frameEnv a_framePending a_frameData a_frameCoercion) : wpX_visit post (f_maxNodes, nI mf, f_nodeCount, f_outcome, f_programRoot, f_faultKind, f_faultNode, f_walkTop, f_contextDepth, f_coercionCount, f_compiledCount, f_cellCount, f_closureCount, f_top, f_running, nI a, f_atEnv, f_valueTag, f_valueData, f_valueCoercion, f_typeOfResult, nI sp, f_blamedLabel, a_kinds, a_operands, a_hasParent, a_inProgram, a_nodeType, a_siteTargets, a_siteCoercions, a_walkNode, a_walkStep, a_contextType, a_labels, a_draft, a_cellNext, a_cellTag, a_cellData, a_cellCoercion, a_closureNode, a_closureEnv, a_frameNode, a_frameStage, a_frameEnv, a_framePending, a_frameData, a_frameCoercion) :=
  ⟨gc_in ha (by decide), nm_r (e' := k) (by rw [gc_cl (by omega)]; exact hK) (br_f hk (pk_lt sp mf (fun _ => nm_r (nI_1 sp) H) (fun h => by omega)))⟩
theorem gx_visit_oof {post : SX → Prop} {a sp mf : Nat} {k : Int32} (ha : a < 48) (hK : a_kinds a = k) (hk : ¬ k < 3) (hs : sp = mf) (hm : mf ≤ 128) (H : post (f_maxNodes, nI mf, f_nodeCount, 5, f_programRoot, f_faultKind, f_faultNode, f_walkTop, f_contextDepth, f_coercionCount, f_compiledCount, f_cellCount, f_closureCount, f_top, 0, nI a, f_atEnv, f_valueTag, f_valueData, f_valueCoercion, f_typeOfResult, nI sp, f_blamedLabel, a_kinds, a_operands, a_hasParent, a_inProgram, a_nodeType, a_siteTargets, a_siteCoercions, a_walkNode, a_walkStep, a_contextType, a_labels, a_draft, a_cellNext, a_cellTag, a_cellData, a_cellCoercion, a_closureNode, a_closureEnv, a_frameNode, a_frameStage, a_frameEnv, a_framePending, a_frameData, a_frameCoercion)) : wpX_visit post (f_maxNodes, nI mf, f_nodeCount, f_outcome, f_programRoot, f_faultKind, f_faultNode, f_walkTop, f_contextDepth, f_coercionCount, f_compiledCount, f_cellCount, f_closureCount, f_top, f_running, nI a, f_atEnv, f_valueTag, f_valueData, f_valueCoercion, f_typeOfResult, nI sp, f_blamedLabel, a_kinds, a_operands, a_hasParent, a_inProgram, a_nodeType, a_siteTargets, a_siteCoercions, a_walkNode, a_walkStep, a_contextType, a_labels, a_draft, a_cellNext, a_cellTag, a_cellData, a_cellCoercion, a_closureNode, a_closureEnv, a_frameNode, a_frameStage, a_frameEnv, a_framePending, a_frameData, a_frameCoercion) :=
  ⟨gc_in ha (by decide), nm_r (e' := k) (by rw [gc_cl (by omega)]; exact hK) (br_f hk (pk_lt sp mf (fun h => by omega) (fun _ => H)))⟩
theorem gx_visit_lit {post : SX → Prop} {a κ : Nat} (ha : a < 48) (hκ : κ = 0 ∨ κ = 1) (hK : a_kinds a = nI κ)
    (H : post (f_maxNodes, f_maxFuel, f_nodeCount, f_outcome, f_programRoot, f_faultKind, f_faultNode, f_walkTop, f_contextDepth, f_coercionCount, f_compiledCount, f_cellCount, f_closureCount, f_top, f_running, -1, f_atEnv, nI (κ + 1), a_operands (3 * a), 0, f_typeOfResult, f_fuelSpent, f_blamedLabel, a_kinds, a_operands, a_hasParent, a_inProgram, a_nodeType, a_siteTargets, a_siteCoercions, a_walkNode, a_walkStep, a_contextType, a_labels, a_draft, a_cellNext, a_cellTag, a_cellData, a_cellCoercion, a_closureNode, a_closureEnv, a_frameNode, a_frameStage, a_frameEnv, a_framePending, a_frameData, a_frameCoercion)) : wpX_visit post (f_maxNodes, f_maxFuel, f_nodeCount, f_outcome, f_programRoot, f_faultKind, f_faultNode, f_walkTop, f_contextDepth, f_coercionCount, f_compiledCount, f_cellCount, f_closureCount, f_top, f_running, nI a, f_atEnv, f_valueTag, f_valueData, f_valueCoercion, f_typeOfResult, f_fuelSpent, f_blamedLabel, a_kinds, a_operands, a_hasParent, a_inProgram, a_nodeType, a_siteTargets, a_siteCoercions, a_walkNode, a_walkStep, a_contextType, a_labels, a_draft, a_cellNext, a_cellTag, a_cellData, a_cellCoercion, a_closureNode, a_closureEnv, a_frameNode, a_frameStage, a_frameEnv, a_framePending, a_frameData, a_frameCoercion) := by
  have e : 3 * nI a = nI (3 * a) := gc_3 a
  have hi : vp_in (3 * nI a) 144 := by rw [e]; exact gc_in (by omega) (by decide)
  have e2 : a_operands (3 * nI a).toNatClampNeg = a_operands (3 * a) := by rw [e, gc_cl (by omega)]
  rcases hκ with rfl | rfl
  · refine gx_visit_lo (k := 0) ha hK (by decide) (br_f (by decide) (br_f (by decide) (br_t rfl ⟨hi, ?_⟩)))
    rw [e2]; exact H
  · refine gx_visit_lo (k := 1) ha hK (by decide) (br_f (by decide) (br_f (by decide) (br_f (by decide) (br_t rfl ⟨hi, ?_⟩))))
    rw [e2]; exact H
theorem gx_visit_var {post : SX → Prop} {a i : Nat} (ha : a < 48) (hK : a_kinds a = 2) (hO : a_operands (3 * a) = nI i)
    (hi : i < 100) (cell : Nat → Nat) (hc : ∀ j, j ≤ i → cell j < 260) (hn : ∀ j, j < i → a_cellNext (cell j) = nI (cell (j + 1))) (h0 : f_atEnv = nI (cell 0))
    (H : post (f_maxNodes, f_maxFuel, f_nodeCount, f_outcome, f_programRoot, f_faultKind, f_faultNode, f_walkTop, f_contextDepth, f_coercionCount, f_compiledCount, f_cellCount, f_closureCount, f_top, f_running, -1, f_atEnv, a_cellTag (cell i), a_cellData (cell i), a_cellCoercion (cell i), f_typeOfResult, f_fuelSpent, f_blamedLabel, a_kinds, a_operands, a_hasParent, a_inProgram, a_nodeType, a_siteTargets, a_siteCoercions, a_walkNode, a_walkStep, a_contextType, a_labels, a_draft, a_cellNext, a_cellTag, a_cellData, a_cellCoercion, a_closureNode, a_closureEnv, a_frameNode, a_frameStage, a_frameEnv, a_framePending, a_frameData, a_frameCoercion)) : wpX_visit post (f_maxNodes, f_maxFuel, f_nodeCount, f_outcome, f_programRoot, f_faultKind, f_faultNode, f_walkTop, f_contextDepth, f_coercionCount, f_compiledCount, f_cellCount, f_closureCount, f_top, f_running, nI a, f_atEnv, f_valueTag, f_valueData, f_valueCoercion, f_typeOfResult, f_fuelSpent, f_blamedLabel, a_kinds, a_operands, a_hasParent, a_inProgram, a_nodeType, a_siteTargets, a_siteCoercions, a_walkNode, a_walkStep, a_contextType, a_labels, a_draft, a_cellNext, a_cellTag, a_cellData, a_cellCoercion, a_closureNode, a_closureEnv, a_frameNode, a_frameStage, a_frameEnv, a_framePending, a_frameData, a_frameCoercion) := by
  have e : 3 * nI a = nI (3 * a) := gc_3 a
  have hin : vp_in (3 * nI a) 144 := by rw [e]; exact gc_in (by omega) (by decide)
  have e2 : a_operands (3 * nI a).toNatClampNeg = nI i := by rw [e, gc_cl (by omega)]; exact hO
  refine gx_visit_lo (k := 2) ha hK (by decide) (br_f (by decide) (br_f (by decide) (br_f (by decide) (br_f (by decide) (br_t rfl ⟨hin, ?_⟩)))))
  rw [e2]
  exact gx_fetch hi cell hc hn h0 H
theorem gx_visit_fun {post : SX → Prop} {a sp mf q : Nat} (ha : a < 48) (hK : a_kinds a = 3) (hs : sp < mf) (hm : mf ≤ 128) (hq : q < 132)
    (H : post (f_maxNodes, nI mf, f_nodeCount, f_outcome, f_programRoot, f_faultKind, f_faultNode, f_walkTop, f_contextDepth, f_coercionCount, f_compiledCount, f_cellCount, nI (q + 1), f_top, f_running, -1, f_atEnv, 3, nI q, 0, f_typeOfResult, nI (sp + 1), f_blamedLabel, a_kinds, a_operands, a_hasParent, a_inProgram, a_nodeType, a_siteTargets, a_siteCoercions, a_walkNode, a_walkStep, a_contextType, a_labels, a_draft, a_cellNext, a_cellTag, a_cellData, a_cellCoercion, upd a_closureNode q (nI a), upd a_closureEnv q f_atEnv, a_frameNode, a_frameStage, a_frameEnv, a_framePending, a_frameData, a_frameCoercion)) :
    wpX_visit post (f_maxNodes, nI mf, f_nodeCount, f_outcome, f_programRoot, f_faultKind, f_faultNode, f_walkTop, f_contextDepth, f_coercionCount, f_compiledCount, f_cellCount, nI q, f_top, f_running, nI a, f_atEnv, f_valueTag, f_valueData, f_valueCoercion, f_typeOfResult, nI sp, f_blamedLabel, a_kinds, a_operands, a_hasParent, a_inProgram, a_nodeType, a_siteTargets, a_siteCoercions, a_walkNode, a_walkStep, a_contextType, a_labels, a_draft, a_cellNext, a_cellTag, a_cellData, a_cellCoercion, a_closureNode, a_closureEnv, a_frameNode, a_frameStage, a_frameEnv, a_framePending, a_frameData, a_frameCoercion) := by
  refine gx_visit_hi (k := 3) ha hK (by decide) hs hm (br_f (by decide) (br_f (by decide) (br_f (by decide) (br_f (by decide) (br_f (by decide) (br_t rfl ?_))))))
  exact gx_close hq H
theorem gx_visit_push {post : SX → Prop} {a sp mf t κ : Nat} (ha : a < 48) (hκ : κ = 4 ∨ κ = 5 ∨ κ = 6 ∨ κ = 7) (hK : a_kinds a = nI κ) (hs : sp < mf) (hm : mf ≤ 128) (ht : t + 1 < 132)
    (H : post (f_maxNodes, nI mf, f_nodeCount, f_outcome, f_programRoot, f_faultKind, f_faultNode, f_walkTop, f_contextDepth, f_coercionCount, f_compiledCount, f_cellCount, f_closureCount, nI (t + 1), f_running, a_operands (3 * a + gc_pc κ), f_atEnv, f_valueTag, f_valueData, f_valueCoercion, f_typeOfResult, nI (sp + 1), f_blamedLabel, a_kinds, a_operands, a_hasParent, a_inProgram, a_nodeType, a_siteTargets, a_siteCoercions, a_walkNode, a_walkStep, a_contextType, a_labels, a_draft, a_cellNext, a_cellTag, a_cellData, a_cellCoercion, a_closureNode, a_closureEnv, upd a_frameNode (t + 1) (nI a), upd a_frameStage (t + 1) 0, upd a_frameEnv (t + 1) f_atEnv, upd a_framePending (t + 1) (if κ = 7 then 0 else a_siteCoercions (3 * a)), a_frameData, a_frameCoercion)) :
    wpX_visit post (f_maxNodes, nI mf, f_nodeCount, f_outcome, f_programRoot, f_faultKind, f_faultNode, f_walkTop, f_contextDepth, f_coercionCount, f_compiledCount, f_cellCount, f_closureCount, nI t, f_running, nI a, f_atEnv, f_valueTag, f_valueData, f_valueCoercion, f_typeOfResult, nI sp, f_blamedLabel, a_kinds, a_operands, a_hasParent, a_inProgram, a_nodeType, a_siteTargets, a_siteCoercions, a_walkNode, a_walkStep, a_contextType, a_labels, a_draft, a_cellNext, a_cellTag, a_cellData, a_cellCoercion, a_closureNode, a_closureEnv, a_frameNode, a_frameStage, a_frameEnv, a_framePending, a_frameData, a_frameCoercion) := by
  have e : 3 * nI a = nI (3 * a) := gc_3 a
  have e1 : 3 * nI a + 1 = nI (3 * a + 1) := by rw [e, nI_1]
  have hin : vp_in (3 * nI a) 144 := by rw [e]; exact gc_in (by omega) (by decide)
  have hin1 : vp_in (3 * nI a + 1) 144 := by rw [e1]; exact gc_in (by omega) (by decide)
  have es : a_siteCoercions (3 * nI a).toNatClampNeg = a_siteCoercions (3 * a) := by rw [e, gc_cl (by omega)]
  have eo : a_operands (3 * nI a).toNatClampNeg = a_operands (3 * a) := by rw [e, gc_cl (by omega)]
  have eo1 : a_operands (3 * nI a + 1).toNatClampNeg = a_operands (3 * a + 1) := by rw [e1, gc_cl (by omega)]
  rcases hκ with rfl | rfl | rfl | rfl
  · refine gx_visit_hi (k := 4) ha hK (by decide) hs hm (br_f (by decide) (br_f (by decide) (br_f (by decide) (br_f (by decide) (br_f (by decide) (br_f (by decide) (br_t rfl ⟨hin, ?_⟩)))))))
    rw [es]
    exact gx_push ht ⟨hin, nm_r eo H⟩
  · refine gx_visit_hi (k := 5) ha hK (by decide) hs hm (br_f (by decide) (br_f (by decide) (br_f (by decide) (br_f (by decide) (br_f (by decide) (br_f (by decide) (br_f (by decide) (br_t rfl ⟨hin, ?_⟩))))))))
    rw [es]
    exact gx_push ht ⟨hin1, nm_r eo1 H⟩
  · refine gx_visit_hi (k := 6) ha hK (by decide) hs hm (br_f (by decide) (br_f (by decide) (br_f (by decide) (br_f (by decide) (br_f (by decide) (br_f (by decide) (br_f (by decide) (br_f (by decide) (br_t rfl ⟨hin, ?_⟩)))))))))
    rw [es]
    exact gx_push ht ⟨hin, nm_r eo H⟩
  · refine gx_visit_hi (k := 7) ha hK (by decide) hs hm (br_f (by decide) (br_f (by decide) (br_f (by decide) (br_f (by decide) (br_f (by decide) (br_f (by decide) (br_f (by decide) (br_f (by decide) (br_f (by decide) (br_t rfl ?_))))))))))
    exact gx_push ht ⟨hin, nm_r eo H⟩
theorem gx_visit_as {post : SX → Prop} {a sp mf t cc s b : Nat} (ha : a < 48) (hK : a_kinds a = 8) (hs : sp < mf) (hm : mf ≤ 128) (ht : t < 132)
    (hcc : cc < 800) (hsc : a_siteCoercions (3 * a) = nI s) (hsl : s < cc) (hb : b < cc) (hz : ∀ k, k < 9 → a_labels k = 0) (hp : a_framePending t = nI b)
    (H : ∀ (id : Nat) (lb' : Nat → Int32) (cc' : Nat) (dr' : Nat → Int32), gc_Ext 1 a_labels cc lb' cc' → id < cc' → gc_ap (gc_row lb' id) (gc_sq (gc_row a_labels s) (gc_row a_labels b)) →
      post (f_maxNodes, nI mf, f_nodeCount, f_outcome, f_programRoot, f_faultKind, f_faultNode, f_walkTop, f_contextDepth, nI cc', f_compiledCount, f_cellCount, f_closureCount, nI t, f_running, a_operands (3 * a + 1), f_atEnv, f_valueTag, f_valueData, f_valueCoercion, f_typeOfResult, nI (sp + 1), f_blamedLabel, a_kinds, a_operands, a_hasParent, a_inProgram, a_nodeType, a_siteTargets, a_siteCoercions, a_walkNode, a_walkStep, a_contextType, lb', dr', a_cellNext, a_cellTag, a_cellData, a_cellCoercion, a_closureNode, a_closureEnv, a_frameNode, a_frameStage, a_frameEnv, upd a_framePending t (nI id), a_frameData, a_frameCoercion)) :
    wpX_visit post (f_maxNodes, nI mf, f_nodeCount, f_outcome, f_programRoot, f_faultKind, f_faultNode, f_walkTop, f_contextDepth, nI cc, f_compiledCount, f_cellCount, f_closureCount, nI t, f_running, nI a, f_atEnv, f_valueTag, f_valueData, f_valueCoercion, f_typeOfResult, nI sp, f_blamedLabel, a_kinds, a_operands, a_hasParent, a_inProgram, a_nodeType, a_siteTargets, a_siteCoercions, a_walkNode, a_walkStep, a_contextType, a_labels, a_draft, a_cellNext, a_cellTag, a_cellData, a_cellCoercion, a_closureNode, a_closureEnv, a_frameNode, a_frameStage, a_frameEnv, a_framePending, a_frameData, a_frameCoercion) := by
  have e : 3 * nI a = nI (3 * a) := gc_3 a
  have e1 : 3 * nI a + 1 = nI (3 * a + 1) := by rw [e, nI_1]
  have hin : vp_in (3 * nI a) 144 := by rw [e]; exact gc_in (by omega) (by decide)
  have hin1 : vp_in (3 * nI a + 1) 144 := by rw [e1]; exact gc_in (by omega) (by decide)
  have es : a_siteCoercions (3 * nI a).toNatClampNeg = nI s := by rw [e, gc_cl (by omega)]; exact hsc
  have eo1 : a_operands (3 * nI a + 1).toNatClampNeg = a_operands (3 * a + 1) := by rw [e1, gc_cl (by omega)]
  refine gx_visit_hi (k := 8) ha hK (by decide) hs hm (br_f (by decide) (br_f (by decide) (br_f (by decide) (br_f (by decide) (br_f (by decide) (br_f (by decide) (br_f (by decide) (br_f (by decide) (br_f (by decide) (br_f (by decide) (br_t rfl ⟨hin, ?_⟩)))))))))))
  rw [es]
  exact gx_delay hcc hsl hb ht hz hp (fun id lb' cc' dr' h1 h2 h3 => ⟨hin1, nm_r eo1 (H id lb' cc' dr' h1 h2 h3)⟩)
end
end
section
section
variable {f_maxNodes f_maxFuel f_nodeCount f_outcome f_programRoot f_faultKind f_faultNode f_walkTop f_contextDepth f_coercionCount f_compiledCount f_cellCount f_closureCount f_top f_running f_atNode f_atEnv f_valueTag f_valueData f_valueCoercion f_typeOfResult f_fuelSpent f_blamedLabel : Int32} {a_kinds a_operands a_hasParent a_inProgram a_nodeType a_siteTargets a_siteCoercions a_walkNode a_walkStep a_contextType a_labels a_draft a_cellNext a_cellTag a_cellData a_cellCoercion a_closureNode a_closureEnv a_frameNode a_frameStage a_frameEnv a_framePending a_frameData a_frameCoercion : Nat → Int32}
theorem gx_pass2 {post : Int32 → SX → Prop} {cc P g c : Nat} (hcc : cc < 800) (hP : P < cc) (hg : 1 ≤ g ∧ g ≤ 3) (hz : ∀ k, k < 9 → a_labels k = 0) (hv : g = 3 → f_valueCoercion = nI c ∧ c < cc)
    (H0 : ¬ gc_row a_labels P (g - 1) = 0 → post 0 (f_maxNodes, f_maxFuel, f_nodeCount, 4, f_programRoot, f_faultKind, f_faultNode, f_walkTop, f_contextDepth, nI cc, f_compiledCount, f_cellCount, f_closureCount, f_top, 0, f_atNode, f_atEnv, nI g, f_valueData, f_valueCoercion, f_typeOfResult, f_fuelSpent, gc_row a_labels P (g - 1), a_kinds, a_operands, a_hasParent, a_inProgram, a_nodeType, a_siteTargets, a_siteCoercions, a_walkNode, a_walkStep, a_contextType, a_labels, a_draft, a_cellNext, a_cellTag, a_cellData, a_cellCoercion, a_closureNode, a_closureEnv, a_frameNode, a_frameStage, a_frameEnv, a_framePending, a_frameData, a_frameCoercion))
    (H : gc_row a_labels P (g - 1) = 0 → ∀ (vc : Int32) (lb' : Nat → Int32) (cc' : Nat) (dr' : Nat → Int32), gc_Ext 1 a_labels cc lb' cc' → (g = 3 → ∃ id, vc = nI id ∧ id < cc' ∧ ∀ k, 3 ≤ k → k < 9 → gc_row lb' id k = gc_sq (gc_row a_labels c) (gc_row a_labels P) k) → post 1 (f_maxNodes, f_maxFuel, f_nodeCount, f_outcome, f_programRoot, f_faultKind, f_faultNode, f_walkTop, f_contextDepth, nI cc', f_compiledCount, f_cellCount, f_closureCount, f_top, f_running, f_atNode, f_atEnv, nI g, f_valueData, vc, f_typeOfResult, f_fuelSpent, f_blamedLabel, a_kinds, a_operands, a_hasParent, a_inProgram, a_nodeType, a_siteTargets, a_siteCoercions, a_walkNode, a_walkStep, a_contextType, lb', dr', a_cellNext, a_cellTag, a_cellData, a_cellCoercion, a_closureNode, a_closureEnv, a_frameNode, a_frameStage, a_frameEnv, a_framePending, a_frameData, a_frameCoercion)) :
    wpX_pass post (f_maxNodes, f_maxFuel, f_nodeCount, f_outcome, f_programRoot, f_faultKind, f_faultNode, f_walkTop, f_contextDepth, nI cc, f_compiledCount, f_cellCount, f_closureCount, f_top, f_running, f_atNode, f_atEnv, nI g, f_valueData, f_valueCoercion, f_typeOfResult, f_fuelSpent, f_blamedLabel, a_kinds, a_operands, a_hasParent, a_inProgram, a_nodeType, a_siteTargets, a_siteCoercions, a_walkNode, a_walkStep, a_contextType, a_labels, a_draft, a_cellNext, a_cellTag, a_cellData, a_cellCoercion, a_closureNode, a_closureEnv, a_frameNode, a_frameStage, a_frameEnv, a_framePending, a_frameData, a_frameCoercion) (nI P) := by
  refine gx_pass hcc hP hg hz hv H0 (fun z n3 => H z f_valueCoercion a_labels cc a_draft (gc_Ext_rfl _ _ _) (fun e => absurd e n3)) (fun z e3 id lb' cc' dr' h1 h2 h3 => H z (nI id) lb' cc' dr' h1 (fun _ => ⟨id, rfl, h2, h3⟩))
theorem gx_resume_blame {post : SX → Prop} {t : Nat} {cc P g c : Nat} (hcc : cc < 800) (hP : P < cc) (hg : 1 ≤ g ∧ g ≤ 3) (hz : ∀ k, k < 9 → a_labels k = 0) (hv : g = 3 → f_valueCoercion = nI c ∧ c < cc) (ht : t < 132) (hPt : a_framePending t = nI P) (hb : ¬ gc_row a_labels P (g - 1) = 0)
    (H0 : post (f_maxNodes, f_maxFuel, f_nodeCount, 4, f_programRoot, f_faultKind, f_faultNode, f_walkTop, f_contextDepth, nI cc, f_compiledCount, f_cellCount, f_closureCount, nI t, 0, f_atNode, f_atEnv, nI g, f_valueData, f_valueCoercion, f_typeOfResult, f_fuelSpent, gc_row a_labels P (g - 1), a_kinds, a_operands, a_hasParent, a_inProgram, a_nodeType, a_siteTargets, a_siteCoercions, a_walkNode, a_walkStep, a_contextType, a_labels, a_draft, a_cellNext, a_cellTag, a_cellData, a_cellCoercion, a_closureNode, a_closureEnv, a_frameNode, a_frameStage, a_frameEnv, a_framePending, a_frameData, a_frameCoercion)) :
    wpX_resume post (f_maxNodes, f_maxFuel, f_nodeCount, f_outcome, f_programRoot, f_faultKind, f_faultNode, f_walkTop, f_contextDepth, nI cc, f_compiledCount, f_cellCount, f_closureCount, nI t, f_running, f_atNode, f_atEnv, nI g, f_valueData, f_valueCoercion, f_typeOfResult, f_fuelSpent, f_blamedLabel, a_kinds, a_operands, a_hasParent, a_inProgram, a_nodeType, a_siteTargets, a_siteCoercions, a_walkNode, a_walkStep, a_contextType, a_labels, a_draft, a_cellNext, a_cellTag, a_cellData, a_cellCoercion, a_closureNode, a_closureEnv, a_frameNode, a_frameStage, a_frameEnv, a_framePending, a_frameData, a_frameCoercion) := by
  have e : a_framePending (nI t).toNatClampNeg = nI P := by rw [gc_cl (by omega)]; exact hPt
  refine ⟨gc_in ht (by decide), ?_⟩
  rw [e]
  exact gx_pass2 hcc hP hg hz hv (fun _ => br_t rfl H0) (fun z => absurd z hb)
theorem gx_resume_done {post : SX → Prop} {t : Nat} {cc P g c : Nat} (hcc : cc < 800) (hP : P < cc) (hg : 1 ≤ g ∧ g ≤ 3) (hz : ∀ k, k < 9 → a_labels k = 0) (hv : g = 3 → f_valueCoercion = nI c ∧ c < cc) (ht : t < 132) (hPt : a_framePending t = nI P) (hN : a_frameNode t = -1) (h0 : gc_row a_labels P (g - 1) = 0)
    (H : ∀ (vc : Int32) (lb' : Nat → Int32) (cc' : Nat) (dr' : Nat → Int32), gc_Ext 1 a_labels cc lb' cc' → (g = 3 → ∃ id, vc = nI id ∧ id < cc' ∧ ∀ k, 3 ≤ k → k < 9 → gc_row lb' id k = gc_sq (gc_row a_labels c) (gc_row a_labels P) k) → post (f_maxNodes, f_maxFuel, f_nodeCount, 3, f_programRoot, f_faultKind, f_faultNode, f_walkTop, f_contextDepth, nI cc', f_compiledCount, f_cellCount, f_closureCount, nI t, 0, f_atNode, f_atEnv, nI g, f_valueData, vc, f_typeOfResult, f_fuelSpent, f_blamedLabel, a_kinds, a_operands, a_hasParent, a_inProgram, a_nodeType, a_siteTargets, a_siteCoercions, a_walkNode, a_walkStep, a_contextType, lb', dr', a_cellNext, a_cellTag, a_cellData, a_cellCoercion, a_closureNode, a_closureEnv, a_frameNode, a_frameStage, a_frameEnv, a_framePending, a_frameData, a_frameCoercion)) :
    wpX_resume post (f_maxNodes, f_maxFuel, f_nodeCount, f_outcome, f_programRoot, f_faultKind, f_faultNode, f_walkTop, f_contextDepth, nI cc, f_compiledCount, f_cellCount, f_closureCount, nI t, f_running, f_atNode, f_atEnv, nI g, f_valueData, f_valueCoercion, f_typeOfResult, f_fuelSpent, f_blamedLabel, a_kinds, a_operands, a_hasParent, a_inProgram, a_nodeType, a_siteTargets, a_siteCoercions, a_walkNode, a_walkStep, a_contextType, a_labels, a_draft, a_cellNext, a_cellTag, a_cellData, a_cellCoercion, a_closureNode, a_closureEnv, a_frameNode, a_frameStage, a_frameEnv, a_framePending, a_frameData, a_frameCoercion) := by
  have e : a_framePending (nI t).toNatClampNeg = nI P := by rw [gc_cl (by omega)]; exact hPt
  have hi : vp_in (nI t) 132 := gc_in ht (by decide)
  refine ⟨hi, ?_⟩
  rw [e]
  refine gx_pass2 hcc hP hg hz hv (fun z => absurd h0 z) (fun _ vc lb' cc' dr' x1 x2 => br_f (by decide) ⟨hi, nm_r (e' := -1) (by rw [gc_cl (by omega)]; exact hN) (br_f (by decide) ?_)⟩)
  exact H vc lb' cc' dr' x1 x2
theorem gx_resume_let {post : SX → Prop} {t : Nat} {cc P g c : Nat} (hcc : cc < 800) (hP : P < cc) (hg : 1 ≤ g ∧ g ≤ 3) (hz : ∀ k, k < 9 → a_labels k = 0) (hv : g = 3 → f_valueCoercion = nI c ∧ c < cc) (ht : t < 132) (hPt : a_framePending t = nI P) {m ce : Nat} (hN : a_frameNode t = nI m) (hm : m < 48) (hK : a_kinds m = 7) (hce : ce < 260) (ht1 : 1 ≤ t) (h0 : gc_row a_labels P (g - 1) = 0)
    (H : ∀ (vc : Int32) (lb' : Nat → Int32) (cc' : Nat) (dr' : Nat → Int32), gc_Ext 1 a_labels cc lb' cc' → (g = 3 → ∃ id, vc = nI id ∧ id < cc' ∧ ∀ k, 3 ≤ k → k < 9 → gc_row lb' id k = gc_sq (gc_row a_labels c) (gc_row a_labels P) k) → post (f_maxNodes, f_maxFuel, f_nodeCount, f_outcome, f_programRoot, f_faultKind, f_faultNode, f_walkTop, f_contextDepth, nI cc', f_compiledCount, nI (ce + 1), f_closureCount, nI (t - 1), f_running, a_operands (3 * m + 1), nI ce, nI g, f_valueData, vc, f_typeOfResult, f_fuelSpent, f_blamedLabel, a_kinds, a_operands, a_hasParent, a_inProgram, a_nodeType, a_siteTargets, a_siteCoercions, a_walkNode, a_walkStep, a_contextType, lb', dr', upd a_cellNext ce (a_frameEnv t), upd a_cellTag ce (nI g), upd a_cellData ce f_valueData, upd a_cellCoercion ce vc, a_closureNode, a_closureEnv, a_frameNode, a_frameStage, a_frameEnv, a_framePending, a_frameData, a_frameCoercion)) :
    wpX_resume post (f_maxNodes, f_maxFuel, f_nodeCount, f_outcome, f_programRoot, f_faultKind, f_faultNode, f_walkTop, f_contextDepth, nI cc, f_compiledCount, nI ce, f_closureCount, nI t, f_running, f_atNode, f_atEnv, nI g, f_valueData, f_valueCoercion, f_typeOfResult, f_fuelSpent, f_blamedLabel, a_kinds, a_operands, a_hasParent, a_inProgram, a_nodeType, a_siteTargets, a_siteCoercions, a_walkNode, a_walkStep, a_contextType, a_labels, a_draft, a_cellNext, a_cellTag, a_cellData, a_cellCoercion, a_closureNode, a_closureEnv, a_frameNode, a_frameStage, a_frameEnv, a_framePending, a_frameData, a_frameCoercion) := by
  have e : a_framePending (nI t).toNatClampNeg = nI P := by rw [gc_cl (by omega)]; exact hPt
  have hi : vp_in (nI t) 132 := gc_in ht (by decide)
  have e1 : 3 * nI m + 1 = nI (3 * m + 1) := by rw [gc_3, nI_1]
  refine ⟨hi, ?_⟩
  rw [e]
  refine gx_pass2 hcc hP hg hz hv (fun z => absurd h0 z) (fun _ vc lb' cc' dr' x1 x2 => br_f (by decide) ⟨hi, nm_r (e' := nI m) (by rw [gc_cl (by omega)]; exact hN) (br_t (gc_pos m (by omega)) ⟨gc_in hm (by decide), nm_r (e' := 7) (by rw [gc_cl (by omega)]; exact hK) (br_f (by decide) (br_t (by decide) ⟨hi, ?_⟩))⟩)⟩)
  refine gx_bind hce (nm_r (gc_s1 ht1) ⟨by rw [e1]; exact gc_in (by omega) (by decide), nm_r (e' := a_operands (3 * m + 1)) (by rw [e1, gc_cl (by omega)]) ?_⟩)
  have ee : a_frameEnv (nI t).toNatClampNeg = a_frameEnv t := by rw [gc_cl (by omega)]
  rw [ee]
  exact H vc lb' cc' dr' x1 x2
theorem gx_resume_two {post : SX → Prop} {t : Nat} {cc P g c : Nat} (hcc : cc < 800) (hP : P < cc) (hg : 1 ≤ g ∧ g ≤ 3) (hz : ∀ k, k < 9 → a_labels k = 0) (hv : g = 3 → f_valueCoercion = nI c ∧ c < cc) (ht : t < 132) (hPt : a_framePending t = nI P) {m κ : Nat} (hκ : κ = 4 ∨ κ = 5) (hN : a_frameNode t = nI m) (hm : m < 48) (hK : a_kinds m = nI κ) (hS : a_frameStage t = 0) (h0 : gc_row a_labels P (g - 1) = 0)
    (H : ∀ (vc : Int32) (lb' : Nat → Int32) (cc' : Nat) (dr' : Nat → Int32), gc_Ext 1 a_labels cc lb' cc' → (g = 3 → ∃ id, vc = nI id ∧ id < cc' ∧ ∀ k, 3 ≤ k → k < 9 → gc_row lb' id k = gc_sq (gc_row a_labels c) (gc_row a_labels P) k) → post (f_maxNodes, f_maxFuel, f_nodeCount, f_outcome, f_programRoot, f_faultKind, f_faultNode, f_walkTop, f_contextDepth, nI cc', f_compiledCount, f_cellCount, f_closureCount, nI t, f_running, a_operands (3 * m + gc_pc κ + 1), a_frameEnv t, nI g, f_valueData, vc, f_typeOfResult, f_fuelSpent, f_blamedLabel, a_kinds, a_operands, a_hasParent, a_inProgram, a_nodeType, a_siteTargets, a_siteCoercions, a_walkNode, a_walkStep, a_contextType, lb', dr', a_cellNext, a_cellTag, a_cellData, a_cellCoercion, a_closureNode, a_closureEnv, a_frameNode, upd a_frameStage t 1, a_frameEnv, upd a_framePending t (a_siteCoercions (3 * m + 1)), upd a_frameData t f_valueData, upd a_frameCoercion t vc)) :
    wpX_resume post (f_maxNodes, f_maxFuel, f_nodeCount, f_outcome, f_programRoot, f_faultKind, f_faultNode, f_walkTop, f_contextDepth, nI cc, f_compiledCount, f_cellCount, f_closureCount, nI t, f_running, f_atNode, f_atEnv, nI g, f_valueData, f_valueCoercion, f_typeOfResult, f_fuelSpent, f_blamedLabel, a_kinds, a_operands, a_hasParent, a_inProgram, a_nodeType, a_siteTargets, a_siteCoercions, a_walkNode, a_walkStep, a_contextType, a_labels, a_draft, a_cellNext, a_cellTag, a_cellData, a_cellCoercion, a_closureNode, a_closureEnv, a_frameNode, a_frameStage, a_frameEnv, a_framePending, a_frameData, a_frameCoercion) := by
  have e : a_framePending (nI t).toNatClampNeg = nI P := by rw [gc_cl (by omega)]; exact hPt
  have hi : vp_in (nI t) 132 := gc_in ht (by decide)
  have e1 : 3 * nI m + 1 = nI (3 * m + 1) := by rw [gc_3, nI_1]
  have e2 : 3 * nI m + 2 = nI (3 * m + 2) := by rw [gc_3, gc_p2]
  have eS : a_frameStage (nI t).toNatClampNeg = 0 := by rw [gc_cl (by omega)]; exact hS
  have o1 : a_operands (3 * nI m + 1).toNatClampNeg = a_operands (3 * m + 1) := by rw [e1, gc_cl (by omega)]
  have o2 : a_operands (3 * nI m + 2).toNatClampNeg = a_operands (3 * m + 2) := by rw [e2, gc_cl (by omega)]
  refine ⟨hi, ?_⟩
  rw [e]
  refine gx_pass2 hcc hP hg hz hv (fun z => absurd h0 z) (fun _ vc lb' cc' dr' x1 x2 => br_f (by decide) ⟨hi, nm_r (e' := nI m) (by rw [gc_cl (by omega)]; exact hN) (br_t (gc_pos m (by omega)) ⟨gc_in hm (by decide), ?_⟩)⟩)
  rcases hκ with rfl | rfl
  · refine nm_r (e' := 4) (by rw [gc_cl (by omega)]; exact hK) (br_f (by decide) (br_f (by decide) (br_t rfl ⟨hi, br_t eS ⟨by rw [e1]; exact gc_in (by omega) (by decide), ?_⟩⟩)))
    rw [o1]
    exact gx_await ht hm (H vc lb' cc' dr' x1 x2)
  · refine nm_r (e' := 5) (by rw [gc_cl (by omega)]; exact hK) (br_f (by decide) (br_f (by decide) (br_f (by decide) (br_t rfl ⟨hi, br_t eS ⟨by rw [e2]; exact gc_in (by omega) (by decide), ?_⟩⟩))))
    rw [o2]
    exact gx_await ht hm (H vc lb' cc' dr' x1 x2)
theorem gx_resume_app1 {post : SX → Prop} {t : Nat} {cc P g c : Nat} (hcc : cc < 800) (hP : P < cc) (hg : 1 ≤ g ∧ g ≤ 3) (hz : ∀ k, k < 9 → a_labels k = 0) (hv : g = 3 → f_valueCoercion = nI c ∧ c < cc) (ht : t < 132) (hPt : a_framePending t = nI P) {m q : Nat} {fc : Int32} (hN : a_frameNode t = nI m) (hm : m < 48) (hK : a_kinds m = 4) (hS : a_frameStage t = 1) (hD : a_frameData t = nI q) (hC : a_frameCoercion t = fc) (ht1 : 1 ≤ t) (h0 : gc_row a_labels P (g - 1) = 0)
    (H : ∀ (vc : Int32) (lb' : Nat → Int32) (cc' : Nat) (dr' : Nat → Int32), gc_Ext 1 a_labels cc lb' cc' → (g = 3 → ∃ id, vc = nI id ∧ id < cc' ∧ ∀ k, 3 ≤ k → k < 9 → gc_row lb' id k = gc_sq (gc_row a_labels c) (gc_row a_labels P) k) → wpX_enter post (f_maxNodes, f_maxFuel, f_nodeCount, f_outcome, f_programRoot, f_faultKind, f_faultNode, f_walkTop, f_contextDepth, nI cc', f_compiledCount, f_cellCount, f_closureCount, nI (t - 1), f_running, f_atNode, f_atEnv, nI g, f_valueData, vc, f_typeOfResult, f_fuelSpent, f_blamedLabel, a_kinds, a_operands, a_hasParent, a_inProgram, a_nodeType, a_siteTargets, a_siteCoercions, a_walkNode, a_walkStep, a_contextType, lb', dr', a_cellNext, a_cellTag, a_cellData, a_cellCoercion, a_closureNode, a_closureEnv, a_frameNode, a_frameStage, a_frameEnv, a_framePending, a_frameData, a_frameCoercion) (nI q) fc) :
    wpX_resume post (f_maxNodes, f_maxFuel, f_nodeCount, f_outcome, f_programRoot, f_faultKind, f_faultNode, f_walkTop, f_contextDepth, nI cc, f_compiledCount, f_cellCount, f_closureCount, nI t, f_running, f_atNode, f_atEnv, nI g, f_valueData, f_valueCoercion, f_typeOfResult, f_fuelSpent, f_blamedLabel, a_kinds, a_operands, a_hasParent, a_inProgram, a_nodeType, a_siteTargets, a_siteCoercions, a_walkNode, a_walkStep, a_contextType, a_labels, a_draft, a_cellNext, a_cellTag, a_cellData, a_cellCoercion, a_closureNode, a_closureEnv, a_frameNode, a_frameStage, a_frameEnv, a_framePending, a_frameData, a_frameCoercion) := by
  have e : a_framePending (nI t).toNatClampNeg = nI P := by rw [gc_cl (by omega)]; exact hPt
  have hi : vp_in (nI t) 132 := gc_in ht (by decide)
  have eS : ¬ a_frameStage (nI t).toNatClampNeg = 0 := by rw [gc_cl (by omega), hS]; decide
  refine ⟨hi, ?_⟩
  rw [e]
  refine gx_pass2 hcc hP hg hz hv (fun z => absurd h0 z) (fun _ vc lb' cc' dr' x1 x2 => br_f (by decide) ⟨hi, nm_r (e' := nI m) (by rw [gc_cl (by omega)]; exact hN) (br_t (gc_pos m (by omega)) ⟨gc_in hm (by decide), ?_⟩)⟩)
  refine nm_r (e' := 4) (by rw [gc_cl (by omega)]; exact hK) (br_f (by decide) (br_f (by decide) (br_t rfl ⟨hi, br_f eS ⟨hi, ?_⟩⟩)))
  refine nm_r (e' := nI q) (by rw [gc_cl (by omega)]; exact hD) ⟨hi, nm_r (e' := fc) (by rw [gc_cl (by omega)]; exact hC) (nm_r (gc_s1 ht1) ?_)⟩
  exact H vc lb' cc' dr' x1 x2
def gc_op (op : Nat) (x y : Int32) : Int32 := if op = 0 then x + y else if op = 1 then x - y else if op = 2 then x * y else if op = 3 then (if y ≤ x then 0 else 1) else (if x = y then 1 else 0)
theorem gx_resume_prim1 {post : SX → Prop} {t : Nat} {cc P g c : Nat} (hcc : cc < 800) (hP : P < cc) (hg : 1 ≤ g ∧ g ≤ 3) (hz : ∀ k, k < 9 → a_labels k = 0) (hv : g = 3 → f_valueCoercion = nI c ∧ c < cc) (ht : t < 132) (hPt : a_framePending t = nI P) {m op : Nat} (hop : op ≤ 4) (hO : a_operands (3 * m) = nI op) (hN : a_frameNode t = nI m) (hm : m < 48) (hK : a_kinds m = 5) (hS : a_frameStage t = 1) (ht1 : 1 ≤ t) (h0 : gc_row a_labels P (g - 1) = 0)
    (H : ∀ (lb' : Nat → Int32) (cc' : Nat) (dr' : Nat → Int32), gc_Ext 1 a_labels cc lb' cc' → post (f_maxNodes, f_maxFuel, f_nodeCount, f_outcome, f_programRoot, f_faultKind, f_faultNode, f_walkTop, f_contextDepth, nI cc', f_compiledCount, f_cellCount, f_closureCount, nI (t - 1), f_running, -1, f_atEnv, if op < 3 then 1 else 2, gc_op op (a_frameData t) f_valueData, 0, f_typeOfResult, f_fuelSpent, f_blamedLabel, a_kinds, a_operands, a_hasParent, a_inProgram, a_nodeType, a_siteTargets, a_siteCoercions, a_walkNode, a_walkStep, a_contextType, lb', dr', a_cellNext, a_cellTag, a_cellData, a_cellCoercion, a_closureNode, a_closureEnv, a_frameNode, a_frameStage, a_frameEnv, a_framePending, a_frameData, a_frameCoercion)) :
    wpX_resume post (f_maxNodes, f_maxFuel, f_nodeCount, f_outcome, f_programRoot, f_faultKind, f_faultNode, f_walkTop, f_contextDepth, nI cc, f_compiledCount, f_cellCount, f_closureCount, nI t, f_running, f_atNode, f_atEnv, nI g, f_valueData, f_valueCoercion, f_typeOfResult, f_fuelSpent, f_blamedLabel, a_kinds, a_operands, a_hasParent, a_inProgram, a_nodeType, a_siteTargets, a_siteCoercions, a_walkNode, a_walkStep, a_contextType, a_labels, a_draft, a_cellNext, a_cellTag, a_cellData, a_cellCoercion, a_closureNode, a_closureEnv, a_frameNode, a_frameStage, a_frameEnv, a_framePending, a_frameData, a_frameCoercion) := by
  have e : a_framePending (nI t).toNatClampNeg = nI P := by rw [gc_cl (by omega)]; exact hPt
  have hi : vp_in (nI t) 132 := gc_in ht (by decide)
  have eS : ¬ a_frameStage (nI t).toNatClampNeg = 0 := by rw [gc_cl (by omega), hS]; decide
  refine ⟨hi, ?_⟩
  rw [e]
  refine gx_pass2 hcc hP hg hz hv (fun z => absurd h0 z) (fun _ vc lb' cc' dr' x1 x2 => br_f (by decide) ⟨hi, nm_r (e' := nI m) (by rw [gc_cl (by omega)]; exact hN) (br_t (gc_pos m (by omega)) ⟨gc_in hm (by decide), ?_⟩)⟩)
  refine nm_r (e' := 5) (by rw [gc_cl (by omega)]; exact hK) (br_f (by decide) (br_f (by decide) (br_f (by decide) (br_t rfl ⟨hi, br_f eS ⟨hi, ?_⟩⟩))))
  refine nm_r (e' := a_frameData t) (by rw [gc_cl (by omega)]) (nm_r (gc_s1 ht1) ⟨by rw [gc_3]; exact gc_in (by omega) (by decide), ?_⟩)
  refine nm_r (e' := nI op) (by rw [gc_3, gc_cl (by omega)]; exact hO) ?_
  have H' := H lb' cc' dr' x1
  unfold gc_op at H'
  obtain rfl | rfl | rfl | rfl | rfl : op = 0 ∨ op = 1 ∨ op = 2 ∨ op = 3 ∨ op = 4 := by omega
  · exact br_f (by decide) (br_f (by decide) (br_t rfl H'))
  · exact br_f (by decide) (br_f (by decide) (br_f (by decide) (br_t rfl H')))
  · exact br_f (by decide) (br_f (by decide) (br_f (by decide) (br_f (by decide) (br_t rfl H'))))
  · refine br_f (by decide) (br_f (by decide) (br_f (by decide) (br_f (by decide) (br_f (by decide) (br_t rfl (br_c (fun z => ?_) (fun z => ?_)))))))
    · rw [if_neg (by decide), if_neg (by decide), if_neg (by decide), if_pos rfl, if_pos z] at H'
      exact H'
    · rw [if_neg (by decide), if_neg (by decide), if_neg (by decide), if_pos rfl, if_neg z] at H'
      exact H'
  · refine br_f (by decide) (br_t (by decide) (br_c (fun z => ?_) (fun z => ?_)))
    · rw [if_neg (by decide), if_neg (by decide), if_neg (by decide), if_neg (by decide), if_pos z] at H'
      exact H'
    · rw [if_neg (by decide), if_neg (by decide), if_neg (by decide), if_neg (by decide), if_neg z] at H'
      exact H'
theorem gx_resume_if {post : SX → Prop} {t : Nat} {cc P g c : Nat} (hcc : cc < 800) (hP : P < cc) (hg : 1 ≤ g ∧ g ≤ 3) (hz : ∀ k, k < 9 → a_labels k = 0) (hv : g = 3 → f_valueCoercion = nI c ∧ c < cc) (ht : t < 132) (hPt : a_framePending t = nI P) {m j s P2 : Nat} (hj : 1 ≤ j ∧ j ≤ 2) (hd : (f_valueData = 0 ∧ j = 2) ∨ (¬ f_valueData = 0 ∧ j = 1)) (hN : a_frameNode t = nI m) (hm : m < 48) (hK : a_kinds m = 6) (ht1 : 1 ≤ t) (h0 : gc_row a_labels P (g - 1) = 0)
    (hcc2 : cc + 2 ≤ 800) (hcc1 : 1 ≤ cc) (hs : a_siteCoercions (3 * m + j) = nI s) (hsc : s < cc) (hP2 : a_framePending (t - 1) = nI P2) (hP2c : P2 < cc)
    (H : ∀ (vc : Int32) (id : Nat) (lb' : Nat → Int32) (cc' : Nat) (dr' : Nat → Int32), gc_Ext 2 a_labels cc lb' cc' → id < cc' → gc_ap (gc_row lb' id) (gc_sq (gc_row a_labels s) (gc_row a_labels P2)) →
      post (f_maxNodes, f_maxFuel, f_nodeCount, f_outcome, f_programRoot, f_faultKind, f_faultNode, f_walkTop, f_contextDepth, nI cc', f_compiledCount, f_cellCount, f_closureCount, nI (t - 1), f_running, a_operands (3 * m + j), a_frameEnv t, nI g, f_valueData, vc, f_typeOfResult, f_fuelSpent, f_blamedLabel, a_kinds, a_operands, a_hasParent, a_inProgram, a_nodeType, a_siteTargets, a_siteCoercions, a_walkNode, a_walkStep, a_contextType, lb', dr', a_cellNext, a_cellTag, a_cellData, a_cellCoercion, a_closureNode, a_closureEnv, a_frameNode, a_frameStage, a_frameEnv, upd a_framePending (t - 1) (nI id), a_frameData, a_frameCoercion)) :
    wpX_resume post (f_maxNodes, f_maxFuel, f_nodeCount, f_outcome, f_programRoot, f_faultKind, f_faultNode, f_walkTop, f_contextDepth, nI cc, f_compiledCount, f_cellCount, f_closureCount, nI t, f_running, f_atNode, f_atEnv, nI g, f_valueData, f_valueCoercion, f_typeOfResult, f_fuelSpent, f_blamedLabel, a_kinds, a_operands, a_hasParent, a_inProgram, a_nodeType, a_siteTargets, a_siteCoercions, a_walkNode, a_walkStep, a_contextType, a_labels, a_draft, a_cellNext, a_cellTag, a_cellData, a_cellCoercion, a_closureNode, a_closureEnv, a_frameNode, a_frameStage, a_frameEnv, a_framePending, a_frameData, a_frameCoercion) := by
  have e : a_framePending (nI t).toNatClampNeg = nI P := by rw [gc_cl (by omega)]; exact hPt
  have hi : vp_in (nI t) 132 := gc_in ht (by decide)
  have ej : 3 * nI m + nI j = nI (3 * m + j) := by rw [gc_3, nI_add]
  have hij : vp_in (3 * nI m + nI j) 144 := by rw [ej]; exact gc_in (by omega) (by decide)
  have es : a_siteCoercions (3 * nI m + nI j).toNatClampNeg = nI s := by rw [ej, gc_cl (by omega)]; exact hs
  have eo : a_operands (3 * nI m + nI j).toNatClampNeg = a_operands (3 * m + j) := by rw [ej, gc_cl (by omega)]
  refine ⟨hi, ?_⟩
  rw [e]
  refine gx_pass2 hcc hP hg hz hv (fun z => absurd h0 z) (fun _ vc lb' cc' dr' x1 x2 => br_f (by decide) ⟨hi, nm_r (e' := nI m) (by rw [gc_cl (by omega)]; exact hN) (br_t (gc_pos m (by omega)) ⟨gc_in hm (by decide), ?_⟩)⟩)
  refine nm_r (e' := 6) (by rw [gc_cl (by omega)]; exact hK) (br_f (by decide) (br_f (by decide) (br_f (by decide) (br_f (by decide) (br_t rfl ?_)))))
  have C : wX_resumeConditional_12 post (nI m) (nI j) f_maxNodes f_maxFuel f_nodeCount f_outcome f_programRoot f_faultKind f_faultNode f_walkTop f_contextDepth (nI cc') f_compiledCount f_cellCount f_closureCount (nI t) f_running f_atNode f_atEnv (nI g) f_valueData vc f_typeOfResult f_fuelSpent f_blamedLabel a_kinds a_operands a_hasParent a_inProgram a_nodeType a_siteTargets a_siteCoercions a_walkNode a_walkStep a_contextType lb' dr' a_cellNext a_cellTag a_cellData a_cellCoercion a_closureNode a_closureEnv a_frameNode a_frameStage a_frameEnv a_framePending a_frameData a_frameCoercion := by
    refine ⟨hi, nm_r (e' := a_frameEnv t) (by rw [gc_cl (by omega)]) (nm_r (gc_s1 ht1) ⟨hij, ?_⟩)⟩
    rw [es]
    have y1 := x1.1
    have y2 := x1.2.1
    refine gx_delay (b := P2) (by omega) (by omega) (by omega) (by omega) (gc_Ext_z x1 hcc1 hz) hP2 (fun id lb2 cc2 dr2 w1 w2 w3 => ⟨hij, nm_r eo (H vc id lb2 cc2 dr2 (gc_Ext_tr x1 w1) w2 ?_)⟩)
    exact gc_ap_tr w3 (gc_ap_sq (gc_ap_of (fun k hk => gc_Ext_row x1 hsc hk)) (gc_ap_of (fun k hk => gc_Ext_row x1 hP2c hk)))
  rcases hd with ⟨h1, h2⟩ | ⟨h1, h2⟩
  · subst h2; exact br_t h1 C
  · subst h2; exact br_f h1 C
end
end
section
section
variable {g_capacity g_fuel g_count g_state g_wrongKind g_wrongNode g_program g_used g_blamed g_resType g_vTag g_vVal g_vLay g_todo g_todoEnv g_closures g_bindings g_layers g_depth : Int32} {b_kinds b_ops b_parent b_types b_cNode b_cEnv b_bTag b_bVal b_bLay b_bNext b_lSource b_lTarget b_lLabel b_lInner b_frNode b_frEnv b_frPhase b_frVal b_frLay : Nat → Int32}
theorem gy_visit_lit {post : SY → Prop} {a κ : Nat} (ha : a < 48) (hκ : κ = 0 ∨ κ = 1) (hK : b_kinds a = nI κ)
    (H : post (g_capacity, g_fuel, g_count, g_state, g_wrongKind, g_wrongNode, g_program, g_used, g_blamed, g_resType, nI (κ + 1), b_ops (3 * a), -1, -1, g_todoEnv, g_closures, g_bindings, g_layers, g_depth, b_kinds, b_ops, b_parent, b_types, b_cNode, b_cEnv, b_bTag, b_bVal, b_bLay, b_bNext, b_lSource, b_lTarget, b_lLabel, b_lInner, b_frNode, b_frEnv, b_frPhase, b_frVal, b_frLay)) : wpY_visit post (g_capacity, g_fuel, g_count, g_state, g_wrongKind, g_wrongNode, g_program, g_used, g_blamed, g_resType, g_vTag, g_vVal, g_vLay, nI a, g_todoEnv, g_closures, g_bindings, g_layers, g_depth, b_kinds, b_ops, b_parent, b_types, b_cNode, b_cEnv, b_bTag, b_bVal, b_bLay, b_bNext, b_lSource, b_lTarget, b_lLabel, b_lInner, b_frNode, b_frEnv, b_frPhase, b_frVal, b_frLay) := by
  have e : 3 * nI a = nI (3 * a) := gc_3 a
  have hin : vp_in (3 * nI a) 144 := by rw [e]; exact gc_in (by omega) (by decide)
  have eo : b_ops (3 * nI a).toNatClampNeg = b_ops (3 * a) := by rw [e, gc_cl (by omega)]
  refine ⟨gc_in ha (by decide), ?_⟩
  rcases hκ with rfl | rfl
  · refine nm_r (e' := 0) (by rw [gc_cl (by omega)]; exact hK) (br_t rfl (br_t rfl ⟨hin, ?_⟩))
    rw [eo]; exact H
  · refine nm_r (e' := 1) (by rw [gc_cl (by omega)]; exact hK) (br_f (by decide) (br_t rfl (br_f (by decide) ⟨hin, ?_⟩)))
    rw [eo]; exact H
theorem gy_visit_var_l {post : SY → Prop} {a i : Nat} (ha : a < 48) (hO : b_ops (3 * a) = nI i) (hi : i < 100) (bd : Nat → Nat) (hc : ∀ j, j ≤ i → bd j < 400) (hn : ∀ j, j < i → b_bNext (bd j) = nI (bd (j + 1)))
    (H : post (g_capacity, g_fuel, g_count, g_state, g_wrongKind, g_wrongNode, g_program, g_used, g_blamed, g_resType, b_bTag (bd i), b_bVal (bd i), b_bLay (bd i), g_todo, g_todoEnv, g_closures, g_bindings, g_layers, g_depth, b_kinds, b_ops, b_parent, b_types, b_cNode, b_cEnv, b_bTag, b_bVal, b_bLay, b_bNext, b_lSource, b_lTarget, b_lLabel, b_lInner, b_frNode, b_frEnv, b_frPhase, b_frVal, b_frLay)) :
    ∀ m j, j + m = i → ∀ n, m < n → wY_visit_64 post (nI a) g_capacity g_fuel g_count g_state g_wrongKind g_wrongNode g_program g_used g_blamed g_resType g_vTag g_vVal g_vLay g_todo g_todoEnv g_closures g_bindings g_layers g_depth b_kinds b_ops b_parent b_types b_cNode b_cEnv b_bTag b_bVal b_bLay b_bNext b_lSource b_lTarget b_lLabel b_lInner b_frNode b_frEnv b_frPhase b_frVal b_frLay n (nI (bd j)) (nI j) := by
  have e : 3 * nI a = nI (3 * a) := gc_3 a
  have hin : vp_in (3 * nI a) 144 := by rw [e]; exact gc_in (by omega) (by decide)
  have eo : b_ops (3 * nI a).toNatClampNeg = nI i := by rw [e, gc_cl (by omega)]; exact hO
  intro m
  induction m with
  | zero =>
    intro j hj n hn
    obtain ⟨n, rfl⟩ : ∃ q, n = q + 1 := ⟨n - 1, by omega⟩
    have ej : j = i := by omega
    subst ej
    have hlt := hc j (by omega)
    have hb : vp_in (nI (bd j)) 400 := gc_in hlt (by decide)
    refine ⟨hin, ?_⟩
    rw [eo]
    refine pk_le j j (fun _ => br_f (gc_nneg _ (by omega)) ⟨hb, hb, hb, ?_⟩) (fun h => by omega)
    rw [gc_cl (by omega)]
    exact H
  | succ m ih =>
    intro j hj n hn'
    obtain ⟨n, rfl⟩ : ∃ q, n = q + 1 := ⟨n - 1, by omega⟩
    have hlt := hc j (by omega)
    refine ⟨hin, ?_⟩
    rw [eo]
    refine pk_le i j (fun h => by omega) (fun _ => br_f (gc_nneg _ (by omega)) ⟨gc_in hlt (by decide), nm_r (e' := nI (bd (j + 1))) (by rw [gc_cl (by omega)]; exact hn j (by omega)) (nm_r (nI_1 j) (ih (j + 1) (by omega) n (by omega)))⟩)
theorem gy_visit_var {post : SY → Prop} {a i : Nat} (ha : a < 48) (hK : b_kinds a = 2) (hO : b_ops (3 * a) = nI i) (hi : i < 100) (bd : Nat → Nat) (hc : ∀ j, j ≤ i → bd j < 400) (hn : ∀ j, j < i → b_bNext (bd j) = nI (bd (j + 1))) (h0 : g_todoEnv = nI (bd 0))
    (H : post (g_capacity, g_fuel, g_count, g_state, g_wrongKind, g_wrongNode, g_program, g_used, g_blamed, g_resType, b_bTag (bd i), b_bVal (bd i), b_bLay (bd i), -1, g_todoEnv, g_closures, g_bindings, g_layers, g_depth, b_kinds, b_ops, b_parent, b_types, b_cNode, b_cEnv, b_bTag, b_bVal, b_bLay, b_bNext, b_lSource, b_lTarget, b_lLabel, b_lInner, b_frNode, b_frEnv, b_frPhase, b_frVal, b_frLay)) : wpY_visit post (g_capacity, g_fuel, g_count, g_state, g_wrongKind, g_wrongNode, g_program, g_used, g_blamed, g_resType, g_vTag, g_vVal, g_vLay, nI a, g_todoEnv, g_closures, g_bindings, g_layers, g_depth, b_kinds, b_ops, b_parent, b_types, b_cNode, b_cEnv, b_bTag, b_bVal, b_bLay, b_bNext, b_lSource, b_lTarget, b_lLabel, b_lInner, b_frNode, b_frEnv, b_frPhase, b_frVal, b_frLay) := by
  subst h0
  refine ⟨gc_in ha (by decide), nm_r (e' := 2) (by rw [gc_cl (by omega)]; exact hK) (br_f (by decide) (br_f (by decide) (br_t rfl ⟨i + 1, ?_⟩)))⟩
  exact gy_visit_var_l ha hO hi bd hc hn H i 0 (by omega) (i + 1) (by omega)
theorem gy_visit_oof {post : SY → Prop} {a κ sp mf : Nat} (ha : a < 48) (hκ : 3 ≤ κ ∧ κ ≤ 8) (hK : b_kinds a = nI κ) (hs : sp = mf)
    (H : post (g_capacity, nI mf, g_count, 5, g_wrongKind, g_wrongNode, g_program, nI sp, g_blamed, g_resType, g_vTag, g_vVal, g_vLay, -1, g_todoEnv, g_closures, g_bindings, g_layers, g_depth, b_kinds, b_ops, b_parent, b_types, b_cNode, b_cEnv, b_bTag, b_bVal, b_bLay, b_bNext, b_lSource, b_lTarget, b_lLabel, b_lInner, b_frNode, b_frEnv, b_frPhase, b_frVal, b_frLay)) : wpY_visit post (g_capacity, nI mf, g_count, g_state, g_wrongKind, g_wrongNode, g_program, nI sp, g_blamed, g_resType, g_vTag, g_vVal, g_vLay, nI a, g_todoEnv, g_closures, g_bindings, g_layers, g_depth, b_kinds, b_ops, b_parent, b_types, b_cNode, b_cEnv, b_bTag, b_bVal, b_bLay, b_bNext, b_lSource, b_lTarget, b_lLabel, b_lInner, b_frNode, b_frEnv, b_frPhase, b_frVal, b_frLay) := by
  subst hs
  exact ⟨gc_in ha (by decide), nm_r (e' := nI κ) (by rw [gc_cl (by omega)]; exact hK) (pk_eq κ 0 (fun h => by omega) (fun _ => pk_eq κ 1 (fun h => by omega) (fun _ => pk_eq κ 2 (fun h => by omega) (fun _ => br_t rfl H))))⟩
theorem gy_visit_fun {post : SY → Prop} {a sp mf q : Nat} (ha : a < 48) (hK : b_kinds a = 3) (hs : sp < mf) (hm : mf ≤ 128) (hq : q < 160)
    (H : post (g_capacity, nI mf, g_count, g_state, g_wrongKind, g_wrongNode, g_program, nI (sp + 1), g_blamed, g_resType, 3, nI q, -1, -1, g_todoEnv, nI (q + 1), g_bindings, g_layers, g_depth, b_kinds, b_ops, b_parent, b_types, upd b_cNode q (nI a), upd b_cEnv q g_todoEnv, b_bTag, b_bVal, b_bLay, b_bNext, b_lSource, b_lTarget, b_lLabel, b_lInner, b_frNode, b_frEnv, b_frPhase, b_frVal, b_frLay)) : wpY_visit post (g_capacity, nI mf, g_count, g_state, g_wrongKind, g_wrongNode, g_program, nI sp, g_blamed, g_resType, g_vTag, g_vVal, g_vLay, nI a, g_todoEnv, nI q, g_bindings, g_layers, g_depth, b_kinds, b_ops, b_parent, b_types, b_cNode, b_cEnv, b_bTag, b_bVal, b_bLay, b_bNext, b_lSource, b_lTarget, b_lLabel, b_lInner, b_frNode, b_frEnv, b_frPhase, b_frVal, b_frLay) := by
  have hi : vp_in (nI q) 160 := gc_in hq (by decide)
  refine ⟨gc_in ha (by decide), nm_r (e' := 3) (by rw [gc_cl (by omega)]; exact hK) (br_f (by decide) (br_f (by decide) (br_f (by decide) (pk_eq sp mf (fun h => by omega) (fun _ => nm_r (nI_1 sp) (br_t rfl ⟨hi, ?_⟩))))))⟩
  refine nm_r (e' := upd b_cNode q (nI a)) (by rw [gc_cl (by omega)]) ⟨hi, nm_r (e' := upd b_cEnv q g_todoEnv) (by rw [gc_cl (by omega)]) ?_⟩
  exact nm_r (nI_1 q) H
theorem gy_visit_push {post : SY → Prop} {a sp mf d κ : Nat} (ha : a < 48) (hκ : 4 ≤ κ ∧ κ ≤ 8) (hK : b_kinds a = nI κ) (hs : sp < mf) (hm : mf ≤ 128) (hd : d < 160)
    (H : post (g_capacity, nI mf, g_count, g_state, g_wrongKind, g_wrongNode, g_program, nI (sp + 1), g_blamed, g_resType, g_vTag, g_vVal, g_vLay, b_ops (3 * a + gc_pc κ), g_todoEnv, g_closures, g_bindings, g_layers, nI (d + 1), b_kinds, b_ops, b_parent, b_types, b_cNode, b_cEnv, b_bTag, b_bVal, b_bLay, b_bNext, b_lSource, b_lTarget, b_lLabel, b_lInner, upd b_frNode d (nI a), upd b_frEnv d g_todoEnv, upd b_frPhase d 0, b_frVal, b_frLay)) : wpY_visit post (g_capacity, nI mf, g_count, g_state, g_wrongKind, g_wrongNode, g_program, nI sp, g_blamed, g_resType, g_vTag, g_vVal, g_vLay, nI a, g_todoEnv, g_closures, g_bindings, g_layers, nI d, b_kinds, b_ops, b_parent, b_types, b_cNode, b_cEnv, b_bTag, b_bVal, b_bLay, b_bNext, b_lSource, b_lTarget, b_lLabel, b_lInner, b_frNode, b_frEnv, b_frPhase, b_frVal, b_frLay) := by
  have T := gc_tab hκ.2
  have hi : vp_in (nI d) 160 := gc_in hd (by decide)
  have e1 : 3 * nI a + 1 = nI (3 * a + 1) := by rw [gc_3, nI_1]
  have e0 : 3 * nI a + 0 = nI (3 * a) := by rw [gc_3, show (0 : Int32) = nI 0 from rfl, nI_add]; rfl
  have C1 : gc_pc κ = 1 → vp_in (3 * nI a + 1) 144 ∧ b_ops (3 * nI a + 1).toNatClampNeg = b_ops (3 * a + gc_pc κ) := by
    intro h
    rw [e1, h, gc_cl (by omega)]
    exact ⟨gc_in (by omega) (by decide), rfl⟩
  have C0 : gc_pc κ = 0 → vp_in (3 * nI a + 0) 144 ∧ b_ops (3 * nI a + 0).toNatClampNeg = b_ops (3 * a + gc_pc κ) := by
    intro h
    rw [e0, h, gc_cl (by omega)]
    exact ⟨gc_in (by omega) (by decide), rfl⟩
  refine ⟨gc_in ha (by decide), nm_r (e' := nI κ) (by rw [gc_cl (by omega)]; exact hK) (pk_eq κ 0 (fun h => by omega) (fun _ => pk_eq κ 1 (fun h => by omega) (fun _ => pk_eq κ 2 (fun h => by omega) (fun _ => pk_eq sp mf (fun h => by omega) (fun _ => nm_r (nI_1 sp) (pk_eq κ 3 (fun h => by omega) (fun _ => ⟨hi, ?_⟩)))))))⟩
  refine nm_r (e' := upd b_frNode d (nI a)) (by rw [gc_cl (by omega)]) ⟨hi, nm_r (e' := upd b_frEnv d g_todoEnv) (by rw [gc_cl (by omega)]) ⟨hi, nm_r (e' := upd b_frPhase d 0) (by rw [gc_cl (by omega)]) (nm_r (nI_1 d) ?_)⟩⟩
  exact pk_eq κ 5 (fun h => ⟨(C1 (by omega)).1, nm_r (C1 (by omega)).2 H⟩) (fun _ => pk_eq κ 8 (fun h => ⟨(C1 (by omega)).1, nm_r (C1 (by omega)).2 H⟩) (fun _ => ⟨(C0 (by omega)).1, nm_r (C0 (by omega)).2 H⟩))
end
end
section
section
variable {g_capacity g_fuel g_count g_state g_wrongKind g_wrongNode g_program g_used g_blamed g_resType g_vTag g_vVal g_vLay g_todo g_todoEnv g_closures g_bindings g_layers g_depth : Int32} {b_kinds b_ops b_parent b_types b_cNode b_cEnv b_bTag b_bVal b_bLay b_bNext b_lSource b_lTarget b_lLabel b_lInner b_frNode b_frEnv b_frPhase b_frVal b_frLay : Nat → Int32}
theorem gy_res {post : SY → Prop} {d m : Nat} {κ ph : Int32} (hd : d < 160) (hm : m < 48) (hN : b_frNode d = nI m) (hK : b_kinds m = κ) (hph : b_frPhase d = ph) (H : wY_resume_43 post (nI d) (nI m) (b_frEnv d) ph κ g_capacity g_fuel g_count g_state g_wrongKind g_wrongNode g_program g_used g_blamed g_resType g_vTag g_vVal g_vLay g_todo g_todoEnv g_closures g_bindings g_layers (nI (d + 1)) b_kinds b_ops b_parent b_types b_cNode b_cEnv b_bTag b_bVal b_bLay b_bNext b_lSource b_lTarget b_lLabel b_lInner b_frNode b_frEnv b_frPhase b_frVal b_frLay) : wpY_resume post (g_capacity, g_fuel, g_count, g_state, g_wrongKind, g_wrongNode, g_program, g_used, g_blamed, g_resType, g_vTag, g_vVal, g_vLay, g_todo, g_todoEnv, g_closures, g_bindings, g_layers, nI (d + 1), b_kinds, b_ops, b_parent, b_types, b_cNode, b_cEnv, b_bTag, b_bVal, b_bLay, b_bNext, b_lSource, b_lTarget, b_lLabel, b_lInner, b_frNode, b_frEnv, b_frPhase, b_frVal, b_frLay) := by
  have hi : vp_in (nI d) 160 := gc_in hd (by decide)
  have ed : nI (d + 1) - 1 = nI d := by rw [gc_s1 (by omega)]; rfl
  have eK : b_kinds (nI m).toNatClampNeg = κ := by rw [gc_cl (by omega)]; exact hK
  refine nm_r ed ⟨hi, nm_r (e' := nI m) (by rw [gc_cl (by omega)]; exact hN) ⟨hi, nm_r (e' := b_frEnv d) (by rw [gc_cl (by omega)]) ⟨hi, nm_r (e' := ph) (by rw [gc_cl (by omega)]; exact hph) (br_t (gc_pos m (by omega)) ⟨gc_in hm (by decide), ?_⟩)⟩⟩⟩
  rw [eK]
  exact H
theorem gy_res1 {post : SY → Prop} {d : Nat} {ph : Int32} (hd : d < 160) (hN : b_frNode d = -1) (hph : b_frPhase d = ph) (H : wY_resume_43 post (nI d) (-1) (b_frEnv d) ph 4 g_capacity g_fuel g_count g_state g_wrongKind g_wrongNode g_program g_used g_blamed g_resType g_vTag g_vVal g_vLay g_todo g_todoEnv g_closures g_bindings g_layers (nI (d + 1)) b_kinds b_ops b_parent b_types b_cNode b_cEnv b_bTag b_bVal b_bLay b_bNext b_lSource b_lTarget b_lLabel b_lInner b_frNode b_frEnv b_frPhase b_frVal b_frLay) : wpY_resume post (g_capacity, g_fuel, g_count, g_state, g_wrongKind, g_wrongNode, g_program, g_used, g_blamed, g_resType, g_vTag, g_vVal, g_vLay, g_todo, g_todoEnv, g_closures, g_bindings, g_layers, nI (d + 1), b_kinds, b_ops, b_parent, b_types, b_cNode, b_cEnv, b_bTag, b_bVal, b_bLay, b_bNext, b_lSource, b_lTarget, b_lLabel, b_lInner, b_frNode, b_frEnv, b_frPhase, b_frVal, b_frLay) := by
  have hi : vp_in (nI d) 160 := gc_in hd (by decide)
  have ed : nI (d + 1) - 1 = nI d := by rw [gc_s1 (by omega)]; rfl
  exact nm_r ed ⟨hi, nm_r (e' := -1) (by rw [gc_cl (by omega)]; exact hN) ⟨hi, nm_r (e' := b_frEnv d) (by rw [gc_cl (by omega)]) ⟨hi, nm_r (e' := ph) (by rw [gc_cl (by omega)]; exact hph) (br_f (by decide) H)⟩⟩⟩
theorem gy_resume_let {post : SY → Prop} {d m : Nat} (hd : d < 160) (hm : m < 48) (hN : b_frNode d = nI m) {nb : Nat} (hK : b_kinds m = 7) (hph : b_frPhase d = 0) (hnb : nb < 400)
    (H : post (g_capacity, g_fuel, g_count, g_state, g_wrongKind, g_wrongNode, g_program, g_used, g_blamed, g_resType, g_vTag, g_vVal, g_vLay, b_ops (3 * m + 1), nI nb, g_closures, nI (nb + 1), g_layers, nI d, b_kinds, b_ops, b_parent, b_types, b_cNode, b_cEnv, upd b_bTag nb g_vTag, upd b_bVal nb g_vVal, upd b_bLay nb g_vLay, upd b_bNext nb (b_frEnv d), b_lSource, b_lTarget, b_lLabel, b_lInner, b_frNode, b_frEnv, upd b_frPhase d 1, b_frVal, b_frLay)) :
    wpY_resume post (g_capacity, g_fuel, g_count, g_state, g_wrongKind, g_wrongNode, g_program, g_used, g_blamed, g_resType, g_vTag, g_vVal, g_vLay, g_todo, g_todoEnv, g_closures, nI nb, g_layers, nI (d + 1), b_kinds, b_ops, b_parent, b_types, b_cNode, b_cEnv, b_bTag, b_bVal, b_bLay, b_bNext, b_lSource, b_lTarget, b_lLabel, b_lInner, b_frNode, b_frEnv, b_frPhase, b_frVal, b_frLay) := by
  have hi : vp_in (nI d) 160 := gc_in hd (by decide)
  have e1 : 3 * nI m + 1 = nI (3 * m + 1) := by rw [gc_3, nI_1]
  refine gy_res hd hm hN hK hph ⟨hi, nm_r (e' := upd b_frPhase d 1) (by rw [gc_cl (by omega)]; rfl) (br_t rfl ?_)⟩
  exact gy_bind hnb ⟨by rw [e1]; exact gc_in (by omega) (by decide), nm_r (e' := b_ops (3 * m + 1)) (by rw [e1, gc_cl (by omega)]) H⟩
theorem gy_resume_as {post : SY → Prop} {d m : Nat} (hd : d < 160) (hm : m < 48) (hN : b_frNode d = nI m) {s1 b1 y1 l1 : Int32} {q1 q2 q3 q4 : Nat → Int32} (hK : b_kinds m = 8) (hph : b_frPhase d = 0)
    (C : ∀ post : SY → Prop, post (g_capacity, g_fuel, g_count, s1, g_wrongKind, g_wrongNode, g_program, g_used, b1, g_resType, g_vTag, g_vVal, y1, g_todo, g_todoEnv, g_closures, g_bindings, l1, nI (d + 1), b_kinds, b_ops, b_parent, b_types, b_cNode, b_cEnv, b_bTag, b_bVal, b_bLay, b_bNext, q1, q2, q3, q4, b_frNode, b_frEnv, upd b_frPhase d 1, b_frVal, b_frLay) → wpY_cast post (g_capacity, g_fuel, g_count, g_state, g_wrongKind, g_wrongNode, g_program, g_used, g_blamed, g_resType, g_vTag, g_vVal, g_vLay, g_todo, g_todoEnv, g_closures, g_bindings, g_layers, nI (d + 1), b_kinds, b_ops, b_parent, b_types, b_cNode, b_cEnv, b_bTag, b_bVal, b_bLay, b_bNext, b_lSource, b_lTarget, b_lLabel, b_lInner, b_frNode, b_frEnv, upd b_frPhase d 1, b_frVal, b_frLay) (nI (4 * m + 1)))
    (H : post (g_capacity, g_fuel, g_count, s1, g_wrongKind, g_wrongNode, g_program, g_used, b1, g_resType, g_vTag, g_vVal, y1, g_todo, g_todoEnv, g_closures, g_bindings, l1, nI d, b_kinds, b_ops, b_parent, b_types, b_cNode, b_cEnv, b_bTag, b_bVal, b_bLay, b_bNext, q1, q2, q3, q4, b_frNode, b_frEnv, upd b_frPhase d 1, b_frVal, b_frLay)) :
    wpY_resume post (g_capacity, g_fuel, g_count, g_state, g_wrongKind, g_wrongNode, g_program, g_used, g_blamed, g_resType, g_vTag, g_vVal, g_vLay, g_todo, g_todoEnv, g_closures, g_bindings, g_layers, nI (d + 1), b_kinds, b_ops, b_parent, b_types, b_cNode, b_cEnv, b_bTag, b_bVal, b_bLay, b_bNext, b_lSource, b_lTarget, b_lLabel, b_lInner, b_frNode, b_frEnv, b_frPhase, b_frVal, b_frLay) := by
  have hi : vp_in (nI d) 160 := gc_in hd (by decide)
  have e1 : 4 * nI m + 1 = nI (4 * m + 1) := by rw [gc_4, nI_1]
  refine gy_res hd hm hN hK hph ⟨hi, nm_r (e' := upd b_frPhase d 1) (by rw [gc_cl (by omega)]; rfl) (br_f (by decide) (br_t rfl ?_))⟩
  rw [e1]
  exact C _ H
theorem gy_resume_if1 {post : SY → Prop} {d m : Nat} (hd : d < 160) (hm : m < 48) (hN : b_frNode d = nI m) {s1 b1 y1 l1 : Int32} {q1 q2 q3 q4 : Nat → Int32} {j : Nat} (hK : b_kinds m = 6) (hj : 1 ≤ j ∧ j ≤ 2) (hph : b_frPhase d = nI j)
    (C : ∀ post : SY → Prop, post (g_capacity, g_fuel, g_count, s1, g_wrongKind, g_wrongNode, g_program, g_used, b1, g_resType, g_vTag, g_vVal, y1, g_todo, g_todoEnv, g_closures, g_bindings, l1, nI (d + 1), b_kinds, b_ops, b_parent, b_types, b_cNode, b_cEnv, b_bTag, b_bVal, b_bLay, b_bNext, q1, q2, q3, q4, b_frNode, b_frEnv, upd b_frPhase d (nI (j + 1)), b_frVal, b_frLay) → wpY_cast post (g_capacity, g_fuel, g_count, g_state, g_wrongKind, g_wrongNode, g_program, g_used, g_blamed, g_resType, g_vTag, g_vVal, g_vLay, g_todo, g_todoEnv, g_closures, g_bindings, g_layers, nI (d + 1), b_kinds, b_ops, b_parent, b_types, b_cNode, b_cEnv, b_bTag, b_bVal, b_bLay, b_bNext, b_lSource, b_lTarget, b_lLabel, b_lInner, b_frNode, b_frEnv, upd b_frPhase d (nI (j + 1)), b_frVal, b_frLay) (nI (4 * m + (j + 1))))
    (H : post (g_capacity, g_fuel, g_count, s1, g_wrongKind, g_wrongNode, g_program, g_used, b1, g_resType, g_vTag, g_vVal, y1, g_todo, g_todoEnv, g_closures, g_bindings, l1, nI d, b_kinds, b_ops, b_parent, b_types, b_cNode, b_cEnv, b_bTag, b_bVal, b_bLay, b_bNext, q1, q2, q3, q4, b_frNode, b_frEnv, upd b_frPhase d (nI (j + 1)), b_frVal, b_frLay)) :
    wpY_resume post (g_capacity, g_fuel, g_count, g_state, g_wrongKind, g_wrongNode, g_program, g_used, g_blamed, g_resType, g_vTag, g_vVal, g_vLay, g_todo, g_todoEnv, g_closures, g_bindings, g_layers, nI (d + 1), b_kinds, b_ops, b_parent, b_types, b_cNode, b_cEnv, b_bTag, b_bVal, b_bLay, b_bNext, b_lSource, b_lTarget, b_lLabel, b_lInner, b_frNode, b_frEnv, b_frPhase, b_frVal, b_frLay) := by
  have hi : vp_in (nI d) 160 := gc_in hd (by decide)
  have e1 : 4 * nI m + 1 + nI j = nI (4 * m + (j + 1)) := by rw [gc_4, nI_1, nI_add]; exact congrArg nI (by omega)
  refine gy_res hd hm hN hK hph ⟨hi, nm_r (e' := upd b_frPhase d (nI (j + 1))) (by rw [gc_cl (by omega), nI_1]) (br_f (by decide) (br_f (by decide) (br_t rfl ?_)))⟩
  rw [e1]
  exact C _ (pk_le j 0 (fun h => by omega) (fun _ => H))
theorem gy_resume_if0 {post : SY → Prop} {d m : Nat} (hd : d < 160) (hm : m < 48) (hN : b_frNode d = nI m) {s1 b1 y1 l1 : Int32} {q1 q2 q3 q4 : Nat → Int32} {j : Nat} (hK : b_kinds m = 6) (hj : (g_vVal = 1 ∧ j = 1) ∨ (¬ g_vVal = 1 ∧ j = 2)) (hph : b_frPhase d = 0)
    (C : ∀ post : SY → Prop, post (g_capacity, g_fuel, g_count, s1, g_wrongKind, g_wrongNode, g_program, g_used, b1, g_resType, g_vTag, g_vVal, y1, g_todo, g_todoEnv, g_closures, g_bindings, l1, nI (d + 1), b_kinds, b_ops, b_parent, b_types, b_cNode, b_cEnv, b_bTag, b_bVal, b_bLay, b_bNext, q1, q2, q3, q4, b_frNode, b_frEnv, upd b_frPhase d 1, b_frVal, b_frLay) → wpY_cast post (g_capacity, g_fuel, g_count, g_state, g_wrongKind, g_wrongNode, g_program, g_used, g_blamed, g_resType, g_vTag, g_vVal, g_vLay, g_todo, g_todoEnv, g_closures, g_bindings, g_layers, nI (d + 1), b_kinds, b_ops, b_parent, b_types, b_cNode, b_cEnv, b_bTag, b_bVal, b_bLay, b_bNext, b_lSource, b_lTarget, b_lLabel, b_lInner, b_frNode, b_frEnv, upd b_frPhase d 1, b_frVal, b_frLay) (nI (4 * m + 1)))
    (H : post (g_capacity, g_fuel, g_count, s1, g_wrongKind, g_wrongNode, g_program, g_used, b1, g_resType, g_vTag, g_vVal, y1, b_ops (3 * m + j), b_frEnv d, g_closures, g_bindings, l1, nI (d + 1), b_kinds, b_ops, b_parent, b_types, b_cNode, b_cEnv, b_bTag, b_bVal, b_bLay, b_bNext, q1, q2, q3, q4, b_frNode, b_frEnv, upd (upd b_frPhase d 1) d (nI j), b_frVal, b_frLay)) :
    wpY_resume post (g_capacity, g_fuel, g_count, g_state, g_wrongKind, g_wrongNode, g_program, g_used, g_blamed, g_resType, g_vTag, g_vVal, g_vLay, g_todo, g_todoEnv, g_closures, g_bindings, g_layers, nI (d + 1), b_kinds, b_ops, b_parent, b_types, b_cNode, b_cEnv, b_bTag, b_bVal, b_bLay, b_bNext, b_lSource, b_lTarget, b_lLabel, b_lInner, b_frNode, b_frEnv, b_frPhase, b_frVal, b_frLay) := by
  have hi : vp_in (nI d) 160 := gc_in hd (by decide)
  have e1 : 4 * nI m + 1 + 0 = nI (4 * m + 1) := by rw [gc_4, nI_1, show (0 : Int32) = nI 0 from rfl, nI_add]
  have e2 : upd (upd b_frPhase d 1) d (nI j) (nI d).toNatClampNeg = nI j := by rw [gc_cl (by omega), gc_len, if_pos rfl]
  have e3 : 3 * nI m + nI j = nI (3 * m + j) := by rw [gc_3, nI_add]
  have hj2 : j ≤ 2 := by omega
  refine gy_res hd hm hN hK hph ⟨hi, nm_r (e' := upd b_frPhase d 1) (by rw [gc_cl (by omega)]; rfl) (br_f (by decide) (br_f (by decide) (br_t rfl ?_)))⟩
  rw [e1]
  refine C _ (br_t (by decide) ?_)
  have Z : wY_resume_179 post (nI d) (nI m) (b_frEnv d) (nI j) (nI d) g_capacity g_fuel g_count s1 g_wrongKind g_wrongNode g_program g_used b1 g_resType g_vTag g_vVal y1 g_todo g_todoEnv g_closures g_bindings l1 (nI (d + 1)) b_kinds b_ops b_parent b_types b_cNode b_cEnv b_bTag b_bVal b_bLay b_bNext q1 q2 q3 q4 b_frNode b_frEnv (upd b_frPhase d 1) b_frVal b_frLay := by
    refine ⟨hi, nm_r (e' := upd (upd b_frPhase d 1) d (nI j)) (by rw [gc_cl (by omega)]) ⟨hi, ?_⟩⟩
    rw [e2, e3]
    exact ⟨gc_in (by omega) (by decide), nm_r (e' := b_ops (3 * m + j)) (by rw [gc_cl (by omega)]) H⟩
  rcases hj with ⟨h1, h2⟩ | ⟨h1, h2⟩
  · subst h2; exact br_t h1 Z
  · subst h2; exact br_f h1 Z
theorem gy_resume_two {post : SY → Prop} {d m : Nat} (hd : d < 160) (hm : m < 48) (hN : b_frNode d = nI m) {s1 b1 y1 l1 : Int32} {q1 q2 q3 q4 : Nat → Int32} {κ : Nat} (hκ : κ = 4 ∨ κ = 5) (hK : b_kinds m = nI κ) (hph : b_frPhase d = 0)
    (C : ∀ post : SY → Prop, post (g_capacity, g_fuel, g_count, s1, g_wrongKind, g_wrongNode, g_program, g_used, b1, g_resType, g_vTag, g_vVal, y1, g_todo, g_todoEnv, g_closures, g_bindings, l1, nI (d + 1), b_kinds, b_ops, b_parent, b_types, b_cNode, b_cEnv, b_bTag, b_bVal, b_bLay, b_bNext, q1, q2, q3, q4, b_frNode, b_frEnv, upd b_frPhase d 1, b_frVal, b_frLay) → wpY_cast post (g_capacity, g_fuel, g_count, g_state, g_wrongKind, g_wrongNode, g_program, g_used, g_blamed, g_resType, g_vTag, g_vVal, g_vLay, g_todo, g_todoEnv, g_closures, g_bindings, g_layers, nI (d + 1), b_kinds, b_ops, b_parent, b_types, b_cNode, b_cEnv, b_bTag, b_bVal, b_bLay, b_bNext, b_lSource, b_lTarget, b_lLabel, b_lInner, b_frNode, b_frEnv, upd b_frPhase d 1, b_frVal, b_frLay) (nI (4 * m + 1)))
    (H : post (g_capacity, g_fuel, g_count, s1, g_wrongKind, g_wrongNode, g_program, g_used, b1, g_resType, g_vTag, g_vVal, y1, b_ops (3 * m + gc_pc κ + 1), b_frEnv d, g_closures, g_bindings, l1, nI (d + 1), b_kinds, b_ops, b_parent, b_types, b_cNode, b_cEnv, b_bTag, b_bVal, b_bLay, b_bNext, q1, q2, q3, q4, b_frNode, b_frEnv, upd b_frPhase d 1, upd b_frVal d g_vVal, upd b_frLay d y1)) :
    wpY_resume post (g_capacity, g_fuel, g_count, g_state, g_wrongKind, g_wrongNode, g_program, g_used, g_blamed, g_resType, g_vTag, g_vVal, g_vLay, g_todo, g_todoEnv, g_closures, g_bindings, g_layers, nI (d + 1), b_kinds, b_ops, b_parent, b_types, b_cNode, b_cEnv, b_bTag, b_bVal, b_bLay, b_bNext, b_lSource, b_lTarget, b_lLabel, b_lInner, b_frNode, b_frEnv, b_frPhase, b_frVal, b_frLay) := by
  have hi : vp_in (nI d) 160 := gc_in hd (by decide)
  have e1 : 4 * nI m + 1 + 0 = nI (4 * m + 1) := by rw [gc_4, nI_1, show (0 : Int32) = nI 0 from rfl, nI_add]
  have e2 : 3 * nI m + 1 = nI (3 * m + 1) := by rw [gc_3, nI_1]
  have e3 : 3 * nI m + 2 = nI (3 * m + 2) := by rw [gc_3, gc_p2]
  rcases hκ with rfl | rfl
  · refine gy_res hd hm hN (κ := 4) hK hph ⟨hi, nm_r (e' := upd b_frPhase d 1) (by rw [gc_cl (by omega)]; rfl) (br_f (by decide) (br_f (by decide) (br_f (by decide) (br_f (by decide) ?_))))⟩
    rw [e1]
    refine C _ (br_t rfl ⟨hi, nm_r (e' := upd b_frVal d g_vVal) (by rw [gc_cl (by omega)]) ⟨hi, nm_r (e' := upd b_frLay d y1) (by rw [gc_cl (by omega)]) (br_f (by decide) ⟨by rw [e2]; exact gc_in (by omega) (by decide), ?_⟩)⟩⟩)
    exact nm_r (e' := b_ops (3 * m + gc_pc 4 + 1)) (by rw [e2, gc_cl (by omega)]; rfl) H
  · refine gy_res hd hm hN (κ := 5) hK hph ⟨hi, nm_r (e' := upd b_frPhase d 1) (by rw [gc_cl (by omega)]; rfl) (br_f (by decide) (br_f (by decide) (br_f (by decide) (br_f (by decide) ?_))))⟩
    rw [e1]
    refine C _ (br_t rfl ⟨hi, nm_r (e' := upd b_frVal d g_vVal) (by rw [gc_cl (by omega)]) ⟨hi, nm_r (e' := upd b_frLay d y1) (by rw [gc_cl (by omega)]) (br_t rfl ⟨by rw [e3]; exact gc_in (by omega) (by decide), ?_⟩)⟩⟩)
    exact nm_r (e' := b_ops (3 * m + gc_pc 5 + 1)) (by rw [e3, gc_cl (by omega)]; rfl) H
theorem gy_resume_app1 {post : SY → Prop} {d m : Nat} (hd : d < 160) (hm : m < 48) (hN : b_frNode d = nI m) {s1 b1 y1 l1 : Int32} {q1 q2 q3 q4 : Nat → Int32} (hK : b_kinds m = 4) (hph : b_frPhase d = 1)
    (C : ∀ post : SY → Prop, post (g_capacity, g_fuel, g_count, s1, g_wrongKind, g_wrongNode, g_program, g_used, b1, g_resType, g_vTag, g_vVal, y1, g_todo, g_todoEnv, g_closures, g_bindings, l1, nI (d + 1), b_kinds, b_ops, b_parent, b_types, b_cNode, b_cEnv, b_bTag, b_bVal, b_bLay, b_bNext, q1, q2, q3, q4, b_frNode, b_frEnv, upd b_frPhase d 2, b_frVal, b_frLay) → wpY_cast post (g_capacity, g_fuel, g_count, g_state, g_wrongKind, g_wrongNode, g_program, g_used, g_blamed, g_resType, g_vTag, g_vVal, g_vLay, g_todo, g_todoEnv, g_closures, g_bindings, g_layers, nI (d + 1), b_kinds, b_ops, b_parent, b_types, b_cNode, b_cEnv, b_bTag, b_bVal, b_bLay, b_bNext, b_lSource, b_lTarget, b_lLabel, b_lInner, b_frNode, b_frEnv, upd b_frPhase d 2, b_frVal, b_frLay) (nI (4 * m + 2)))
    (H : wpY_enter post (g_capacity, g_fuel, g_count, s1, g_wrongKind, g_wrongNode, g_program, g_used, b1, g_resType, g_vTag, g_vVal, y1, g_todo, g_todoEnv, g_closures, g_bindings, l1, nI (d + 1), b_kinds, b_ops, b_parent, b_types, b_cNode, b_cEnv, b_bTag, b_bVal, b_bLay, b_bNext, q1, q2, q3, q4, b_frNode, b_frEnv, upd b_frPhase d 2, b_frVal, b_frLay) (nI d)) :
    wpY_resume post (g_capacity, g_fuel, g_count, g_state, g_wrongKind, g_wrongNode, g_program, g_used, g_blamed, g_resType, g_vTag, g_vVal, g_vLay, g_todo, g_todoEnv, g_closures, g_bindings, g_layers, nI (d + 1), b_kinds, b_ops, b_parent, b_types, b_cNode, b_cEnv, b_bTag, b_bVal, b_bLay, b_bNext, b_lSource, b_lTarget, b_lLabel, b_lInner, b_frNode, b_frEnv, b_frPhase, b_frVal, b_frLay) := by
  have hi : vp_in (nI d) 160 := gc_in hd (by decide)
  have e1 : 4 * nI m + 1 + 1 = nI (4 * m + 2) := by rw [gc_4, nI_1, nI_1]
  refine gy_res hd hm hN hK hph ⟨hi, nm_r (e' := upd b_frPhase d 2) (by rw [gc_cl (by omega)]; rfl) (br_f (by decide) (br_f (by decide) (br_f (by decide) (br_f (by decide) ?_))))⟩
  rw [e1]
  exact C _ (br_f (by decide) (br_t rfl H))
theorem gy_calc {post : SY → Prop} {op : Nat} {x y : Int32} (hop : op ≤ 4) (H : post (g_capacity, g_fuel, g_count, g_state, g_wrongKind, g_wrongNode, g_program, g_used, g_blamed, g_resType, if op < 3 then 1 else 2, gc_op op x y, -1, g_todo, g_todoEnv, g_closures, g_bindings, g_layers, g_depth, b_kinds, b_ops, b_parent, b_types, b_cNode, b_cEnv, b_bTag, b_bVal, b_bLay, b_bNext, b_lSource, b_lTarget, b_lLabel, b_lInner, b_frNode, b_frEnv, b_frPhase, b_frVal, b_frLay)) : wpY_calculate post (g_capacity, g_fuel, g_count, g_state, g_wrongKind, g_wrongNode, g_program, g_used, g_blamed, g_resType, g_vTag, g_vVal, g_vLay, g_todo, g_todoEnv, g_closures, g_bindings, g_layers, g_depth, b_kinds, b_ops, b_parent, b_types, b_cNode, b_cEnv, b_bTag, b_bVal, b_bLay, b_bNext, b_lSource, b_lTarget, b_lLabel, b_lInner, b_frNode, b_frEnv, b_frPhase, b_frVal, b_frLay) (nI op) x y := by
  unfold gc_op at H
  obtain rfl | rfl | rfl | rfl | rfl : op = 0 ∨ op = 1 ∨ op = 2 ∨ op = 3 ∨ op = 4 := by omega
  · exact br_t rfl (br_f (by decide) (br_f (by decide) (br_f (by decide) H)))
  · exact br_f (by decide) (br_t rfl (br_f (by decide) (br_f (by decide) (br_f (by decide) H))))
  · exact br_f (by decide) (br_f (by decide) (br_f (by decide) (br_f (by decide) (br_f (by decide) H))))
  · rw [if_neg (by decide), if_neg (by decide), if_neg (by decide), if_pos rfl] at H
    refine br_f (by decide) (br_f (by decide) (br_t rfl (br_c (fun z => br_f (by decide) (br_t (by decide) ?_)) (fun z => br_f (by decide) (br_t (by decide) ?_)))))
    · rw [if_pos z] at H; exact H
    · rw [if_neg z] at H; exact H
  · rw [if_neg (by decide), if_neg (by decide), if_neg (by decide), if_neg (by decide)] at H
    refine br_f (by decide) (br_f (by decide) (br_f (by decide) (br_t rfl (br_c (fun z => br_t (by decide) ?_) (fun z => br_t (by decide) ?_)))))
    · rw [if_pos z] at H; exact H
    · rw [if_neg z] at H; exact H
theorem gy_resume_prim1 {post : SY → Prop} {d m : Nat} (hd : d < 160) (hm : m < 48) (hN : b_frNode d = nI m) {s1 b1 y1 l1 : Int32} {q1 q2 q3 q4 : Nat → Int32} {op : Nat} (hop : op ≤ 4) (hO : b_ops (3 * m) = nI op) (hK : b_kinds m = 5) (hph : b_frPhase d = 1)
    (C : ∀ post : SY → Prop, post (g_capacity, g_fuel, g_count, s1, g_wrongKind, g_wrongNode, g_program, g_used, b1, g_resType, g_vTag, g_vVal, y1, g_todo, g_todoEnv, g_closures, g_bindings, l1, nI (d + 1), b_kinds, b_ops, b_parent, b_types, b_cNode, b_cEnv, b_bTag, b_bVal, b_bLay, b_bNext, q1, q2, q3, q4, b_frNode, b_frEnv, upd b_frPhase d 2, b_frVal, b_frLay) → wpY_cast post (g_capacity, g_fuel, g_count, g_state, g_wrongKind, g_wrongNode, g_program, g_used, g_blamed, g_resType, g_vTag, g_vVal, g_vLay, g_todo, g_todoEnv, g_closures, g_bindings, g_layers, nI (d + 1), b_kinds, b_ops, b_parent, b_types, b_cNode, b_cEnv, b_bTag, b_bVal, b_bLay, b_bNext, b_lSource, b_lTarget, b_lLabel, b_lInner, b_frNode, b_frEnv, upd b_frPhase d 2, b_frVal, b_frLay) (nI (4 * m + 2)))
    (H : post (g_capacity, g_fuel, g_count, s1, g_wrongKind, g_wrongNode, g_program, g_used, b1, g_resType, if op < 3 then 1 else 2, gc_op op (b_frVal d) g_vVal, -1, g_todo, g_todoEnv, g_closures, g_bindings, l1, nI d, b_kinds, b_ops, b_parent, b_types, b_cNode, b_cEnv, b_bTag, b_bVal, b_bLay, b_bNext, q1, q2, q3, q4, b_frNode, b_frEnv, upd b_frPhase d 2, b_frVal, b_frLay)) :
    wpY_resume post (g_capacity, g_fuel, g_count, g_state, g_wrongKind, g_wrongNode, g_program, g_used, g_blamed, g_resType, g_vTag, g_vVal, g_vLay, g_todo, g_todoEnv, g_closures, g_bindings, g_layers, nI (d + 1), b_kinds, b_ops, b_parent, b_types, b_cNode, b_cEnv, b_bTag, b_bVal, b_bLay, b_bNext, b_lSource, b_lTarget, b_lLabel, b_lInner, b_frNode, b_frEnv, b_frPhase, b_frVal, b_frLay) := by
  have hi : vp_in (nI d) 160 := gc_in hd (by decide)
  have e1 : 4 * nI m + 1 + 1 = nI (4 * m + 2) := by rw [gc_4, nI_1, nI_1]
  have e2 : b_ops (3 * nI m).toNatClampNeg = nI op := by rw [gc_3, gc_cl (by omega)]; exact hO
  have e3 : b_frVal (nI d).toNatClampNeg = b_frVal d := by rw [gc_cl (by omega)]
  refine gy_res hd hm hN hK hph ⟨hi, nm_r (e' := upd b_frPhase d 2) (by rw [gc_cl (by omega)]; rfl) (br_f (by decide) (br_f (by decide) (br_f (by decide) (br_f (by decide) ?_))))⟩
  rw [e1]
  refine C _ (br_f (by decide) (br_f (by decide) ⟨by rw [gc_3]; exact gc_in (by omega) (by decide), hi, ?_⟩))
  rw [e2, e3]
  exact gy_calc hop H
theorem gy_enter {post : SY → Prop} {d q m nb k nl : Nat} {lw : Nat → Nat → Int32} {w : Nat → Int32} (hd : d < 160) (hq : q < 160) (hm : m < 48) (hV : b_frVal d = nI q) (hN : b_cNode q = nI m) (hnb : nb + 2 ≤ 400)
    (hk : 1 ≤ k ∧ k ≤ 3) (hnl : nl ≤ 600) (ht : gr_LT nl b_lSource b_lTarget b_lLabel b_lInner lw) (hl : gr_LV nl lw (b_frLay d) w)
    (H : ∀ s' bl', (w (2 + k) = 0 ∧ s' = g_state ∧ bl' = g_blamed) ∨ (¬ w (2 + k) = 0 ∧ g_state = 2 ∧ s' = 4 ∧ bl' = -(w (2 + k))) ∨ (¬ w (2 + k) = 0 ∧ ¬ g_state = 2 ∧ s' = g_state ∧ bl' = g_blamed) →
      post (g_capacity, g_fuel, g_count, s', g_wrongKind, g_wrongNode, g_program, g_used, bl', g_resType, nI k, g_vVal, g_vLay, b_ops (3 * m + 2), nI (nb + 1), g_closures, nI (nb + 2), g_layers, g_depth, b_kinds, b_ops, b_parent, b_types, b_cNode, b_cEnv, upd (upd b_bTag nb 3) (nb + 1) (nI k), upd (upd b_bVal nb (nI q)) (nb + 1) g_vVal, upd (upd b_bLay nb (-1)) (nb + 1) g_vLay, upd (upd b_bNext nb (b_cEnv q)) (nb + 1) (nI nb), b_lSource, b_lTarget, b_lLabel, b_lInner, b_frNode, b_frEnv, b_frPhase, b_frVal, b_frLay)) :
    wpY_enter post (g_capacity, g_fuel, g_count, g_state, g_wrongKind, g_wrongNode, g_program, g_used, g_blamed, g_resType, nI k, g_vVal, g_vLay, g_todo, g_todoEnv, g_closures, nI nb, g_layers, g_depth, b_kinds, b_ops, b_parent, b_types, b_cNode, b_cEnv, b_bTag, b_bVal, b_bLay, b_bNext, b_lSource, b_lTarget, b_lLabel, b_lInner, b_frNode, b_frEnv, b_frPhase, b_frVal, b_frLay) (nI d) := by
  have hi : vp_in (nI d) 160 := gc_in hd (by decide)
  have hiq : vp_in (nI q) 160 := gc_in hq (by decide)
  have eL : b_frLay (nI d).toNatClampNeg = b_frLay d := by rw [gc_cl (by omega)]
  have e2 : 3 * nI m + 2 = nI (3 * m + 2) := by rw [gc_3, gc_p2]
  have eN : b_cNode (nI q).toNatClampNeg = nI m := by rw [gc_cl (by omega)]; exact hN
  have E : ∀ s' bl', (w (2 + k) = 0 ∧ s' = g_state ∧ bl' = g_blamed) ∨ (¬ w (2 + k) = 0 ∧ g_state = 2 ∧ s' = 4 ∧ bl' = -(w (2 + k))) ∨ (¬ w (2 + k) = 0 ∧ ¬ g_state = 2 ∧ s' = g_state ∧ bl' = g_blamed) →
      wY_enter_24 post (nI d) g_capacity g_fuel g_count s' g_wrongKind g_wrongNode g_program g_used bl' g_resType (nI k) g_vVal g_vLay g_todo g_todoEnv g_closures (nI nb) g_layers g_depth b_kinds b_ops b_parent b_types b_cNode b_cEnv b_bTag b_bVal b_bLay b_bNext b_lSource b_lTarget b_lLabel b_lInner b_frNode b_frEnv b_frPhase b_frVal b_frLay := by
    intro s' bl' h
    refine ⟨hi, nm_r (e' := nI q) (by rw [gc_cl (by omega)]; exact hV) ⟨hiq, ?_⟩⟩
    have eE : b_cEnv (nI q).toNatClampNeg = b_cEnv q := by rw [gc_cl (by omega)]
    rw [eE]
    refine gy_bind (by omega) (gy_bind (by omega) ⟨hiq, ?_⟩)
    rw [eN, e2]
    exact ⟨gc_in (by omega) (by decide), nm_r (e' := b_ops (3 * m + 2)) (by rw [gc_cl (by omega)]) (H s' bl' h)⟩
  refine ⟨hi, ?_⟩
  rw [eL]
  refine gy_wayIn hk hnl ht hl (br_c (fun z => ?_) (fun z => br_c (fun z2 => ?_) (fun z2 => ?_)))
  · have hw : w (2 + k) = 0 := by
      have := congrArg (fun x : Int32 => -x) z
      simpa using this
    exact E g_state g_blamed (Or.inl ⟨hw, rfl, rfl⟩)
  · have hw : ¬ w (2 + k) = 0 := fun h => z (by rw [h]; rfl)
    exact E 4 (-(w (2 + k))) (Or.inr (Or.inl ⟨hw, z2, rfl, rfl⟩))
  · have hw : ¬ w (2 + k) = 0 := fun h => z (by rw [h]; rfl)
    exact E g_state g_blamed (Or.inr (Or.inr ⟨hw, z2, rfl, rfl⟩))
end
end
section
-- leaving a function, on the reference's side
section
variable {g_capacity g_fuel g_count g_state g_wrongKind g_wrongNode g_program g_used g_blamed g_resType g_vTag g_vVal g_vLay g_todo g_todoEnv g_closures g_bindings g_layers g_depth : Int32} {b_kinds b_ops b_parent b_types b_cNode b_cEnv b_bTag b_bVal b_bLay b_bNext b_lSource b_lTarget b_lLabel b_lInner b_frNode b_frEnv b_frPhase b_frVal b_frLay : Nat → Int32}
theorem gy_resume_leave {post : SY → Prop} {d q m k nl : Nat} {lw : Nat → Nat → Int32} {w : Nat → Int32} {s1 b1 y1 l1 : Int32} {q1 q2 q3 q4 : Nat → Int32} (hd : d < 160) (hN : b_frNode d = -1 ∨ ∃ m, b_frNode d = nI m ∧ m < 48 ∧ b_kinds m = 4) (hph : b_frPhase d = 2)
    (hV : b_frVal d = nI q) (hq : q < 160) (hcn : b_cNode q = nI m) (hm : m < 48) (hk : 1 ≤ k ∧ k ≤ 3) (hnl : nl ≤ 600) (ht : gr_LT nl q1 q2 q3 q4 lw) (hl : gr_LV nl lw (b_frLay d) w)
    (C : ∀ post : SY → Prop, post (g_capacity, g_fuel, g_count, s1, g_wrongKind, g_wrongNode, g_program, g_used, b1, g_resType, nI k, g_vVal, y1, g_todo, g_todoEnv, g_closures, g_bindings, l1, nI (d + 1), b_kinds, b_ops, b_parent, b_types, b_cNode, b_cEnv, b_bTag, b_bVal, b_bLay, b_bNext, q1, q2, q3, q4, b_frNode, b_frEnv, upd b_frPhase d 3, b_frVal, b_frLay) → wpY_cast post (g_capacity, g_fuel, g_count, g_state, g_wrongKind, g_wrongNode, g_program, g_used, g_blamed, g_resType, nI k, g_vVal, g_vLay, g_todo, g_todoEnv, g_closures, g_bindings, g_layers, nI (d + 1), b_kinds, b_ops, b_parent, b_types, b_cNode, b_cEnv, b_bTag, b_bVal, b_bLay, b_bNext, b_lSource, b_lTarget, b_lLabel, b_lInner, b_frNode, b_frEnv, upd b_frPhase d 3, b_frVal, b_frLay) (nI (4 * m + 1)))
    (H : ∀ s' bl', ((w (5 + k) = 0 ∨ ¬ s1 = 2) ∧ s' = s1 ∧ bl' = b1) ∨ (¬ w (5 + k) = 0 ∧ s1 = 2 ∧ s' = 4 ∧ bl' = w (5 + k)) → post (g_capacity, g_fuel, g_count, s', g_wrongKind, g_wrongNode, g_program, g_used, bl', g_resType, nI k, g_vVal, y1, g_todo, g_todoEnv, g_closures, g_bindings, l1, nI d, b_kinds, b_ops, b_parent, b_types, b_cNode, b_cEnv, b_bTag, b_bVal, b_bLay, b_bNext, q1, q2, q3, q4, b_frNode, b_frEnv, upd b_frPhase d 3, b_frVal, b_frLay)) :
    wpY_resume post (g_capacity, g_fuel, g_count, g_state, g_wrongKind, g_wrongNode, g_program, g_used, g_blamed, g_resType, nI k, g_vVal, g_vLay, g_todo, g_todoEnv, g_closures, g_bindings, g_layers, nI (d + 1), b_kinds, b_ops, b_parent, b_types, b_cNode, b_cEnv, b_bTag, b_bVal, b_bLay, b_bNext, b_lSource, b_lTarget, b_lLabel, b_lInner, b_frNode, b_frEnv, b_frPhase, b_frVal, b_frLay) := by
  have hi : vp_in (nI d) 160 := gc_in hd (by decide)
  have eV : b_frVal (nI d).toNatClampNeg = nI q := by rw [gc_cl (by omega)]; exact hV
  have eC : b_cNode (nI q).toNatClampNeg = nI m := by rw [gc_cl (by omega)]; exact hcn
  have eL : b_frLay (nI d).toNatClampNeg = b_frLay d := by rw [gc_cl (by omega)]
  have e1 : 4 * nI m + 1 = nI (4 * m + 1) := by rw [gc_4, nI_1]
  have Z : ∀ n : Int32, wY_resume_43 post (nI d) n (b_frEnv d) 2 4 g_capacity g_fuel g_count g_state g_wrongKind g_wrongNode g_program g_used g_blamed g_resType (nI k) g_vVal g_vLay g_todo g_todoEnv g_closures g_bindings g_layers (nI (d + 1)) b_kinds b_ops b_parent b_types b_cNode b_cEnv b_bTag b_bVal b_bLay b_bNext b_lSource b_lTarget b_lLabel b_lInner b_frNode b_frEnv b_frPhase b_frVal b_frLay := by
    intro n
    refine ⟨hi, nm_r (e' := upd b_frPhase d 3) (by rw [gc_cl (by omega)]; rfl) (br_f (by decide) (br_f (by decide) (br_f (by decide) (br_t rfl ?_))))⟩
    refine ⟨hi, ?_⟩
    rw [eV, eC, e1]
    refine ⟨gc_in hq (by decide), C _ ⟨hi, ?_⟩⟩
    rw [eL]
    refine gy_wayOut hk hnl ht hl (br_c (fun z => ?_) (fun z => br_c (fun z2 => ?_) (fun z2 => ?_)))
    · exact H s1 b1 (Or.inl ⟨Or.inl z, rfl, rfl⟩)
    · exact H 4 (w (5 + k)) (Or.inr ⟨z, z2, rfl, rfl⟩)
    · exact H s1 b1 (Or.inl ⟨Or.inr z2, rfl, rfl⟩)
  rcases hN with hN | ⟨n, hN, hn, hK⟩
  · exact gy_res1 hd hN hph (Z _)
  · exact gy_res hd hn hN hK hph (Z _)
end
-- static facts
section
variable {K O ty ip : Nat → Int32} {G : Nat → List Int32} {nt st sc lb lb' : Nat → Int32} {comp cnt : Nat}
theorem gr_CK_N (h : gr_CK K O ty ip G nt st sc lb comp cnt) {n : Nat} (hn : n < 48) (hi : ip n = 1) : gr_N K O ty ip G nt st sc lb comp cnt n := by
  rcases h n hn with h | h
  · rw [h.1] at hi; exact absurd hi (by decide)
  · exact h.2
theorem gr_N_mono {n : Nat} (h : gr_N K O ty ip G nt st sc lb comp cnt n) (e : ∀ j, j < 9 * comp → lb' j = lb j) : gr_N K O ty ip G nt st sc lb' comp cnt n := by
  obtain ⟨h1, κ, h2, h3, h4, h5, h6, h7, h8⟩ := h
  refine ⟨h1, κ, h2, h3, h4, h5, h6, fun k k1 k2 => ?_, h8⟩
  obtain ⟨s1, s2, s3, id, s4, s5, s6⟩ := h7 k k1 k2
  exact ⟨s1, s2, s3, id, s4, s5, fun j hj => (e _ (by omega)).trans (s6 j hj)⟩
theorem gr_CK_mono (h : gr_CK K O ty ip G nt st sc lb comp cnt) (e : ∀ j, j < 9 * comp → lb' j = lb j) : gr_CK K O ty ip G nt st sc lb' comp cnt := by
  intro n hn
  rcases h n hn with h | h
  · exact Or.inl h
  · exact Or.inr ⟨h.1, gr_N_mono h.2 e⟩
theorem gr_N_kind {n κ : Nat} (hcnt : cnt ≤ 48) (h : gr_N K O ty ip G nt st sc lb comp cnt n) (hK : K n = nI κ) (hκ : κ ≤ 8) : n < cnt ∧ gc_T (ty n) ∧ nt n = ty n ∧
    (∀ w, w < gc_nc κ → gr_ch O κ n w < n ∧ O (3 * n + gc_pc κ + w) = nI (gr_ch O κ n w) ∧ ip (gr_ch O κ n w) = 1 ∧ gc_T (ty (gr_ch O κ n w)) ∧ G (gr_ch O κ n w) = gr_ext O ty κ n w (G n)) ∧
    (∀ k, 1 ≤ k → k ≤ gc_ns κ → gr_site O ty st sc lb comp κ n k) ∧ gr_rule O ty G κ n := by
  obtain ⟨h1, κ', h2, h3, h4, h5, h6, h7, h8⟩ := h
  have e : κ' = κ := gc_inj (h2.symm.trans hK) (by omega) (by omega)
  subst e
  refine ⟨h1, h4, h5, fun w hw => ?_, h7, h8⟩
  obtain ⟨c, c1, c2, c3, c4, c5⟩ := h6 w hw
  have ec : gr_ch O κ' n w = c := by unfold gr_ch; rw [c1]; exact gc_cl (by omega)
  rw [ec]
  exact ⟨c2, c1, c3, c4, c5⟩
end
section
variable {g_capacity g_fuel g_count g_state g_wrongKind g_wrongNode g_program g_used g_blamed g_resType g_vTag g_vVal g_vLay g_todo g_todoEnv g_closures g_bindings g_layers g_depth : Int32} {b_kinds b_ops b_parent b_types b_cNode b_cEnv b_bTag b_bVal b_bLay b_bNext b_lSource b_lTarget b_lLabel b_lInner b_frNode b_frEnv b_frPhase b_frVal b_frLay : Nat → Int32}
theorem gr_cF {K O ty ip : Nat → Int32} {G : Nat → List Int32} {nt st sc lb : Nat → Int32} {comp cnt n κ k g nl : Nat} (hcnt : cnt ≤ 48) (hN : gr_N K O ty ip G nt st sc lb comp cnt n) (hK : K n = nI κ) (hκ : κ ≤ 8) (h1 : 1 ≤ k) (h2 : k ≤ gc_ns κ) (hg : 1 ≤ g ∧ g ≤ 3) (hz : ¬ gr_sv O ty κ n k (g - 1) = 0) : ∀ post : SY → Prop,
    post (g_capacity, g_fuel, nI cnt, 4, g_wrongKind, g_wrongNode, g_program, g_used, gr_sv O ty κ n k (g - 1), g_resType, nI g, g_vVal, g_vLay, g_todo, g_todoEnv, g_closures, g_bindings, nI nl, g_depth, K, O, b_parent, ty, b_cNode, b_cEnv, b_bTag, b_bVal, b_bLay, b_bNext, b_lSource, b_lTarget, b_lLabel, b_lInner, b_frNode, b_frEnv, b_frPhase, b_frVal, b_frLay) → wpY_cast post (g_capacity, g_fuel, nI cnt, 2, g_wrongKind, g_wrongNode, g_program, g_used, g_blamed, g_resType, nI g, g_vVal, g_vLay, g_todo, g_todoEnv, g_closures, g_bindings, nI nl, g_depth, K, O, b_parent, ty, b_cNode, b_cEnv, b_bTag, b_bVal, b_bLay, b_bNext, b_lSource, b_lTarget, b_lLabel, b_lInner, b_frNode, b_frEnv, b_frPhase, b_frVal, b_frLay) (nI (4 * n + k)) := by
  intro post H
  have T := gc_tab hκ
  obtain ⟨a1, a2, a3, a4, a5, a6⟩ := gr_N_kind hcnt hN hK hκ
  obtain ⟨c1, c2, c3, c4, c5⟩ := a4 (k - 1) (by omega)
  refine gy_castF (c := gr_ch O κ n (k - 1)) (s := ty (gr_ch O κ n (k - 1))) (t := gr_t O ty κ n k) rfl a1 hcnt (gc_T_pos a2) hK hκ h1 h2 c2 (by omega) (fun e => ?_) rfl c4 rfl hg hz H
  obtain ⟨d1, d2, d3, d4, d5⟩ := a4 0 (by omega)
  subst e
  exact ⟨gr_ch O 4 n 0, by omega, d2⟩
theorem gr_cP {K O ty ip : Nat → Int32} {G : Nat → List Int32} {nt st sc lb : Nat → Int32} {comp cnt n κ k g nl : Nat} (hcnt : cnt ≤ 48) (hN : gr_N K O ty ip G nt st sc lb comp cnt n) (hK : K n = nI κ) (hκ : κ ≤ 8) (h1 : 1 ≤ k) (h2 : k ≤ gc_ns κ) (hg : 1 ≤ g ∧ g ≤ 3) {lw : Nat → Nat → Int32} {w : Nat → Int32} (hz : gr_sv O ty κ n k (g - 1) = 0) (hfs : gc_ft (nI g) (ty (gr_ch O κ n (k - 1))) = true)
    (hnl : nl < 600) (hLT : gr_LT nl b_lSource b_lTarget b_lLabel b_lInner lw) (hLV : g = 3 → gr_LV nl lw g_vLay w) :
    ∃ (nl' : Nat) (lay' : Int32) (lS lT lL lI : Nat → Int32) (lw' : Nat → Nat → Int32), nl ≤ nl' ∧ nl' ≤ nl + 1 ∧ gr_LT nl' lS lT lL lI lw' ∧ (∀ l, l < nl → lw' l = lw l) ∧
      (g = 3 → gr_LV nl' lw' lay' (gc_sq w (gc_ly (gc_fn (ty (gr_ch O κ n (k - 1)))) (gc_fn (gr_t O ty κ n k)) (nI (4 * n + k))))) ∧
      ∀ post : SY → Prop, post (g_capacity, g_fuel, nI cnt, 2, g_wrongKind, g_wrongNode, g_program, g_used, g_blamed, g_resType, nI g, g_vVal, lay', g_todo, g_todoEnv, g_closures, g_bindings, nI nl', g_depth, K, O, b_parent, ty, b_cNode, b_cEnv, b_bTag, b_bVal, b_bLay, b_bNext, lS, lT, lL, lI, b_frNode, b_frEnv, b_frPhase, b_frVal, b_frLay) → wpY_cast post (g_capacity, g_fuel, nI cnt, 2, g_wrongKind, g_wrongNode, g_program, g_used, g_blamed, g_resType, nI g, g_vVal, g_vLay, g_todo, g_todoEnv, g_closures, g_bindings, nI nl, g_depth, K, O, b_parent, ty, b_cNode, b_cEnv, b_bTag, b_bVal, b_bLay, b_bNext, b_lSource, b_lTarget, b_lLabel, b_lInner, b_frNode, b_frEnv, b_frPhase, b_frVal, b_frLay) (nI (4 * n + k)) := by
  have T := gc_tab hκ
  obtain ⟨a1, a2, a3, a4, a5, a6⟩ := gr_N_kind hcnt hN hK hκ
  obtain ⟨c1, c2, c3, c4, c5⟩ := a4 (k - 1) (by omega)
  obtain ⟨s1, s2, s3, _⟩ := a5 k h1 h2
  refine gy_castP (c := gr_ch O κ n (k - 1)) (s := ty (gr_ch O κ n (k - 1))) (t := gr_t O ty κ n k) rfl a1 hcnt (gc_T_pos a2) hK hκ h1 h2 c2 (by omega) (fun e => ?_) rfl c4 rfl hg s3 hz hfs hnl hLT hLV
  obtain ⟨d1, d2, d3, d4, d5⟩ := a4 0 (by omega)
  subst e
  exact ⟨gr_ch O 4 n 0, by omega, d2⟩
end
theorem gr_VY_cast {O : Nat → Int32} {nc : Nat} {cm : Nat → Nat} {nl nl' : Nat} {lw lw' : Nat → Nat → Int32} {g : Nat} {data lay lay' s t p : Int32} {w : Nat → Int32} (h : gr_VY O nc cm nl lw g data lay s w) (hp : ¬ p = 0) (hco : gc_co s t = true) (hz : gc_cv s t p (g - 1) = 0)
    (hl : g = 3 → gr_LV nl' lw' lay' (gc_sq w (gc_ly (gc_fn s) (gc_fn t) p))) : gr_VY O nc cm nl' lw' g data lay' t (gc_sq w (gc_ly (gc_fn s) (gc_fn t) p)) := by
  obtain ⟨a, b, c, d⟩ := h
  refine ⟨a, gc_cv_ft a hp hco b hz, c, fun e => ?_⟩
  obtain ⟨q, d1, d2, d3, d4⟩ := d e
  exact ⟨q, d1, hl e, d3, gc_FT_cv d4 hp hco⟩
theorem gr_sq_cv {s t p : Int32} {w pv : Nat → Int32} {k : Nat} (h : 3 ≤ k) : gc_sq (gc_sq w (gc_ly (gc_fn s) (gc_fn t) p)) pv k = gc_sq w (gc_sq (gc_cv s t p) pv) k := by
  rw [gc_sq_as]
  exact gc_sq_at rfl (gc_sq_at (gc_cv_hi h).symm rfl)
theorem gr_lookup {K O ip : Nat → Int32} {G : Nat → List Int32} {lb : Nat → Int32} {cc nb : Nat} {eT : Nat → List Int32} {nc : Nat} {cm : Nat → Nat} {nl : Nat} {lw : Nat → Nat → Int32}
    {cNx cT cD cC xn xe bN bT bV bL cN cE lS lT lL lI : Nat → Int32} (h : gr_TB K O ip G lb cc nb eT nc cm nl lw cNx cT cD cC xn xe bN bT bV bL cN cE lS lT lL lI) :
    ∀ i (x y : Int32) (g : List Int32) (T : Int32), gr_Env nb eT x y g → g[i]? = some T →
    ∃ bd : Nat → Nat, (∀ j, j ≤ i → bd j < nb) ∧ y = nI (bd 0) ∧ x = nI (bd 0 + 1) ∧ (∀ j, j < i → bN (bd j) = nI (bd (j + 1)) ∧ cNx (bd j + 1) = nI (bd (j + 1) + 1)) ∧ ∃ g', eT (bd i) = T :: g' := by
  intro i
  induction i with
  | zero =>
    intro x y g T he hg
    rcases he with ⟨_, _, rfl⟩ | ⟨b, b1, b2, b3, b4⟩
    · cases hg
    · obtain ⟨T', g', _, _, e, _⟩ := h.2.1 b b1
      refine ⟨fun _ => b, fun _ _ => b1, b3, b2, fun j hj => absurd hj (Nat.not_lt_zero j), g', ?_⟩
      rw [← b4, e] at hg
      have : T' = T := by simpa using hg
      rw [e, this]
  | succ i ih =>
    intro x y g T he hg
    rcases he with ⟨_, _, rfl⟩ | ⟨b, b1, b2, b3, b4⟩
    · cases hg
    · obtain ⟨T', g', _, _, e, henv, _⟩ := h.2.1 b b1
      rw [← b4, e] at hg
      obtain ⟨bd, d1, d2, d3, d4, d5⟩ := ih _ _ g' T (gr_Env_mono henv (Nat.le_of_lt b1) (fun _ _ => rfl)) (by simpa using hg)
      refine ⟨fun j => if j = 0 then b else bd (j - 1), fun j hj => ?_, ?_, ?_, fun j hj => ?_, ?_⟩
      · by_cases hj0 : j = 0
        · simp only [if_pos hj0]; exact b1
        · simp only [if_neg hj0]; exact d1 (j - 1) (by omega)
      · simp only [if_pos]; exact b3
      · simp only [if_pos]; exact b2
      · by_cases hj0 : j = 0
        · subst hj0
          simp only [if_pos, if_neg (show ¬ (0 + 1 = 0) by omega), Nat.zero_add, Nat.sub_self]
          exact ⟨d2, d3⟩
        · simp only [if_neg hj0, if_neg (show ¬ (j + 1 = 0) by omega), Nat.add_sub_cancel]
          have := d4 (j - 1) (by omega)
          rw [show j - 1 + 1 = j by omega] at this
          exact this
      · simp only [if_neg (show ¬ (i + 1 = 0) by omega), Nat.add_sub_cancel]
        exact d5
end
section
def gr_plain (O : Nat → Int32) (κ n : Nat) : Prop :=
  (κ = 1 → O (3 * n) = 0 ∨ O (3 * n) = 1) ∧ (κ = 2 → ∃ i, i < 16 ∧ O (3 * n) = nI i) ∧ (κ = 3 → gc_A (O (3 * n)) ∧ gc_A (O (3 * n + 1))) ∧ (κ = 5 → ∃ op, op ≤ 4 ∧ O (3 * n) = nI op) ∧ (κ = 8 → gc_T (O (3 * n)))
def gr_TR (cnt : Nat) (K O par hp : Nat → Int32) : Prop := ∀ n, n < cnt →
  (∃ κ, K n = nI κ ∧ κ ≤ 8 ∧ (∀ w, w < gc_nc κ → ∃ c, O (3 * n + gc_pc κ + w) = nI c ∧ c < n ∧ par c = nI n) ∧ (∀ w w', w < w' → w' < gc_nc κ → ¬ O (3 * n + gc_pc κ + w) = O (3 * n + gc_pc κ + w')) ∧ gr_plain O κ n) ∧
  ((par n = -1 ∧ hp n = 0) ∨ (hp n = 1 ∧ ∃ p κ w, n < p ∧ p < cnt ∧ par n = nI p ∧ K p = nI κ ∧ κ ≤ 8 ∧ w < gc_nc κ ∧ O (3 * p + gc_pc κ + w) = nI n))
def gr_B (mn mf cnt : Nat) (f_maxNodes f_maxFuel f_nodeCount g_capacity g_fuel g_count : Int32) (a_kinds a_operands a_hasParent b_kinds b_ops b_parent : Nat → Int32) : Prop :=
  mn ≤ 48 ∧ 1 ≤ mf ∧ mf ≤ 128 ∧ cnt ≤ mn ∧ f_maxNodes = nI mn ∧ f_maxFuel = nI mf ∧ f_nodeCount = nI cnt ∧ g_capacity = nI mn ∧ g_fuel = nI mf ∧ g_count = nI cnt ∧ b_kinds = a_kinds ∧ b_ops = a_operands ∧ gr_TR cnt a_kinds a_operands b_parent a_hasParent
def gr_P (root comp cnt : Nat) (G : Nat → List Int32) (f_programRoot g_program f_compiledCount : Int32) (a_kinds a_operands b_types a_inProgram a_nodeType a_siteTargets a_siteCoercions a_labels : Nat → Int32) : Prop :=
  root < 48 ∧ a_inProgram root = 1 ∧ G root = [] ∧ f_programRoot = nI root ∧ g_program = nI root ∧ f_compiledCount = nI comp ∧ 1 ≤ comp ∧ comp ≤ 145 ∧ gr_CK a_kinds a_operands b_types a_inProgram G a_nodeType a_siteTargets a_siteCoercions a_labels comp cnt
def gr_Dn (comp sp : Nat) (G : Nat → List Int32) (f_coercionCount f_cellCount f_closureCount f_valueTag f_valueData f_valueCoercion f_typeOfResult g_resType g_vTag g_vVal g_vLay g_closures g_bindings g_layers : Int32)
    (a_kinds a_operands a_inProgram a_labels a_cellNext a_cellTag a_cellData a_cellCoercion a_closureNode a_closureEnv b_bNext b_bTag b_bVal b_bLay b_cNode b_cEnv b_lSource b_lTarget b_lLabel b_lInner : Nat → Int32) : Prop :=
  ∃ (cc nb : Nat) (eT : Nat → List Int32) (nc : Nat) (cm : Nat → Nat) (nl : Nat) (lw : Nat → Nat → Int32) (g : Nat) (w : Nat → Int32),
    f_coercionCount = nI cc ∧ comp ≤ cc ∧ cc ≤ comp + 5 * sp + 1 ∧ f_cellCount = nI (nb + 1) ∧ f_closureCount = nI nc ∧ g_closures = nI nc ∧ g_bindings = nI nb ∧ g_layers = nI nl ∧ nc ≤ sp ∧ nb ≤ 2 * sp ∧ nl ≤ 3 * sp ∧ g_resType = f_typeOfResult ∧ gc_T f_typeOfResult ∧
    gr_TB a_kinds a_operands a_inProgram G a_labels cc nb eT nc cm nl lw a_cellNext a_cellTag a_cellData a_cellCoercion a_closureNode a_closureEnv b_bNext b_bTag b_bVal b_bLay b_cNode b_cEnv b_lSource b_lTarget b_lLabel b_lInner ∧ f_valueTag = nI g ∧ g_vTag = nI g ∧ f_valueData = g_vVal ∧ gr_VY a_operands nc cm nl lw g g_vVal g_vLay f_typeOfResult w ∧ gr_VX a_labels cc g f_valueCoercion w
def gr_R (u : SX) (v : SY) : Prop := match u with
  | (f_maxNodes, f_maxFuel, f_nodeCount, f_outcome, f_programRoot, f_faultKind, f_faultNode, f_walkTop, f_contextDepth, f_coercionCount, f_compiledCount, f_cellCount, f_closureCount, f_top, f_running, f_atNode, f_atEnv, f_valueTag, f_valueData, f_valueCoercion, f_typeOfResult, f_fuelSpent, f_blamedLabel, a_kinds, a_operands, a_hasParent, a_inProgram, a_nodeType, a_siteTargets, a_siteCoercions, a_walkNode, a_walkStep, a_contextType, a_labels, a_draft, a_cellNext, a_cellTag, a_cellData, a_cellCoercion, a_closureNode, a_closureEnv, a_frameNode, a_frameStage, a_frameEnv, a_framePending, a_frameData, a_frameCoercion) => match v with
    | (g_capacity, g_fuel, g_count, g_state, g_wrongKind, g_wrongNode, g_program, g_used, g_blamed, g_resType, g_vTag, g_vVal, g_vLay, g_todo, g_todoEnv, g_closures, g_bindings, g_layers, g_depth, b_kinds, b_ops, b_parent, b_types, b_cNode, b_cEnv, b_bTag, b_bVal, b_bLay, b_bNext, b_lSource, b_lTarget, b_lLabel, b_lInner, b_frNode, b_frEnv, b_frPhase, b_frVal, b_frLay) => ∃ mn mf cnt sp : Nat, gr_B mn mf cnt f_maxNodes f_maxFuel f_nodeCount g_capacity g_fuel g_count a_kinds a_operands a_hasParent b_kinds b_ops b_parent ∧ (∀ k, k < 9 → a_labels k = 0) ∧ f_outcome = g_state ∧ sp ≤ mf ∧ f_fuelSpent = nI sp ∧ g_used = nI sp ∧
      (g_state = 0 ∨ (g_state = 1 ∧ f_faultKind = g_wrongKind ∧ f_faultNode = g_wrongNode) ∨
        ∃ (root comp : Nat) (G : Nat → List Int32), gr_P root comp cnt G f_programRoot g_program f_compiledCount a_kinds a_operands b_types a_inProgram a_nodeType a_siteTargets a_siteCoercions a_labels ∧ (g_state = 2 ∨ (g_state = 4 ∧ f_blamedLabel = g_blamed) ∨ g_state = 5 ∨ (g_state = 3 ∧ gr_Dn comp sp G f_coercionCount f_cellCount f_closureCount f_valueTag f_valueData f_valueCoercion f_typeOfResult g_resType g_vTag g_vVal g_vLay g_closures g_bindings g_layers a_kinds a_operands a_inProgram a_labels a_cellNext a_cellTag a_cellData a_cellCoercion a_closureNode a_closureEnv b_bNext b_bTag b_bVal b_bLay b_cNode b_cEnv b_lSource b_lTarget b_lLabel b_lInner)))
def gr_Co (G : Nat → List Int32) (lb0 : Nat → Int32) (comp mf cc nb : Nat) (eT : Nat → List Int32) (nc : Nat) (cm : Nat → Nat) (nl : Nat) (lw : Nat → Nat → Int32) (t d sp : Nat) (Q : gr_Q) (f_typeOfResult : Int32)
    (a_kinds a_operands b_types a_inProgram a_labels a_cellNext a_cellTag a_cellData a_cellCoercion a_closureNode a_closureEnv a_frameNode a_frameStage a_frameEnv a_framePending a_frameData a_frameCoercion b_bNext b_bTag b_bVal b_bLay b_cNode b_cEnv b_lSource b_lTarget b_lLabel b_lInner b_frNode b_frEnv b_frPhase b_frVal b_frLay : Nat → Int32) : Prop :=
  (sp ≤ mf ∧ d ≤ sp ∧ nc ≤ sp ∧ nb + Q.2.2.2.1 ≤ 2 * sp ∧ nl + Q.2.2.1 ≤ 3 * sp ∧ cc + Q.2.2.2.2 ≤ comp + 5 * sp ∧ comp ≤ cc) ∧ (∀ k, k < 9 → a_labels k = 0) ∧ (∀ j, j < 9 * comp → a_labels j = lb0 j) ∧ (a_frameNode 0 = -1 ∧ gc_T f_typeOfResult) ∧ gr_TB a_kinds a_operands a_inProgram G a_labels cc nb eT nc cm nl lw a_cellNext a_cellTag a_cellData a_cellCoercion a_closureNode a_closureEnv b_bNext b_bTag b_bVal b_bLay b_cNode b_cEnv b_lSource b_lTarget b_lLabel b_lInner ∧ gr_Stk a_kinds a_operands b_types a_inProgram G a_labels cc nb eT nc cm nl lw f_typeOfResult b_frNode b_frEnv b_frPhase b_frVal b_frLay a_frameNode a_frameStage a_frameEnv a_framePending a_frameData a_frameCoercion d t Q
def gr_Vi (G : Nat → List Int32) (cc nb : Nat) (eT : Nat → List Int32) (t : Nat) (Q : gr_Q) (b_types a_inProgram a_labels a_framePending : Nat → Int32) (f_atNode g_todo f_atEnv g_todoEnv : Int32) : Prop :=
  ∃ a P : Nat, f_atNode = nI a ∧ g_todo = nI a ∧ a < 48 ∧ a_inProgram a = 1 ∧ gr_Env nb eT f_atEnv g_todoEnv (G a) ∧ Q.2.1 = b_types a ∧ a_framePending t = nI P ∧ P < cc ∧ gc_ap (gc_row a_labels P) Q.1
def gr_Re (cc nc : Nat) (cm : Nat → Nat) (nl : Nat) (lw : Nat → Nat → Int32) (t : Nat) (Q : gr_Q) (a_operands a_labels a_framePending : Nat → Int32) (f_atNode g_todo f_valueTag g_vTag f_valueData g_vVal f_valueCoercion g_vLay : Int32) : Prop :=
  f_atNode = -1 ∧ g_todo = -1 ∧ ∃ (g : Nat) (w wX : Nat → Int32) (P : Nat), f_valueTag = nI g ∧ g_vTag = nI g ∧ f_valueData = g_vVal ∧ gr_VY a_operands nc cm nl lw g g_vVal g_vLay Q.2.1 w ∧ gr_VX a_labels cc g f_valueCoercion wX ∧
    a_framePending t = nI P ∧ P < cc ∧ gc_row a_labels P (g - 1) = Q.1 (g - 1) ∧ (g = 3 → gc_row a_labels P 2 = 0 → ∀ k, 3 ≤ k → k < 9 → gc_sq wX (gc_row a_labels P) k = gc_sq w Q.1 k)
def gr_Sim (M : Nat) (u : SX) (v : SY) : Prop := match u with
  | (f_maxNodes, f_maxFuel, f_nodeCount, f_outcome, f_programRoot, f_faultKind, f_faultNode, f_walkTop, f_contextDepth, f_coercionCount, f_compiledCount, f_cellCount, f_closureCount, f_top, f_running, f_atNode, f_atEnv, f_valueTag, f_valueData, f_valueCoercion, f_typeOfResult, f_fuelSpent, f_blamedLabel, a_kinds, a_operands, a_hasParent, a_inProgram, a_nodeType, a_siteTargets, a_siteCoercions, a_walkNode, a_walkStep, a_contextType, a_labels, a_draft, a_cellNext, a_cellTag, a_cellData, a_cellCoercion, a_closureNode, a_closureEnv, a_frameNode, a_frameStage, a_frameEnv, a_framePending, a_frameData, a_frameCoercion) => match v with
    | (g_capacity, g_fuel, g_count, g_state, g_wrongKind, g_wrongNode, g_program, g_used, g_blamed, g_resType, g_vTag, g_vVal, g_vLay, g_todo, g_todoEnv, g_closures, g_bindings, g_layers, g_depth, b_kinds, b_ops, b_parent, b_types, b_cNode, b_cEnv, b_bTag, b_bVal, b_bLay, b_bNext, b_lSource, b_lTarget, b_lLabel, b_lInner, b_frNode, b_frEnv, b_frPhase, b_frVal, b_frLay) => ∃ (mn mf cnt root comp : Nat) (G : Nat → List Int32) (lb0 : Nat → Int32) (cc nb : Nat) (eT : Nat → List Int32) (nc : Nat) (cm : Nat → Nat) (nl : Nat) (lw : Nat → Nat → Int32) (t d sp : Nat) (Q : gr_Q),
      gr_B mn mf cnt f_maxNodes f_maxFuel f_nodeCount g_capacity g_fuel g_count a_kinds a_operands a_hasParent b_kinds b_ops b_parent ∧ gr_P root comp cnt G f_programRoot g_program f_compiledCount a_kinds a_operands b_types a_inProgram a_nodeType a_siteTargets a_siteCoercions lb0 ∧ (f_coercionCount = nI cc ∧ f_cellCount = nI (nb + 1) ∧ f_closureCount = nI nc ∧ f_top = nI t ∧ f_running = 1 ∧ f_fuelSpent = nI sp ∧ g_state = 2 ∧ g_used = nI sp ∧ g_closures = nI nc ∧ g_bindings = nI nb ∧ g_layers = nI nl ∧ g_depth = nI d ∧ g_resType = f_typeOfResult) ∧ gr_Co G lb0 comp mf cc nb eT nc cm nl lw t d sp Q f_typeOfResult a_kinds a_operands b_types a_inProgram a_labels a_cellNext a_cellTag a_cellData a_cellCoercion a_closureNode a_closureEnv a_frameNode a_frameStage a_frameEnv a_framePending a_frameData a_frameCoercion b_bNext b_bTag b_bVal b_bLay b_cNode b_cEnv b_lSource b_lTarget b_lLabel b_lInner b_frNode b_frEnv b_frPhase b_frVal b_frLay ∧
      ((gr_Vi G cc nb eT t Q b_types a_inProgram a_labels a_framePending f_atNode g_todo f_atEnv g_todoEnv ∧ 7 * (mf - sp) + 2 * Q.2.2.1 + 2 ≤ M) ∨ (gr_Re cc nc cm nl lw t Q a_operands a_labels a_framePending f_atNode g_todo f_valueTag g_vTag f_valueData g_vVal f_valueCoercion g_vLay ∧ 7 * (mf - sp) + 2 * Q.2.2.1 + 1 ≤ M))
def gr_WX (PX : SX → Prop) (n x : Nat) (u : SX) : Prop := match u with
  | (f_maxNodes, f_maxFuel, f_nodeCount, f_outcome, f_programRoot, f_faultKind, f_faultNode, f_walkTop, f_contextDepth, f_coercionCount, f_compiledCount, f_cellCount, f_closureCount, f_top, f_running, f_atNode, f_atEnv, f_valueTag, f_valueData, f_valueCoercion, f_typeOfResult, f_fuelSpent, f_blamedLabel, a_kinds, a_operands, a_hasParent, a_inProgram, a_nodeType, a_siteTargets, a_siteCoercions, a_walkNode, a_walkStep, a_contextType, a_labels, a_draft, a_cellNext, a_cellTag, a_cellData, a_cellCoercion, a_closureNode, a_closureEnv, a_frameNode, a_frameStage, a_frameEnv, a_framePending, a_frameData, a_frameCoercion) => wX_drive_2 PX n (nI x) f_maxNodes f_maxFuel f_nodeCount f_outcome f_programRoot f_faultKind f_faultNode f_walkTop f_contextDepth f_coercionCount f_compiledCount f_cellCount f_closureCount f_top f_running f_atNode f_atEnv f_valueTag f_valueData f_valueCoercion f_typeOfResult f_fuelSpent f_blamedLabel a_kinds a_operands a_hasParent a_inProgram a_nodeType a_siteTargets a_siteCoercions a_walkNode a_walkStep a_contextType a_labels a_draft a_cellNext a_cellTag a_cellData a_cellCoercion a_closureNode a_closureEnv a_frameNode a_frameStage a_frameEnv a_framePending a_frameData a_frameCoercion
def gr_WY (post : SY → Prop) (n x : Nat) (v : SY) : Prop := match v with
  | (g_capacity, g_fuel, g_count, g_state, g_wrongKind, g_wrongNode, g_program, g_used, g_blamed, g_resType, g_vTag, g_vVal, g_vLay, g_todo, g_todoEnv, g_closures, g_bindings, g_layers, g_depth, b_kinds, b_ops, b_parent, b_types, b_cNode, b_cEnv, b_bTag, b_bVal, b_bLay, b_bNext, b_lSource, b_lTarget, b_lLabel, b_lInner, b_frNode, b_frEnv, b_frPhase, b_frVal, b_frLay) => wY_go_2 post n (nI x) g_capacity g_fuel g_count g_state g_wrongKind g_wrongNode g_program g_used g_blamed g_resType g_vTag g_vVal g_vLay g_todo g_todoEnv g_closures g_bindings g_layers g_depth b_kinds b_ops b_parent b_types b_cNode b_cEnv b_bTag b_bVal b_bLay b_bNext b_lSource b_lTarget b_lLabel b_lInner b_frNode b_frEnv b_frPhase b_frVal b_frLay
def gr_Yto (M : Nat) (v v' : SY) : Prop := ∀ (post : SY → Prop) (n x : Nat), x + M ≤ 2000 → M < n → post v' → gr_WY post n x v
def gr_GX (M : Nat) (u : SX) (v : SY) : Prop := ∀ (n x : Nat) (PX : SX → Prop), x + M ≤ 2000 → M < n → (∀ u' v', gr_R u' v' → gr_Yto M v v' → PX u') → gr_WX PX n x u
def gr_YS (v v' : SY) : Prop := ∀ (post : SY → Prop) (n x : Nat), x < 2000 → gr_WY post n (x + 1) v' → gr_WY post (n + 1) x v
def gr_XS (u : SX) (S : SX → Prop) : Prop := ∀ (PX : SX → Prop) (n x : Nat), x < 2000 → (∀ u', S u' → gr_WX PX n (x + 1) u') → gr_WX PX (n + 1) x u
theorem gr_Yto_step {M : Nat} {v v' v'' : SY} (h : gr_YS v v') (g : gr_Yto M v' v'') : gr_Yto (M + 1) v v'' := by
  intro post n x h1 h2 h3
  obtain ⟨n, rfl⟩ : ∃ q, n = q + 1 := ⟨n - 1, by omega⟩
  exact h post n x (by omega) (g post n (x + 1) (by omega) (by omega) h3)
theorem gr_step {M : Nat} {u : SX} {v v' : SY} (hY : gr_YS v v') (hX : gr_XS u (fun u' => gr_GX M u' v')) : gr_GX (M + 1) u v := by
  intro n x PX h1 h2 H
  obtain ⟨n, rfl⟩ : ∃ q, n = q + 1 := ⟨n - 1, by omega⟩
  exact hX PX n x (by omega) (fun u' hu => hu n (x + 1) PX (by omega) (by omega) (fun u'' v'' hR hT => H u'' v'' hR (gr_Yto_step hY hT)))
theorem gr_stut {M : Nat} {u : SX} {v v' : SY} (hY : gr_YS v v') (hX : gr_GX M u v') : gr_GX (M + 1) u v := by
  intro n x PX h1 h2 H
  exact hX n x PX (by omega) (by omega) (fun u'' v'' hR hT => H u'' v'' hR (gr_Yto_step hY hT))
theorem gr_fin {M : Nat} {u u' : SX} {v v' : SY} (hY : ∀ (post : SY → Prop) (n x : Nat), x < 2000 → post v' → gr_WY post (n + 2) x v) (hX : ∀ (PX : SX → Prop) (n x : Nat), x < 2000 → PX u' → gr_WX PX (n + 2) x u) (hR : gr_R u' v') : gr_GX (M + 1) u v := by
  intro n x PX h1 h2 H
  obtain ⟨n, rfl⟩ : ∃ q, n = q + 2 := ⟨n - 2, by omega⟩
  refine hX PX n x (by omega) (H u' v' hR (fun post n x h1 h2 h3 => ?_))
  obtain ⟨n, rfl⟩ : ∃ q, n = q + 2 := ⟨n - 2, by omega⟩
  exact hY post n x (by omega) h3
section
variable {f_maxNodes f_maxFuel f_nodeCount f_outcome f_programRoot f_faultKind f_faultNode f_walkTop f_contextDepth f_coercionCount f_compiledCount f_cellCount f_closureCount f_top f_running f_atNode f_atEnv f_valueTag f_valueData f_valueCoercion f_typeOfResult f_fuelSpent f_blamedLabel : Int32} {a_kinds a_operands a_hasParent a_inProgram a_nodeType a_siteTargets a_siteCoercions a_walkNode a_walkStep a_contextType a_labels a_draft a_cellNext a_cellTag a_cellData a_cellCoercion a_closureNode a_closureEnv a_frameNode a_frameStage a_frameEnv a_framePending a_frameData a_frameCoercion : Nat → Int32} {g_capacity g_fuel g_count g_state g_wrongKind g_wrongNode g_program g_used g_blamed g_resType g_vTag g_vVal g_vLay g_todo g_todoEnv g_closures g_bindings g_layers g_depth : Int32} {b_kinds b_ops b_parent b_types b_cNode b_cEnv b_bTag b_bVal b_bLay b_bNext b_lSource b_lTarget b_lLabel b_lInner b_frNode b_frEnv b_frPhase b_frVal b_frLay : Nat → Int32}
theorem gr_X_visit {S : SX → Prop} {a : Nat} (ha : a < 48) (H : ∀ post : SX → Prop, (∀ u', S u' → post u') → wpX_visit post (f_maxNodes, f_maxFuel, f_nodeCount, f_outcome, f_programRoot, f_faultKind, f_faultNode, f_walkTop, f_contextDepth, f_coercionCount, f_compiledCount, f_cellCount, f_closureCount, f_top, 1, nI a, f_atEnv, f_valueTag, f_valueData, f_valueCoercion, f_typeOfResult, f_fuelSpent, f_blamedLabel, a_kinds, a_operands, a_hasParent, a_inProgram, a_nodeType, a_siteTargets, a_siteCoercions, a_walkNode, a_walkStep, a_contextType, a_labels, a_draft, a_cellNext, a_cellTag, a_cellData, a_cellCoercion, a_closureNode, a_closureEnv, a_frameNode, a_frameStage, a_frameEnv, a_framePending, a_frameData, a_frameCoercion)) : gr_XS (f_maxNodes, f_maxFuel, f_nodeCount, f_outcome, f_programRoot, f_faultKind, f_faultNode, f_walkTop, f_contextDepth, f_coercionCount, f_compiledCount, f_cellCount, f_closureCount, f_top, 1, nI a, f_atEnv, f_valueTag, f_valueData, f_valueCoercion, f_typeOfResult, f_fuelSpent, f_blamedLabel, a_kinds, a_operands, a_hasParent, a_inProgram, a_nodeType, a_siteTargets, a_siteCoercions, a_walkNode, a_walkStep, a_contextType, a_labels, a_draft, a_cellNext, a_cellTag, a_cellData, a_cellCoercion, a_closureNode, a_closureEnv, a_frameNode, a_frameStage, a_frameEnv, a_framePending, a_frameData, a_frameCoercion) S := by
  intro PX n x hx hS
  refine pk_le 2048 x (fun h => by omega) (fun _ => br_f (by decide) (br_f (gc_nneg a (by omega)) (H _ (fun u' hu => ?_))))
  obtain ⟨f1, f2, f3, f4, f5, f6, f7, f8, f9, f10, f11, f12, f13, f14, f15, f16, f17, f18, f19, f20, f21, f22, f23, a1, a2, a3, a4, a5, a6, a7, a8, a9, a10, a11, a12, a13, a14, a15, a16, a17, a18, a19, a20, a21, a22, a23, a24⟩ := u'
  exact nm_r (nI_1 x) (hS _ hu)
theorem gr_X_resume {S : SX → Prop} (H : ∀ post : SX → Prop, (∀ u', S u' → post u') → wpX_resume post (f_maxNodes, f_maxFuel, f_nodeCount, f_outcome, f_programRoot, f_faultKind, f_faultNode, f_walkTop, f_contextDepth, f_coercionCount, f_compiledCount, f_cellCount, f_closureCount, f_top, 1, -1, f_atEnv, f_valueTag, f_valueData, f_valueCoercion, f_typeOfResult, f_fuelSpent, f_blamedLabel, a_kinds, a_operands, a_hasParent, a_inProgram, a_nodeType, a_siteTargets, a_siteCoercions, a_walkNode, a_walkStep, a_contextType, a_labels, a_draft, a_cellNext, a_cellTag, a_cellData, a_cellCoercion, a_closureNode, a_closureEnv, a_frameNode, a_frameStage, a_frameEnv, a_framePending, a_frameData, a_frameCoercion)) : gr_XS (f_maxNodes, f_maxFuel, f_nodeCount, f_outcome, f_programRoot, f_faultKind, f_faultNode, f_walkTop, f_contextDepth, f_coercionCount, f_compiledCount, f_cellCount, f_closureCount, f_top, 1, -1, f_atEnv, f_valueTag, f_valueData, f_valueCoercion, f_typeOfResult, f_fuelSpent, f_blamedLabel, a_kinds, a_operands, a_hasParent, a_inProgram, a_nodeType, a_siteTargets, a_siteCoercions, a_walkNode, a_walkStep, a_contextType, a_labels, a_draft, a_cellNext, a_cellTag, a_cellData, a_cellCoercion, a_closureNode, a_closureEnv, a_frameNode, a_frameStage, a_frameEnv, a_framePending, a_frameData, a_frameCoercion) S := by
  intro PX n x hx hS
  refine pk_le 2048 x (fun h => by omega) (fun _ => br_f (by decide) (br_t (by decide) (H _ (fun u' hu => ?_))))
  obtain ⟨f1, f2, f3, f4, f5, f6, f7, f8, f9, f10, f11, f12, f13, f14, f15, f16, f17, f18, f19, f20, f21, f22, f23, a1, a2, a3, a4, a5, a6, a7, a8, a9, a10, a11, a12, a13, a14, a15, a16, a17, a18, a19, a20, a21, a22, a23, a24⟩ := u'
  exact nm_r (nI_1 x) (hS _ hu)
theorem gr_X_end {PX : SX → Prop} {n x : Nat} (hx : x ≤ 2000) (H : PX (f_maxNodes, f_maxFuel, f_nodeCount, f_outcome, f_programRoot, f_faultKind, f_faultNode, f_walkTop, f_contextDepth, f_coercionCount, f_compiledCount, f_cellCount, f_closureCount, f_top, 0, f_atNode, f_atEnv, f_valueTag, f_valueData, f_valueCoercion, f_typeOfResult, f_fuelSpent, f_blamedLabel, a_kinds, a_operands, a_hasParent, a_inProgram, a_nodeType, a_siteTargets, a_siteCoercions, a_walkNode, a_walkStep, a_contextType, a_labels, a_draft, a_cellNext, a_cellTag, a_cellData, a_cellCoercion, a_closureNode, a_closureEnv, a_frameNode, a_frameStage, a_frameEnv, a_framePending, a_frameData, a_frameCoercion)) : gr_WX PX (n + 1) x (f_maxNodes, f_maxFuel, f_nodeCount, f_outcome, f_programRoot, f_faultKind, f_faultNode, f_walkTop, f_contextDepth, f_coercionCount, f_compiledCount, f_cellCount, f_closureCount, f_top, 0, f_atNode, f_atEnv, f_valueTag, f_valueData, f_valueCoercion, f_typeOfResult, f_fuelSpent, f_blamedLabel, a_kinds, a_operands, a_hasParent, a_inProgram, a_nodeType, a_siteTargets, a_siteCoercions, a_walkNode, a_walkStep, a_contextType, a_labels, a_draft, a_cellNext, a_cellTag, a_cellData, a_cellCoercion, a_closureNode, a_closureEnv, a_frameNode, a_frameStage, a_frameEnv, a_framePending, a_frameData, a_frameCoercion) :=
  pk_le 2048 x (fun h => by omega) (fun _ => br_t rfl H)
theorem gr_Y_visit {v' : SY} {a : Nat} (ha : a < 48) (H : ∀ post : SY → Prop, post v' → wpY_visit post (g_capacity, g_fuel, g_count, 2, g_wrongKind, g_wrongNode, g_program, g_used, g_blamed, g_resType, g_vTag, g_vVal, g_vLay, nI a, g_todoEnv, g_closures, g_bindings, g_layers, g_depth, b_kinds, b_ops, b_parent, b_types, b_cNode, b_cEnv, b_bTag, b_bVal, b_bLay, b_bNext, b_lSource, b_lTarget, b_lLabel, b_lInner, b_frNode, b_frEnv, b_frPhase, b_frVal, b_frLay)) : gr_YS (g_capacity, g_fuel, g_count, 2, g_wrongKind, g_wrongNode, g_program, g_used, g_blamed, g_resType, g_vTag, g_vVal, g_vLay, nI a, g_todoEnv, g_closures, g_bindings, g_layers, g_depth, b_kinds, b_ops, b_parent, b_types, b_cNode, b_cEnv, b_bTag, b_bVal, b_bLay, b_bNext, b_lSource, b_lTarget, b_lLabel, b_lInner, b_frNode, b_frEnv, b_frPhase, b_frVal, b_frLay) v' := by
  intro post n x hx h
  refine pk_le 2000 x (fun h => by omega) (fun _ => br_t rfl (br_f (gc_nneg a (by omega)) (H _ ?_)))
  obtain ⟨f1, f2, f3, f4, f5, f6, f7, f8, f9, f10, f11, f12, f13, f14, f15, f16, f17, f18, f19, a1, a2, a3, a4, a5, a6, a7, a8, a9, a10, a11, a12, a13, a14, a15, a16, a17, a18, a19⟩ := v'
  exact nm_r (nI_1 x) h
theorem gr_Y_resume {v' : SY} {d : Nat} (hd : d < 1000) (H : ∀ post : SY → Prop, post v' → wpY_resume post (g_capacity, g_fuel, g_count, 2, g_wrongKind, g_wrongNode, g_program, g_used, g_blamed, g_resType, g_vTag, g_vVal, g_vLay, -1, g_todoEnv, g_closures, g_bindings, g_layers, nI (d + 1), b_kinds, b_ops, b_parent, b_types, b_cNode, b_cEnv, b_bTag, b_bVal, b_bLay, b_bNext, b_lSource, b_lTarget, b_lLabel, b_lInner, b_frNode, b_frEnv, b_frPhase, b_frVal, b_frLay)) : gr_YS (g_capacity, g_fuel, g_count, 2, g_wrongKind, g_wrongNode, g_program, g_used, g_blamed, g_resType, g_vTag, g_vVal, g_vLay, -1, g_todoEnv, g_closures, g_bindings, g_layers, nI (d + 1), b_kinds, b_ops, b_parent, b_types, b_cNode, b_cEnv, b_bTag, b_bVal, b_bLay, b_bNext, b_lSource, b_lTarget, b_lLabel, b_lInner, b_frNode, b_frEnv, b_frPhase, b_frVal, b_frLay) v' := by
  intro post n x hx h
  refine pk_le 2000 x (fun h => by omega) (fun _ => br_t rfl (br_t (by decide) (pk_le (d + 1) 0 (fun h => by omega) (fun _ => H _ ?_))))
  obtain ⟨f1, f2, f3, f4, f5, f6, f7, f8, f9, f10, f11, f12, f13, f14, f15, f16, f17, f18, f19, a1, a2, a3, a4, a5, a6, a7, a8, a9, a10, a11, a12, a13, a14, a15, a16, a17, a18, a19⟩ := v'
  exact nm_r (nI_1 x) h
theorem gr_Y_end {post : SY → Prop} {n x : Nat} (hx : x ≤ 2000) (hs : ¬ g_state = 2) (H : post (g_capacity, g_fuel, g_count, g_state, g_wrongKind, g_wrongNode, g_program, g_used, g_blamed, g_resType, g_vTag, g_vVal, g_vLay, g_todo, g_todoEnv, g_closures, g_bindings, g_layers, g_depth, b_kinds, b_ops, b_parent, b_types, b_cNode, b_cEnv, b_bTag, b_bVal, b_bLay, b_bNext, b_lSource, b_lTarget, b_lLabel, b_lInner, b_frNode, b_frEnv, b_frPhase, b_frVal, b_frLay)) : gr_WY post (n + 1) x (g_capacity, g_fuel, g_count, g_state, g_wrongKind, g_wrongNode, g_program, g_used, g_blamed, g_resType, g_vTag, g_vVal, g_vLay, g_todo, g_todoEnv, g_closures, g_bindings, g_layers, g_depth, b_kinds, b_ops, b_parent, b_types, b_cNode, b_cEnv, b_bTag, b_bVal, b_bLay, b_bNext, b_lSource, b_lTarget, b_lLabel, b_lInner, b_frNode, b_frEnv, b_frPhase, b_frVal, b_frLay) :=
  pk_le 2000 x (fun _ => H) (fun _ => br_f hs H)
theorem gr_Y_done {post : SY → Prop} {n x : Nat} (hx : x < 2000) (H : post (g_capacity, g_fuel, g_count, 3, g_wrongKind, g_wrongNode, g_program, g_used, g_blamed, g_resType, g_vTag, g_vVal, g_vLay, -1, g_todoEnv, g_closures, g_bindings, g_layers, nI 0, b_kinds, b_ops, b_parent, b_types, b_cNode, b_cEnv, b_bTag, b_bVal, b_bLay, b_bNext, b_lSource, b_lTarget, b_lLabel, b_lInner, b_frNode, b_frEnv, b_frPhase, b_frVal, b_frLay)) : gr_WY post (n + 2) x (g_capacity, g_fuel, g_count, 2, g_wrongKind, g_wrongNode, g_program, g_used, g_blamed, g_resType, g_vTag, g_vVal, g_vLay, -1, g_todoEnv, g_closures, g_bindings, g_layers, nI 0, b_kinds, b_ops, b_parent, b_types, b_cNode, b_cEnv, b_bTag, b_bVal, b_bLay, b_bNext, b_lSource, b_lTarget, b_lLabel, b_lInner, b_frNode, b_frEnv, b_frPhase, b_frVal, b_frLay) := by
  refine pk_le 2000 x (fun h => by omega) (fun _ => br_t rfl (br_t (by decide) (br_t (by decide) (nm_r (nI_1 x) ?_))))
  exact gr_Y_end (by omega) (by decide) H
end
end
section
section
variable {f_maxNodes f_maxFuel f_nodeCount f_outcome f_programRoot f_faultKind f_faultNode f_walkTop f_contextDepth f_coercionCount f_compiledCount f_cellCount f_closureCount f_top f_running f_atNode f_atEnv f_valueTag f_valueData f_valueCoercion f_typeOfResult f_fuelSpent f_blamedLabel : Int32} {a_kinds a_operands a_hasParent a_inProgram a_nodeType a_siteTargets a_siteCoercions a_walkNode a_walkStep a_contextType a_labels a_draft a_cellNext a_cellTag a_cellData a_cellCoercion a_closureNode a_closureEnv a_frameNode a_frameStage a_frameEnv a_framePending a_frameData a_frameCoercion : Nat → Int32} {g_capacity g_fuel g_count g_state g_wrongKind g_wrongNode g_program g_used g_blamed g_resType g_vTag g_vVal g_vLay g_todo g_todoEnv g_closures g_bindings g_layers g_depth : Int32} {b_kinds b_ops b_parent b_types b_cNode b_cEnv b_bTag b_bVal b_bLay b_bNext b_lSource b_lTarget b_lLabel b_lInner b_frNode b_frEnv b_frPhase b_frVal b_frLay : Nat → Int32}
variable {G : Nat → List Int32} {lb0 : Nat → Int32} {comp cnt mf mn root cc nb : Nat} {eT : Nat → List Int32} {nc : Nat} {cm : Nat → Nat} {nl : Nat} {lw : Nat → Nat → Int32} {t d sp : Nat} {Q : gr_Q}
theorem gr_TB_lb {lb' : Nat → Int32} {cc' : Nat} (h : gr_TB a_kinds a_operands a_inProgram G a_labels cc nb eT nc cm nl lw a_cellNext a_cellTag a_cellData a_cellCoercion a_closureNode a_closureEnv b_bNext b_bTag b_bVal b_bLay b_cNode b_cEnv b_lSource b_lTarget b_lLabel b_lInner) (h1 : cc ≤ cc') (h2 : ∀ j, j < 9 * cc → lb' j = a_labels j) : gr_TB a_kinds a_operands a_inProgram G lb' cc' nb eT nc cm nl lw a_cellNext a_cellTag a_cellData a_cellCoercion a_closureNode a_closureEnv b_bNext b_bTag b_bVal b_bLay b_cNode b_cEnv b_lSource b_lTarget b_lLabel b_lInner := by
  obtain ⟨a, b, c⟩ := h
  refine ⟨a, fun i hi => ?_, c⟩
  obtain ⟨T, g', g, w, e1, e2, e3, e4, e5, e6, e7⟩ := b i hi
  exact ⟨T, g', g, w, e1, e2, e3, e4, e5, e6, gr_VX_mono e7 h1 h2⟩
theorem gr_TB_ly {nl' : Nat} {lw' : Nat → Nat → Int32} {lS lT lL lI : Nat → Int32} (h : gr_TB a_kinds a_operands a_inProgram G a_labels cc nb eT nc cm nl lw a_cellNext a_cellTag a_cellData a_cellCoercion a_closureNode a_closureEnv b_bNext b_bTag b_bVal b_bLay b_cNode b_cEnv b_lSource b_lTarget b_lLabel b_lInner) (h1 : nl ≤ nl') (h2 : ∀ l, l < nl → lw' l = lw l) (h3 : gr_LT nl' lS lT lL lI lw') : gr_TB a_kinds a_operands a_inProgram G a_labels cc nb eT nc cm nl' lw' a_cellNext a_cellTag a_cellData a_cellCoercion a_closureNode a_closureEnv b_bNext b_bTag b_bVal b_bLay b_cNode b_cEnv lS lT lL lI := by
  obtain ⟨a, b, c⟩ := h
  refine ⟨h3, fun i hi => ?_, c⟩
  obtain ⟨T, g', g, w, e1, e2, e3, e4, e5, e6, e7⟩ := b i hi
  exact ⟨T, g', g, w, e1, e2, e3, e4, e5, gr_VY_mono e6 (Nat.le_refl _) (fun _ _ => rfl) h1 h2, e7⟩
theorem gr_TB_close {a : Nat} {xe ye : Int32} (h : gr_TB a_kinds a_operands a_inProgram G a_labels cc nb eT nc cm nl lw a_cellNext a_cellTag a_cellData a_cellCoercion a_closureNode a_closureEnv b_bNext b_bTag b_bVal b_bLay b_cNode b_cEnv b_lSource b_lTarget b_lLabel b_lInner) (ha : a < 48) (hi : a_inProgram a = 1) (hK : a_kinds a = 3) (hE : gr_Env nb eT xe ye (G a)) :
    gr_TB a_kinds a_operands a_inProgram G a_labels cc nb eT (nc + 1) (fun q => if q = nc then a else cm q) nl lw a_cellNext a_cellTag a_cellData a_cellCoercion (upd a_closureNode nc (nI a)) (upd a_closureEnv nc xe) b_bNext b_bTag b_bVal b_bLay (upd b_cNode nc (nI a)) (upd b_cEnv nc ye) b_lSource b_lTarget b_lLabel b_lInner := by
  obtain ⟨h1, h2, h3⟩ := h
  refine ⟨h1, fun i hi => ?_, fun q hq => ?_⟩
  · obtain ⟨T, g', g, w, e1, e2, e3, e4, e5, e6, e7⟩ := h2 i hi
    exact ⟨T, g', g, w, e1, e2, e3, e4, e5, gr_VY_mono e6 (Nat.le_succ _) (fun q hq => if_neg (by omega)) (Nat.le_refl _) (fun _ _ => rfl), e7⟩
  · by_cases e : q = nc
    · subst e
      simp only [gc_len, if_pos]
      exact ⟨trivial, trivial, ha, hi, hK, hE⟩
    · simp only [gc_len, if_neg e]
      exact h3 q (by omega)
theorem gr_TB_bind {xe ye data co lay T : Int32} {gl : List Int32} {g : Nat} {w : Nat → Int32} (h : gr_TB a_kinds a_operands a_inProgram G a_labels cc nb eT nc cm nl lw a_cellNext a_cellTag a_cellData a_cellCoercion a_closureNode a_closureEnv b_bNext b_bTag b_bVal b_bLay b_cNode b_cEnv b_lSource b_lTarget b_lLabel b_lInner) (hE : gr_Env nb eT xe ye gl) (hVY : gr_VY a_operands nc cm nl lw g data lay T w) (hVX : gr_VX a_labels cc g co w) :
    gr_TB a_kinds a_operands a_inProgram G a_labels cc (nb + 1) (fun b => if b = nb then T :: gl else eT b) nc cm nl lw (upd a_cellNext (nb + 1) xe) (upd a_cellTag (nb + 1) (nI g)) (upd a_cellData (nb + 1) data) (upd a_cellCoercion (nb + 1) co) a_closureNode a_closureEnv (upd b_bNext nb ye) (upd b_bTag nb (nI g)) (upd b_bVal nb data) (upd b_bLay nb lay) b_cNode b_cEnv b_lSource b_lTarget b_lLabel b_lInner := by
  obtain ⟨h1, h2, h3⟩ := h
  refine ⟨h1, fun i hi => ?_, fun q hq => ?_⟩
  · by_cases e : i = nb
    · subst e
      refine ⟨T, gl, g, w, ?_, ?_, ?_, ?_, ?_, ?_, ?_⟩
      · simp only [if_pos]
      · simp only [gc_len, if_pos]
        exact gr_Env_mono hE (Nat.le_refl _) (fun b hb => if_neg (by omega))
      · simp only [gc_len, if_pos]
      · simp only [gc_len, if_pos]
      · simp only [gc_len, if_pos]
      · simp only [gc_len, if_pos]; exact hVY
      · simp only [gc_len, if_pos]; exact hVX
    · have e' : ¬ i + 1 = nb + 1 := by omega
      simp only [gc_len, if_neg e, if_neg e']
      obtain ⟨T, g', g, w, e1, e2, e3, e4, e5, e6, e7⟩ := h2 i (by omega)
      exact ⟨T, g', g, w, e1, gr_Env_mono e2 (Nat.le_refl _) (fun b hb => if_neg (by omega)), e3, e4, e5, e6, e7⟩
  · obtain ⟨c1, c2, c3, c4, c5, c6⟩ := h3 q hq
    exact ⟨c1, c2, c3, c4, c5, gr_Env_mono c6 (Nat.le_succ _) (fun b hb => if_neg (by omega))⟩
theorem gr_mkV {M : Nat} (hB : gr_B mn mf cnt f_maxNodes (nI mf) f_nodeCount g_capacity (nI mf) (nI cnt) a_kinds a_operands a_hasParent a_kinds a_operands b_parent) (hP : gr_P root comp cnt G f_programRoot g_program f_compiledCount a_kinds a_operands b_types a_inProgram a_nodeType a_siteTargets a_siteCoercions lb0) (hC : gr_Co G lb0 comp mf cc nb eT nc cm nl lw t d sp Q f_typeOfResult a_kinds a_operands b_types a_inProgram a_labels a_cellNext a_cellTag a_cellData a_cellCoercion a_closureNode a_closureEnv a_frameNode a_frameStage a_frameEnv a_framePending a_frameData a_frameCoercion b_bNext b_bTag b_bVal b_bLay b_cNode b_cEnv b_lSource b_lTarget b_lLabel b_lInner b_frNode b_frEnv b_frPhase b_frVal b_frLay) (hV : gr_Vi G cc nb eT t Q b_types a_inProgram a_labels a_framePending f_atNode g_todo f_atEnv g_todoEnv) (hM : 7 * (mf - sp) + 2 * Q.2.2.1 + 2 ≤ M) : gr_Sim M (f_maxNodes, nI mf, f_nodeCount, f_outcome, f_programRoot, f_faultKind, f_faultNode, f_walkTop, f_contextDepth, nI cc, f_compiledCount, nI (nb + 1), nI nc, nI t, 1, f_atNode, f_atEnv, f_valueTag, f_valueData, f_valueCoercion, f_typeOfResult, nI sp, f_blamedLabel, a_kinds, a_operands, a_hasParent, a_inProgram, a_nodeType, a_siteTargets, a_siteCoercions, a_walkNode, a_walkStep, a_contextType, a_labels, a_draft, a_cellNext, a_cellTag, a_cellData, a_cellCoercion, a_closureNode, a_closureEnv, a_frameNode, a_frameStage, a_frameEnv, a_framePending, a_frameData, a_frameCoercion) (g_capacity, nI mf, nI cnt, 2, g_wrongKind, g_wrongNode, g_program, nI sp, g_blamed, f_typeOfResult, g_vTag, g_vVal, g_vLay, g_todo, g_todoEnv, nI nc, nI nb, nI nl, nI d, a_kinds, a_operands, b_parent, b_types, b_cNode, b_cEnv, b_bTag, b_bVal, b_bLay, b_bNext, b_lSource, b_lTarget, b_lLabel, b_lInner, b_frNode, b_frEnv, b_frPhase, b_frVal, b_frLay) :=
  ⟨mn, mf, cnt, root, comp, G, lb0, cc, nb, eT, nc, cm, nl, lw, t, d, sp, Q, hB, hP, ⟨rfl, rfl, rfl, rfl, rfl, rfl, rfl, rfl, rfl, rfl, rfl, rfl, rfl⟩, hC, Or.inl ⟨hV, hM⟩⟩
theorem gr_mkR {M : Nat} (hB : gr_B mn mf cnt f_maxNodes (nI mf) f_nodeCount g_capacity (nI mf) (nI cnt) a_kinds a_operands a_hasParent a_kinds a_operands b_parent) (hP : gr_P root comp cnt G f_programRoot g_program f_compiledCount a_kinds a_operands b_types a_inProgram a_nodeType a_siteTargets a_siteCoercions lb0) (hC : gr_Co G lb0 comp mf cc nb eT nc cm nl lw t d sp Q f_typeOfResult a_kinds a_operands b_types a_inProgram a_labels a_cellNext a_cellTag a_cellData a_cellCoercion a_closureNode a_closureEnv a_frameNode a_frameStage a_frameEnv a_framePending a_frameData a_frameCoercion b_bNext b_bTag b_bVal b_bLay b_cNode b_cEnv b_lSource b_lTarget b_lLabel b_lInner b_frNode b_frEnv b_frPhase b_frVal b_frLay) (hV : gr_Re cc nc cm nl lw t Q a_operands a_labels a_framePending f_atNode g_todo f_valueTag g_vTag f_valueData g_vVal f_valueCoercion g_vLay) (hM : 7 * (mf - sp) + 2 * Q.2.2.1 + 1 ≤ M) : gr_Sim M (f_maxNodes, nI mf, f_nodeCount, f_outcome, f_programRoot, f_faultKind, f_faultNode, f_walkTop, f_contextDepth, nI cc, f_compiledCount, nI (nb + 1), nI nc, nI t, 1, f_atNode, f_atEnv, f_valueTag, f_valueData, f_valueCoercion, f_typeOfResult, nI sp, f_blamedLabel, a_kinds, a_operands, a_hasParent, a_inProgram, a_nodeType, a_siteTargets, a_siteCoercions, a_walkNode, a_walkStep, a_contextType, a_labels, a_draft, a_cellNext, a_cellTag, a_cellData, a_cellCoercion, a_closureNode, a_closureEnv, a_frameNode, a_frameStage, a_frameEnv, a_framePending, a_frameData, a_frameCoercion) (g_capacity, nI mf, nI cnt, 2, g_wrongKind, g_wrongNode, g_program, nI sp, g_blamed, f_typeOfResult, g_vTag, g_vVal, g_vLay, g_todo, g_todoEnv, nI nc, nI nb, nI nl, nI d, a_kinds, a_operands, b_parent, b_types, b_cNode, b_cEnv, b_bTag, b_bVal, b_bLay, b_bNext, b_lSource, b_lTarget, b_lLabel, b_lInner, b_frNode, b_frEnv, b_frPhase, b_frVal, b_frLay) :=
  ⟨mn, mf, cnt, root, comp, G, lb0, cc, nb, eT, nc, cm, nl, lw, t, d, sp, Q, hB, hP, ⟨rfl, rfl, rfl, rfl, rfl, rfl, rfl, rfl, rfl, rfl, rfl, rfl, rfl⟩, hC, Or.inr ⟨hV, hM⟩⟩
theorem gr_P_mono (hP : gr_P root comp cnt G f_programRoot g_program f_compiledCount a_kinds a_operands b_types a_inProgram a_nodeType a_siteTargets a_siteCoercions lb0) (e : ∀ j, j < 9 * comp → a_labels j = lb0 j) : gr_P root comp cnt G f_programRoot g_program f_compiledCount a_kinds a_operands b_types a_inProgram a_nodeType a_siteTargets a_siteCoercions a_labels := by
  obtain ⟨p1, p2, p3, p4, p5, p6, p7, p8, p9⟩ := hP
  exact ⟨p1, p2, p3, p4, p5, p6, p7, p8, gr_CK_mono p9 e⟩
theorem gr_R4 {L : Int32} (hB : gr_B mn mf cnt f_maxNodes (nI mf) f_nodeCount g_capacity (nI mf) (nI cnt) a_kinds a_operands a_hasParent a_kinds a_operands b_parent) (hP : gr_P root comp cnt G f_programRoot g_program f_compiledCount a_kinds a_operands b_types a_inProgram a_nodeType a_siteTargets a_siteCoercions lb0) (hz : ∀ k, k < 9 → a_labels k = 0) (hl : ∀ j, j < 9 * comp → a_labels j = lb0 j) (hs : sp ≤ mf) :
    gr_R (f_maxNodes, nI mf, f_nodeCount, 4, f_programRoot, f_faultKind, f_faultNode, f_walkTop, f_contextDepth, f_coercionCount, f_compiledCount, f_cellCount, f_closureCount, f_top, f_running, f_atNode, f_atEnv, f_valueTag, f_valueData, f_valueCoercion, f_typeOfResult, nI sp, L, a_kinds, a_operands, a_hasParent, a_inProgram, a_nodeType, a_siteTargets, a_siteCoercions, a_walkNode, a_walkStep, a_contextType, a_labels, a_draft, a_cellNext, a_cellTag, a_cellData, a_cellCoercion, a_closureNode, a_closureEnv, a_frameNode, a_frameStage, a_frameEnv, a_framePending, a_frameData, a_frameCoercion) (g_capacity, nI mf, nI cnt, 4, g_wrongKind, g_wrongNode, g_program, nI sp, L, g_resType, g_vTag, g_vVal, g_vLay, g_todo, g_todoEnv, g_closures, g_bindings, g_layers, g_depth, a_kinds, a_operands, b_parent, b_types, b_cNode, b_cEnv, b_bTag, b_bVal, b_bLay, b_bNext, b_lSource, b_lTarget, b_lLabel, b_lInner, b_frNode, b_frEnv, b_frPhase, b_frVal, b_frLay) :=
  ⟨mn, mf, cnt, sp, hB, hz, rfl, hs, rfl, rfl, Or.inr (Or.inr ⟨root, comp, G, gr_P_mono hP hl, Or.inr (Or.inl ⟨rfl, rfl⟩)⟩)⟩
theorem gr_R5 (hB : gr_B mn mf cnt f_maxNodes (nI mf) f_nodeCount g_capacity (nI mf) (nI cnt) a_kinds a_operands a_hasParent a_kinds a_operands b_parent) (hP : gr_P root comp cnt G f_programRoot g_program f_compiledCount a_kinds a_operands b_types a_inProgram a_nodeType a_siteTargets a_siteCoercions lb0) (hz : ∀ k, k < 9 → a_labels k = 0) (hl : ∀ j, j < 9 * comp → a_labels j = lb0 j) (hs : sp ≤ mf) :
    gr_R (f_maxNodes, nI mf, f_nodeCount, 5, f_programRoot, f_faultKind, f_faultNode, f_walkTop, f_contextDepth, f_coercionCount, f_compiledCount, f_cellCount, f_closureCount, f_top, f_running, f_atNode, f_atEnv, f_valueTag, f_valueData, f_valueCoercion, f_typeOfResult, nI sp, f_blamedLabel, a_kinds, a_operands, a_hasParent, a_inProgram, a_nodeType, a_siteTargets, a_siteCoercions, a_walkNode, a_walkStep, a_contextType, a_labels, a_draft, a_cellNext, a_cellTag, a_cellData, a_cellCoercion, a_closureNode, a_closureEnv, a_frameNode, a_frameStage, a_frameEnv, a_framePending, a_frameData, a_frameCoercion) (g_capacity, nI mf, nI cnt, 5, g_wrongKind, g_wrongNode, g_program, nI sp, g_blamed, g_resType, g_vTag, g_vVal, g_vLay, g_todo, g_todoEnv, g_closures, g_bindings, g_layers, g_depth, a_kinds, a_operands, b_parent, b_types, b_cNode, b_cEnv, b_bTag, b_bVal, b_bLay, b_bNext, b_lSource, b_lTarget, b_lLabel, b_lInner, b_frNode, b_frEnv, b_frPhase, b_frVal, b_frLay) :=
  ⟨mn, mf, cnt, sp, hB, hz, rfl, hs, rfl, rfl, Or.inr (Or.inr ⟨root, comp, G, gr_P_mono hP hl, Or.inr (Or.inr (Or.inl rfl))⟩)⟩
theorem gr_R3 (hB : gr_B mn mf cnt f_maxNodes (nI mf) f_nodeCount g_capacity (nI mf) (nI cnt) a_kinds a_operands a_hasParent a_kinds a_operands b_parent) (hP : gr_P root comp cnt G f_programRoot g_program f_compiledCount a_kinds a_operands b_types a_inProgram a_nodeType a_siteTargets a_siteCoercions lb0) (hz : ∀ k, k < 9 → a_labels k = 0) (hl : ∀ j, j < 9 * comp → a_labels j = lb0 j) (hs : sp ≤ mf) (hD : gr_Dn comp sp G f_coercionCount f_cellCount f_closureCount f_valueTag f_valueData f_valueCoercion f_typeOfResult g_resType g_vTag g_vVal g_vLay g_closures g_bindings g_layers a_kinds a_operands a_inProgram a_labels a_cellNext a_cellTag a_cellData a_cellCoercion a_closureNode a_closureEnv b_bNext b_bTag b_bVal b_bLay b_cNode b_cEnv b_lSource b_lTarget b_lLabel b_lInner) :
    gr_R (f_maxNodes, nI mf, f_nodeCount, 3, f_programRoot, f_faultKind, f_faultNode, f_walkTop, f_contextDepth, f_coercionCount, f_compiledCount, f_cellCount, f_closureCount, f_top, f_running, f_atNode, f_atEnv, f_valueTag, f_valueData, f_valueCoercion, f_typeOfResult, nI sp, f_blamedLabel, a_kinds, a_operands, a_hasParent, a_inProgram, a_nodeType, a_siteTargets, a_siteCoercions, a_walkNode, a_walkStep, a_contextType, a_labels, a_draft, a_cellNext, a_cellTag, a_cellData, a_cellCoercion, a_closureNode, a_closureEnv, a_frameNode, a_frameStage, a_frameEnv, a_framePending, a_frameData, a_frameCoercion) (g_capacity, nI mf, nI cnt, 3, g_wrongKind, g_wrongNode, g_program, nI sp, g_blamed, g_resType, g_vTag, g_vVal, g_vLay, g_todo, g_todoEnv, g_closures, g_bindings, g_layers, g_depth, a_kinds, a_operands, b_parent, b_types, b_cNode, b_cEnv, b_bTag, b_bVal, b_bLay, b_bNext, b_lSource, b_lTarget, b_lLabel, b_lInner, b_frNode, b_frEnv, b_frPhase, b_frVal, b_frLay) :=
  ⟨mn, mf, cnt, sp, hB, hz, rfl, hs, rfl, rfl, Or.inr (Or.inr ⟨root, comp, G, gr_P_mono hP hl, Or.inr (Or.inr (Or.inr ⟨rfl, hD⟩))⟩)⟩
end
def gr_E (v' : SY) (u' : SX) : Prop := gr_R u' v' ∧ ∀ (PX : SX → Prop) (n x : Nat), x ≤ 2000 → PX u' → gr_WX PX (n + 1) x u'
theorem gr_fin2 {M : Nat} {u : SX} {v v' : SY} (hY : ∀ (post : SY → Prop) (n x : Nat), x < 2000 → post v' → gr_WY post (n + 2) x v) (hX : gr_XS u (gr_E v')) : gr_GX (M + 1) u v := by
  intro n x PX h1 h2 H
  obtain ⟨n, rfl⟩ : ∃ q, n = q + 2 := ⟨n - 2, by omega⟩
  refine hX PX (n + 1) x (by omega) (fun u' hu => hu.2 PX n (x + 1) (by omega) (H u' v' hu.1 (fun post n x h1 h2 h3 => ?_)))
  obtain ⟨n, rfl⟩ : ∃ q, n = q + 2 := ⟨n - 2, by omega⟩
  exact hY post n x (by omega) h3
section
variable {g_capacity g_fuel g_count g_state g_wrongKind g_wrongNode g_program g_used g_blamed g_resType g_vTag g_vVal g_vLay g_todo g_todoEnv g_closures g_bindings g_layers g_depth : Int32} {b_kinds b_ops b_parent b_types b_cNode b_cEnv b_bTag b_bVal b_bLay b_bNext b_lSource b_lTarget b_lLabel b_lInner b_frNode b_frEnv b_frPhase b_frVal b_frLay : Nat → Int32}
theorem gr_Y_fin {v : SY} (h : gr_YS v (g_capacity, g_fuel, g_count, g_state, g_wrongKind, g_wrongNode, g_program, g_used, g_blamed, g_resType, g_vTag, g_vVal, g_vLay, g_todo, g_todoEnv, g_closures, g_bindings, g_layers, g_depth, b_kinds, b_ops, b_parent, b_types, b_cNode, b_cEnv, b_bTag, b_bVal, b_bLay, b_bNext, b_lSource, b_lTarget, b_lLabel, b_lInner, b_frNode, b_frEnv, b_frPhase, b_frVal, b_frLay)) (hs : ¬ g_state = 2) : ∀ (post : SY → Prop) (n x : Nat), x < 2000 → post (g_capacity, g_fuel, g_count, g_state, g_wrongKind, g_wrongNode, g_program, g_used, g_blamed, g_resType, g_vTag, g_vVal, g_vLay, g_todo, g_todoEnv, g_closures, g_bindings, g_layers, g_depth, b_kinds, b_ops, b_parent, b_types, b_cNode, b_cEnv, b_bTag, b_bVal, b_bLay, b_bNext, b_lSource, b_lTarget, b_lLabel, b_lInner, b_frNode, b_frEnv, b_frPhase, b_frVal, b_frLay) → gr_WY post (n + 2) x v :=
  fun post n x hx hp => h post (n + 1) x hx (gr_Y_end (by omega) hs hp)
end
end
section
section
variable {f_maxNodes f_maxFuel f_nodeCount f_outcome f_programRoot f_faultKind f_faultNode f_walkTop f_contextDepth f_coercionCount f_compiledCount f_cellCount f_closureCount f_top f_running f_atNode f_atEnv f_valueTag f_valueData f_valueCoercion f_typeOfResult f_fuelSpent f_blamedLabel : Int32} {a_kinds a_operands a_hasParent a_inProgram a_nodeType a_siteTargets a_siteCoercions a_walkNode a_walkStep a_contextType a_labels a_draft a_cellNext a_cellTag a_cellData a_cellCoercion a_closureNode a_closureEnv a_frameNode a_frameStage a_frameEnv a_framePending a_frameData a_frameCoercion : Nat → Int32} {g_capacity g_fuel g_count g_state g_wrongKind g_wrongNode g_program g_used g_blamed g_resType g_vTag g_vVal g_vLay g_todo g_todoEnv g_closures g_bindings g_layers g_depth : Int32} {b_kinds b_ops b_parent b_types b_cNode b_cEnv b_bTag b_bVal b_bLay b_bNext b_lSource b_lTarget b_lLabel b_lInner b_frNode b_frEnv b_frPhase b_frVal b_frLay : Nat → Int32}
variable {G : Nat → List Int32} {lb0 : Nat → Int32} {comp cnt mf mn root cc nb : Nat} {eT : Nat → List Int32} {nc : Nat} {cm : Nat → Nat} {nl : Nat} {lw : Nat → Nat → Int32} {t d sp : Nat} {Q : gr_Q}
theorem gs_lit {M : Nat} (IH : ∀ u v, gr_Sim M u v → gr_GX M u v) (hB : gr_B mn mf cnt f_maxNodes (nI mf) f_nodeCount g_capacity (nI mf) (nI cnt) a_kinds a_operands a_hasParent a_kinds a_operands b_parent) (hP : gr_P root comp cnt G f_programRoot g_program f_compiledCount a_kinds a_operands b_types a_inProgram a_nodeType a_siteTargets a_siteCoercions lb0) (hC : gr_Co G lb0 comp mf cc nb eT nc cm nl lw t d sp Q f_typeOfResult a_kinds a_operands b_types a_inProgram a_labels a_cellNext a_cellTag a_cellData a_cellCoercion a_closureNode a_closureEnv a_frameNode a_frameStage a_frameEnv a_framePending a_frameData a_frameCoercion b_bNext b_bTag b_bVal b_bLay b_cNode b_cEnv b_lSource b_lTarget b_lLabel b_lInner b_frNode b_frEnv b_frPhase b_frVal b_frLay) {a P : Nat} (ha : a < 48) (hi : a_inProgram a = 1) (hE : gr_Env nb eT f_atEnv g_todoEnv (G a)) (hQ : Q.2.1 = b_types a) (hPt : a_framePending t = nI P) (hPc : P < cc) (hap : gc_ap (gc_row a_labels P) Q.1) (hM : 7 * (mf - sp) + 2 * Q.2.2.1 + 2 ≤ M + 1) {κ : Nat} (hκ : κ = 0 ∨ κ = 1) (hK : a_kinds a = nI κ) : gr_GX (M + 1) (f_maxNodes, nI mf, f_nodeCount, f_outcome, f_programRoot, f_faultKind, f_faultNode, f_walkTop, f_contextDepth, nI cc, f_compiledCount, nI (nb + 1), nI nc, nI t, 1, nI a, f_atEnv, f_valueTag, f_valueData, f_valueCoercion, f_typeOfResult, nI sp, f_blamedLabel, a_kinds, a_operands, a_hasParent, a_inProgram, a_nodeType, a_siteTargets, a_siteCoercions, a_walkNode, a_walkStep, a_contextType, a_labels, a_draft, a_cellNext, a_cellTag, a_cellData, a_cellCoercion, a_closureNode, a_closureEnv, a_frameNode, a_frameStage, a_frameEnv, a_framePending, a_frameData, a_frameCoercion) (g_capacity, nI mf, nI cnt, 2, g_wrongKind, g_wrongNode, g_program, nI sp, g_blamed, f_typeOfResult, g_vTag, g_vVal, g_vLay, nI a, g_todoEnv, nI nc, nI nb, nI nl, nI d, a_kinds, a_operands, b_parent, b_types, b_cNode, b_cEnv, b_bTag, b_bVal, b_bLay, b_bNext, b_lSource, b_lTarget, b_lLabel, b_lInner, b_frNode, b_frEnv, b_frPhase, b_frVal, b_frLay) := by
  obtain ⟨b1, b2, b3, b4, _⟩ := id hB
  obtain ⟨_, _, _, _, _, _, _, _, hCK⟩ := id hP
  obtain ⟨n1, n2, n3, n4, n5, n6⟩ := gr_N_kind (by omega) (gr_CK_N hCK ha hi) hK (by omega)
  refine gr_step (v' := (g_capacity, nI mf, nI cnt, 2, g_wrongKind, g_wrongNode, g_program, nI sp, g_blamed, f_typeOfResult, nI (κ + 1), a_operands (3 * a), -1, -1, g_todoEnv, nI nc, nI nb, nI nl, nI d, a_kinds, a_operands, b_parent, b_types, b_cNode, b_cEnv, b_bTag, b_bVal, b_bLay, b_bNext, b_lSource, b_lTarget, b_lLabel, b_lInner, b_frNode, b_frEnv, b_frPhase, b_frVal, b_frLay)) (gr_Y_visit ha (fun post h => gy_visit_lit ha hκ hK h)) (gr_X_visit ha (fun post hp => gx_visit_lit ha hκ hK (hp _ (IH _ _ (gr_mkR hB hP hC ?_ (by omega))))))
  refine ⟨rfl, rfl, κ + 1, gc_zv, gc_zv, P, rfl, rfl, rfl, ⟨by omega, ?_, ?_, fun e => by omega⟩, fun e => by omega, hPt, hPc, hap.1 _ (by omega), fun e => by omega⟩
  · rw [hQ]
    rcases hκ with rfl | rfl
    · rw [n6.1 rfl]; decide
    · rw [(n6.2.1 rfl).1]; decide
  · intro e
    have : κ = 1 := by omega
    subst this
    exact (n6.2.1 rfl).2
theorem gs_var {M : Nat} (IH : ∀ u v, gr_Sim M u v → gr_GX M u v) (hB : gr_B mn mf cnt f_maxNodes (nI mf) f_nodeCount g_capacity (nI mf) (nI cnt) a_kinds a_operands a_hasParent a_kinds a_operands b_parent) (hP : gr_P root comp cnt G f_programRoot g_program f_compiledCount a_kinds a_operands b_types a_inProgram a_nodeType a_siteTargets a_siteCoercions lb0) (hC : gr_Co G lb0 comp mf cc nb eT nc cm nl lw t d sp Q f_typeOfResult a_kinds a_operands b_types a_inProgram a_labels a_cellNext a_cellTag a_cellData a_cellCoercion a_closureNode a_closureEnv a_frameNode a_frameStage a_frameEnv a_framePending a_frameData a_frameCoercion b_bNext b_bTag b_bVal b_bLay b_cNode b_cEnv b_lSource b_lTarget b_lLabel b_lInner b_frNode b_frEnv b_frPhase b_frVal b_frLay) {a P : Nat} (ha : a < 48) (hi : a_inProgram a = 1) (hE : gr_Env nb eT f_atEnv g_todoEnv (G a)) (hQ : Q.2.1 = b_types a) (hPt : a_framePending t = nI P) (hPc : P < cc) (hap : gc_ap (gc_row a_labels P) Q.1) (hM : 7 * (mf - sp) + 2 * Q.2.2.1 + 2 ≤ M + 1) (hK : a_kinds a = 2) : gr_GX (M + 1) (f_maxNodes, nI mf, f_nodeCount, f_outcome, f_programRoot, f_faultKind, f_faultNode, f_walkTop, f_contextDepth, nI cc, f_compiledCount, nI (nb + 1), nI nc, nI t, 1, nI a, f_atEnv, f_valueTag, f_valueData, f_valueCoercion, f_typeOfResult, nI sp, f_blamedLabel, a_kinds, a_operands, a_hasParent, a_inProgram, a_nodeType, a_siteTargets, a_siteCoercions, a_walkNode, a_walkStep, a_contextType, a_labels, a_draft, a_cellNext, a_cellTag, a_cellData, a_cellCoercion, a_closureNode, a_closureEnv, a_frameNode, a_frameStage, a_frameEnv, a_framePending, a_frameData, a_frameCoercion) (g_capacity, nI mf, nI cnt, 2, g_wrongKind, g_wrongNode, g_program, nI sp, g_blamed, f_typeOfResult, g_vTag, g_vVal, g_vLay, nI a, g_todoEnv, nI nc, nI nb, nI nl, nI d, a_kinds, a_operands, b_parent, b_types, b_cNode, b_cEnv, b_bTag, b_bVal, b_bLay, b_bNext, b_lSource, b_lTarget, b_lLabel, b_lInner, b_frNode, b_frEnv, b_frPhase, b_frVal, b_frLay) := by
  obtain ⟨b1, b2, b3, b4, _⟩ := id hB
  obtain ⟨_, _, _, _, _, _, _, _, hCK⟩ := id hP
  obtain ⟨⟨k1, k2, k3, k4, k5, k6, k7⟩, _, _, _, hTB, _⟩ := id hC
  obtain ⟨n1, n2, n3, n4, n5, n6⟩ := gr_N_kind (κ := 2) (by omega) (gr_CK_N hCK ha hi) hK (by omega)
  obtain ⟨i, i1, i2, i3⟩ := n6.2.2.1 rfl
  obtain ⟨bd, d1, d2, d3, d4, g', d5⟩ := gr_lookup hTB i _ _ _ _ hE i3
  have hb : ∀ j, j ≤ i → bd j < 256 := fun j hj => by have := d1 j hj; omega
  obtain ⟨T, gl, g, w, e1, e2, e3, e4, e5, e6, e7⟩ := hTB.2.1 (bd i) (d1 i (Nat.le_refl _))
  have eT' : T = b_types a := by
    have := e1.symm.trans d5
    exact (List.cons.inj this).1
  refine gr_step (v' := (g_capacity, nI mf, nI cnt, 2, g_wrongKind, g_wrongNode, g_program, nI sp, g_blamed, f_typeOfResult, b_bTag (bd i), b_bVal (bd i), b_bLay (bd i), -1, g_todoEnv, nI nc, nI nb, nI nl, nI d, a_kinds, a_operands, b_parent, b_types, b_cNode, b_cEnv, b_bTag, b_bVal, b_bLay, b_bNext, b_lSource, b_lTarget, b_lLabel, b_lInner, b_frNode, b_frEnv, b_frPhase, b_frVal, b_frLay))
    (gr_Y_visit ha (fun post h => gy_visit_var ha hK i2 (by omega) bd (fun j hj => by have := hb j hj; omega) (fun j hj => (d4 j hj).1) d2 h))
    (gr_X_visit ha (fun post hp => gx_visit_var ha hK i2 (by omega) (fun j => bd j + 1) (fun j hj => by have := hb j hj; omega) (fun j hj => (d4 j hj).2) d3 (hp _ (IH _ _ (gr_mkR hB hP hC ?_ (by omega))))))
  refine ⟨rfl, rfl, g, w, w, P, e4, e3, e5, ?_, e7, hPt, hPc, hap.1 _ (by have := e6.1; omega), fun _ z k _ hk => gc_sq_at rfl (hap.2 ((hap.1 2 (by omega)).symm.trans z) k hk)⟩
  rw [hQ, ← eT']
  exact e6
theorem gs_fun {M : Nat} (IH : ∀ u v, gr_Sim M u v → gr_GX M u v) (hB : gr_B mn mf cnt f_maxNodes (nI mf) f_nodeCount g_capacity (nI mf) (nI cnt) a_kinds a_operands a_hasParent a_kinds a_operands b_parent) (hP : gr_P root comp cnt G f_programRoot g_program f_compiledCount a_kinds a_operands b_types a_inProgram a_nodeType a_siteTargets a_siteCoercions lb0) (hC : gr_Co G lb0 comp mf cc nb eT nc cm nl lw t d sp Q f_typeOfResult a_kinds a_operands b_types a_inProgram a_labels a_cellNext a_cellTag a_cellData a_cellCoercion a_closureNode a_closureEnv a_frameNode a_frameStage a_frameEnv a_framePending a_frameData a_frameCoercion b_bNext b_bTag b_bVal b_bLay b_cNode b_cEnv b_lSource b_lTarget b_lLabel b_lInner b_frNode b_frEnv b_frPhase b_frVal b_frLay) {a P : Nat} (ha : a < 48) (hi : a_inProgram a = 1) (hE : gr_Env nb eT f_atEnv g_todoEnv (G a)) (hQ : Q.2.1 = b_types a) (hPt : a_framePending t = nI P) (hPc : P < cc) (hap : gc_ap (gc_row a_labels P) Q.1) (hM : 7 * (mf - sp) + 2 * Q.2.2.1 + 2 ≤ M + 1) (hK : a_kinds a = 3) (hs : sp < mf) : gr_GX (M + 1) (f_maxNodes, nI mf, f_nodeCount, f_outcome, f_programRoot, f_faultKind, f_faultNode, f_walkTop, f_contextDepth, nI cc, f_compiledCount, nI (nb + 1), nI nc, nI t, 1, nI a, f_atEnv, f_valueTag, f_valueData, f_valueCoercion, f_typeOfResult, nI sp, f_blamedLabel, a_kinds, a_operands, a_hasParent, a_inProgram, a_nodeType, a_siteTargets, a_siteCoercions, a_walkNode, a_walkStep, a_contextType, a_labels, a_draft, a_cellNext, a_cellTag, a_cellData, a_cellCoercion, a_closureNode, a_closureEnv, a_frameNode, a_frameStage, a_frameEnv, a_framePending, a_frameData, a_frameCoercion) (g_capacity, nI mf, nI cnt, 2, g_wrongKind, g_wrongNode, g_program, nI sp, g_blamed, f_typeOfResult, g_vTag, g_vVal, g_vLay, nI a, g_todoEnv, nI nc, nI nb, nI nl, nI d, a_kinds, a_operands, b_parent, b_types, b_cNode, b_cEnv, b_bTag, b_bVal, b_bLay, b_bNext, b_lSource, b_lTarget, b_lLabel, b_lInner, b_frNode, b_frEnv, b_frPhase, b_frVal, b_frLay) := by
  obtain ⟨b1, b2, b3, b4, _⟩ := id hB
  obtain ⟨_, _, _, _, _, _, p7, _, hCK⟩ := id hP
  obtain ⟨⟨k1, k2, k3, k4, k5, k6, k7⟩, c2, c3, c4, hTB, hStk⟩ := id hC
  obtain ⟨n1, n2, n3, n4, n5, n6⟩ := gr_N_kind (κ := 3) (by omega) (gr_CK_N hCK ha hi) hK (by omega)
  obtain ⟨r1, r2, r3⟩ := n6.2.2.2.1 rfl
  have hGr : gr_Gr a_labels cc nb eT nc cm nl lw a_labels cc nb eT (nc + 1) (fun q => if q = nc then a else cm q) nl lw := ⟨⟨Nat.le_refl _, fun _ _ => rfl⟩, ⟨Nat.le_refl _, fun _ _ => rfl⟩, ⟨Nat.le_succ _, fun q hq => if_neg (by omega)⟩, ⟨Nat.le_refl _, fun _ _ => rfl⟩⟩
  have hC' : gr_Co G lb0 comp mf cc nb eT (nc + 1) (fun q => if q = nc then a else cm q) nl lw t d (sp + 1) Q f_typeOfResult a_kinds a_operands b_types a_inProgram a_labels a_cellNext a_cellTag a_cellData a_cellCoercion (upd a_closureNode nc (nI a)) (upd a_closureEnv nc f_atEnv) a_frameNode a_frameStage a_frameEnv a_framePending a_frameData a_frameCoercion b_bNext b_bTag b_bVal b_bLay (upd b_cNode nc (nI a)) (upd b_cEnv nc g_todoEnv) b_lSource b_lTarget b_lLabel b_lInner b_frNode b_frEnv b_frPhase b_frVal b_frLay :=
    ⟨⟨by omega, by omega, by omega, by omega, by omega, by omega, by omega⟩, c2, c3, c4, gr_TB_close hTB ha hi hK hE, gr_Stk_mono hGr d t Q hStk (fun _ _ => ⟨rfl, rfl, rfl, rfl, rfl⟩) (fun _ _ => ⟨rfl, rfl, rfl, rfl, rfl⟩) (fun _ _ => rfl)⟩
  refine gr_step (v' := (g_capacity, nI mf, nI cnt, 2, g_wrongKind, g_wrongNode, g_program, nI (sp + 1), g_blamed, f_typeOfResult, 3, nI nc, -1, -1, g_todoEnv, nI (nc + 1), nI nb, nI nl, nI d, a_kinds, a_operands, b_parent, b_types, upd b_cNode nc (nI a), upd b_cEnv nc g_todoEnv, b_bTag, b_bVal, b_bLay, b_bNext, b_lSource, b_lTarget, b_lLabel, b_lInner, b_frNode, b_frEnv, b_frPhase, b_frVal, b_frLay))
    (gr_Y_visit ha (fun post h => gy_visit_fun ha hK hs b3 (by omega) h))
    (gr_X_visit ha (fun post hp => gx_visit_fun ha hK hs b3 (by omega) (hp _ (IH _ _ (gr_mkR hB hP hC' ?_ (by omega))))))
  have e3 : gc_fn (b_types a) = gc_ta (a_operands (3 * a)) (a_operands (3 * a + 1)) := by
    rw [r3]
    unfold gc_fn
    rw [if_neg]
    obtain ⟨i, hi, e1⟩ := r1
    obtain ⟨j, hj, e2⟩ := r2
    rw [e1, e2]
    obtain ⟨_, _, k, _, _, h3, h4⟩ := gc_ta_c i hi j hj
    rw [h4]
    exact gc_ne0 (by omega) (by omega)
  refine ⟨rfl, rfl, 3, gc_zv, gc_zv, P, rfl, rfl, rfl, ⟨by omega, ?_, fun e => by omega, fun _ => ⟨nc, rfl, Or.inl ⟨rfl, rfl⟩, by omega, ?_⟩⟩, fun _ => ⟨0, rfl, by omega, fun k _ hk => gc_row0 c2 hk⟩, hPt, hPc, hap.1 _ (by omega), fun _ z k _ hk => gc_sq_at rfl (hap.2 ((hap.1 2 (by omega)).symm.trans z) k hk)⟩
  · rw [hQ, r3]
    obtain ⟨i, hi, e1⟩ := r1
    obtain ⟨j, hj, e2⟩ := r2
    rw [e1, e2]
    obtain ⟨_, _, k, _, _, h3, h4⟩ := gc_ta_c i hi j hj
    rw [h4]
    exact gc_ft_iff.mpr (Or.inr (Or.inr ⟨fun z => by have := (nI_ltI (a := k) (b := 3) (by omega) (by decide)).mp z; omega, rfl⟩))
  · simp only [if_pos]
    rw [hQ, e3]
    exact gc_FT_0 r1 r2
theorem gs_oof {M : Nat} (IH : ∀ u v, gr_Sim M u v → gr_GX M u v) (hB : gr_B mn mf cnt f_maxNodes (nI mf) f_nodeCount g_capacity (nI mf) (nI cnt) a_kinds a_operands a_hasParent a_kinds a_operands b_parent) (hP : gr_P root comp cnt G f_programRoot g_program f_compiledCount a_kinds a_operands b_types a_inProgram a_nodeType a_siteTargets a_siteCoercions lb0) (hC : gr_Co G lb0 comp mf cc nb eT nc cm nl lw t d sp Q f_typeOfResult a_kinds a_operands b_types a_inProgram a_labels a_cellNext a_cellTag a_cellData a_cellCoercion a_closureNode a_closureEnv a_frameNode a_frameStage a_frameEnv a_framePending a_frameData a_frameCoercion b_bNext b_bTag b_bVal b_bLay b_cNode b_cEnv b_lSource b_lTarget b_lLabel b_lInner b_frNode b_frEnv b_frPhase b_frVal b_frLay) {a P : Nat} (ha : a < 48) (hi : a_inProgram a = 1) (hE : gr_Env nb eT f_atEnv g_todoEnv (G a)) (hQ : Q.2.1 = b_types a) (hPt : a_framePending t = nI P) (hPc : P < cc) (hap : gc_ap (gc_row a_labels P) Q.1) (hM : 7 * (mf - sp) + 2 * Q.2.2.1 + 2 ≤ M + 1) {κ : Nat} (hκ : 3 ≤ κ ∧ κ ≤ 8) (hK : a_kinds a = nI κ) (hs : ¬ sp < mf) : gr_GX (M + 1) (f_maxNodes, nI mf, f_nodeCount, f_outcome, f_programRoot, f_faultKind, f_faultNode, f_walkTop, f_contextDepth, nI cc, f_compiledCount, nI (nb + 1), nI nc, nI t, 1, nI a, f_atEnv, f_valueTag, f_valueData, f_valueCoercion, f_typeOfResult, nI sp, f_blamedLabel, a_kinds, a_operands, a_hasParent, a_inProgram, a_nodeType, a_siteTargets, a_siteCoercions, a_walkNode, a_walkStep, a_contextType, a_labels, a_draft, a_cellNext, a_cellTag, a_cellData, a_cellCoercion, a_closureNode, a_closureEnv, a_frameNode, a_frameStage, a_frameEnv, a_framePending, a_frameData, a_frameCoercion) (g_capacity, nI mf, nI cnt, 2, g_wrongKind, g_wrongNode, g_program, nI sp, g_blamed, f_typeOfResult, g_vTag, g_vVal, g_vLay, nI a, g_todoEnv, nI nc, nI nb, nI nl, nI d, a_kinds, a_operands, b_parent, b_types, b_cNode, b_cEnv, b_bTag, b_bVal, b_bLay, b_bNext, b_lSource, b_lTarget, b_lLabel, b_lInner, b_frNode, b_frEnv, b_frPhase, b_frVal, b_frLay) := by
  obtain ⟨b1, b2, b3, b4, _⟩ := id hB
  obtain ⟨⟨k1, k2, k3, k4, k5, k6, k7⟩, c2, c3, c4, hTB, hStk⟩ := id hC
  have hk3 : ¬ nI κ < 3 := fun z => by have := (nI_ltI (a := κ) (b := 3) (by omega) (by decide)).mp z; omega
  refine gr_fin2 (v' := (g_capacity, nI mf, nI cnt, 5, g_wrongKind, g_wrongNode, g_program, nI sp, g_blamed, f_typeOfResult, g_vTag, g_vVal, g_vLay, -1, g_todoEnv, nI nc, nI nb, nI nl, nI d, a_kinds, a_operands, b_parent, b_types, b_cNode, b_cEnv, b_bTag, b_bVal, b_bLay, b_bNext, b_lSource, b_lTarget, b_lLabel, b_lInner, b_frNode, b_frEnv, b_frPhase, b_frVal, b_frLay)) (gr_Y_fin (gr_Y_visit ha (fun post h => gy_visit_oof ha hκ hK (by omega) h)) (by decide))
    (gr_X_visit ha (fun post hp => gx_visit_oof ha hK hk3 (by omega) b3 (hp _ ⟨gr_R5 hB hP c2 c3 k1, fun PX n x hx h => gr_X_end hx h⟩)))
theorem gs_push {M : Nat} (IH : ∀ u v, gr_Sim M u v → gr_GX M u v) (hB : gr_B mn mf cnt f_maxNodes (nI mf) f_nodeCount g_capacity (nI mf) (nI cnt) a_kinds a_operands a_hasParent a_kinds a_operands b_parent) (hP : gr_P root comp cnt G f_programRoot g_program f_compiledCount a_kinds a_operands b_types a_inProgram a_nodeType a_siteTargets a_siteCoercions lb0) (hC : gr_Co G lb0 comp mf cc nb eT nc cm nl lw t d sp Q f_typeOfResult a_kinds a_operands b_types a_inProgram a_labels a_cellNext a_cellTag a_cellData a_cellCoercion a_closureNode a_closureEnv a_frameNode a_frameStage a_frameEnv a_framePending a_frameData a_frameCoercion b_bNext b_bTag b_bVal b_bLay b_cNode b_cEnv b_lSource b_lTarget b_lLabel b_lInner b_frNode b_frEnv b_frPhase b_frVal b_frLay) {a P : Nat} (ha : a < 48) (hi : a_inProgram a = 1) (hE : gr_Env nb eT f_atEnv g_todoEnv (G a)) (hQ : Q.2.1 = b_types a) (hPt : a_framePending t = nI P) (hPc : P < cc) (hap : gc_ap (gc_row a_labels P) Q.1) (hM : 7 * (mf - sp) + 2 * Q.2.2.1 + 2 ≤ M + 1) {κ : Nat} (hκ : κ = 4 ∨ κ = 5 ∨ κ = 6 ∨ κ = 7) (hK : a_kinds a = nI κ) (hs : sp < mf) : gr_GX (M + 1) (f_maxNodes, nI mf, f_nodeCount, f_outcome, f_programRoot, f_faultKind, f_faultNode, f_walkTop, f_contextDepth, nI cc, f_compiledCount, nI (nb + 1), nI nc, nI t, 1, nI a, f_atEnv, f_valueTag, f_valueData, f_valueCoercion, f_typeOfResult, nI sp, f_blamedLabel, a_kinds, a_operands, a_hasParent, a_inProgram, a_nodeType, a_siteTargets, a_siteCoercions, a_walkNode, a_walkStep, a_contextType, a_labels, a_draft, a_cellNext, a_cellTag, a_cellData, a_cellCoercion, a_closureNode, a_closureEnv, a_frameNode, a_frameStage, a_frameEnv, a_framePending, a_frameData, a_frameCoercion) (g_capacity, nI mf, nI cnt, 2, g_wrongKind, g_wrongNode, g_program, nI sp, g_blamed, f_typeOfResult, g_vTag, g_vVal, g_vLay, nI a, g_todoEnv, nI nc, nI nb, nI nl, nI d, a_kinds, a_operands, b_parent, b_types, b_cNode, b_cEnv, b_bTag, b_bVal, b_bLay, b_bNext, b_lSource, b_lTarget, b_lLabel, b_lInner, b_frNode, b_frEnv, b_frPhase, b_frVal, b_frLay) := by
  obtain ⟨b1, b2, b3, b4, _⟩ := id hB
  obtain ⟨_, _, _, _, _, _, p7, _, hCK⟩ := id hP
  obtain ⟨⟨k1, k2, k3, k4, k5, k6, k7⟩, c2, c3, c4, hTB, hStk⟩ := id hC
  obtain ⟨n1, n2, n3, n4, n5, n6⟩ := gr_N_kind (by omega) (gr_CK_N hCK ha hi) hK (by omega)
  have T := gc_tab (k := κ) (by omega)
  have htd := gr_Stk_le d t Q hStk
  obtain ⟨q1, q2, q3, q4, q5⟩ := n4 0 (by omega)
  have hQ' : ∃ Q' : gr_Q, gr_FR a_kinds a_operands b_types a_inProgram G a_labels cc nb eT nc cm nl lw (nI a) g_todoEnv 0 (b_frVal d) (b_frLay d) (nI a) 0 f_atEnv (a_frameData (t + 1)) (a_frameCoercion (t + 1)) Q Q' ∧ Q'.2.1 = b_types (gr_ch a_operands κ a 0) ∧ Q'.2.2.1 ≤ Q.2.2.1 + 3 ∧ Q'.2.2.2.1 ≤ Q.2.2.2.1 + 2 ∧ Q'.2.2.2.2 ≤ Q.2.2.2.2 + 5 ∧ ∃ id, (if κ = 7 then 0 else a_siteCoercions (3 * a)) = nI id ∧ id < cc ∧ gc_ap (gc_row a_labels id) Q'.1 := by
    have site : κ ≠ 7 → ∃ id, (if κ = 7 then 0 else a_siteCoercions (3 * a)) = nI id ∧ id < cc ∧ gc_ap (gc_row a_labels id) (gr_sv a_operands b_types κ a 1) := by
      intro h7
      obtain ⟨s1, s2, s3, id, s4, s5, s6⟩ := n5 1 (by omega) (by omega)
      rw [if_neg h7]
      exact ⟨id, s4, by omega, gc_ap_of (fun j hj => (c3 _ (by omega)).trans (s6 j hj))⟩
    rcases hκ with rfl | rfl | rfl | rfl
    · exact ⟨_, ⟨a, rfl, rfl, ha, hi, hE, hQ, rfl, Or.inr (Or.inr (Or.inr (Or.inr (Or.inl ⟨hK, rfl, rfl⟩))))⟩, rfl, by dsimp only; omega, by dsimp only; omega, by dsimp only; omega, site (by decide)⟩
    · exact ⟨_, ⟨a, rfl, rfl, ha, hi, hE, hQ, rfl, Or.inr (Or.inr (Or.inl ⟨hK, rfl, rfl⟩))⟩, rfl, by dsimp only; omega, by dsimp only; omega, by dsimp only; omega, site (by decide)⟩
    · exact ⟨_, ⟨a, rfl, rfl, ha, hi, hE, hQ, rfl, Or.inl ⟨hK, rfl, rfl⟩⟩, rfl, by dsimp only; omega, by dsimp only; omega, by dsimp only; omega, site (by decide)⟩
    · refine ⟨_, ⟨a, rfl, rfl, ha, hi, hE, hQ, rfl, Or.inr (Or.inl ⟨hK, rfl, rfl⟩)⟩, rfl, by dsimp only; omega, by dsimp only; omega, by dsimp only; omega, 0, rfl, by omega, gc_ap_of (fun k hk => gc_row0 c2 hk)⟩
  obtain ⟨Q', f1, f2, f3, f4, f5, id, f6, f7, f8⟩ := hQ'
  have hS : gr_Stk a_kinds a_operands b_types a_inProgram G a_labels cc nb eT nc cm nl lw f_typeOfResult (upd b_frNode d (nI a)) (upd b_frEnv d g_todoEnv) (upd b_frPhase d 0) b_frVal b_frLay (upd a_frameNode (t + 1) (nI a)) (upd a_frameStage (t + 1) 0) (upd a_frameEnv (t + 1) f_atEnv) (upd a_framePending (t + 1) (if κ = 7 then 0 else a_siteCoercions (3 * a))) a_frameData a_frameCoercion (d + 1) (t + 1) Q' := by
    refine ⟨Q, Or.inr ⟨t, rfl, ?_, ⟨P, ?_, hPc, hap⟩, ?_⟩⟩
    · simp only [gc_len, if_pos]
      exact f1
    · rw [gc_len, if_neg (by omega)]; exact hPt
    · refine gr_Stk_mono (gr_Gr_rfl _ _ _ _ _ _ _ _) d t Q hStk (fun f hf => ?_) (fun j hj => ?_) (fun j hj => ?_)
      · have e : ¬ f = d := by omega
        simp only [gc_len, if_neg e]
        exact ⟨trivial, trivial, trivial, trivial, trivial⟩
      · have e : ¬ j = t + 1 := by omega
        simp only [gc_len, if_neg e]
        exact ⟨trivial, trivial, trivial, trivial, trivial⟩
      · rw [gc_len, if_neg (by omega)]
  have hC' : gr_Co G lb0 comp mf cc nb eT nc cm nl lw (t + 1) (d + 1) (sp + 1) Q' f_typeOfResult a_kinds a_operands b_types a_inProgram a_labels a_cellNext a_cellTag a_cellData a_cellCoercion a_closureNode a_closureEnv (upd a_frameNode (t + 1) (nI a)) (upd a_frameStage (t + 1) 0) (upd a_frameEnv (t + 1) f_atEnv) (upd a_framePending (t + 1) (if κ = 7 then 0 else a_siteCoercions (3 * a))) a_frameData a_frameCoercion b_bNext b_bTag b_bVal b_bLay b_cNode b_cEnv b_lSource b_lTarget b_lLabel b_lInner (upd b_frNode d (nI a)) (upd b_frEnv d g_todoEnv) (upd b_frPhase d 0) b_frVal b_frLay :=
    ⟨⟨by omega, by omega, by omega, by omega, by omega, by omega, by omega⟩, c2, c3, ⟨by rw [gc_len, if_neg (by omega)]; exact c4.1, c4.2⟩, hTB, hS⟩
  refine gr_step (v' := (g_capacity, nI mf, nI cnt, 2, g_wrongKind, g_wrongNode, g_program, nI (sp + 1), g_blamed, f_typeOfResult, g_vTag, g_vVal, g_vLay, a_operands (3 * a + gc_pc κ), g_todoEnv, nI nc, nI nb, nI nl, nI (d + 1), a_kinds, a_operands, b_parent, b_types, b_cNode, b_cEnv, b_bTag, b_bVal, b_bLay, b_bNext, b_lSource, b_lTarget, b_lLabel, b_lInner, upd b_frNode d (nI a), upd b_frEnv d g_todoEnv, upd b_frPhase d 0, b_frVal, b_frLay))
    (gr_Y_visit ha (fun post h => gy_visit_push ha (by omega) hK hs b3 (by omega) h))
    (gr_X_visit ha (fun post hp => gx_visit_push ha hκ hK hs b3 (by omega) (hp _ (IH _ _ (gr_mkV hB hP hC' ?_ (by omega))))))
  refine ⟨gr_ch a_operands κ a 0, id, q2, q2, by omega, q3, ?_, f2, by rw [gc_len, if_pos rfl]; exact f6, f7, f8⟩
  rw [q5]
  unfold gr_ext
  rw [if_neg (by omega), if_neg (by omega)]
  exact hE
theorem gs_as {M : Nat} (IH : ∀ u v, gr_Sim M u v → gr_GX M u v) (hB : gr_B mn mf cnt f_maxNodes (nI mf) f_nodeCount g_capacity (nI mf) (nI cnt) a_kinds a_operands a_hasParent a_kinds a_operands b_parent) (hP : gr_P root comp cnt G f_programRoot g_program f_compiledCount a_kinds a_operands b_types a_inProgram a_nodeType a_siteTargets a_siteCoercions lb0) (hC : gr_Co G lb0 comp mf cc nb eT nc cm nl lw t d sp Q f_typeOfResult a_kinds a_operands b_types a_inProgram a_labels a_cellNext a_cellTag a_cellData a_cellCoercion a_closureNode a_closureEnv a_frameNode a_frameStage a_frameEnv a_framePending a_frameData a_frameCoercion b_bNext b_bTag b_bVal b_bLay b_cNode b_cEnv b_lSource b_lTarget b_lLabel b_lInner b_frNode b_frEnv b_frPhase b_frVal b_frLay) {a P : Nat} (ha : a < 48) (hi : a_inProgram a = 1) (hE : gr_Env nb eT f_atEnv g_todoEnv (G a)) (hQ : Q.2.1 = b_types a) (hPt : a_framePending t = nI P) (hPc : P < cc) (hap : gc_ap (gc_row a_labels P) Q.1) (hM : 7 * (mf - sp) + 2 * Q.2.2.1 + 2 ≤ M + 1) (hK : a_kinds a = 8) (hs : sp < mf) : gr_GX (M + 1) (f_maxNodes, nI mf, f_nodeCount, f_outcome, f_programRoot, f_faultKind, f_faultNode, f_walkTop, f_contextDepth, nI cc, f_compiledCount, nI (nb + 1), nI nc, nI t, 1, nI a, f_atEnv, f_valueTag, f_valueData, f_valueCoercion, f_typeOfResult, nI sp, f_blamedLabel, a_kinds, a_operands, a_hasParent, a_inProgram, a_nodeType, a_siteTargets, a_siteCoercions, a_walkNode, a_walkStep, a_contextType, a_labels, a_draft, a_cellNext, a_cellTag, a_cellData, a_cellCoercion, a_closureNode, a_closureEnv, a_frameNode, a_frameStage, a_frameEnv, a_framePending, a_frameData, a_frameCoercion) (g_capacity, nI mf, nI cnt, 2, g_wrongKind, g_wrongNode, g_program, nI sp, g_blamed, f_typeOfResult, g_vTag, g_vVal, g_vLay, nI a, g_todoEnv, nI nc, nI nb, nI nl, nI d, a_kinds, a_operands, b_parent, b_types, b_cNode, b_cEnv, b_bTag, b_bVal, b_bLay, b_bNext, b_lSource, b_lTarget, b_lLabel, b_lInner, b_frNode, b_frEnv, b_frPhase, b_frVal, b_frLay) := by
  obtain ⟨b1, b2, b3, b4, _⟩ := id hB
  obtain ⟨_, _, _, _, _, _, p7, p8, hCK⟩ := id hP
  obtain ⟨⟨k1, k2, k3, k4, k5, k6, k7⟩, c2, c3, c4, hTB, hStk⟩ := id hC
  obtain ⟨n1, n2, n3, n4, n5, n6⟩ := gr_N_kind (κ := 8) (by omega) (gr_CK_N hCK ha hi) hK (by omega)
  have htd := gr_Stk_le d t Q hStk
  obtain ⟨q1, q2, q3, q4, q5⟩ := n4 0 (by decide)
  obtain ⟨s1, s2, s3, s, s4, s5, s6⟩ := n5 1 (by decide) (by decide)
  refine gr_step (v' := (g_capacity, nI mf, nI cnt, 2, g_wrongKind, g_wrongNode, g_program, nI (sp + 1), g_blamed, f_typeOfResult, g_vTag, g_vVal, g_vLay, a_operands (3 * a + gc_pc 8), g_todoEnv, nI nc, nI nb, nI nl, nI (d + 1), a_kinds, a_operands, b_parent, b_types, b_cNode, b_cEnv, b_bTag, b_bVal, b_bLay, b_bNext, b_lSource, b_lTarget, b_lLabel, b_lInner, upd b_frNode d (nI a), upd b_frEnv d g_todoEnv, upd b_frPhase d 0, b_frVal, b_frLay))
    (gr_Y_visit ha (fun post h => gy_visit_push (κ := 8) ha (by decide) hK hs b3 (by omega) h))
    (gr_X_visit ha (fun post hp => gx_visit_as ha hK hs b3 (by omega) (by omega) s4 (by omega) hPc c2 hPt (fun id lb' cc' dr' x1 x2 x3 => hp _ (IH _ _ (?_)))))
  have y1 := x1.1
  have y2 := x1.2.1
  have hGr : gr_Gr a_labels cc nb eT nc cm nl lw lb' cc' nb eT nc cm nl lw := ⟨⟨x1.1, x1.2.2⟩, ⟨Nat.le_refl _, fun _ _ => rfl⟩, ⟨Nat.le_refl _, fun _ _ => rfl⟩, ⟨Nat.le_refl _, fun _ _ => rfl⟩⟩
  have hS : gr_Stk a_kinds a_operands b_types a_inProgram G lb' cc' nb eT nc cm nl lw f_typeOfResult (upd b_frNode d (nI a)) (upd b_frEnv d g_todoEnv) (upd b_frPhase d 0) b_frVal b_frLay a_frameNode a_frameStage a_frameEnv (upd a_framePending t (nI id)) a_frameData a_frameCoercion (d + 1) t (gc_sq (gr_sv a_operands b_types 8 a 1) Q.1, b_types (gr_ch a_operands 8 a 0), Q.2.2.1 + 1, Q.2.2.2.1, Q.2.2.2.2) := by
    refine ⟨Q, Or.inl ⟨?_, ?_⟩⟩
    · simp only [gc_len, if_pos]
      exact Or.inl ⟨a, rfl, ha, hi, hK, rfl, hQ, rfl⟩
    · refine gr_Stk_mono hGr d t Q hStk (fun f hf => ?_) (fun j hj => ⟨rfl, rfl, rfl, rfl, rfl⟩) (fun j hj => ?_)
      · have e : ¬ f = d := by omega
        simp only [gc_len, if_neg e]
        exact ⟨trivial, trivial, trivial, trivial, trivial⟩
      · rw [gc_len, if_neg (by omega)]
  have hC' : gr_Co G lb0 comp mf cc' nb eT nc cm nl lw t (d + 1) (sp + 1) (gc_sq (gr_sv a_operands b_types 8 a 1) Q.1, b_types (gr_ch a_operands 8 a 0), Q.2.2.1 + 1, Q.2.2.2.1, Q.2.2.2.2) f_typeOfResult a_kinds a_operands b_types a_inProgram lb' a_cellNext a_cellTag a_cellData a_cellCoercion a_closureNode a_closureEnv a_frameNode a_frameStage a_frameEnv (upd a_framePending t (nI id)) a_frameData a_frameCoercion b_bNext b_bTag b_bVal b_bLay b_cNode b_cEnv b_lSource b_lTarget b_lLabel b_lInner (upd b_frNode d (nI a)) (upd b_frEnv d g_todoEnv) (upd b_frPhase d 0) b_frVal b_frLay :=
    ⟨⟨by omega, by omega, by omega, by dsimp only; omega, by dsimp only; omega, by dsimp only; omega, by omega⟩, gc_Ext_z x1 (by omega) c2, fun j hj => (x1.2.2 j (by omega)).trans (c3 j hj), c4, gr_TB_lb hTB x1.1 x1.2.2, hS⟩
  refine gr_mkV hB hP hC' ⟨gr_ch a_operands 8 a 0, id, q2, q2, by omega, q3, ?_, rfl, by rw [gc_len, if_pos rfl], x2, ?_⟩ (by dsimp only; omega)
  · rw [q5]
    exact hE
  · exact gc_ap_tr x3 (gc_ap_sq (gc_ap_of (fun j hj => (c3 _ (by omega)).trans (s6 j hj))) hap)
end
end
section
theorem gr_VX_c {lb : Nat → Int32} {cc g : Nat} {co : Int32} {w : Nat → Int32} (h : gr_VX lb cc g co w) : ∃ c, (g = 3 → co = nI c ∧ c < cc) ∧ (g = 3 → ∀ k, 3 ≤ k → k < 9 → gc_row lb c k = w k) := by
  by_cases e : g = 3
  · obtain ⟨c, h1, h2, h3⟩ := h e
    exact ⟨c, fun _ => ⟨h1, h2⟩, fun _ => h3⟩
  · exact ⟨0, fun z => absurd z e, fun z => absurd z e⟩
theorem gc_fn_A {t : Int32} (h : gc_A t) (hf : gc_ft 3 t = true) : gc_fn t = 3 := by
  obtain ⟨j, hj, rfl⟩ := h
  obtain rfl | rfl | rfl | rfl : j = 0 ∨ j = 1 ∨ j = 2 ∨ j = 3 := by omega
  · rfl
  · exact absurd hf (by decide)
  · exact absurd hf (by decide)
  · rfl
theorem gc_ev_sq {w b : Nat → Int32} {k : Nat} (h : 3 ≤ k) : gc_sq (gc_ev w) b k = b k := by
  have e : gc_ev w k = gc_zv k := by unfold gc_ev; rw [if_neg (by omega)]; rfl
  rw [gc_sq_at (a' := gc_zv) (b' := b) e rfl, gc_sq_z]
section
variable {f_maxNodes f_maxFuel f_nodeCount f_outcome f_programRoot f_faultKind f_faultNode f_walkTop f_contextDepth f_coercionCount f_compiledCount f_cellCount f_closureCount f_top f_running f_atNode f_atEnv f_valueTag f_valueData f_valueCoercion f_typeOfResult f_fuelSpent f_blamedLabel : Int32} {a_kinds a_operands a_hasParent a_inProgram a_nodeType a_siteTargets a_siteCoercions a_walkNode a_walkStep a_contextType a_labels a_draft a_cellNext a_cellTag a_cellData a_cellCoercion a_closureNode a_closureEnv a_frameNode a_frameStage a_frameEnv a_framePending a_frameData a_frameCoercion : Nat → Int32} {g_capacity g_fuel g_count g_state g_wrongKind g_wrongNode g_program g_used g_blamed g_resType g_vTag g_vVal g_vLay g_todo g_todoEnv g_closures g_bindings g_layers g_depth : Int32} {b_kinds b_ops b_parent b_types b_cNode b_cEnv b_bTag b_bVal b_bLay b_bNext b_lSource b_lTarget b_lLabel b_lInner b_frNode b_frEnv b_frPhase b_frVal b_frLay : Nat → Int32}
variable {G : Nat → List Int32} {lb0 : Nat → Int32} {comp cnt mf mn root cc nb : Nat} {eT : Nat → List Int32} {nc : Nat} {cm : Nat → Nat} {nl : Nat} {lw : Nat → Nat → Int32} {t d sp : Nat} {Q : gr_Q}
theorem gs_done {M : Nat} (IH : ∀ u v, gr_Sim M u v → gr_GX M u v) (hB : gr_B mn mf cnt f_maxNodes (nI mf) f_nodeCount g_capacity (nI mf) (nI cnt) a_kinds a_operands a_hasParent a_kinds a_operands b_parent) (hP : gr_P root comp cnt G f_programRoot g_program f_compiledCount a_kinds a_operands b_types a_inProgram a_nodeType a_siteTargets a_siteCoercions lb0) {g : Nat} {w wX : Nat → Int32} {P : Nat} (hVY : gr_VY a_operands nc cm nl lw g g_vVal g_vLay Q.2.1 w) (hVX : gr_VX a_labels cc g f_valueCoercion wX) (hPt : a_framePending t = nI P) (hPc : P < cc) (hrow : gc_row a_labels P (g - 1) = Q.1 (g - 1)) (heq : g = 3 → gc_row a_labels P 2 = 0 → ∀ k, 3 ≤ k → k < 9 → gc_sq wX (gc_row a_labels P) k = gc_sq w Q.1 k) (hM : 7 * (mf - sp) + 2 * Q.2.2.1 + 1 ≤ M + 1) (hC : gr_Co G lb0 comp mf cc nb eT nc cm nl lw t 0 sp Q f_typeOfResult a_kinds a_operands b_types a_inProgram a_labels a_cellNext a_cellTag a_cellData a_cellCoercion a_closureNode a_closureEnv a_frameNode a_frameStage a_frameEnv a_framePending a_frameData a_frameCoercion b_bNext b_bTag b_bVal b_bLay b_cNode b_cEnv b_lSource b_lTarget b_lLabel b_lInner b_frNode b_frEnv b_frPhase b_frVal b_frLay) : gr_GX (M + 1) (f_maxNodes, nI mf, f_nodeCount, f_outcome, f_programRoot, f_faultKind, f_faultNode, f_walkTop, f_contextDepth, nI cc, f_compiledCount, nI (nb + 1), nI nc, nI t, 1, -1, f_atEnv, nI g, g_vVal, f_valueCoercion, f_typeOfResult, nI sp, f_blamedLabel, a_kinds, a_operands, a_hasParent, a_inProgram, a_nodeType, a_siteTargets, a_siteCoercions, a_walkNode, a_walkStep, a_contextType, a_labels, a_draft, a_cellNext, a_cellTag, a_cellData, a_cellCoercion, a_closureNode, a_closureEnv, a_frameNode, a_frameStage, a_frameEnv, a_framePending, a_frameData, a_frameCoercion) (g_capacity, nI mf, nI cnt, 2, g_wrongKind, g_wrongNode, g_program, nI sp, g_blamed, f_typeOfResult, nI g, g_vVal, g_vLay, -1, g_todoEnv, nI nc, nI nb, nI nl, nI 0, a_kinds, a_operands, b_parent, b_types, b_cNode, b_cEnv, b_bTag, b_bVal, b_bLay, b_bNext, b_lSource, b_lTarget, b_lLabel, b_lInner, b_frNode, b_frEnv, b_frPhase, b_frVal, b_frLay) := by
  obtain ⟨b1, b2, b3, b4, _⟩ := id hB
  obtain ⟨_, _, _, _, _, _, p7, p8, hCK⟩ := id hP
  obtain ⟨⟨k1, k2, k3, k4, k5, k6, k7⟩, c2, c3, c4, hTB, hStk⟩ := id hC
  obtain ⟨e1, e2⟩ := hStk
  subst e1 e2
  obtain ⟨c, v1, v2⟩ := gr_VX_c hVX
  have z : gc_row a_labels P (g - 1) = 0 := hrow
  refine gr_fin2 (v' := (g_capacity, nI mf, nI cnt, 3, g_wrongKind, g_wrongNode, g_program, nI sp, g_blamed, f_typeOfResult, nI g, g_vVal, g_vLay, -1, g_todoEnv, nI nc, nI nb, nI nl, nI 0, a_kinds, a_operands, b_parent, b_types, b_cNode, b_cEnv, b_bTag, b_bVal, b_bLay, b_bNext, b_lSource, b_lTarget, b_lLabel, b_lInner, b_frNode, b_frEnv, b_frPhase, b_frVal, b_frLay)) (fun post n x hx h => gr_Y_done hx h)
    (gr_X_resume (fun post hp => gx_resume_done (by omega) hPc hVY.1 c2 v1 (by decide) hPt c4.1 z (fun vc lb' cc' dr' x1 x2 => hp _ ⟨?_, fun PX n x hx h => gr_X_end hx h⟩)))
  have y1 := x1.1
  have y2 := x1.2.1
  dsimp only at k4 k5 k6
  refine gr_R3 hB hP (gc_Ext_z x1 (by omega) c2) (fun j hj => (x1.2.2 j (by omega)).trans (c3 j hj)) k1 ⟨cc', nb, eT, nc, cm, nl, lw, g, w, rfl, by omega, by omega, rfl, rfl, rfl, rfl, rfl, k3, by omega, by omega, rfl, c4.2, gr_TB_lb hTB x1.1 x1.2.2, rfl, rfl, rfl, hVY, fun e3 => ?_⟩
  obtain ⟨id, i1, i2, i3⟩ := x2 e3
  subst e3
  refine ⟨id, i1, i2, fun k h1 h2 => ?_⟩
  rw [i3 k h1 h2, gc_sq_at (a' := wX) (b' := gc_row a_labels P) (v2 rfl k h1 h2) rfl, heq rfl z k h1 h2]
  show gc_sq w gc_zv k = w k
  rw [gc_z_sq]
theorem gs_pop {M : Nat} (IH : ∀ u v, gr_Sim M u v → gr_GX M u v) (hB : gr_B mn mf cnt f_maxNodes (nI mf) f_nodeCount g_capacity (nI mf) (nI cnt) a_kinds a_operands a_hasParent a_kinds a_operands b_parent) (hP : gr_P root comp cnt G f_programRoot g_program f_compiledCount a_kinds a_operands b_types a_inProgram a_nodeType a_siteTargets a_siteCoercions lb0) {g : Nat} {w wX : Nat → Int32} {P : Nat} (hVY : gr_VY a_operands nc cm nl lw g g_vVal g_vLay Q.2.1 w) (hVX : gr_VX a_labels cc g f_valueCoercion wX) (hPt : a_framePending t = nI P) (hPc : P < cc) (hrow : gc_row a_labels P (g - 1) = Q.1 (g - 1)) (heq : g = 3 → gc_row a_labels P 2 = 0 → ∀ k, 3 ≤ k → k < 9 → gc_sq wX (gc_row a_labels P) k = gc_sq w Q.1 k) (hM : 7 * (mf - sp) + 2 * Q.2.2.1 + 1 ≤ M + 1) (hC : gr_Co G lb0 comp mf cc nb eT nc cm nl lw t (d + 1) sp Q f_typeOfResult a_kinds a_operands b_types a_inProgram a_labels a_cellNext a_cellTag a_cellData a_cellCoercion a_closureNode a_closureEnv a_frameNode a_frameStage a_frameEnv a_framePending a_frameData a_frameCoercion b_bNext b_bTag b_bVal b_bLay b_cNode b_cEnv b_lSource b_lTarget b_lLabel b_lInner b_frNode b_frEnv b_frPhase b_frVal b_frLay) {Q0 : gr_Q} {m κ k : Nat} {fp' : Nat → Int32} (hm : m < 48) (hi : a_inProgram m = 1) (hK : a_kinds m = nI κ) (hκ : κ ≤ 8) (h1 : 1 ≤ k) (h2 : k ≤ gc_ns κ)
    (hQ : Q = (gc_sq (gr_sv a_operands b_types κ m k) Q0.1, b_types (gr_ch a_operands κ m (k - 1)), Q0.2.2.1 + 1, Q0.2.2.2.1, Q0.2.2.2.2)) (hti : gr_t a_operands b_types κ m k = Q0.2.1)
    (hS : gr_Stk a_kinds a_operands b_types a_inProgram G a_labels cc nb eT nc cm nl lw f_typeOfResult b_frNode b_frEnv b_frPhase b_frVal b_frLay a_frameNode a_frameStage a_frameEnv a_framePending a_frameData a_frameCoercion d t Q0) (hfp : ∀ f, f < d → fp' f = b_frPhase f)
    (hY : ∀ (s1 b1 y1 l1 : Int32) (q1 q2 q3 q4 : Nat → Int32) (post : SY → Prop), (∀ post : SY → Prop, post (g_capacity, nI mf, nI cnt, s1, g_wrongKind, g_wrongNode, g_program, nI sp, b1, f_typeOfResult, nI g, g_vVal, y1, -1, g_todoEnv, nI nc, nI nb, l1, nI (d + 1), a_kinds, a_operands, b_parent, b_types, b_cNode, b_cEnv, b_bTag, b_bVal, b_bLay, b_bNext, q1, q2, q3, q4, b_frNode, b_frEnv, fp', b_frVal, b_frLay) → wpY_cast post (g_capacity, nI mf, nI cnt, 2, g_wrongKind, g_wrongNode, g_program, nI sp, g_blamed, f_typeOfResult, nI g, g_vVal, g_vLay, -1, g_todoEnv, nI nc, nI nb, nI nl, nI (d + 1), a_kinds, a_operands, b_parent, b_types, b_cNode, b_cEnv, b_bTag, b_bVal, b_bLay, b_bNext, b_lSource, b_lTarget, b_lLabel, b_lInner, b_frNode, b_frEnv, fp', b_frVal, b_frLay) (nI (4 * m + k))) → post (g_capacity, nI mf, nI cnt, s1, g_wrongKind, g_wrongNode, g_program, nI sp, b1, f_typeOfResult, nI g, g_vVal, y1, -1, g_todoEnv, nI nc, nI nb, l1, nI d, a_kinds, a_operands, b_parent, b_types, b_cNode, b_cEnv, b_bTag, b_bVal, b_bLay, b_bNext, q1, q2, q3, q4, b_frNode, b_frEnv, fp', b_frVal, b_frLay) → wpY_resume post (g_capacity, nI mf, nI cnt, 2, g_wrongKind, g_wrongNode, g_program, nI sp, g_blamed, f_typeOfResult, nI g, g_vVal, g_vLay, -1, g_todoEnv, nI nc, nI nb, nI nl, nI (d + 1), a_kinds, a_operands, b_parent, b_types, b_cNode, b_cEnv, b_bTag, b_bVal, b_bLay, b_bNext, b_lSource, b_lTarget, b_lLabel, b_lInner, b_frNode, b_frEnv, b_frPhase, b_frVal, b_frLay)) :
    gr_GX (M + 1) (f_maxNodes, nI mf, f_nodeCount, f_outcome, f_programRoot, f_faultKind, f_faultNode, f_walkTop, f_contextDepth, nI cc, f_compiledCount, nI (nb + 1), nI nc, nI t, 1, -1, f_atEnv, nI g, g_vVal, f_valueCoercion, f_typeOfResult, nI sp, f_blamedLabel, a_kinds, a_operands, a_hasParent, a_inProgram, a_nodeType, a_siteTargets, a_siteCoercions, a_walkNode, a_walkStep, a_contextType, a_labels, a_draft, a_cellNext, a_cellTag, a_cellData, a_cellCoercion, a_closureNode, a_closureEnv, a_frameNode, a_frameStage, a_frameEnv, a_framePending, a_frameData, a_frameCoercion) (g_capacity, nI mf, nI cnt, 2, g_wrongKind, g_wrongNode, g_program, nI sp, g_blamed, f_typeOfResult, nI g, g_vVal, g_vLay, -1, g_todoEnv, nI nc, nI nb, nI nl, nI (d + 1), a_kinds, a_operands, b_parent, b_types, b_cNode, b_cEnv, b_bTag, b_bVal, b_bLay, b_bNext, b_lSource, b_lTarget, b_lLabel, b_lInner, b_frNode, b_frEnv, b_frPhase, b_frVal, b_frLay) := by
  obtain ⟨b1, b2, b3, b4, _⟩ := id hB
  obtain ⟨_, _, _, _, _, _, p7, p8, hCK⟩ := id hP
  obtain ⟨⟨k1, k2, k3, k4, k5, k6, k7⟩, c2, c3, c4, hTB, _⟩ := id hC
  have hN := gr_CK_N hCK hm hi
  obtain ⟨n1, n2, n3, n4, n5, n6⟩ := gr_N_kind (by omega) hN hK hκ
  have T := gc_tab hκ
  obtain ⟨s1, s2, s3, _⟩ := n5 k h1 h2
  obtain ⟨c, v1, v2⟩ := gr_VX_c hVX
  subst hQ
  dsimp only at k4 k5 k6 hM hrow heq hVY
  have hg := hVY.1
  have hp : ¬ nI (4 * m + k) = 0 := gc_ne0 (by omega) (by omega)
  have htd := gr_Stk_le d t Q0 hS
  by_cases hz : gr_sv a_operands b_types κ m k (g - 1) = 0
  · obtain ⟨nl', lay', lS, lT, lL, lI, lw', m1, m2, m3, m4, m5, m6⟩ := gr_cP (by omega) hN hK hκ h1 h2 hg hz hVY.2.1 (by omega) hTB.1 (fun e => (hVY.2.2.2 e).choose_spec.2.1)
    refine gr_stut (v' := (g_capacity, nI mf, nI cnt, 2, g_wrongKind, g_wrongNode, g_program, nI sp, g_blamed, f_typeOfResult, nI g, g_vVal, lay', -1, g_todoEnv, nI nc, nI nb, nI nl', nI d, a_kinds, a_operands, b_parent, b_types, b_cNode, b_cEnv, b_bTag, b_bVal, b_bLay, b_bNext, lS, lT, lL, lI, b_frNode, b_frEnv, fp', b_frVal, b_frLay)) (gr_Y_resume (by omega) (fun post h => hY _ _ _ _ _ _ _ _ post m6 h)) (IH _ _ ?_)
    have hGr : gr_Gr a_labels cc nb eT nc cm nl lw a_labels cc nb eT nc cm nl' lw' := ⟨⟨Nat.le_refl _, fun _ _ => rfl⟩, ⟨Nat.le_refl _, fun _ _ => rfl⟩, ⟨Nat.le_refl _, fun _ _ => rfl⟩, ⟨m1, m4⟩⟩
    have hC' : gr_Co G lb0 comp mf cc nb eT nc cm nl' lw' t d sp Q0 f_typeOfResult a_kinds a_operands b_types a_inProgram a_labels a_cellNext a_cellTag a_cellData a_cellCoercion a_closureNode a_closureEnv a_frameNode a_frameStage a_frameEnv a_framePending a_frameData a_frameCoercion b_bNext b_bTag b_bVal b_bLay b_cNode b_cEnv lS lT lL lI b_frNode b_frEnv fp' b_frVal b_frLay :=
      ⟨⟨by omega, by omega, by omega, by omega, by omega, by omega, by omega⟩, c2, c3, c4, gr_TB_ly hTB m1 m4 m3, gr_Stk_mono hGr d t Q0 hS (fun f hf => ⟨rfl, rfl, hfp f hf, rfl, rfl⟩) (fun _ _ => ⟨rfl, rfl, rfl, rfl, rfl⟩) (fun _ _ => rfl)⟩
    have hVY' := gr_VY_cast (nl' := nl') (lw' := lw') (lay' := lay') hVY hp s3 hz m5
    rw [hti] at hVY'
    refine gr_mkR hB hP hC' ⟨rfl, rfl, g, _, wX, P, rfl, rfl, rfl, hVY', hVX, hPt, hPc, ?_, fun e3 z k' h3 h4 => ?_⟩ (by omega)
    · rw [hrow, gc_sq_lo0 (by omega) hz]
    · rw [heq e3 z k' h3 h4, ← hti, gr_sq_cv h3]
      rfl
  · have hb : gc_row a_labels P (g - 1) = gr_sv a_operands b_types κ m k (g - 1) := by rw [hrow, gc_sq_lo1 (by omega) hz]
    have hb' : ¬ gc_row a_labels P (g - 1) = 0 := by rw [hb]; exact hz
    refine gr_fin2 (v' := (g_capacity, nI mf, nI cnt, 4, g_wrongKind, g_wrongNode, g_program, nI sp, gc_row a_labels P (g - 1), f_typeOfResult, nI g, g_vVal, g_vLay, -1, g_todoEnv, nI nc, nI nb, nI nl, nI d, a_kinds, a_operands, b_parent, b_types, b_cNode, b_cEnv, b_bTag, b_bVal, b_bLay, b_bNext, b_lSource, b_lTarget, b_lLabel, b_lInner, b_frNode, b_frEnv, fp', b_frVal, b_frLay)) (gr_Y_fin (gr_Y_resume (by omega) (fun post h => hY _ _ _ _ _ _ _ _ post (gr_cF (by omega) hN hK hκ h1 h2 hg hz) (by rw [← hb]; exact h))) (by decide))
      (gr_X_resume (fun post hp => gx_resume_blame (by omega) hPc hg c2 v1 (by omega) hPt hb' (hp _ ⟨gr_R4 hB hP c2 c3 k1, fun PX n x hx h => gr_X_end hx h⟩)))
theorem gs_leave {M : Nat} (IH : ∀ u v, gr_Sim M u v → gr_GX M u v) (hB : gr_B mn mf cnt f_maxNodes (nI mf) f_nodeCount g_capacity (nI mf) (nI cnt) a_kinds a_operands a_hasParent a_kinds a_operands b_parent) (hP : gr_P root comp cnt G f_programRoot g_program f_compiledCount a_kinds a_operands b_types a_inProgram a_nodeType a_siteTargets a_siteCoercions lb0) {g : Nat} {w wX : Nat → Int32} {P : Nat} (hVY : gr_VY a_operands nc cm nl lw g g_vVal g_vLay Q.2.1 w) (hVX : gr_VX a_labels cc g f_valueCoercion wX) (hPt : a_framePending t = nI P) (hPc : P < cc) (hrow : gc_row a_labels P (g - 1) = Q.1 (g - 1)) (heq : g = 3 → gc_row a_labels P 2 = 0 → ∀ k, 3 ≤ k → k < 9 → gc_sq wX (gc_row a_labels P) k = gc_sq w Q.1 k) (hM : 7 * (mf - sp) + 2 * Q.2.2.1 + 1 ≤ M + 1) (hC : gr_Co G lb0 comp mf cc nb eT nc cm nl lw t (d + 1) sp Q f_typeOfResult a_kinds a_operands b_types a_inProgram a_labels a_cellNext a_cellTag a_cellData a_cellCoercion a_closureNode a_closureEnv a_frameNode a_frameStage a_frameEnv a_framePending a_frameData a_frameCoercion b_bNext b_bTag b_bVal b_bLay b_cNode b_cEnv b_lSource b_lTarget b_lLabel b_lInner b_frNode b_frEnv b_frPhase b_frVal b_frLay) {Q0 : gr_Q} {q : Nat} {wf : Nat → Int32} {V : Int32} (hNd : b_frNode d = -1 ∨ ∃ m, b_frNode d = nI m ∧ m < 48 ∧ a_kinds m = 4) (hph : b_frPhase d = 2) (hval : b_frVal d = nI q) (hLf : gr_LV nl lw (b_frLay d) wf) (hFn : gr_Fn a_operands nc cm q wf V) (hTV : gc_T V) (hti : Q0.2.1 = gc_tc V)
    (hQ : Q = (gc_sq (gc_sq (gr_sv a_operands b_types 3 (cm q) 1) (gc_ev wf)) Q0.1, b_types (gr_ch a_operands 3 (cm q) 0), Q0.2.2.1 + 1, Q0.2.2.2.1, Q0.2.2.2.2))
    (hS : gr_Stk a_kinds a_operands b_types a_inProgram G a_labels cc nb eT nc cm nl lw f_typeOfResult b_frNode b_frEnv b_frPhase b_frVal b_frLay a_frameNode a_frameStage a_frameEnv a_framePending a_frameData a_frameCoercion d t Q0) :
    gr_GX (M + 1) (f_maxNodes, nI mf, f_nodeCount, f_outcome, f_programRoot, f_faultKind, f_faultNode, f_walkTop, f_contextDepth, nI cc, f_compiledCount, nI (nb + 1), nI nc, nI t, 1, -1, f_atEnv, nI g, g_vVal, f_valueCoercion, f_typeOfResult, nI sp, f_blamedLabel, a_kinds, a_operands, a_hasParent, a_inProgram, a_nodeType, a_siteTargets, a_siteCoercions, a_walkNode, a_walkStep, a_contextType, a_labels, a_draft, a_cellNext, a_cellTag, a_cellData, a_cellCoercion, a_closureNode, a_closureEnv, a_frameNode, a_frameStage, a_frameEnv, a_framePending, a_frameData, a_frameCoercion) (g_capacity, nI mf, nI cnt, 2, g_wrongKind, g_wrongNode, g_program, nI sp, g_blamed, f_typeOfResult, nI g, g_vVal, g_vLay, -1, g_todoEnv, nI nc, nI nb, nI nl, nI (d + 1), a_kinds, a_operands, b_parent, b_types, b_cNode, b_cEnv, b_bTag, b_bVal, b_bLay, b_bNext, b_lSource, b_lTarget, b_lLabel, b_lInner, b_frNode, b_frEnv, b_frPhase, b_frVal, b_frLay) := by
  obtain ⟨b1, b2, b3, b4, _⟩ := id hB
  obtain ⟨_, _, _, _, _, _, p7, p8, hCK⟩ := id hP
  obtain ⟨⟨k1, k2, k3, k4, k5, k6, k7⟩, c2, c3, c4, hTB, _⟩ := id hC
  obtain ⟨t1, t2, t3, t4, t5, t6⟩ := hTB.2.2 q hFn.1
  have hN := gr_CK_N hCK t3 t4
  obtain ⟨n1, n2, n3, n4, n5, n6⟩ := gr_N_kind (κ := 3) (by omega) hN t5 (by decide)
  obtain ⟨s1, s2, s3, _⟩ := n5 1 (by decide) (by decide)
  obtain ⟨r1, r2, r3⟩ := n6.2.2.2.1 rfl
  obtain ⟨c, v1, v2⟩ := gr_VX_c hVX
  subst hQ
  dsimp only at k4 k5 k6 hM hrow heq hVY
  have hg := hVY.1
  have hq := hFn.1
  have hp : ¬ nI (4 * cm q + 1) = 0 := gc_ne0 (by omega) (by omega)
  have htd := gr_Stk_le d t Q0 hS
  have htt : gr_t a_operands b_types 3 (cm q) 1 = a_operands (3 * cm q + 1) := rfl
  have eev : gc_ev wf (g - 1) = wf (5 + g) := by
    unfold gc_ev
    rw [if_pos (by omega), show 6 + (g - 1) = 5 + g by omega]
  by_cases hz : gr_sv a_operands b_types 3 (cm q) 1 (g - 1) = 0
  · obtain ⟨nl', lay', lS, lT, lL, lI, lw', m1, m2, m3, m4, m5, m6⟩ := gr_cP (n := cm q) (κ := 3) (k := 1) (by omega) hN t5 (by decide) (by decide) (by decide) hg hz hVY.2.1 (by omega) hTB.1 (fun e => (hVY.2.2.2 e).choose_spec.2.1)
    have hLf' := gr_LV_mono hLf m1 m4
    have hrow' : gc_row a_labels P (g - 1) = gc_sq (gc_ev wf) Q0.1 (g - 1) := by rw [hrow, gc_sq_as, gc_sq_lo0 (by omega) hz]
    have hVY' := gr_VY_cast (nl' := nl') (lw' := lw') (lay' := lay') hVY hp s3 hz m5
    by_cases ho : wf (5 + g) = 0
    · refine gr_stut (v' := (g_capacity, nI mf, nI cnt, 2, g_wrongKind, g_wrongNode, g_program, nI sp, g_blamed, f_typeOfResult, nI g, g_vVal, lay', -1, g_todoEnv, nI nc, nI nb, nI nl', nI d, a_kinds, a_operands, b_parent, b_types, b_cNode, b_cEnv, b_bTag, b_bVal, b_bLay, b_bNext, lS, lT, lL, lI, b_frNode, b_frEnv, upd b_frPhase d 3, b_frVal, b_frLay)) (gr_Y_resume (by omega) (fun post h => gy_resume_leave (m := cm q) (by omega) hNd hph hval (by omega) t1 t3 hg (by omega) m3 hLf' m6 (fun s' bl' hh => ?_))) (IH _ _ ?_)
      · rcases hh with ⟨_, e1, e2⟩ | ⟨e1, _⟩
        · subst e1 e2; exact h
        · exact absurd ho e1
      · have hGr : gr_Gr a_labels cc nb eT nc cm nl lw a_labels cc nb eT nc cm nl' lw' := ⟨⟨Nat.le_refl _, fun _ _ => rfl⟩, ⟨Nat.le_refl _, fun _ _ => rfl⟩, ⟨Nat.le_refl _, fun _ _ => rfl⟩, ⟨m1, m4⟩⟩
        have hC' : gr_Co G lb0 comp mf cc nb eT nc cm nl' lw' t d sp Q0 f_typeOfResult a_kinds a_operands b_types a_inProgram a_labels a_cellNext a_cellTag a_cellData a_cellCoercion a_closureNode a_closureEnv a_frameNode a_frameStage a_frameEnv a_framePending a_frameData a_frameCoercion b_bNext b_bTag b_bVal b_bLay b_cNode b_cEnv lS lT lL lI b_frNode b_frEnv (upd b_frPhase d 3) b_frVal b_frLay :=
          ⟨⟨by omega, by omega, by omega, by omega, by omega, by omega, by omega⟩, c2, c3, c4, gr_TB_ly hTB m1 m4 m3, gr_Stk_mono hGr d t Q0 hS (fun f hf => ⟨rfl, rfl, by rw [gc_len, if_neg (by omega)], rfl, rfl⟩) (fun _ _ => ⟨rfl, rfl, rfl, rfl, rfl⟩) (fun _ _ => rfl)⟩
        have hft : gc_ft (nI g) (gc_tc V) = true := (hFn.2 g hg).1 hVY'.2.1 ho
        refine gr_mkR hB hP hC' ⟨rfl, rfl, g, gc_sq w (gc_ly (gc_fn (b_types (gr_ch a_operands 3 (cm q) 0))) (gc_fn (gr_t a_operands b_types 3 (cm q) 1)) (nI (4 * cm q + 1))), wX, P, rfl, rfl, rfl, ?_, hVX, hPt, hPc, ?_, fun e3 z k' h3 h4 => ?_⟩ (by omega)
        · rw [hti]
          refine ⟨hg, hft, hVY'.2.2.1, fun e3 => ?_⟩
          obtain ⟨q', d1, d2, d3, d4⟩ := hVY'.2.2.2 e3
          have e1 : gc_fn (gr_t a_operands b_types 3 (cm q) 1) = 3 := gc_fn_A r2 (by have := hVY'.2.1; rw [e3] at this; exact this)
          have e2 : gc_fn (gc_tc V) = 3 := gc_fn_A (gc_tc_A hTV) (by rw [e3] at hft; exact hft)
          refine ⟨q', d1, d2, d3, ?_⟩
          rw [e2, ← e1]
          exact d4
        · rw [hrow', gc_sq_lo0 (by omega) (eev.trans ho)]
        · rw [heq e3 z k' h3 h4, gc_sq_as]
          refine (gr_sq_cv h3).symm.trans (gc_sq_at rfl (gc_ev_sq h3))
    · have hb : gc_row a_labels P (g - 1) = wf (5 + g) := by rw [hrow', gc_sq_lo1 (by omega) (by rw [eev]; exact ho), eev]
      have hb' : ¬ gc_row a_labels P (g - 1) = 0 := by rw [hb]; exact ho
      refine gr_fin2 (v' := (g_capacity, nI mf, nI cnt, 4, g_wrongKind, g_wrongNode, g_program, nI sp, gc_row a_labels P (g - 1), f_typeOfResult, nI g, g_vVal, lay', -1, g_todoEnv, nI nc, nI nb, nI nl', nI d, a_kinds, a_operands, b_parent, b_types, b_cNode, b_cEnv, b_bTag, b_bVal, b_bLay, b_bNext, lS, lT, lL, lI, b_frNode, b_frEnv, upd b_frPhase d 3, b_frVal, b_frLay)) (gr_Y_fin (gr_Y_resume (by omega) (fun post h => gy_resume_leave (m := cm q) (by omega) hNd hph hval (by omega) t1 t3 hg (by omega) m3 hLf' m6 (fun s' bl' hh => ?_))) (by decide))
        (gr_X_resume (fun post hp => gx_resume_blame (by omega) hPc hg c2 v1 (by omega) hPt hb' (hp _ ⟨gr_R4 hB hP c2 c3 k1, fun PX n x hx h => gr_X_end hx h⟩)))
      rcases hh with ⟨e0 | e0, e1, e2⟩ | ⟨e0, _, e1, e2⟩
      · exact absurd e0 ho
      · exact absurd rfl e0
      · rw [← hb] at e2
        subst e1 e2; exact h
  · have hb : gc_row a_labels P (g - 1) = gr_sv a_operands b_types 3 (cm q) 1 (g - 1) := by rw [hrow, gc_sq_as, gc_sq_lo1 (by omega) hz]
    have hb' : ¬ gc_row a_labels P (g - 1) = 0 := by rw [hb]; exact hz
    refine gr_fin2 (v' := (g_capacity, nI mf, nI cnt, 4, g_wrongKind, g_wrongNode, g_program, nI sp, gc_row a_labels P (g - 1), f_typeOfResult, nI g, g_vVal, g_vLay, -1, g_todoEnv, nI nc, nI nb, nI nl, nI d, a_kinds, a_operands, b_parent, b_types, b_cNode, b_cEnv, b_bTag, b_bVal, b_bLay, b_bNext, b_lSource, b_lTarget, b_lLabel, b_lInner, b_frNode, b_frEnv, upd b_frPhase d 3, b_frVal, b_frLay)) (gr_Y_fin (gr_Y_resume (by omega) (fun post h => gy_resume_leave (m := cm q) (by omega) hNd hph hval (by omega) t1 t3 hg (by omega) hTB.1 hLf (gr_cF (n := cm q) (κ := 3) (k := 1) (by omega) hN t5 (by decide) (by decide) (by decide) hg hz) (fun s' bl' hh => ?_))) (by decide))
      (gr_X_resume (fun post hp => gx_resume_blame (by omega) hPc hg c2 v1 (by omega) hPt hb' (hp _ ⟨gr_R4 hB hP c2 c3 k1, fun PX n x hx h => gr_X_end hx h⟩)))
    rcases hh with ⟨_, e1, e2⟩ | ⟨_, e0, _⟩
    · rw [← hb] at e2
      subst e1 e2; exact h
    · exact absurd e0 (by decide)
end
end
section
theorem gc_fn_hi {t : Int32} (h : gc_T t) (h1 : ¬ t = 1) (h2 : ¬ t = 2) : ¬ gc_fn t = 0 ∧ ¬ gc_fn t < 3 ∧ gc_fn (gc_fn t) = gc_fn t ∧ gc_T (gc_fn t) := by
  obtain ⟨j, j1, j2, rfl⟩ := h
  unfold gc_fn
  by_cases z : nI j = 0
  · rw [if_pos z]
    exact ⟨by decide, by decide, by rw [if_neg (by decide)], 3, by decide, by decide, rfl⟩
  · rw [if_neg z, if_neg z]
    refine ⟨z, fun hlt => ?_, rfl, j, j1, j2, rfl⟩
    have hl : j < 3 := (nI_ltI (a := j) (b := 3) (by omega) (by decide)).mp hlt
    obtain rfl | rfl | rfl : j = 0 ∨ j = 1 ∨ j = 2 := by omega
    · exact z rfl
    · exact h1 rfl
    · exact h2 rfl
section
variable {f_maxNodes f_maxFuel f_nodeCount f_outcome f_programRoot f_faultKind f_faultNode f_walkTop f_contextDepth f_coercionCount f_compiledCount f_cellCount f_closureCount f_top f_running f_atNode f_atEnv f_valueTag f_valueData f_valueCoercion f_typeOfResult f_fuelSpent f_blamedLabel : Int32} {a_kinds a_operands a_hasParent a_inProgram a_nodeType a_siteTargets a_siteCoercions a_walkNode a_walkStep a_contextType a_labels a_draft a_cellNext a_cellTag a_cellData a_cellCoercion a_closureNode a_closureEnv a_frameNode a_frameStage a_frameEnv a_framePending a_frameData a_frameCoercion : Nat → Int32} {g_capacity g_fuel g_count g_state g_wrongKind g_wrongNode g_program g_used g_blamed g_resType g_vTag g_vVal g_vLay g_todo g_todoEnv g_closures g_bindings g_layers g_depth : Int32} {b_kinds b_ops b_parent b_types b_cNode b_cEnv b_bTag b_bVal b_bLay b_bNext b_lSource b_lTarget b_lLabel b_lInner b_frNode b_frEnv b_frPhase b_frVal b_frLay : Nat → Int32}
variable {G : Nat → List Int32} {lb0 : Nat → Int32} {comp cnt mf mn root cc nb : Nat} {eT : Nat → List Int32} {nc : Nat} {cm : Nat → Nat} {nl : Nat} {lw : Nat → Nat → Int32} {t d sp : Nat} {Q : gr_Q}
theorem gs_let {M : Nat} (IH : ∀ u v, gr_Sim M u v → gr_GX M u v) (hB : gr_B mn mf cnt f_maxNodes (nI mf) f_nodeCount g_capacity (nI mf) (nI cnt) a_kinds a_operands a_hasParent a_kinds a_operands b_parent) (hP : gr_P root comp cnt G f_programRoot g_program f_compiledCount a_kinds a_operands b_types a_inProgram a_nodeType a_siteTargets a_siteCoercions lb0) {g : Nat} {w wX : Nat → Int32} {P : Nat} (hVY : gr_VY a_operands nc cm nl lw g g_vVal g_vLay Q.2.1 w) (hVX : gr_VX a_labels cc g f_valueCoercion wX) (hPt : a_framePending (t + 1) = nI P) (hPc : P < cc) (hrow : gc_row a_labels P (g - 1) = Q.1 (g - 1)) (heq : g = 3 → gc_row a_labels P 2 = 0 → ∀ k, 3 ≤ k → k < 9 → gc_sq wX (gc_row a_labels P) k = gc_sq w Q.1 k) (hM : 7 * (mf - sp) + 2 * Q.2.2.1 + 1 ≤ M + 1) (hC : gr_Co G lb0 comp mf cc nb eT nc cm nl lw (t + 1) (d + 1) sp Q f_typeOfResult a_kinds a_operands b_types a_inProgram a_labels a_cellNext a_cellTag a_cellData a_cellCoercion a_closureNode a_closureEnv a_frameNode a_frameStage a_frameEnv a_framePending a_frameData a_frameCoercion b_bNext b_bTag b_bVal b_bLay b_cNode b_cEnv b_lSource b_lTarget b_lLabel b_lInner b_frNode b_frEnv b_frPhase b_frVal b_frLay) {Q0 : gr_Q} {m P2 : Nat} (f1 : b_frNode d = nI m) (f2 : a_frameNode (t + 1) = nI m) (hm : m < 48) (hi : a_inProgram m = 1) (hE : gr_Env nb eT (a_frameEnv (t + 1)) (b_frEnv d) (G m)) (hQ0 : Q0.2.1 = b_types m) (fS : a_frameStage (t + 1) = b_frPhase d) (fP : a_framePending t = nI P2) (fPc : P2 < cc) (fap : gc_ap (gc_row a_labels P2) Q0.1) (hS : gr_Stk a_kinds a_operands b_types a_inProgram G a_labels cc nb eT nc cm nl lw f_typeOfResult b_frNode b_frEnv b_frPhase b_frVal b_frLay a_frameNode a_frameStage a_frameEnv a_framePending a_frameData a_frameCoercion d t Q0) (hK : a_kinds m = 7) (hph : b_frPhase d = 0) (hQ : Q = (gc_zv, b_types (gr_ch a_operands 7 m 0), Q0.2.2.1 + 1, Q0.2.2.2.1 + 2, Q0.2.2.2.2 + 1)) :
    gr_GX (M + 1) (f_maxNodes, nI mf, f_nodeCount, f_outcome, f_programRoot, f_faultKind, f_faultNode, f_walkTop, f_contextDepth, nI cc, f_compiledCount, nI (nb + 1), nI nc, nI (t + 1), 1, -1, f_atEnv, nI g, g_vVal, f_valueCoercion, f_typeOfResult, nI sp, f_blamedLabel, a_kinds, a_operands, a_hasParent, a_inProgram, a_nodeType, a_siteTargets, a_siteCoercions, a_walkNode, a_walkStep, a_contextType, a_labels, a_draft, a_cellNext, a_cellTag, a_cellData, a_cellCoercion, a_closureNode, a_closureEnv, a_frameNode, a_frameStage, a_frameEnv, a_framePending, a_frameData, a_frameCoercion) (g_capacity, nI mf, nI cnt, 2, g_wrongKind, g_wrongNode, g_program, nI sp, g_blamed, f_typeOfResult, nI g, g_vVal, g_vLay, -1, g_todoEnv, nI nc, nI nb, nI nl, nI (d + 1), a_kinds, a_operands, b_parent, b_types, b_cNode, b_cEnv, b_bTag, b_bVal, b_bLay, b_bNext, b_lSource, b_lTarget, b_lLabel, b_lInner, b_frNode, b_frEnv, b_frPhase, b_frVal, b_frLay) := by
  obtain ⟨b1, b2, b3, b4, _⟩ := id hB
  obtain ⟨_, _, _, _, _, _, p7, p8, hCK⟩ := id hP
  obtain ⟨⟨k1, k2, k3, k4, k5, k6, k7⟩, c2, c3, c4, hTB, _⟩ := id hC
  obtain ⟨n1, n2, n3, n4, n5, n6⟩ := gr_N_kind (κ := 7) (by omega) (gr_CK_N hCK hm hi) hK (by decide)
  obtain ⟨q1, q2, q3, q4, q5⟩ := n4 1 (by decide)
  obtain ⟨c, v1, v2⟩ := gr_VX_c hVX
  subst hQ
  dsimp only at k4 k5 k6 hM hrow heq hVY
  have htd := gr_Stk_le d t Q0 hS
  have z : gc_row a_labels P (g - 1) = 0 := hrow
  refine gr_step (v' := (g_capacity, nI mf, nI cnt, 2, g_wrongKind, g_wrongNode, g_program, nI sp, g_blamed, f_typeOfResult, nI g, g_vVal, g_vLay, a_operands (3 * m + 1), nI nb, nI nc, nI (nb + 1), nI nl, nI d, a_kinds, a_operands, b_parent, b_types, b_cNode, b_cEnv, upd b_bTag nb (nI g), upd b_bVal nb g_vVal, upd b_bLay nb g_vLay, upd b_bNext nb (b_frEnv d), b_lSource, b_lTarget, b_lLabel, b_lInner, b_frNode, b_frEnv, upd b_frPhase d 1, b_frVal, b_frLay))
    (gr_Y_resume (by omega) (fun post h => gy_resume_let (by omega) hm f1 hK hph (by omega) h))
    (gr_X_resume (fun post hp => gx_resume_let (by omega) hPc hVY.1 c2 v1 (by omega) hPt f2 hm hK (by omega) (by omega) z (fun vc lb' cc' dr' x1 x2 => hp _ (IH _ _ ?_))))
  have y1 := x1.1
  have y2 := x1.2.1
  have hVX' : gr_VX lb' cc' g vc w := by
    intro e3
    obtain ⟨id, i1, i2, i3⟩ := x2 e3
    subst e3
    refine ⟨id, i1, i2, fun k h1 h2 => ?_⟩
    rw [i3 k h1 h2, gc_sq_at (a' := wX) (b' := gc_row a_labels P) (v2 rfl k h1 h2) rfl, heq rfl z k h1 h2, gc_z_sq]
  have hGr : gr_Gr a_labels cc nb eT nc cm nl lw lb' cc' (nb + 1) (fun b => if b = nb then b_types (gr_ch a_operands 7 m 0) :: G m else eT b) nc cm nl lw := ⟨⟨x1.1, x1.2.2⟩, ⟨Nat.le_succ _, fun b hb => if_neg (by omega)⟩, ⟨Nat.le_refl _, fun _ _ => rfl⟩, ⟨Nat.le_refl _, fun _ _ => rfl⟩⟩
  have hC' : gr_Co G lb0 comp mf cc' (nb + 1) (fun b => if b = nb then b_types (gr_ch a_operands 7 m 0) :: G m else eT b) nc cm nl lw t d sp Q0 f_typeOfResult a_kinds a_operands b_types a_inProgram lb' (upd a_cellNext (nb + 1) (a_frameEnv (t + 1))) (upd a_cellTag (nb + 1) (nI g)) (upd a_cellData (nb + 1) g_vVal) (upd a_cellCoercion (nb + 1) vc) a_closureNode a_closureEnv a_frameNode a_frameStage a_frameEnv a_framePending a_frameData a_frameCoercion (upd b_bNext nb (b_frEnv d)) (upd b_bTag nb (nI g)) (upd b_bVal nb g_vVal) (upd b_bLay nb g_vLay) b_cNode b_cEnv b_lSource b_lTarget b_lLabel b_lInner b_frNode b_frEnv (upd b_frPhase d 1) b_frVal b_frLay :=
    ⟨⟨by omega, by omega, by omega, by omega, by omega, by omega, by omega⟩, gc_Ext_z x1 (by omega) c2, fun j hj => (x1.2.2 j (by omega)).trans (c3 j hj), c4, gr_TB_bind (gr_TB_lb hTB x1.1 x1.2.2) hE hVY hVX', gr_Stk_mono hGr d t Q0 hS (fun f hf => ⟨rfl, rfl, by rw [gc_len, if_neg (by omega)], rfl, rfl⟩) (fun _ _ => ⟨rfl, rfl, rfl, rfl, rfl⟩) (fun _ _ => rfl)⟩
  refine gr_mkV hB hP hC' ⟨gr_ch a_operands 7 m 1, P2, q2, q2, by omega, q3, ?_, ?_, fP, by omega, ?_⟩ (by omega)
  · rw [q5]
    exact Or.inr ⟨nb, by omega, rfl, rfl, if_pos rfl⟩
  · rw [hQ0]; exact n6.2.2.2.2.2.2.1 rfl
  · exact gc_ap_tr (gc_ap_of (fun k hk => gc_Ext_row x1 fPc hk)) fap
theorem gs_if {M : Nat} (IH : ∀ u v, gr_Sim M u v → gr_GX M u v) (hB : gr_B mn mf cnt f_maxNodes (nI mf) f_nodeCount g_capacity (nI mf) (nI cnt) a_kinds a_operands a_hasParent a_kinds a_operands b_parent) (hP : gr_P root comp cnt G f_programRoot g_program f_compiledCount a_kinds a_operands b_types a_inProgram a_nodeType a_siteTargets a_siteCoercions lb0) {g : Nat} {w wX : Nat → Int32} {P : Nat} (hVY : gr_VY a_operands nc cm nl lw g g_vVal g_vLay Q.2.1 w) (hVX : gr_VX a_labels cc g f_valueCoercion wX) (hPt : a_framePending (t + 1) = nI P) (hPc : P < cc) (hrow : gc_row a_labels P (g - 1) = Q.1 (g - 1)) (heq : g = 3 → gc_row a_labels P 2 = 0 → ∀ k, 3 ≤ k → k < 9 → gc_sq wX (gc_row a_labels P) k = gc_sq w Q.1 k) (hM : 7 * (mf - sp) + 2 * Q.2.2.1 + 1 ≤ M + 1) (hC : gr_Co G lb0 comp mf cc nb eT nc cm nl lw (t + 1) (d + 1) sp Q f_typeOfResult a_kinds a_operands b_types a_inProgram a_labels a_cellNext a_cellTag a_cellData a_cellCoercion a_closureNode a_closureEnv a_frameNode a_frameStage a_frameEnv a_framePending a_frameData a_frameCoercion b_bNext b_bTag b_bVal b_bLay b_cNode b_cEnv b_lSource b_lTarget b_lLabel b_lInner b_frNode b_frEnv b_frPhase b_frVal b_frLay) {Q0 : gr_Q} {m P2 : Nat} (f1 : b_frNode d = nI m) (f2 : a_frameNode (t + 1) = nI m) (hm : m < 48) (hi : a_inProgram m = 1) (hE : gr_Env nb eT (a_frameEnv (t + 1)) (b_frEnv d) (G m)) (hQ0 : Q0.2.1 = b_types m) (fS : a_frameStage (t + 1) = b_frPhase d) (fP : a_framePending t = nI P2) (fPc : P2 < cc) (fap : gc_ap (gc_row a_labels P2) Q0.1) (hS : gr_Stk a_kinds a_operands b_types a_inProgram G a_labels cc nb eT nc cm nl lw f_typeOfResult b_frNode b_frEnv b_frPhase b_frVal b_frLay a_frameNode a_frameStage a_frameEnv a_framePending a_frameData a_frameCoercion d t Q0) (hK : a_kinds m = 6) (hph : b_frPhase d = 0) (hQ : Q = (gr_sv a_operands b_types 6 m 1, b_types (gr_ch a_operands 6 m 0), Q0.2.2.1 + 2, Q0.2.2.2.1, Q0.2.2.2.2 + 2)) :
    gr_GX (M + 1) (f_maxNodes, nI mf, f_nodeCount, f_outcome, f_programRoot, f_faultKind, f_faultNode, f_walkTop, f_contextDepth, nI cc, f_compiledCount, nI (nb + 1), nI nc, nI (t + 1), 1, -1, f_atEnv, nI g, g_vVal, f_valueCoercion, f_typeOfResult, nI sp, f_blamedLabel, a_kinds, a_operands, a_hasParent, a_inProgram, a_nodeType, a_siteTargets, a_siteCoercions, a_walkNode, a_walkStep, a_contextType, a_labels, a_draft, a_cellNext, a_cellTag, a_cellData, a_cellCoercion, a_closureNode, a_closureEnv, a_frameNode, a_frameStage, a_frameEnv, a_framePending, a_frameData, a_frameCoercion) (g_capacity, nI mf, nI cnt, 2, g_wrongKind, g_wrongNode, g_program, nI sp, g_blamed, f_typeOfResult, nI g, g_vVal, g_vLay, -1, g_todoEnv, nI nc, nI nb, nI nl, nI (d + 1), a_kinds, a_operands, b_parent, b_types, b_cNode, b_cEnv, b_bTag, b_bVal, b_bLay, b_bNext, b_lSource, b_lTarget, b_lLabel, b_lInner, b_frNode, b_frEnv, b_frPhase, b_frVal, b_frLay) := by
  obtain ⟨b1, b2, b3, b4, _⟩ := id hB
  obtain ⟨_, _, _, _, _, _, p7, p8, hCK⟩ := id hP
  obtain ⟨⟨k1, k2, k3, k4, k5, k6, k7⟩, c2, c3, c4, hTB, _⟩ := id hC
  have hN := gr_CK_N hCK hm hi
  obtain ⟨n1, n2, n3, n4, n5, n6⟩ := gr_N_kind (κ := 6) (by omega) hN hK (by decide)
  obtain ⟨c, v1, v2⟩ := gr_VX_c hVX
  subst hQ
  dsimp only at k4 k5 k6 hM hrow heq hVY
  have htd := gr_Stk_le d t Q0 hS
  have hg := hVY.1
  obtain ⟨u1, u2, u3, _⟩ := n5 1 (by decide) (by decide)
  have hp : ¬ nI (4 * m + 1) = 0 := gc_ne0 (by omega) (by omega)
  obtain ⟨j, hj, hj'⟩ : ∃ j, ((g_vVal = 1 ∧ j = 1) ∨ (¬ g_vVal = 1 ∧ j = 2)) ∧ (1 ≤ j ∧ j ≤ 2) := by
    by_cases e : g_vVal = 1
    · exact ⟨1, Or.inl ⟨e, rfl⟩, by omega⟩
    · exact ⟨2, Or.inr ⟨e, rfl⟩, by omega⟩
  by_cases hz : gr_sv a_operands b_types 6 m 1 (g - 1) = 0
  · have z : gc_row a_labels P (g - 1) = 0 := hrow.trans hz
    obtain ⟨nl', lay', lS, lT, lL, lI, lw', m1, m2, m3, m4, m5, m6⟩ := gr_cP (n := m) (κ := 6) (k := 1) (by omega) hN hK (by decide) (by decide) (by decide) hg hz hVY.2.1 (by omega) hTB.1 (fun e => (hVY.2.2.2 e).choose_spec.2.1)
    have hVY' := gr_VY_cast (nl' := nl') (lw' := lw') (lay' := lay') hVY hp u3 hz m5
    have hft : gc_ft (nI g) 2 = true := hVY'.2.1
    have g2 : g = 2 := by
      rcases gc_ft_iff.mp hft with e | e | e
      · exact absurd e (by decide)
      · exact (gc_inj (a := 2) e (by decide) (by omega)).symm
      · exact absurd (by decide) e.1
    have hd : (g_vVal = 0 ∧ j = 2) ∨ (¬ g_vVal = 0 ∧ j = 1) := by
      rcases hVY.2.2.1 g2 with e | e
      · rcases hj with ⟨e1, e2⟩ | ⟨e1, e2⟩
        · rw [e] at e1; exact absurd e1 (by decide)
        · exact Or.inl ⟨e, e2⟩
      · rcases hj with ⟨e1, e2⟩ | ⟨e1, e2⟩
        · exact Or.inr ⟨by rw [e]; decide, e2⟩
        · exact absurd e e1
    have hnc6 : gc_nc 6 = 3 := rfl
    have hns6 : gc_ns 6 = 3 := rfl
    obtain ⟨q1, q2, q3, q4, q5⟩ := n4 j (by omega)
    obtain ⟨w1, w2, w3, s, w4, w5, w6⟩ := n5 (j + 1) (by omega) (by omega)
    refine gr_step (v' := (g_capacity, nI mf, nI cnt, 2, g_wrongKind, g_wrongNode, g_program, nI sp, g_blamed, f_typeOfResult, nI g, g_vVal, lay', a_operands (3 * m + j), b_frEnv d, nI nc, nI nb, nI nl', nI (d + 1), a_kinds, a_operands, b_parent, b_types, b_cNode, b_cEnv, b_bTag, b_bVal, b_bLay, b_bNext, lS, lT, lL, lI, b_frNode, b_frEnv, upd (upd b_frPhase d 1) d (nI j), b_frVal, b_frLay))
      (gr_Y_resume (by omega) (fun post h => gy_resume_if0 (by omega) hm f1 hK hj hph m6 h))
      (gr_X_resume (fun post hp => gx_resume_if (by omega) hPc hVY.1 c2 v1 (by omega) hPt hj' hd f2 hm hK (by omega) z (by omega) (by omega) w4 (by omega) fP fPc (fun vc id lb' cc' dr' x1 x2 x3 => hp _ (IH _ _ ?_))))
    have y1 := x1.1
    have y2 := x1.2.1
    have hGr : gr_Gr a_labels cc nb eT nc cm nl lw lb' cc' nb eT nc cm nl' lw' := ⟨⟨x1.1, x1.2.2⟩, ⟨Nat.le_refl _, fun _ _ => rfl⟩, ⟨Nat.le_refl _, fun _ _ => rfl⟩, ⟨m1, m4⟩⟩
    have hS' : gr_Stk a_kinds a_operands b_types a_inProgram G lb' cc' nb eT nc cm nl' lw' f_typeOfResult b_frNode b_frEnv (upd (upd b_frPhase d 1) d (nI j)) b_frVal b_frLay a_frameNode a_frameStage a_frameEnv (upd a_framePending t (nI id)) a_frameData a_frameCoercion (d + 1) t (gc_sq (gr_sv a_operands b_types 6 m (j + 1)) Q0.1, b_types (gr_ch a_operands 6 m j), Q0.2.2.1 + 1, Q0.2.2.2.1, Q0.2.2.2.2) := by
      refine ⟨Q0, Or.inl ⟨Or.inr (Or.inl ⟨m, j, f1, hm, hi, hK, hj', by rw [gc_len, if_pos rfl], hQ0, rfl⟩), ?_⟩⟩
      refine gr_Stk_mono hGr d t Q0 hS (fun f hf => ⟨rfl, rfl, ?_, rfl, rfl⟩) (fun _ _ => ⟨rfl, rfl, rfl, rfl, rfl⟩) (fun j hj => by rw [gc_len, if_neg (by omega)])
      rw [gc_len, if_neg (by omega), gc_len, if_neg (by omega)]
    have hC' : gr_Co G lb0 comp mf cc' nb eT nc cm nl' lw' t (d + 1) sp (gc_sq (gr_sv a_operands b_types 6 m (j + 1)) Q0.1, b_types (gr_ch a_operands 6 m j), Q0.2.2.1 + 1, Q0.2.2.2.1, Q0.2.2.2.2) f_typeOfResult a_kinds a_operands b_types a_inProgram lb' a_cellNext a_cellTag a_cellData a_cellCoercion a_closureNode a_closureEnv a_frameNode a_frameStage a_frameEnv (upd a_framePending t (nI id)) a_frameData a_frameCoercion b_bNext b_bTag b_bVal b_bLay b_cNode b_cEnv lS lT lL lI b_frNode b_frEnv (upd (upd b_frPhase d 1) d (nI j)) b_frVal b_frLay :=
      ⟨⟨by omega, by omega, by omega, by dsimp only; omega, by dsimp only; omega, by dsimp only; omega, by omega⟩, gc_Ext_z x1 (by omega) c2, fun j hj => (x1.2.2 j (by omega)).trans (c3 j hj), c4, gr_TB_ly (gr_TB_lb hTB x1.1 x1.2.2) m1 m4 m3, hS'⟩
    refine gr_mkV hB hP hC' ⟨gr_ch a_operands 6 m j, id, q2, q2, by omega, q3, ?_, rfl, by rw [gc_len, if_pos rfl], x2, ?_⟩ (by dsimp only; omega)
    · rw [q5]
      exact hE
    · exact gc_ap_tr x3 (gc_ap_sq (gc_ap_of (fun j hj => (c3 _ (by omega)).trans (w6 j hj))) fap)
  · have hb' : ¬ gc_row a_labels P (g - 1) = 0 := by rw [hrow]; exact hz
    refine gr_fin2 (v' := (g_capacity, nI mf, nI cnt, 4, g_wrongKind, g_wrongNode, g_program, nI sp, gc_row a_labels P (g - 1), f_typeOfResult, nI g, g_vVal, g_vLay, a_operands (3 * m + j), b_frEnv d, nI nc, nI nb, nI nl, nI (d + 1), a_kinds, a_operands, b_parent, b_types, b_cNode, b_cEnv, b_bTag, b_bVal, b_bLay, b_bNext, b_lSource, b_lTarget, b_lLabel, b_lInner, b_frNode, b_frEnv, upd (upd b_frPhase d 1) d (nI j), b_frVal, b_frLay))
      (gr_Y_fin (gr_Y_resume (by omega) (fun post h => gy_resume_if0 (by omega) hm f1 hK hj hph (gr_cF (n := m) (κ := 6) (k := 1) (by omega) hN hK (by decide) (by decide) (by decide) hg hz) (by rw [← hrow]; exact h))) (by decide))
      (gr_X_resume (fun post hp => gx_resume_blame (by omega) hPc hg c2 v1 (by omega) hPt hb' (hp _ ⟨gr_R4 hB hP c2 c3 k1, fun PX n x hx h => gr_X_end hx h⟩)))
theorem gs_prim0 {M : Nat} (IH : ∀ u v, gr_Sim M u v → gr_GX M u v) (hB : gr_B mn mf cnt f_maxNodes (nI mf) f_nodeCount g_capacity (nI mf) (nI cnt) a_kinds a_operands a_hasParent a_kinds a_operands b_parent) (hP : gr_P root comp cnt G f_programRoot g_program f_compiledCount a_kinds a_operands b_types a_inProgram a_nodeType a_siteTargets a_siteCoercions lb0) {g : Nat} {w wX : Nat → Int32} {P : Nat} (hVY : gr_VY a_operands nc cm nl lw g g_vVal g_vLay Q.2.1 w) (hVX : gr_VX a_labels cc g f_valueCoercion wX) (hPt : a_framePending (t + 1) = nI P) (hPc : P < cc) (hrow : gc_row a_labels P (g - 1) = Q.1 (g - 1)) (heq : g = 3 → gc_row a_labels P 2 = 0 → ∀ k, 3 ≤ k → k < 9 → gc_sq wX (gc_row a_labels P) k = gc_sq w Q.1 k) (hM : 7 * (mf - sp) + 2 * Q.2.2.1 + 1 ≤ M + 1) (hC : gr_Co G lb0 comp mf cc nb eT nc cm nl lw (t + 1) (d + 1) sp Q f_typeOfResult a_kinds a_operands b_types a_inProgram a_labels a_cellNext a_cellTag a_cellData a_cellCoercion a_closureNode a_closureEnv a_frameNode a_frameStage a_frameEnv a_framePending a_frameData a_frameCoercion b_bNext b_bTag b_bVal b_bLay b_cNode b_cEnv b_lSource b_lTarget b_lLabel b_lInner b_frNode b_frEnv b_frPhase b_frVal b_frLay) {Q0 : gr_Q} {m P2 : Nat} (f1 : b_frNode d = nI m) (f2 : a_frameNode (t + 1) = nI m) (hm : m < 48) (hi : a_inProgram m = 1) (hE : gr_Env nb eT (a_frameEnv (t + 1)) (b_frEnv d) (G m)) (hQ0 : Q0.2.1 = b_types m) (fS : a_frameStage (t + 1) = b_frPhase d) (fP : a_framePending t = nI P2) (fPc : P2 < cc) (fap : gc_ap (gc_row a_labels P2) Q0.1) (hS : gr_Stk a_kinds a_operands b_types a_inProgram G a_labels cc nb eT nc cm nl lw f_typeOfResult b_frNode b_frEnv b_frPhase b_frVal b_frLay a_frameNode a_frameStage a_frameEnv a_framePending a_frameData a_frameCoercion d t Q0) (hK : a_kinds m = 5) (hph : b_frPhase d = 0) (hQ : Q = (gr_sv a_operands b_types 5 m 1, b_types (gr_ch a_operands 5 m 0), Q0.2.2.1 + 2, Q0.2.2.2.1, Q0.2.2.2.2 + 2)) :
    gr_GX (M + 1) (f_maxNodes, nI mf, f_nodeCount, f_outcome, f_programRoot, f_faultKind, f_faultNode, f_walkTop, f_contextDepth, nI cc, f_compiledCount, nI (nb + 1), nI nc, nI (t + 1), 1, -1, f_atEnv, nI g, g_vVal, f_valueCoercion, f_typeOfResult, nI sp, f_blamedLabel, a_kinds, a_operands, a_hasParent, a_inProgram, a_nodeType, a_siteTargets, a_siteCoercions, a_walkNode, a_walkStep, a_contextType, a_labels, a_draft, a_cellNext, a_cellTag, a_cellData, a_cellCoercion, a_closureNode, a_closureEnv, a_frameNode, a_frameStage, a_frameEnv, a_framePending, a_frameData, a_frameCoercion) (g_capacity, nI mf, nI cnt, 2, g_wrongKind, g_wrongNode, g_program, nI sp, g_blamed, f_typeOfResult, nI g, g_vVal, g_vLay, -1, g_todoEnv, nI nc, nI nb, nI nl, nI (d + 1), a_kinds, a_operands, b_parent, b_types, b_cNode, b_cEnv, b_bTag, b_bVal, b_bLay, b_bNext, b_lSource, b_lTarget, b_lLabel, b_lInner, b_frNode, b_frEnv, b_frPhase, b_frVal, b_frLay) := by
  obtain ⟨b1, b2, b3, b4, _⟩ := id hB
  obtain ⟨_, _, _, _, _, _, p7, p8, hCK⟩ := id hP
  obtain ⟨⟨k1, k2, k3, k4, k5, k6, k7⟩, c2, c3, c4, hTB, _⟩ := id hC
  have hN := gr_CK_N hCK hm hi
  obtain ⟨n1, n2, n3, n4, n5, n6⟩ := gr_N_kind (κ := 5) (by omega) hN hK (by decide)
  obtain ⟨c, v1, v2⟩ := gr_VX_c hVX
  subst hQ
  dsimp only at k4 k5 k6 hM hrow heq hVY
  have htd := gr_Stk_le d t Q0 hS
  have hg := hVY.1
  obtain ⟨u1, u2, u3, _⟩ := n5 1 (by decide) (by decide)
  by_cases hz : gr_sv a_operands b_types 5 m 1 (g - 1) = 0
  · have z : gc_row a_labels P (g - 1) = 0 := hrow.trans hz
    obtain ⟨nl', lay', lS, lT, lL, lI, lw', m1, m2, m3, m4, m5, m6⟩ := gr_cP (n := m) (κ := 5) (k := 1) (by omega) hN hK (by decide) (by decide) (by decide) hg hz hVY.2.1 (by omega) hTB.1 (fun e => (hVY.2.2.2 e).choose_spec.2.1)
    obtain ⟨q1, q2, q3, q4, q5⟩ := n4 1 (by decide)
    obtain ⟨w1, w2, w3, s, w4, w5, w6⟩ := n5 2 (by decide) (by decide)
    refine gr_step (v' := (g_capacity, nI mf, nI cnt, 2, g_wrongKind, g_wrongNode, g_program, nI sp, g_blamed, f_typeOfResult, nI g, g_vVal, lay', a_operands (3 * m + gc_pc 5 + 1), b_frEnv d, nI nc, nI nb, nI nl', nI (d + 1), a_kinds, a_operands, b_parent, b_types, b_cNode, b_cEnv, b_bTag, b_bVal, b_bLay, b_bNext, lS, lT, lL, lI, b_frNode, b_frEnv, upd b_frPhase d 1, upd b_frVal d g_vVal, upd b_frLay d lay'))
      (gr_Y_resume (by omega) (fun post h => gy_resume_two (κ := 5) (by omega) hm f1 (Or.inr rfl) hK hph m6 h))
      (gr_X_resume (fun post hp => gx_resume_two (κ := 5) (by omega) hPc hVY.1 c2 v1 (by omega) hPt (Or.inr rfl) f2 hm hK (fS.trans hph) z (fun vc lb' cc' dr' x1 x2 => hp _ (IH _ _ ?_))))
    have y1 := x1.1
    have y2 := x1.2.1
    have hGr : gr_Gr a_labels cc nb eT nc cm nl lw lb' cc' nb eT nc cm nl' lw' := ⟨⟨x1.1, x1.2.2⟩, ⟨Nat.le_refl _, fun _ _ => rfl⟩, ⟨Nat.le_refl _, fun _ _ => rfl⟩, ⟨m1, m4⟩⟩
    have hS' : gr_Stk a_kinds a_operands b_types a_inProgram G lb' cc' nb eT nc cm nl' lw' f_typeOfResult b_frNode b_frEnv (upd b_frPhase d 1) (upd b_frVal d g_vVal) (upd b_frLay d lay') a_frameNode (upd a_frameStage (t + 1) 1) a_frameEnv (upd a_framePending (t + 1) (a_siteCoercions (3 * m + 1))) (upd a_frameData (t + 1) g_vVal) (upd a_frameCoercion (t + 1) vc) (d + 1) (t + 1) (gr_sv a_operands b_types 5 m 2, b_types (gr_ch a_operands 5 m 1), Q0.2.2.1 + 1, Q0.2.2.2.1, Q0.2.2.2.2 + 1) := by
      refine ⟨Q0, Or.inr ⟨t, rfl, ?_, ⟨P2, by rw [gc_len, if_neg (by omega)]; exact fP, by omega, gc_ap_tr (gc_ap_of (fun k hk => gc_Ext_row x1 fPc hk)) fap⟩, ?_⟩⟩
      · simp only [gc_len, if_pos]
        exact ⟨m, f1, f2, hm, hi, hE, hQ0, rfl, Or.inr (Or.inr (Or.inr (Or.inl ⟨hK, rfl, rfl, rfl⟩)))⟩
      · refine gr_Stk_mono hGr d t Q0 hS (fun f hf => ?_) (fun j hj => ?_) (fun j hj => by rw [gc_len, if_neg (by omega)])
        · have e : ¬ f = d := by omega
          simp only [gc_len, if_neg e]
          exact ⟨trivial, trivial, trivial, trivial, trivial⟩
        · have e : ¬ j = t + 1 := by omega
          simp only [gc_len, if_neg e]
          exact ⟨trivial, trivial, trivial, trivial, trivial⟩
    have hC' : gr_Co G lb0 comp mf cc' nb eT nc cm nl' lw' (t + 1) (d + 1) sp (gr_sv a_operands b_types 5 m 2, b_types (gr_ch a_operands 5 m 1), Q0.2.2.1 + 1, Q0.2.2.2.1, Q0.2.2.2.2 + 1) f_typeOfResult a_kinds a_operands b_types a_inProgram lb' a_cellNext a_cellTag a_cellData a_cellCoercion a_closureNode a_closureEnv a_frameNode (upd a_frameStage (t + 1) 1) a_frameEnv (upd a_framePending (t + 1) (a_siteCoercions (3 * m + 1))) (upd a_frameData (t + 1) g_vVal) (upd a_frameCoercion (t + 1) vc) b_bNext b_bTag b_bVal b_bLay b_cNode b_cEnv lS lT lL lI b_frNode b_frEnv (upd b_frPhase d 1) (upd b_frVal d g_vVal) (upd b_frLay d lay') :=
      ⟨⟨by omega, by omega, by omega, by dsimp only; omega, by dsimp only; omega, by dsimp only; omega, by omega⟩, gc_Ext_z x1 (by omega) c2, fun j hj => (x1.2.2 j (by omega)).trans (c3 j hj), c4, gr_TB_ly (gr_TB_lb hTB x1.1 x1.2.2) m1 m4 m3, hS'⟩
    refine gr_mkV hB hP hC' ⟨gr_ch a_operands 5 m 1, s, q2, q2, by omega, q3, ?_, rfl, by rw [gc_len, if_pos rfl]; exact w4, by omega, ?_⟩ (by dsimp only; omega)
    · rw [q5]
      exact hE
    · exact gc_ap_of (fun j hj => (gc_Ext_row x1 (show s < cc by omega) hj).trans ((c3 _ (by omega)).trans (w6 j hj)))
  · have hb' : ¬ gc_row a_labels P (g - 1) = 0 := by rw [hrow]; exact hz
    refine gr_fin2 (v' := (g_capacity, nI mf, nI cnt, 4, g_wrongKind, g_wrongNode, g_program, nI sp, gc_row a_labels P (g - 1), f_typeOfResult, nI g, g_vVal, g_vLay, a_operands (3 * m + gc_pc 5 + 1), b_frEnv d, nI nc, nI nb, nI nl, nI (d + 1), a_kinds, a_operands, b_parent, b_types, b_cNode, b_cEnv, b_bTag, b_bVal, b_bLay, b_bNext, b_lSource, b_lTarget, b_lLabel, b_lInner, b_frNode, b_frEnv, upd b_frPhase d 1, upd b_frVal d g_vVal, upd b_frLay d g_vLay))
      (gr_Y_fin (gr_Y_resume (by omega) (fun post h => gy_resume_two (κ := 5) (by omega) hm f1 (Or.inr rfl) hK hph (gr_cF (n := m) (κ := 5) (k := 1) (by omega) hN hK (by decide) (by decide) (by decide) hg hz) (by rw [← hrow]; exact h))) (by decide))
      (gr_X_resume (fun post hp => gx_resume_blame (by omega) hPc hg c2 v1 (by omega) hPt hb' (hp _ ⟨gr_R4 hB hP c2 c3 k1, fun PX n x hx h => gr_X_end hx h⟩)))
end
end
section
theorem gc_op_b {op : Nat} (h : 3 ≤ op) (x y : Int32) : gc_op op x y = 0 ∨ gc_op op x y = 1 := by
  unfold gc_op
  rw [if_neg (by omega), if_neg (by omega), if_neg (by omega)]
  by_cases e : op = 3
  · rw [if_pos e]
    by_cases z : y ≤ x
    · rw [if_pos z]; exact Or.inl rfl
    · rw [if_neg z]; exact Or.inr rfl
  · rw [if_neg e]
    by_cases z : x = y
    · rw [if_pos z]; exact Or.inr rfl
    · rw [if_neg z]; exact Or.inl rfl
section
variable {f_maxNodes f_maxFuel f_nodeCount f_outcome f_programRoot f_faultKind f_faultNode f_walkTop f_contextDepth f_coercionCount f_compiledCount f_cellCount f_closureCount f_top f_running f_atNode f_atEnv f_valueTag f_valueData f_valueCoercion f_typeOfResult f_fuelSpent f_blamedLabel : Int32} {a_kinds a_operands a_hasParent a_inProgram a_nodeType a_siteTargets a_siteCoercions a_walkNode a_walkStep a_contextType a_labels a_draft a_cellNext a_cellTag a_cellData a_cellCoercion a_closureNode a_closureEnv a_frameNode a_frameStage a_frameEnv a_framePending a_frameData a_frameCoercion : Nat → Int32} {g_capacity g_fuel g_count g_state g_wrongKind g_wrongNode g_program g_used g_blamed g_resType g_vTag g_vVal g_vLay g_todo g_todoEnv g_closures g_bindings g_layers g_depth : Int32} {b_kinds b_ops b_parent b_types b_cNode b_cEnv b_bTag b_bVal b_bLay b_bNext b_lSource b_lTarget b_lLabel b_lInner b_frNode b_frEnv b_frPhase b_frVal b_frLay : Nat → Int32}
variable {G : Nat → List Int32} {lb0 : Nat → Int32} {comp cnt mf mn root cc nb : Nat} {eT : Nat → List Int32} {nc : Nat} {cm : Nat → Nat} {nl : Nat} {lw : Nat → Nat → Int32} {t d sp : Nat} {Q : gr_Q}
theorem gs_prim1 {M : Nat} (IH : ∀ u v, gr_Sim M u v → gr_GX M u v) (hB : gr_B mn mf cnt f_maxNodes (nI mf) f_nodeCount g_capacity (nI mf) (nI cnt) a_kinds a_operands a_hasParent a_kinds a_operands b_parent) (hP : gr_P root comp cnt G f_programRoot g_program f_compiledCount a_kinds a_operands b_types a_inProgram a_nodeType a_siteTargets a_siteCoercions lb0) {g : Nat} {w wX : Nat → Int32} {P : Nat} (hVY : gr_VY a_operands nc cm nl lw g g_vVal g_vLay Q.2.1 w) (hVX : gr_VX a_labels cc g f_valueCoercion wX) (hPt : a_framePending (t + 1) = nI P) (hPc : P < cc) (hrow : gc_row a_labels P (g - 1) = Q.1 (g - 1)) (heq : g = 3 → gc_row a_labels P 2 = 0 → ∀ k, 3 ≤ k → k < 9 → gc_sq wX (gc_row a_labels P) k = gc_sq w Q.1 k) (hM : 7 * (mf - sp) + 2 * Q.2.2.1 + 1 ≤ M + 1) (hC : gr_Co G lb0 comp mf cc nb eT nc cm nl lw (t + 1) (d + 1) sp Q f_typeOfResult a_kinds a_operands b_types a_inProgram a_labels a_cellNext a_cellTag a_cellData a_cellCoercion a_closureNode a_closureEnv a_frameNode a_frameStage a_frameEnv a_framePending a_frameData a_frameCoercion b_bNext b_bTag b_bVal b_bLay b_cNode b_cEnv b_lSource b_lTarget b_lLabel b_lInner b_frNode b_frEnv b_frPhase b_frVal b_frLay) {Q0 : gr_Q} {m P2 : Nat} (f1 : b_frNode d = nI m) (f2 : a_frameNode (t + 1) = nI m) (hm : m < 48) (hi : a_inProgram m = 1) (hE : gr_Env nb eT (a_frameEnv (t + 1)) (b_frEnv d) (G m)) (hQ0 : Q0.2.1 = b_types m) (fS : a_frameStage (t + 1) = b_frPhase d) (fP : a_framePending t = nI P2) (fPc : P2 < cc) (fap : gc_ap (gc_row a_labels P2) Q0.1) (hS : gr_Stk a_kinds a_operands b_types a_inProgram G a_labels cc nb eT nc cm nl lw f_typeOfResult b_frNode b_frEnv b_frPhase b_frVal b_frLay a_frameNode a_frameStage a_frameEnv a_framePending a_frameData a_frameCoercion d t Q0) (hK : a_kinds m = 5) (hph : b_frPhase d = 1) (hxd : a_frameData (t + 1) = b_frVal d) (hQ : Q = (gr_sv a_operands b_types 5 m 2, b_types (gr_ch a_operands 5 m 1), Q0.2.2.1 + 1, Q0.2.2.2.1, Q0.2.2.2.2 + 1)) :
    gr_GX (M + 1) (f_maxNodes, nI mf, f_nodeCount, f_outcome, f_programRoot, f_faultKind, f_faultNode, f_walkTop, f_contextDepth, nI cc, f_compiledCount, nI (nb + 1), nI nc, nI (t + 1), 1, -1, f_atEnv, nI g, g_vVal, f_valueCoercion, f_typeOfResult, nI sp, f_blamedLabel, a_kinds, a_operands, a_hasParent, a_inProgram, a_nodeType, a_siteTargets, a_siteCoercions, a_walkNode, a_walkStep, a_contextType, a_labels, a_draft, a_cellNext, a_cellTag, a_cellData, a_cellCoercion, a_closureNode, a_closureEnv, a_frameNode, a_frameStage, a_frameEnv, a_framePending, a_frameData, a_frameCoercion) (g_capacity, nI mf, nI cnt, 2, g_wrongKind, g_wrongNode, g_program, nI sp, g_blamed, f_typeOfResult, nI g, g_vVal, g_vLay, -1, g_todoEnv, nI nc, nI nb, nI nl, nI (d + 1), a_kinds, a_operands, b_parent, b_types, b_cNode, b_cEnv, b_bTag, b_bVal, b_bLay, b_bNext, b_lSource, b_lTarget, b_lLabel, b_lInner, b_frNode, b_frEnv, b_frPhase, b_frVal, b_frLay) := by
  obtain ⟨b1, b2, b3, b4, _⟩ := id hB
  obtain ⟨_, _, _, _, _, _, p7, p8, hCK⟩ := id hP
  obtain ⟨⟨k1, k2, k3, k4, k5, k6, k7⟩, c2, c3, c4, hTB, _⟩ := id hC
  have hN := gr_CK_N hCK hm hi
  obtain ⟨n1, n2, n3, n4, n5, n6⟩ := gr_N_kind (κ := 5) (by omega) hN hK (by decide)
  obtain ⟨op, o1, o2, o3⟩ := n6.2.2.2.2.2.1 rfl
  obtain ⟨c, v1, v2⟩ := gr_VX_c hVX
  subst hQ
  dsimp only at k4 k5 k6 hM hrow heq hVY
  have htd := gr_Stk_le d t Q0 hS
  have hg := hVY.1
  by_cases hz : gr_sv a_operands b_types 5 m 2 (g - 1) = 0
  · have z : gc_row a_labels P (g - 1) = 0 := hrow.trans hz
    obtain ⟨nl', lay', lS, lT, lL, lI, lw', m1, m2, m3, m4, m5, m6⟩ := gr_cP (n := m) (κ := 5) (k := 2) (by omega) hN hK (by decide) (by decide) (by decide) hg hz hVY.2.1 (by omega) hTB.1 (fun e => (hVY.2.2.2 e).choose_spec.2.1)
    refine gr_step (v' := (g_capacity, nI mf, nI cnt, 2, g_wrongKind, g_wrongNode, g_program, nI sp, g_blamed, f_typeOfResult, if op < 3 then 1 else 2, gc_op op (b_frVal d) g_vVal, -1, -1, g_todoEnv, nI nc, nI nb, nI nl', nI d, a_kinds, a_operands, b_parent, b_types, b_cNode, b_cEnv, b_bTag, b_bVal, b_bLay, b_bNext, lS, lT, lL, lI, b_frNode, b_frEnv, upd b_frPhase d 2, b_frVal, b_frLay))
      (gr_Y_resume (by omega) (fun post h => gy_resume_prim1 (by omega) hm f1 o1 o2 hK hph m6 h))
      (gr_X_resume (fun post hp => gx_resume_prim1 (by omega) hPc hVY.1 c2 v1 (by omega) hPt o1 o2 f2 hm hK (fS.trans hph) (by omega) z (fun lb' cc' dr' x1 => hp _ (IH _ _ ?_))))
    have y1 := x1.1
    have y2 := x1.2.1
    have hGr : gr_Gr a_labels cc nb eT nc cm nl lw lb' cc' nb eT nc cm nl' lw' := ⟨⟨x1.1, x1.2.2⟩, ⟨Nat.le_refl _, fun _ _ => rfl⟩, ⟨Nat.le_refl _, fun _ _ => rfl⟩, ⟨m1, m4⟩⟩
    have hC' : gr_Co G lb0 comp mf cc' nb eT nc cm nl' lw' t d sp Q0 f_typeOfResult a_kinds a_operands b_types a_inProgram lb' a_cellNext a_cellTag a_cellData a_cellCoercion a_closureNode a_closureEnv a_frameNode a_frameStage a_frameEnv a_framePending a_frameData a_frameCoercion b_bNext b_bTag b_bVal b_bLay b_cNode b_cEnv lS lT lL lI b_frNode b_frEnv (upd b_frPhase d 2) b_frVal b_frLay :=
      ⟨⟨by omega, by omega, by omega, by omega, by omega, by omega, by omega⟩, gc_Ext_z x1 (by omega) c2, fun j hj => (x1.2.2 j (by omega)).trans (c3 j hj), c4, gr_TB_ly (gr_TB_lb hTB x1.1 x1.2.2) m1 m4 m3, gr_Stk_mono hGr d t Q0 hS (fun f hf => ⟨rfl, rfl, by rw [gc_len, if_neg (by omega)], rfl, rfl⟩) (fun _ _ => ⟨rfl, rfl, rfl, rfl, rfl⟩) (fun _ _ => rfl)⟩
    have eg : (if op < 3 then (1 : Int32) else 2) = nI (if op < 3 then 1 else 2) := by
      by_cases h : op < 3
      · rw [if_pos h, if_pos h]; rfl
      · rw [if_neg h, if_neg h]; rfl
    have eg3 : (if op < 3 then 1 else 2) ≤ 2 ∧ 1 ≤ (if op < 3 then 1 else 2) := by
      by_cases h : op < 3
      · rw [if_pos h]; omega
      · rw [if_neg h]; omega
    have fap' : gc_ap (gc_row lb' P2) Q0.1 := gc_ap_tr (gc_ap_of (fun k hk => gc_Ext_row x1 fPc hk)) fap
    refine gr_mkR hB hP hC' ⟨rfl, rfl, (if op < 3 then 1 else 2), gc_zv, gc_zv, P2, eg, eg, by rw [hxd], ⟨by omega, ?_, ?_, fun e => by omega⟩, fun e => by omega, fP, by omega, fap'.1 _ (by omega), fun e => by omega⟩ (by omega)
    · rw [hQ0, o3, ← eg]
      by_cases h : op < 3
      · rw [if_pos h]; decide
      · rw [if_neg h]; decide
    · intro e
      by_cases h : op < 3
      · rw [if_pos h] at e; omega
      · exact gc_op_b (by omega) _ _
  · have hb' : ¬ gc_row a_labels P (g - 1) = 0 := by rw [hrow]; exact hz
    refine gr_fin2 (v' := (g_capacity, nI mf, nI cnt, 4, g_wrongKind, g_wrongNode, g_program, nI sp, gc_row a_labels P (g - 1), f_typeOfResult, if op < 3 then 1 else 2, gc_op op (b_frVal d) g_vVal, -1, -1, g_todoEnv, nI nc, nI nb, nI nl, nI d, a_kinds, a_operands, b_parent, b_types, b_cNode, b_cEnv, b_bTag, b_bVal, b_bLay, b_bNext, b_lSource, b_lTarget, b_lLabel, b_lInner, b_frNode, b_frEnv, upd b_frPhase d 2, b_frVal, b_frLay))
      (gr_Y_fin (gr_Y_resume (by omega) (fun post h => gy_resume_prim1 (by omega) hm f1 o1 o2 hK hph (gr_cF (n := m) (κ := 5) (k := 2) (by omega) hN hK (by decide) (by decide) (by decide) hg hz) (by rw [← hrow]; exact h))) (by decide))
      (gr_X_resume (fun post hp => gx_resume_blame (by omega) hPc hg c2 v1 (by omega) hPt hb' (hp _ ⟨gr_R4 hB hP c2 c3 k1, fun PX n x hx h => gr_X_end hx h⟩)))
theorem gs_app0 {M : Nat} (IH : ∀ u v, gr_Sim M u v → gr_GX M u v) (hB : gr_B mn mf cnt f_maxNodes (nI mf) f_nodeCount g_capacity (nI mf) (nI cnt) a_kinds a_operands a_hasParent a_kinds a_operands b_parent) (hP : gr_P root comp cnt G f_programRoot g_program f_compiledCount a_kinds a_operands b_types a_inProgram a_nodeType a_siteTargets a_siteCoercions lb0) {g : Nat} {w wX : Nat → Int32} {P : Nat} (hVY : gr_VY a_operands nc cm nl lw g g_vVal g_vLay Q.2.1 w) (hVX : gr_VX a_labels cc g f_valueCoercion wX) (hPt : a_framePending (t + 1) = nI P) (hPc : P < cc) (hrow : gc_row a_labels P (g - 1) = Q.1 (g - 1)) (heq : g = 3 → gc_row a_labels P 2 = 0 → ∀ k, 3 ≤ k → k < 9 → gc_sq wX (gc_row a_labels P) k = gc_sq w Q.1 k) (hM : 7 * (mf - sp) + 2 * Q.2.2.1 + 1 ≤ M + 1) (hC : gr_Co G lb0 comp mf cc nb eT nc cm nl lw (t + 1) (d + 1) sp Q f_typeOfResult a_kinds a_operands b_types a_inProgram a_labels a_cellNext a_cellTag a_cellData a_cellCoercion a_closureNode a_closureEnv a_frameNode a_frameStage a_frameEnv a_framePending a_frameData a_frameCoercion b_bNext b_bTag b_bVal b_bLay b_cNode b_cEnv b_lSource b_lTarget b_lLabel b_lInner b_frNode b_frEnv b_frPhase b_frVal b_frLay) {Q0 : gr_Q} {m P2 : Nat} (f1 : b_frNode d = nI m) (f2 : a_frameNode (t + 1) = nI m) (hm : m < 48) (hi : a_inProgram m = 1) (hE : gr_Env nb eT (a_frameEnv (t + 1)) (b_frEnv d) (G m)) (hQ0 : Q0.2.1 = b_types m) (fS : a_frameStage (t + 1) = b_frPhase d) (fP : a_framePending t = nI P2) (fPc : P2 < cc) (fap : gc_ap (gc_row a_labels P2) Q0.1) (hS : gr_Stk a_kinds a_operands b_types a_inProgram G a_labels cc nb eT nc cm nl lw f_typeOfResult b_frNode b_frEnv b_frPhase b_frVal b_frLay a_frameNode a_frameStage a_frameEnv a_framePending a_frameData a_frameCoercion d t Q0) (hK : a_kinds m = 4) (hph : b_frPhase d = 0) (hQ : Q = (gr_sv a_operands b_types 4 m 1, b_types (gr_ch a_operands 4 m 0), Q0.2.2.1 + 3, Q0.2.2.2.1 + 2, Q0.2.2.2.2 + 5)) :
    gr_GX (M + 1) (f_maxNodes, nI mf, f_nodeCount, f_outcome, f_programRoot, f_faultKind, f_faultNode, f_walkTop, f_contextDepth, nI cc, f_compiledCount, nI (nb + 1), nI nc, nI (t + 1), 1, -1, f_atEnv, nI g, g_vVal, f_valueCoercion, f_typeOfResult, nI sp, f_blamedLabel, a_kinds, a_operands, a_hasParent, a_inProgram, a_nodeType, a_siteTargets, a_siteCoercions, a_walkNode, a_walkStep, a_contextType, a_labels, a_draft, a_cellNext, a_cellTag, a_cellData, a_cellCoercion, a_closureNode, a_closureEnv, a_frameNode, a_frameStage, a_frameEnv, a_framePending, a_frameData, a_frameCoercion) (g_capacity, nI mf, nI cnt, 2, g_wrongKind, g_wrongNode, g_program, nI sp, g_blamed, f_typeOfResult, nI g, g_vVal, g_vLay, -1, g_todoEnv, nI nc, nI nb, nI nl, nI (d + 1), a_kinds, a_operands, b_parent, b_types, b_cNode, b_cEnv, b_bTag, b_bVal, b_bLay, b_bNext, b_lSource, b_lTarget, b_lLabel, b_lInner, b_frNode, b_frEnv, b_frPhase, b_frVal, b_frLay) := by
  obtain ⟨b1, b2, b3, b4, _⟩ := id hB
  obtain ⟨_, _, _, _, _, _, p7, p8, hCK⟩ := id hP
  obtain ⟨⟨k1, k2, k3, k4, k5, k6, k7⟩, c2, c3, c4, hTB, _⟩ := id hC
  have hN := gr_CK_N hCK hm hi
  obtain ⟨n1, n2, n3, n4, n5, n6⟩ := gr_N_kind (κ := 4) (by omega) hN hK (by decide)
  obtain ⟨r1, r2, r3⟩ := n6.2.2.2.2.1 rfl
  obtain ⟨c, v1, v2⟩ := gr_VX_c hVX
  subst hQ
  dsimp only at k4 k5 k6 hM hrow heq hVY
  have htd := gr_Stk_le d t Q0 hS
  have hg := hVY.1
  obtain ⟨u1, u2, u3, _⟩ := n5 1 (by decide) (by decide)
  have hp : ¬ nI (4 * m + 1) = 0 := gc_ne0 (by omega) (by omega)
  by_cases hz : gr_sv a_operands b_types 4 m 1 (g - 1) = 0
  · have z : gc_row a_labels P (g - 1) = 0 := hrow.trans hz
    obtain ⟨nl', lay', lS, lT, lL, lI, lw', m1, m2, m3, m4, m5, m6⟩ := gr_cP (n := m) (κ := 4) (k := 1) (by omega) hN hK (by decide) (by decide) (by decide) hg hz hVY.2.1 (by omega) hTB.1 (fun e => (hVY.2.2.2 e).choose_spec.2.1)
    have hVY' := gr_VY_cast (nl' := nl') (lw' := lw') (lay' := lay') hVY hp u3 hz m5
    obtain ⟨q1, q2, q3, q4, q5⟩ := n4 1 (by decide)
    obtain ⟨q1', q2', q3', q4', q5'⟩ := n4 0 (by decide)
    obtain ⟨w1, w2, w3, s, w4, w5, w6⟩ := n5 2 (by decide) (by decide)
    obtain ⟨h1, h2, h3, h4⟩ := gc_fn_hi q4' r2 r3
    have et : gr_t a_operands b_types 4 m 1 = gc_fn (b_types (gr_ch a_operands 4 m 0)) := rfl
    have g3 : g = 3 := by
      refine gc_inj (b := 3) (gc_ft_ge (t := gc_fn (b_types (gr_ch a_operands 4 m 0))) hVY'.2.1 h1 h2 ⟨g, hg.1, hg.2, rfl⟩) (by omega) (by decide)
    subst g3
    obtain ⟨q, d1, d2, d3, d4⟩ := hVY'.2.2.2 rfl
    have ev : gc_fn (gr_t a_operands b_types 4 m 1) = gc_fn (b_types (gr_ch a_operands 4 m 0)) := h3
    have d5 := gc_FT_v d4 (congrArg gc_td ev.symm) (congrArg gc_tc ev.symm)
    refine gr_step (v' := (g_capacity, nI mf, nI cnt, 2, g_wrongKind, g_wrongNode, g_program, nI sp, g_blamed, f_typeOfResult, nI 3, g_vVal, lay', a_operands (3 * m + gc_pc 4 + 1), b_frEnv d, nI nc, nI nb, nI nl', nI (d + 1), a_kinds, a_operands, b_parent, b_types, b_cNode, b_cEnv, b_bTag, b_bVal, b_bLay, b_bNext, lS, lT, lL, lI, b_frNode, b_frEnv, upd b_frPhase d 1, upd b_frVal d g_vVal, upd b_frLay d lay'))
      (gr_Y_resume (by omega) (fun post h => gy_resume_two (κ := 4) (by omega) hm f1 (Or.inl rfl) hK hph m6 h))
      (gr_X_resume (fun post hp => gx_resume_two (κ := 4) (by omega) hPc hVY.1 c2 v1 (by omega) hPt (Or.inl rfl) f2 hm hK (fS.trans hph) z (fun vc lb' cc' dr' x1 x2 => hp _ (IH _ _ ?_))))
    have y1 := x1.1
    have y2 := x1.2.1
    have hGr : gr_Gr a_labels cc nb eT nc cm nl lw lb' cc' nb eT nc cm nl' lw' := ⟨⟨x1.1, x1.2.2⟩, ⟨Nat.le_refl _, fun _ _ => rfl⟩, ⟨Nat.le_refl _, fun _ _ => rfl⟩, ⟨m1, m4⟩⟩
    have hVX' : gr_VX lb' cc' 3 vc (gc_sq w (gc_ly (gc_fn (b_types (gr_ch a_operands 4 m 0))) (gc_fn (gr_t a_operands b_types 4 m 1)) (nI (4 * m + 1)))) := by
      intro e3
      obtain ⟨id, i1, i2, i3⟩ := x2 rfl
      refine ⟨id, i1, i2, fun k h1 h2 => ?_⟩
      rw [i3 k h1 h2, gc_sq_at (a' := wX) (b' := gc_row a_labels P) (v2 rfl k h1 h2) rfl, heq rfl z k h1 h2]
      exact gc_sq_at rfl (gc_cv_hi h1)
    have hS' : gr_Stk a_kinds a_operands b_types a_inProgram G lb' cc' nb eT nc cm nl' lw' f_typeOfResult b_frNode b_frEnv (upd b_frPhase d 1) (upd b_frVal d g_vVal) (upd b_frLay d lay') a_frameNode (upd a_frameStage (t + 1) 1) a_frameEnv (upd a_framePending (t + 1) (a_siteCoercions (3 * m + 1))) (upd a_frameData (t + 1) g_vVal) (upd a_frameCoercion (t + 1) vc) (d + 1) (t + 1) (gr_sv a_operands b_types 4 m 2, b_types (gr_ch a_operands 4 m 1), Q0.2.2.1 + 2, Q0.2.2.2.1 + 2, Q0.2.2.2.2 + 4) := by
      refine ⟨Q0, Or.inr ⟨t, rfl, ?_, ⟨P2, by rw [gc_len, if_neg (by omega)]; exact fP, by omega, gc_ap_tr (gc_ap_of (fun k hk => gc_Ext_row x1 fPc hk)) fap⟩, ?_⟩⟩
      · simp only [gc_len, if_pos]
        exact ⟨m, f1, f2, hm, hi, hE, hQ0, rfl, Or.inr (Or.inr (Or.inr (Or.inr (Or.inr ⟨hK, rfl, ⟨q, _, d1, d1, d2, hVX', d3, d5⟩, rfl⟩))))⟩
      · refine gr_Stk_mono hGr d t Q0 hS (fun f hf => ?_) (fun j hj => ?_) (fun j hj => by rw [gc_len, if_neg (by omega)])
        · have e : ¬ f = d := by omega
          simp only [gc_len, if_neg e]
          exact ⟨trivial, trivial, trivial, trivial, trivial⟩
        · have e : ¬ j = t + 1 := by omega
          simp only [gc_len, if_neg e]
          exact ⟨trivial, trivial, trivial, trivial, trivial⟩
    have hC' : gr_Co G lb0 comp mf cc' nb eT nc cm nl' lw' (t + 1) (d + 1) sp (gr_sv a_operands b_types 4 m 2, b_types (gr_ch a_operands 4 m 1), Q0.2.2.1 + 2, Q0.2.2.2.1 + 2, Q0.2.2.2.2 + 4) f_typeOfResult a_kinds a_operands b_types a_inProgram lb' a_cellNext a_cellTag a_cellData a_cellCoercion a_closureNode a_closureEnv a_frameNode (upd a_frameStage (t + 1) 1) a_frameEnv (upd a_framePending (t + 1) (a_siteCoercions (3 * m + 1))) (upd a_frameData (t + 1) g_vVal) (upd a_frameCoercion (t + 1) vc) b_bNext b_bTag b_bVal b_bLay b_cNode b_cEnv lS lT lL lI b_frNode b_frEnv (upd b_frPhase d 1) (upd b_frVal d g_vVal) (upd b_frLay d lay') :=
      ⟨⟨by omega, by omega, by omega, by dsimp only; omega, by dsimp only; omega, by dsimp only; omega, by omega⟩, gc_Ext_z x1 (by omega) c2, fun j hj => (x1.2.2 j (by omega)).trans (c3 j hj), c4, gr_TB_ly (gr_TB_lb hTB x1.1 x1.2.2) m1 m4 m3, hS'⟩
    refine gr_mkV hB hP hC' ⟨gr_ch a_operands 4 m 1, s, q2, q2, by omega, q3, ?_, rfl, by rw [gc_len, if_pos rfl]; exact w4, by omega, ?_⟩ (by dsimp only; omega)
    · rw [q5]
      exact hE
    · exact gc_ap_of (fun j hj => (gc_Ext_row x1 (show s < cc by omega) hj).trans ((c3 _ (by omega)).trans (w6 j hj)))
  · have hb' : ¬ gc_row a_labels P (g - 1) = 0 := by rw [hrow]; exact hz
    refine gr_fin2 (v' := (g_capacity, nI mf, nI cnt, 4, g_wrongKind, g_wrongNode, g_program, nI sp, gc_row a_labels P (g - 1), f_typeOfResult, nI g, g_vVal, g_vLay, a_operands (3 * m + gc_pc 4 + 1), b_frEnv d, nI nc, nI nb, nI nl, nI (d + 1), a_kinds, a_operands, b_parent, b_types, b_cNode, b_cEnv, b_bTag, b_bVal, b_bLay, b_bNext, b_lSource, b_lTarget, b_lLabel, b_lInner, b_frNode, b_frEnv, upd b_frPhase d 1, upd b_frVal d g_vVal, upd b_frLay d g_vLay))
      (gr_Y_fin (gr_Y_resume (by omega) (fun post h => gy_resume_two (κ := 4) (by omega) hm f1 (Or.inl rfl) hK hph (gr_cF (n := m) (κ := 4) (k := 1) (by omega) hN hK (by decide) (by decide) (by decide) hg hz) (by rw [← hrow]; exact h))) (by decide))
      (gr_X_resume (fun post hp => gx_resume_blame (by omega) hPc hg c2 v1 (by omega) hPt hb' (hp _ ⟨gr_R4 hB hP c2 c3 k1, fun PX n x hx h => gr_X_end hx h⟩)))
-- the tables behind an entry
theorem gr_enter_TB {q g : Nat} {wf w : Nat → Int32} {V Ta data co lay : Int32} (h : gr_TB a_kinds a_operands a_inProgram G a_labels cc nb eT nc cm nl lw a_cellNext a_cellTag a_cellData a_cellCoercion a_closureNode a_closureEnv b_bNext b_bTag b_bVal b_bLay b_cNode b_cEnv b_lSource b_lTarget b_lLabel b_lInner) (hcnt : cnt ≤ 48) (hc1 : 1 ≤ cc) (hz : ∀ k, k < 9 → a_labels k = 0) (hCK : gr_CK a_kinds a_operands b_types a_inProgram G a_nodeType a_siteTargets a_siteCoercions lb0 comp cnt)
    (hF : gr_Fn a_operands nc cm q wf V) (hTa : Ta = gc_td V) (hA : gc_A Ta) (hV : gr_VY a_operands nc cm nl lw g data lay Ta w) (hX : gr_VX a_labels cc g co w) (h0 : wf (2 + g) = 0) :
    ∃ eT' : Nat → List Int32, (∀ b, b < nb → eT' b = eT b) ∧ gr_TB a_kinds a_operands a_inProgram G a_labels cc (nb + 2) eT' nc cm nl lw (upd (upd a_cellNext (nb + 1) (a_closureEnv q)) (nb + 1 + 1) (nI (nb + 1))) (upd (upd a_cellTag (nb + 1) 3) (nb + 1 + 1) (nI g)) (upd (upd a_cellData (nb + 1) (nI q)) (nb + 1 + 1) data) (upd (upd a_cellCoercion (nb + 1) 0) (nb + 1 + 1) co) a_closureNode a_closureEnv (upd (upd b_bNext nb (b_cEnv q)) (nb + 1) (nI nb)) (upd (upd b_bTag nb 3) (nb + 1) (nI g)) (upd (upd b_bVal nb (nI q)) (nb + 1) data) (upd (upd b_bLay nb (-1)) (nb + 1) lay) b_cNode b_cEnv b_lSource b_lTarget b_lLabel b_lInner ∧
      gr_Env (nb + 2) eT' (nI (nb + 1 + 1)) (nI (nb + 1)) (G (gr_ch a_operands 3 (cm q) 0)) := by
  obtain ⟨t1, t2, t3, t4, t5, t6⟩ := h.2.2 q hF.1
  obtain ⟨n1, n2, n3, n4, n5, n6⟩ := gr_N_kind (κ := 3) hcnt (gr_CK_N hCK t3 t4) t5 (by decide)
  obtain ⟨r1, r2, r3⟩ := n6.2.2.2.1 rfl
  obtain ⟨q1, q2, q3, q4, q5⟩ := n4 0 (by decide)
  have e3 : gc_fn (gc_ta (a_operands (3 * cm q)) (a_operands (3 * cm q + 1))) = gc_ta (a_operands (3 * cm q)) (a_operands (3 * cm q + 1)) ∧ gc_ft 3 (gc_ta (a_operands (3 * cm q)) (a_operands (3 * cm q + 1))) = true := by
    obtain ⟨i, hi, e1⟩ := r1
    obtain ⟨j, hj, e2⟩ := r2
    rw [e1, e2]
    obtain ⟨_, _, k, _, _, h3, h4⟩ := gc_ta_c i hi j hj
    rw [h4]
    refine ⟨?_, gc_ft_iff.mpr (Or.inr (Or.inr ⟨fun z => by have := (nI_ltI (a := k) (b := 3) (by omega) (by decide)).mp z; omega, rfl⟩))⟩
    unfold gc_fn
    rw [if_neg (gc_ne0 (by omega) (by omega))]
  have hself : gr_VY a_operands nc cm nl lw 3 (nI q) (-1) (gc_ta (a_operands (3 * cm q)) (a_operands (3 * cm q + 1))) gc_zv :=
    ⟨by omega, e3.2, fun e => by omega, fun _ => ⟨q, rfl, Or.inl ⟨rfl, rfl⟩, hF.1, by rw [e3.1]; exact gc_FT_0 r1 r2⟩⟩
  have hselfX : gr_VX a_labels cc 3 0 gc_zv := fun _ => ⟨0, rfl, by omega, fun k _ hk => gc_row0 hz hk⟩
  have hd : gc_ft (nI g) (a_operands (3 * cm q)) = true := (hF.2 g hV.1).2 (by rw [← hTa]; exact hV.2.1) h0
  have harg : gr_VY a_operands nc cm nl lw g data lay (a_operands (3 * cm q)) w := by
    refine ⟨hV.1, hd, hV.2.2.1, fun e => ?_⟩
    obtain ⟨q', d1, d2, d3, d4⟩ := hV.2.2.2 e
    have g1 : gc_fn Ta = 3 := gc_fn_A hA (by have := hV.2.1; rw [e] at this; exact this)
    have g2 : gc_fn (a_operands (3 * cm q)) = 3 := gc_fn_A r1 (by rw [e] at hd; exact hd)
    refine ⟨q', d1, d2, d3, ?_⟩
    rw [g2, ← g1]
    exact d4
  have B1 := gr_TB_bind h t6 hself hselfX
  have B2 := gr_TB_bind B1 (xe := nI (nb + 1)) (ye := nI nb) (gl := gc_ta (a_operands (3 * cm q)) (a_operands (3 * cm q + 1)) :: G (cm q)) (Or.inr ⟨nb, by omega, rfl, rfl, if_pos rfl⟩) harg hX
  refine ⟨_, fun b hb => ?_, B2, Or.inr ⟨nb + 1, by omega, rfl, rfl, ?_⟩⟩
  · show (if b = nb + 1 then _ else (if b = nb then _ else eT b)) = eT b
    rw [if_neg (by omega), if_neg (by omega)]
  · rw [q5]
    exact if_pos rfl
end
end
section
section
variable {f_maxNodes f_maxFuel f_nodeCount f_outcome f_programRoot f_faultKind f_faultNode f_walkTop f_contextDepth f_coercionCount f_compiledCount f_cellCount f_closureCount f_top f_running f_atNode f_atEnv f_valueTag f_valueData f_valueCoercion f_typeOfResult f_fuelSpent f_blamedLabel : Int32} {a_kinds a_operands a_hasParent a_inProgram a_nodeType a_siteTargets a_siteCoercions a_walkNode a_walkStep a_contextType a_labels a_draft a_cellNext a_cellTag a_cellData a_cellCoercion a_closureNode a_closureEnv a_frameNode a_frameStage a_frameEnv a_framePending a_frameData a_frameCoercion : Nat → Int32} {g_capacity g_fuel g_count g_state g_wrongKind g_wrongNode g_program g_used g_blamed g_resType g_vTag g_vVal g_vLay g_todo g_todoEnv g_closures g_bindings g_layers g_depth : Int32} {b_kinds b_ops b_parent b_types b_cNode b_cEnv b_bTag b_bVal b_bLay b_bNext b_lSource b_lTarget b_lLabel b_lInner b_frNode b_frEnv b_frPhase b_frVal b_frLay : Nat → Int32}
variable {G : Nat → List Int32} {lb0 : Nat → Int32} {comp cnt mf mn root cc nb : Nat} {eT : Nat → List Int32} {nc : Nat} {cm : Nat → Nat} {nl : Nat} {lw : Nat → Nat → Int32} {t d sp : Nat} {Q : gr_Q}
theorem gs_app1 {M : Nat} (IH : ∀ u v, gr_Sim M u v → gr_GX M u v) (hB : gr_B mn mf cnt f_maxNodes (nI mf) f_nodeCount g_capacity (nI mf) (nI cnt) a_kinds a_operands a_hasParent a_kinds a_operands b_parent) (hP : gr_P root comp cnt G f_programRoot g_program f_compiledCount a_kinds a_operands b_types a_inProgram a_nodeType a_siteTargets a_siteCoercions lb0) {g : Nat} {w wX : Nat → Int32} {P : Nat} (hVY : gr_VY a_operands nc cm nl lw g g_vVal g_vLay Q.2.1 w) (hVX : gr_VX a_labels cc g f_valueCoercion wX) (hPt : a_framePending (t + 1) = nI P) (hPc : P < cc) (hrow : gc_row a_labels P (g - 1) = Q.1 (g - 1)) (heq : g = 3 → gc_row a_labels P 2 = 0 → ∀ k, 3 ≤ k → k < 9 → gc_sq wX (gc_row a_labels P) k = gc_sq w Q.1 k) (hM : 7 * (mf - sp) + 2 * Q.2.2.1 + 1 ≤ M + 1) (hC : gr_Co G lb0 comp mf cc nb eT nc cm nl lw (t + 1) (d + 1) sp Q f_typeOfResult a_kinds a_operands b_types a_inProgram a_labels a_cellNext a_cellTag a_cellData a_cellCoercion a_closureNode a_closureEnv a_frameNode a_frameStage a_frameEnv a_framePending a_frameData a_frameCoercion b_bNext b_bTag b_bVal b_bLay b_cNode b_cEnv b_lSource b_lTarget b_lLabel b_lInner b_frNode b_frEnv b_frPhase b_frVal b_frLay) {Q0 : gr_Q} {m P2 : Nat} (f1 : b_frNode d = nI m) (f2 : a_frameNode (t + 1) = nI m) (hm : m < 48) (hi : a_inProgram m = 1) (hE : gr_Env nb eT (a_frameEnv (t + 1)) (b_frEnv d) (G m)) (hQ0 : Q0.2.1 = b_types m) (fS : a_frameStage (t + 1) = b_frPhase d) (fP : a_framePending t = nI P2) (fPc : P2 < cc) (fap : gc_ap (gc_row a_labels P2) Q0.1) (hS : gr_Stk a_kinds a_operands b_types a_inProgram G a_labels cc nb eT nc cm nl lw f_typeOfResult b_frNode b_frEnv b_frPhase b_frVal b_frLay a_frameNode a_frameStage a_frameEnv a_framePending a_frameData a_frameCoercion d t Q0) {q : Nat} {wf : Nat → Int32} (hK : a_kinds m = 4) (hph : b_frPhase d = 1) (hval : b_frVal d = nI q) (hxd : a_frameData (t + 1) = nI q) (hLf : gr_LV nl lw (b_frLay d) wf) (hXf : gr_VX a_labels cc 3 (a_frameCoercion (t + 1)) wf) (hFn : gr_Fn a_operands nc cm q wf (gc_fn (b_types (gr_ch a_operands 4 m 0))))
    (hQ : Q = (gr_sv a_operands b_types 4 m 2, b_types (gr_ch a_operands 4 m 1), Q0.2.2.1 + 2, Q0.2.2.2.1 + 2, Q0.2.2.2.2 + 4)) :
    gr_GX (M + 1) (f_maxNodes, nI mf, f_nodeCount, f_outcome, f_programRoot, f_faultKind, f_faultNode, f_walkTop, f_contextDepth, nI cc, f_compiledCount, nI (nb + 1), nI nc, nI (t + 1), 1, -1, f_atEnv, nI g, g_vVal, f_valueCoercion, f_typeOfResult, nI sp, f_blamedLabel, a_kinds, a_operands, a_hasParent, a_inProgram, a_nodeType, a_siteTargets, a_siteCoercions, a_walkNode, a_walkStep, a_contextType, a_labels, a_draft, a_cellNext, a_cellTag, a_cellData, a_cellCoercion, a_closureNode, a_closureEnv, a_frameNode, a_frameStage, a_frameEnv, a_framePending, a_frameData, a_frameCoercion) (g_capacity, nI mf, nI cnt, 2, g_wrongKind, g_wrongNode, g_program, nI sp, g_blamed, f_typeOfResult, nI g, g_vVal, g_vLay, -1, g_todoEnv, nI nc, nI nb, nI nl, nI (d + 1), a_kinds, a_operands, b_parent, b_types, b_cNode, b_cEnv, b_bTag, b_bVal, b_bLay, b_bNext, b_lSource, b_lTarget, b_lLabel, b_lInner, b_frNode, b_frEnv, b_frPhase, b_frVal, b_frLay) := by
  obtain ⟨b1, b2, b3, b4, _⟩ := id hB
  obtain ⟨_, _, _, _, _, _, p7, p8, hCK⟩ := id hP
  obtain ⟨⟨k1, k2, k3, k4, k5, k6, k7⟩, c2, c3, c4, hTB, _⟩ := id hC
  have hN := gr_CK_N hCK hm hi
  obtain ⟨n1, n2, n3, n4, n5, n6⟩ := gr_N_kind (κ := 4) (by omega) hN hK (by decide)
  obtain ⟨r1, r2, r3⟩ := n6.2.2.2.2.1 rfl
  obtain ⟨q1', q2', q3', q4', q5'⟩ := n4 0 (by decide)
  obtain ⟨_, _, _, hTV⟩ := gc_fn_hi q4' r2 r3
  obtain ⟨c, v1, v2⟩ := gr_VX_c hVX
  obtain ⟨cf, cf1, cf2, cf3⟩ := hXf rfl
  obtain ⟨t1, t2, t3, t4, t5, t6⟩ := hTB.2.2 q hFn.1
  obtain ⟨l1, l2, l3, l4, l5, l6⟩ := gr_N_kind (κ := 3) (by omega) (gr_CK_N hCK t3 t4) t5 (by decide)
  obtain ⟨g1, g2, g3, s, g4, g5, g6⟩ := l5 1 (by decide) (by decide)
  obtain ⟨o1, o2, o3, o4, o5⟩ := l4 0 (by decide)
  have hq := hFn.1
  subst hQ
  dsimp only at k4 k5 k6 hM hrow heq hVY
  have htd := gr_Stk_le d t Q0 hS
  have hg := hVY.1
  obtain ⟨u1, u2, u3, _⟩ := n5 2 (by decide) (by decide)
  have hp : ¬ nI (4 * m + 2) = 0 := gc_ne0 (by omega) (by omega)
  by_cases hz : gr_sv a_operands b_types 4 m 2 (g - 1) = 0
  · have z : gc_row a_labels P (g - 1) = 0 := hrow.trans hz
    obtain ⟨nl', lay', lS, lT, lL, lI, lw', m1, m2, m3, m4, m5, m6⟩ := gr_cP (n := m) (κ := 4) (k := 2) (by omega) hN hK (by decide) (by decide) (by decide) hg hz hVY.2.1 (by omega) hTB.1 (fun e => (hVY.2.2.2 e).choose_spec.2.1)
    have hVY' := gr_VY_cast (nl' := nl') (lw' := lw') (lay' := lay') hVY hp u3 hz m5
    have hLf' := gr_LV_mono hLf m1 m4
    by_cases ho : wf (2 + g) = 0
    · refine gr_step (v' := (g_capacity, nI mf, nI cnt, 2, g_wrongKind, g_wrongNode, g_program, nI sp, g_blamed, f_typeOfResult, nI g, g_vVal, lay', a_operands (3 * cm q + 2), nI (nb + 1), nI nc, nI (nb + 2), nI nl', nI (d + 1), a_kinds, a_operands, b_parent, b_types, b_cNode, b_cEnv, upd (upd b_bTag nb 3) (nb + 1) (nI g), upd (upd b_bVal nb (nI q)) (nb + 1) g_vVal, upd (upd b_bLay nb (-1)) (nb + 1) lay', upd (upd b_bNext nb (b_cEnv q)) (nb + 1) (nI nb), lS, lT, lL, lI, b_frNode, b_frEnv, upd b_frPhase d 2, b_frVal, b_frLay))
        (gr_Y_resume (by omega) (fun post h => gy_resume_app1 (by omega) hm f1 hK hph m6 (gy_enter (m := cm q) (by omega) (by omega) t3 hval t1 (by omega) hg (by omega) m3 hLf' (fun s' bl' hh => ?_))))
        (gr_X_resume (fun post hp => gx_resume_app1 (by omega) hPc hVY.1 c2 v1 (by omega) hPt f2 hm hK (fS.trans hph) hxd cf1 (by omega) z (fun vc lb' cc' dr' x1 x2 => ?_)))
      · rcases hh with ⟨_, e1, e2⟩ | ⟨e0, _⟩ | ⟨e0, _⟩
        · subst e1 e2; exact h
        · exact absurd ho e0
        · exact absurd ho e0
      · have y1 := x1.1
        have y2 := x1.2.1
        have hVX' : gr_VX lb' cc' g vc (gc_sq w (gc_ly (gc_fn (b_types (gr_ch a_operands 4 m 1))) (gc_fn (gr_t a_operands b_types 4 m 2)) (nI (4 * m + 2)))) := by
          intro e3
          obtain ⟨id, i1, i2, i3⟩ := x2 e3
          subst e3
          refine ⟨id, i1, i2, fun k h1 h2 => ?_⟩
          rw [i3 k h1 h2, gc_sq_at (a' := wX) (b' := gc_row a_labels P) (v2 rfl k h1 h2) rfl, heq rfl z k h1 h2]
          exact gc_sq_at rfl (gc_cv_hi h1)
        have ecf : gc_row lb' cf (2 + g) = wf (2 + g) := (gc_Ext_row x1 cf2 (by omega)).trans (cf3 (2 + g) (by omega) (by omega))
        refine gx_enter (t := t) (m := cm q) (s := s) (P := P2) (by omega) (by omega) (gc_Ext_z x1 (by omega) c2) (by omega) (by omega) t3 t2 hg (by omega) fP (by omega) g4 (by omega) (by omega) (fun e => absurd (ecf.trans ho) e) (fun _ id lb2 cc2 dr2 fp' w1 w2 w3 w4 w5 => hp _ (IH _ _ ?_))
        have z1 := w1.1
        have z2 := w1.2.1
        have wx := gc_Ext_tr x1 w1
        have hTB1 := gr_TB_ly (gr_TB_lb hTB wx.1 wx.2.2) m1 m4 m3
        obtain ⟨eT', E1, E2, E3⟩ := gr_enter_TB hTB1 (show cnt ≤ 48 by omega) (by omega) (gc_Ext_z wx (by omega) c2) hCK hFn (gc_tdfn _).symm (gc_td_A q4') hVY' (gr_VX_mono hVX' w1.1 w1.2.2) ho
        have hGr : gr_Gr a_labels cc nb eT nc cm nl lw lb2 cc2 (nb + 2) eT' nc cm nl' lw' := ⟨⟨wx.1, wx.2.2⟩, ⟨by omega, E1⟩, ⟨Nat.le_refl _, fun _ _ => rfl⟩, ⟨m1, m4⟩⟩
        have hS' : gr_Stk a_kinds a_operands b_types a_inProgram G lb2 cc2 (nb + 2) eT' nc cm nl' lw' f_typeOfResult b_frNode b_frEnv (upd b_frPhase d 2) b_frVal b_frLay a_frameNode a_frameStage a_frameEnv fp' a_frameData a_frameCoercion (d + 1) t (gc_sq (gc_sq (gr_sv a_operands b_types 3 (cm q) 1) (gc_ev wf)) Q0.1, b_types (gr_ch a_operands 3 (cm q) 0), Q0.2.2.1 + 1, Q0.2.2.2.1, Q0.2.2.2.2) := by
          refine ⟨Q0, Or.inl ⟨Or.inr (Or.inr ⟨q, wf, gc_fn (b_types (gr_ch a_operands 4 m 0)), Or.inr ⟨m, f1, hm, hK⟩, by rw [gc_len, if_pos rfl], hval, hLf', hFn, hTV, ?_, rfl⟩), ?_⟩⟩
          · rw [hQ0, gc_tcfn]; exact r1
          · exact gr_Stk_mono hGr d t Q0 hS (fun f hf => ⟨rfl, rfl, by rw [gc_len, if_neg (by omega)], rfl, rfl⟩) (fun _ _ => ⟨rfl, rfl, rfl, rfl, rfl⟩) (fun j hj => w5 j (by omega))
        have hC' : gr_Co G lb0 comp mf cc2 (nb + 2) eT' nc cm nl' lw' t (d + 1) sp (gc_sq (gc_sq (gr_sv a_operands b_types 3 (cm q) 1) (gc_ev wf)) Q0.1, b_types (gr_ch a_operands 3 (cm q) 0), Q0.2.2.1 + 1, Q0.2.2.2.1, Q0.2.2.2.2) f_typeOfResult a_kinds a_operands b_types a_inProgram lb2 (upd (upd a_cellNext (nb + 1) (a_closureEnv q)) (nb + 1 + 1) (nI (nb + 1))) (upd (upd a_cellTag (nb + 1) 3) (nb + 1 + 1) (nI g)) (upd (upd a_cellData (nb + 1) (nI q)) (nb + 1 + 1) g_vVal) (upd (upd a_cellCoercion (nb + 1) 0) (nb + 1 + 1) vc) a_closureNode a_closureEnv a_frameNode a_frameStage a_frameEnv fp' a_frameData a_frameCoercion (upd (upd b_bNext nb (b_cEnv q)) (nb + 1) (nI nb)) (upd (upd b_bTag nb 3) (nb + 1) (nI g)) (upd (upd b_bVal nb (nI q)) (nb + 1) g_vVal) (upd (upd b_bLay nb (-1)) (nb + 1) lay') b_cNode b_cEnv lS lT lL lI b_frNode b_frEnv (upd b_frPhase d 2) b_frVal b_frLay :=
          ⟨⟨by omega, by omega, by omega, by dsimp only; omega, by dsimp only; omega, by dsimp only; omega, by omega⟩, gc_Ext_z wx (by omega) c2, fun j hj => (wx.2.2 j (by omega)).trans (c3 j hj), c4, E2, hS'⟩
        refine gr_mkV hB hP hC' ⟨gr_ch a_operands 3 (cm q) 0, id, o2, o2, by omega, o3, E3, rfl, w4, w2, ?_⟩ (by dsimp only; omega)
        refine gc_ap_tr w3 ?_
        show gc_ap _ (gc_sq (gc_sq (gr_sv a_operands b_types 3 (cm q) 1) (gc_ev wf)) Q0.1)
        rw [gc_sq_as]
        refine gc_ap_sq (gc_ap_of (fun j hj => (gc_Ext_row x1 (show s < cc by omega) hj).trans ((c3 _ (by omega)).trans (g6 j hj)))) (gc_ap_sq (gc_ap_of (fun j hj => ?_)) (gc_ap_tr (gc_ap_of (fun k hk => gc_Ext_row x1 fPc hk)) fap))
        unfold gc_ev
        by_cases j3 : j < 3
        · rw [if_pos j3, if_pos j3]
          exact (gc_Ext_row x1 cf2 (by omega)).trans (cf3 (6 + j) (by omega) (by omega))
        · rw [if_neg j3, if_neg j3]
    · refine gr_fin2 (v' := (g_capacity, nI mf, nI cnt, 4, g_wrongKind, g_wrongNode, g_program, nI sp, -(wf (2 + g)), f_typeOfResult, nI g, g_vVal, lay', a_operands (3 * cm q + 2), nI (nb + 1), nI nc, nI (nb + 2), nI nl', nI (d + 1), a_kinds, a_operands, b_parent, b_types, b_cNode, b_cEnv, upd (upd b_bTag nb 3) (nb + 1) (nI g), upd (upd b_bVal nb (nI q)) (nb + 1) g_vVal, upd (upd b_bLay nb (-1)) (nb + 1) lay', upd (upd b_bNext nb (b_cEnv q)) (nb + 1) (nI nb), lS, lT, lL, lI, b_frNode, b_frEnv, upd b_frPhase d 2, b_frVal, b_frLay))
        (gr_Y_fin (gr_Y_resume (by omega) (fun post h => gy_resume_app1 (by omega) hm f1 hK hph m6 (gy_enter (m := cm q) (by omega) (by omega) t3 hval t1 (by omega) hg (by omega) m3 hLf' (fun s' bl' hh => ?_)))) (by decide))
        (gr_X_resume (fun post hp => gx_resume_app1 (by omega) hPc hVY.1 c2 v1 (by omega) hPt f2 hm hK (fS.trans hph) hxd cf1 (by omega) z (fun vc lb' cc' dr' x1 x2 => ?_)))
      · rcases hh with ⟨e0, _⟩ | ⟨_, _, e1, e2⟩ | ⟨_, e0, _⟩
        · exact absurd e0 ho
        · subst e1 e2; exact h
        · exact absurd rfl e0
      · have y1 := x1.1
        have y2 := x1.2.1
        have ecf : gc_row lb' cf (2 + g) = wf (2 + g) := (gc_Ext_row x1 cf2 (by omega)).trans (cf3 (2 + g) (by omega) (by omega))
        refine gx_enter (t := t) (m := cm q) (s := s) (P := P2) (by omega) (by omega) (gc_Ext_z x1 (by omega) c2) (by omega) (by omega) t3 t2 hg (by omega) fP (by omega) g4 (by omega) (by omega) (fun _ => hp _ ⟨?_, fun PX n x hx h => gr_X_end hx h⟩) (fun e => absurd (ecf.symm.trans e) ho)
        rw [ecf]
        exact gr_R4 hB hP (gc_Ext_z x1 (by omega) c2) (fun j hj => (x1.2.2 j (by omega)).trans (c3 j hj)) k1
  · have hb' : ¬ gc_row a_labels P (g - 1) = 0 := by rw [hrow]; exact hz
    refine gr_fin2 (v' := (g_capacity, nI mf, nI cnt, 4, g_wrongKind, g_wrongNode, g_program, nI sp, gc_row a_labels P (g - 1), f_typeOfResult, nI g, g_vVal, g_vLay, a_operands (3 * cm q + 2), nI (nb + 1), nI nc, nI (nb + 2), nI nl, nI (d + 1), a_kinds, a_operands, b_parent, b_types, b_cNode, b_cEnv, upd (upd b_bTag nb 3) (nb + 1) (nI g), upd (upd b_bVal nb (nI q)) (nb + 1) g_vVal, upd (upd b_bLay nb (-1)) (nb + 1) g_vLay, upd (upd b_bNext nb (b_cEnv q)) (nb + 1) (nI nb), b_lSource, b_lTarget, b_lLabel, b_lInner, b_frNode, b_frEnv, upd b_frPhase d 2, b_frVal, b_frLay))
      (gr_Y_fin (gr_Y_resume (by omega) (fun post h => gy_resume_app1 (by omega) hm f1 hK hph (gr_cF (n := m) (κ := 4) (k := 2) (by omega) hN hK (by decide) (by decide) (by decide) hg hz) (gy_enter (m := cm q) (by omega) (by omega) t3 hval t1 (by omega) hg (by omega) hTB.1 hLf (fun s' bl' hh => ?_)))) (by decide))
      (gr_X_resume (fun post hp => gx_resume_blame (by omega) hPc hg c2 v1 (by omega) hPt hb' (hp _ ⟨gr_R4 hB hP c2 c3 k1, fun PX n x hx h => gr_X_end hx h⟩)))
    rcases hh with ⟨_, e1, e2⟩ | ⟨_, e0, _⟩ | ⟨_, _, e1, e2⟩
    · rw [← hrow] at e2
      subst e1 e2; exact h
    · exact absurd e0 (by decide)
    · rw [← hrow] at e2
      subst e1 e2; exact h
end
end
section
theorem gs_main : ∀ (M : Nat) (u : SX) (v : SY), gr_Sim M u v → gr_GX M u v := by
  intro M
  induction M with
  | zero =>
    intro u v h
    obtain ⟨f_maxNodes, f_maxFuel, f_nodeCount, f_outcome, f_programRoot, f_faultKind, f_faultNode, f_walkTop, f_contextDepth, f_coercionCount, f_compiledCount, f_cellCount, f_closureCount, f_top, f_running, f_atNode, f_atEnv, f_valueTag, f_valueData, f_valueCoercion, f_typeOfResult, f_fuelSpent, f_blamedLabel, a_kinds, a_operands, a_hasParent, a_inProgram, a_nodeType, a_siteTargets, a_siteCoercions, a_walkNode, a_walkStep, a_contextType, a_labels, a_draft, a_cellNext, a_cellTag, a_cellData, a_cellCoercion, a_closureNode, a_closureEnv, a_frameNode, a_frameStage, a_frameEnv, a_framePending, a_frameData, a_frameCoercion⟩ := u
    obtain ⟨g_capacity, g_fuel, g_count, g_state, g_wrongKind, g_wrongNode, g_program, g_used, g_blamed, g_resType, g_vTag, g_vVal, g_vLay, g_todo, g_todoEnv, g_closures, g_bindings, g_layers, g_depth, b_kinds, b_ops, b_parent, b_types, b_cNode, b_cEnv, b_bTag, b_bVal, b_bLay, b_bNext, b_lSource, b_lTarget, b_lLabel, b_lInner, b_frNode, b_frEnv, b_frPhase, b_frVal, b_frLay⟩ := v
    obtain ⟨mn, mf, cnt, root, comp, G, lb0, cc, nb, eT, nc, cm, nl, lw, t, d, sp, Q, hB, hP, _, hC, ⟨_, h⟩ | ⟨_, h⟩⟩ := h
    · omega
    · omega
  | succ M IH =>
    intro u v h
    obtain ⟨f_maxNodes, f_maxFuel, f_nodeCount, f_outcome, f_programRoot, f_faultKind, f_faultNode, f_walkTop, f_contextDepth, f_coercionCount, f_compiledCount, f_cellCount, f_closureCount, f_top, f_running, f_atNode, f_atEnv, f_valueTag, f_valueData, f_valueCoercion, f_typeOfResult, f_fuelSpent, f_blamedLabel, a_kinds, a_operands, a_hasParent, a_inProgram, a_nodeType, a_siteTargets, a_siteCoercions, a_walkNode, a_walkStep, a_contextType, a_labels, a_draft, a_cellNext, a_cellTag, a_cellData, a_cellCoercion, a_closureNode, a_closureEnv, a_frameNode, a_frameStage, a_frameEnv, a_framePending, a_frameData, a_frameCoercion⟩ := u
    obtain ⟨g_capacity, g_fuel, g_count, g_state, g_wrongKind, g_wrongNode, g_program, g_used, g_blamed, g_resType, g_vTag, g_vVal, g_vLay, g_todo, g_todoEnv, g_closures, g_bindings, g_layers, g_depth, b_kinds, b_ops, b_parent, b_types, b_cNode, b_cEnv, b_bTag, b_bVal, b_bLay, b_bNext, b_lSource, b_lTarget, b_lLabel, b_lInner, b_frNode, b_frEnv, b_frPhase, b_frVal, b_frLay⟩ := v
    obtain ⟨mn, mf, cnt, root, comp, G, lb0, cc, nb, eT, nc, cm, nl, lw, t, d, sp, Q, hB, hP, ⟨e1, e2, e3, e4, e5, e6, e7, e8, e9, e10, e11, e12, e13⟩, hC, hmode⟩ := h
    obtain ⟨b1, b2, b3, b4, _, b6, _, _, b9, b10, b11, b12, _⟩ := id hB
    subst e1 e2 e3 e4 e5 e6 e7 e8 e9 e10 e11 e12 e13 b6 b9 b10 b11 b12
    obtain ⟨_, _, _, _, _, _, p7, p8, hCK⟩ := id hP
    rcases hmode with ⟨⟨a, P, va, vb, ha, hi, hE, hQ, hPt, hPc, hap⟩, hM⟩ | ⟨⟨ra, rb, g, w, wX, P, rc, rd, re, hVY, hVX, hPt, hPc, hrow, heq⟩, hM⟩
    · subst va vb
      obtain ⟨n1, κ, n2, n3, _⟩ := gr_CK_N hCK ha hi
      by_cases h2 : κ ≤ 1
      · exact gs_lit IH hB hP hC ha hi hE hQ hPt hPc hap hM (by omega) n2
      · by_cases h3 : κ = 2
        · subst h3; exact gs_var IH hB hP hC ha hi hE hQ hPt hPc hap hM n2
        · by_cases hs : sp < mf
          · by_cases h4 : κ = 3
            · subst h4; exact gs_fun IH hB hP hC ha hi hE hQ hPt hPc hap hM n2 hs
            · by_cases h8 : κ = 8
              · subst h8; exact gs_as IH hB hP hC ha hi hE hQ hPt hPc hap hM n2 hs
              · exact gs_push IH hB hP hC ha hi hE hQ hPt hPc hap hM (by omega) n2 hs
          · exact gs_oof IH hB hP hC ha hi hE hQ hPt hPc hap hM (by omega) n2 hs
    · subst ra rb rc rd re
      cases d with
      | zero => exact gs_done IH hB hP hVY hVX hPt hPc hrow heq hM hC
      | succ d =>
        obtain ⟨_, _, _, _, _, hStk⟩ := id hC
        obtain ⟨Q0, ⟨hF, hS⟩ | ⟨t', et, hF, ⟨P2, fP, fPc, fap⟩, hS⟩⟩ := hStk
        · rcases hF with ⟨m, f1, f2, f3, f4, f5, f6, f7⟩ | ⟨m, j, f1, f2, f3, f4, f5, f6, f7, f8⟩ | ⟨q, wf, V, f1, f2, f3, f4, f5, f6, f7, f8⟩
          · obtain ⟨n1, n2, n3, n4, n5, n6⟩ := gr_N_kind (κ := 8) (by omega) (gr_CK_N hCK f2 f3) f4 (by decide)
            refine gs_pop IH hB hP hVY hVX hPt hPc hrow heq hM hC (κ := 8) (k := 1) (fp' := upd b_frPhase d 1) f2 f3 f4 (by decide) (by decide) (by decide) f7 ?_ hS (fun f hf => by rw [gc_len, if_neg (by omega)]) (fun s1 b1 y1 l1 q1 q2 q3 q4 post C H => gy_resume_as ?_ f2 f1 f4 f5 C H)
            · rw [f6]; exact (n6.2.2.2.2.2.2.2 rfl).symm
            · have := hC.1.2.1; have := hC.1.1; omega
          · refine gs_pop IH hB hP hVY hVX hPt hPc hrow heq hM hC (κ := 6) (k := j + 1) (fp' := upd b_frPhase d (nI (j + 1))) f2 f3 f4 (by decide) (by omega) (by show j + 1 ≤ 3; omega) f8 ?_ hS (fun f hf => by rw [gc_len, if_neg (by omega)]) (fun s1 b1 y1 l1 q1 q2 q3 q4 post C H => gy_resume_if1 ?_ f2 f1 f4 f5 f6 C H)
            · rw [f7]
              show (if j + 1 = 1 then (2 : Int32) else b_types m) = b_types m
              rw [if_neg (by omega)]
            · have := hC.1.2.1; have := hC.1.1; omega
          · exact gs_leave IH hB hP hVY hVX hPt hPc hrow heq hM hC f1 f2 f3 f4 f5 f6 f7 f8 hS
        · subst et
          obtain ⟨m, f1, f2, hm, hi, hE, hQ0, fS, hF⟩ := hF
          rcases hF with ⟨h1, h2, h3⟩ | ⟨h1, h2, h3⟩ | ⟨h1, h2, h3⟩ | ⟨h1, h2, h3, h4⟩ | ⟨h1, h2, h3⟩ | ⟨h1, h2, ⟨q, wf, a1, a2, a3, a4, a5⟩, h3⟩
          · exact gs_if IH hB hP hVY hVX hPt hPc hrow heq hM hC f1 f2 hm hi hE hQ0 fS fP fPc fap hS h1 h2 h3
          · exact gs_let IH hB hP hVY hVX hPt hPc hrow heq hM hC f1 f2 hm hi hE hQ0 fS fP fPc fap hS h1 h2 h3
          · exact gs_prim0 IH hB hP hVY hVX hPt hPc hrow heq hM hC f1 f2 hm hi hE hQ0 fS fP fPc fap hS h1 h2 h3
          · exact gs_prim1 IH hB hP hVY hVX hPt hPc hrow heq hM hC f1 f2 hm hi hE hQ0 fS fP fPc fap hS h1 h2 h3 h4
          · exact gs_app0 IH hB hP hVY hVX hPt hPc hrow heq hM hC f1 f2 hm hi hE hQ0 fS fP fPc fap hS h1 h2 h3
          · exact gs_app1 IH hB hP hVY hVX hPt hPc hrow heq hM hC f1 f2 hm hi hE hQ0 fS fP fPc fap hS h1 h2 a1 a2 a3 a4 a5 h3
end
section
section
variable {f_maxNodes f_maxFuel f_nodeCount f_outcome f_programRoot f_faultKind f_faultNode f_walkTop f_contextDepth f_coercionCount f_compiledCount f_cellCount f_closureCount f_top f_running f_atNode f_atEnv f_valueTag f_valueData f_valueCoercion f_typeOfResult f_fuelSpent f_blamedLabel : Int32} {a_kinds a_operands a_hasParent a_inProgram a_nodeType a_siteTargets a_siteCoercions a_walkNode a_walkStep a_contextType a_labels a_draft a_cellNext a_cellTag a_cellData a_cellCoercion a_closureNode a_closureEnv a_frameNode a_frameStage a_frameEnv a_framePending a_frameData a_frameCoercion : Nat → Int32} {g_capacity g_fuel g_count g_state g_wrongKind g_wrongNode g_program g_used g_blamed g_resType g_vTag g_vVal g_vLay g_todo g_todoEnv g_closures g_bindings g_layers g_depth : Int32} {b_kinds b_ops b_parent b_types b_cNode b_cEnv b_bTag b_bVal b_bLay b_bNext b_lSource b_lTarget b_lLabel b_lInner b_frNode b_frEnv b_frPhase b_frVal b_frLay : Nat → Int32}
theorem gr_drive {PX : SX → Prop} {M : Nat} {v : SY} (hM : M ≤ 2000) (h : gr_Sim M (f_maxNodes, f_maxFuel, f_nodeCount, f_outcome, f_programRoot, f_faultKind, f_faultNode, f_walkTop, f_contextDepth, f_coercionCount, f_compiledCount, f_cellCount, f_closureCount, f_top, f_running, f_atNode, f_atEnv, f_valueTag, f_valueData, f_valueCoercion, f_typeOfResult, f_fuelSpent, f_blamedLabel, a_kinds, a_operands, a_hasParent, a_inProgram, a_nodeType, a_siteTargets, a_siteCoercions, a_walkNode, a_walkStep, a_contextType, a_labels, a_draft, a_cellNext, a_cellTag, a_cellData, a_cellCoercion, a_closureNode, a_closureEnv, a_frameNode, a_frameStage, a_frameEnv, a_framePending, a_frameData, a_frameCoercion) v) (H : ∀ u' v', gr_R u' v' → gr_Yto M v v' → PX u') : wpX_drive PX (f_maxNodes, f_maxFuel, f_nodeCount, f_outcome, f_programRoot, f_faultKind, f_faultNode, f_walkTop, f_contextDepth, f_coercionCount, f_compiledCount, f_cellCount, f_closureCount, f_top, f_running, f_atNode, f_atEnv, f_valueTag, f_valueData, f_valueCoercion, f_typeOfResult, f_fuelSpent, f_blamedLabel, a_kinds, a_operands, a_hasParent, a_inProgram, a_nodeType, a_siteTargets, a_siteCoercions, a_walkNode, a_walkStep, a_contextType, a_labels, a_draft, a_cellNext, a_cellTag, a_cellData, a_cellCoercion, a_closureNode, a_closureEnv, a_frameNode, a_frameStage, a_frameEnv, a_framePending, a_frameData, a_frameCoercion) :=
  ⟨M + 1, gs_main M _ _ h (M + 1) 0 PX (by omega) (by omega) H⟩
theorem gr_go {post : SY → Prop} {M : Nat} {v' : SY} (hM : M ≤ 2000) (h : gr_Yto M (g_capacity, g_fuel, g_count, g_state, g_wrongKind, g_wrongNode, g_program, g_used, g_blamed, g_resType, g_vTag, g_vVal, g_vLay, g_todo, g_todoEnv, g_closures, g_bindings, g_layers, g_depth, b_kinds, b_ops, b_parent, b_types, b_cNode, b_cEnv, b_bTag, b_bVal, b_bLay, b_bNext, b_lSource, b_lTarget, b_lLabel, b_lInner, b_frNode, b_frEnv, b_frPhase, b_frVal, b_frLay) v') (hp : post v') : wpY_go post (g_capacity, g_fuel, g_count, g_state, g_wrongKind, g_wrongNode, g_program, g_used, g_blamed, g_resType, g_vTag, g_vVal, g_vLay, g_todo, g_todoEnv, g_closures, g_bindings, g_layers, g_depth, b_kinds, b_ops, b_parent, b_types, b_cNode, b_cEnv, b_bTag, b_bVal, b_bLay, b_bNext, b_lSource, b_lTarget, b_lLabel, b_lInner, b_frNode, b_frEnv, b_frPhase, b_frVal, b_frLay) :=
  ⟨M + 1, h post (M + 1) 0 (by omega) (by omega) hp⟩
theorem gr_go0 {post : SY → Prop} (hs : ¬ g_state = 2) (hp : post (g_capacity, g_fuel, g_count, g_state, g_wrongKind, g_wrongNode, g_program, g_used, g_blamed, g_resType, g_vTag, g_vVal, g_vLay, g_todo, g_todoEnv, g_closures, g_bindings, g_layers, g_depth, b_kinds, b_ops, b_parent, b_types, b_cNode, b_cEnv, b_bTag, b_bVal, b_bLay, b_bNext, b_lSource, b_lTarget, b_lLabel, b_lInner, b_frNode, b_frEnv, b_frPhase, b_frVal, b_frLay)) : wpY_go post (g_capacity, g_fuel, g_count, g_state, g_wrongKind, g_wrongNode, g_program, g_used, g_blamed, g_resType, g_vTag, g_vVal, g_vLay, g_todo, g_todoEnv, g_closures, g_bindings, g_layers, g_depth, b_kinds, b_ops, b_parent, b_types, b_cNode, b_cEnv, b_bTag, b_bVal, b_bLay, b_bNext, b_lSource, b_lTarget, b_lLabel, b_lInner, b_frNode, b_frEnv, b_frPhase, b_frVal, b_frLay) :=
  ⟨1, pk_le 2000 0 (fun h => by omega) (fun _ => br_f hs hp)⟩
theorem gr_drive0 {PX : SX → Prop} (hp : PX (f_maxNodes, f_maxFuel, f_nodeCount, f_outcome, f_programRoot, f_faultKind, f_faultNode, f_walkTop, f_contextDepth, f_coercionCount, f_compiledCount, f_cellCount, f_closureCount, f_top, 0, f_atNode, f_atEnv, f_valueTag, f_valueData, f_valueCoercion, f_typeOfResult, f_fuelSpent, f_blamedLabel, a_kinds, a_operands, a_hasParent, a_inProgram, a_nodeType, a_siteTargets, a_siteCoercions, a_walkNode, a_walkStep, a_contextType, a_labels, a_draft, a_cellNext, a_cellTag, a_cellData, a_cellCoercion, a_closureNode, a_closureEnv, a_frameNode, a_frameStage, a_frameEnv, a_framePending, a_frameData, a_frameCoercion)) : wpX_drive PX (f_maxNodes, f_maxFuel, f_nodeCount, f_outcome, f_programRoot, f_faultKind, f_faultNode, f_walkTop, f_contextDepth, f_coercionCount, f_compiledCount, f_cellCount, f_closureCount, f_top, 0, f_atNode, f_atEnv, f_valueTag, f_valueData, f_valueCoercion, f_typeOfResult, f_fuelSpent, f_blamedLabel, a_kinds, a_operands, a_hasParent, a_inProgram, a_nodeType, a_siteTargets, a_siteCoercions, a_walkNode, a_walkStep, a_contextType, a_labels, a_draft, a_cellNext, a_cellTag, a_cellData, a_cellCoercion, a_closureNode, a_closureEnv, a_frameNode, a_frameStage, a_frameEnv, a_framePending, a_frameData, a_frameCoercion) :=
  ⟨1, pk_le 2048 0 (fun h => by omega) (fun _ => br_t rfl hp)⟩
theorem gr_R_out (h : gr_R (f_maxNodes, f_maxFuel, f_nodeCount, f_outcome, f_programRoot, f_faultKind, f_faultNode, f_walkTop, f_contextDepth, f_coercionCount, f_compiledCount, f_cellCount, f_closureCount, f_top, f_running, f_atNode, f_atEnv, f_valueTag, f_valueData, f_valueCoercion, f_typeOfResult, f_fuelSpent, f_blamedLabel, a_kinds, a_operands, a_hasParent, a_inProgram, a_nodeType, a_siteTargets, a_siteCoercions, a_walkNode, a_walkStep, a_contextType, a_labels, a_draft, a_cellNext, a_cellTag, a_cellData, a_cellCoercion, a_closureNode, a_closureEnv, a_frameNode, a_frameStage, a_frameEnv, a_framePending, a_frameData, a_frameCoercion) (g_capacity, g_fuel, g_count, g_state, g_wrongKind, g_wrongNode, g_program, g_used, g_blamed, g_resType, g_vTag, g_vVal, g_vLay, g_todo, g_todoEnv, g_closures, g_bindings, g_layers, g_depth, b_kinds, b_ops, b_parent, b_types, b_cNode, b_cEnv, b_bTag, b_bVal, b_bLay, b_bNext, b_lSource, b_lTarget, b_lLabel, b_lInner, b_frNode, b_frEnv, b_frPhase, b_frVal, b_frLay)) : g_state = f_outcome := by
  obtain ⟨mn, mf, cnt, sp, hB, hz, ho, _⟩ := h
  exact ho.symm
variable {G : Nat → List Int32} {lb0 : Nat → Int32} {comp cnt mf mn root cc nb : Nat} {eT : Nat → List Int32} {nc : Nat} {cm : Nat → Nat} {nl : Nat} {lw : Nat → Nat → Int32} {t d sp : Nat} {Q : gr_Q}
theorem gr_run (hB : gr_B mn mf cnt f_maxNodes (nI mf) f_nodeCount g_capacity (nI mf) (nI cnt) a_kinds a_operands a_hasParent a_kinds a_operands b_parent) (hP : gr_P root comp cnt G (nI root) (nI root) (nI comp) a_kinds a_operands b_types a_inProgram a_nodeType a_siteTargets a_siteCoercions a_labels) (hz : ∀ k, k < 9 → a_labels k = 0) (hst : 2 ≤ f_outcome) (hst' : 2 ≤ g_state) {R : SX → SY → Prop} (hR : ∀ u v, gr_R u v → R u v) :
    wpX_run (fun r u' => wpY_run (fun r' v' => r' = r ∧ R u' v') (g_capacity, nI mf, nI cnt, g_state, g_wrongKind, g_wrongNode, nI root, g_used, g_blamed, g_resType, g_vTag, g_vVal, g_vLay, g_todo, g_todoEnv, g_closures, g_bindings, g_layers, g_depth, a_kinds, a_operands, b_parent, b_types, b_cNode, b_cEnv, b_bTag, b_bVal, b_bLay, b_bNext, b_lSource, b_lTarget, b_lLabel, b_lInner, b_frNode, b_frEnv, b_frPhase, b_frVal, b_frLay)) (f_maxNodes, nI mf, f_nodeCount, f_outcome, nI root, f_faultKind, f_faultNode, f_walkTop, f_contextDepth, f_coercionCount, nI comp, f_cellCount, f_closureCount, f_top, f_running, f_atNode, f_atEnv, f_valueTag, f_valueData, f_valueCoercion, f_typeOfResult, f_fuelSpent, f_blamedLabel, a_kinds, a_operands, a_hasParent, a_inProgram, a_nodeType, a_siteTargets, a_siteCoercions, a_walkNode, a_walkStep, a_contextType, a_labels, a_draft, a_cellNext, a_cellTag, a_cellData, a_cellCoercion, a_closureNode, a_closureEnv, a_frameNode, a_frameStage, a_frameEnv, a_framePending, a_frameData, a_frameCoercion) := by
  obtain ⟨b1, b2, b3, b4, _⟩ := id hB
  obtain ⟨p1, p2, p3, _, _, _, p7, p8, hCK⟩ := id hP
  obtain ⟨n1, κ, n2, n3, n4, n5, _⟩ := gr_CK_N hCK p1 p2
  have hin : vp_in (nI root) 48 := gc_in p1 (by decide)
  refine br_t hst ⟨hin, nm_r (e' := b_types root) (by rw [gc_cl (by omega)]; exact n5) ?_⟩
  refine nm_e (nm_e (nm_e (nm_e ?_)))
  refine gr_drive (M := 7 * mf + 2) (v := (g_capacity, nI mf, nI cnt, 2, g_wrongKind, g_wrongNode, nI root, 0, g_blamed, b_types root, g_vTag, g_vVal, g_vLay, nI root, -1, 0, 0, 0, 0, a_kinds, a_operands, b_parent, b_types, b_cNode, b_cEnv, b_bTag, b_bVal, b_bLay, b_bNext, b_lSource, b_lTarget, b_lLabel, b_lInner, b_frNode, b_frEnv, b_frPhase, b_frVal, b_frLay)) (by omega) ?_ (fun u' v' hr hy => ?_)
  · refine ⟨mn, mf, cnt, root, comp, G, a_labels, comp, 0, fun _ => [], 0, fun _ => 0, 0, fun _ => gc_zv, 0, 0, 0, (gc_zv, b_types root, 0, 0, 0), hB, hP, ⟨rfl, rfl, rfl, rfl, rfl, rfl, rfl, rfl, rfl, rfl, rfl, rfl, rfl⟩, ?_, Or.inl ⟨⟨root, 0, rfl, rfl, p1, p2, Or.inl ⟨rfl, rfl, p3⟩, rfl, by rw [gc_len, if_pos rfl]; rfl, by omega, gc_ap_of (fun k hk => gc_row0 hz hk)⟩, by dsimp only; omega⟩⟩
    refine ⟨⟨by omega, by omega, by omega, by dsimp only; omega, by dsimp only; omega, by dsimp only; omega, by omega⟩, hz, fun _ _ => rfl, ⟨by rw [gc_len, if_pos rfl], n4⟩, ⟨fun l hl => absurd hl (Nat.not_lt_zero l), fun l hl => absurd hl (Nat.not_lt_zero l), fun l hl => absurd hl (Nat.not_lt_zero l)⟩, rfl, rfl⟩
  · obtain ⟨f_maxNodes1, f_maxFuel1, f_nodeCount1, f_outcome1, f_programRoot1, f_faultKind1, f_faultNode1, f_walkTop1, f_contextDepth1, f_coercionCount1, f_compiledCount1, f_cellCount1, f_closureCount1, f_top1, f_running1, f_atNode1, f_atEnv1, f_valueTag1, f_valueData1, f_valueCoercion1, f_typeOfResult1, f_fuelSpent1, f_blamedLabel1, a_kinds1, a_operands1, a_hasParent1, a_inProgram1, a_nodeType1, a_siteTargets1, a_siteCoercions1, a_walkNode1, a_walkStep1, a_contextType1, a_labels1, a_draft1, a_cellNext1, a_cellTag1, a_cellData1, a_cellCoercion1, a_closureNode1, a_closureEnv1, a_frameNode1, a_frameStage1, a_frameEnv1, a_framePending1, a_frameData1, a_frameCoercion1⟩ := u'
    obtain ⟨g_capacity1, g_fuel1, g_count1, g_state1, g_wrongKind1, g_wrongNode1, g_program1, g_used1, g_blamed1, g_resType1, g_vTag1, g_vVal1, g_vLay1, g_todo1, g_todoEnv1, g_closures1, g_bindings1, g_layers1, g_depth1, b_kinds1, b_ops1, b_parent1, b_types1, b_cNode1, b_cEnv1, b_bTag1, b_bVal1, b_bLay1, b_bNext1, b_lSource1, b_lTarget1, b_lLabel1, b_lInner1, b_frNode1, b_frEnv1, b_frPhase1, b_frVal1, b_frLay1⟩ := v'
    refine br_t hst' ⟨hin, nm_r (e' := b_types root) (by rw [gc_cl (by omega)]) ?_⟩
    exact gr_go (by omega) hy ⟨gr_R_out hr, hR _ _ hr⟩
end
end
section
section
variable {f_maxNodes f_maxFuel f_nodeCount f_outcome f_programRoot f_faultKind f_faultNode f_walkTop f_contextDepth f_coercionCount f_compiledCount f_cellCount f_closureCount f_top f_running f_atNode f_atEnv f_valueTag f_valueData f_valueCoercion f_typeOfResult f_fuelSpent f_blamedLabel : Int32} {a_kinds a_operands a_hasParent a_inProgram a_nodeType a_siteTargets a_siteCoercions a_walkNode a_walkStep a_contextType a_labels a_draft a_cellNext a_cellTag a_cellData a_cellCoercion a_closureNode a_closureEnv a_frameNode a_frameStage a_frameEnv a_framePending a_frameData a_frameCoercion : Nat → Int32} {g_capacity g_fuel g_count g_state g_wrongKind g_wrongNode g_program g_used g_blamed g_resType g_vTag g_vVal g_vLay g_todo g_todoEnv g_closures g_bindings g_layers g_depth : Int32} {b_kinds b_ops b_parent b_types b_cNode b_cEnv b_bTag b_bVal b_bLay b_bNext b_lSource b_lTarget b_lLabel b_lInner b_frNode b_frEnv b_frPhase b_frVal b_frLay : Nat → Int32}
theorem gx_begin {post : SX → Prop} (H : post (f_maxNodes, f_maxFuel, f_nodeCount, 5, f_programRoot, f_faultKind, f_faultNode, f_walkTop, f_contextDepth, f_coercionCount, f_compiledCount, f_cellCount, f_closureCount, 0, 1, -1, 0, f_valueTag, f_valueData, f_valueCoercion, f_typeOfResult, f_fuelSpent, 0, a_kinds, a_operands, a_hasParent, a_inProgram, a_nodeType, a_siteTargets, a_siteCoercions, a_walkNode, a_walkStep, a_contextType, a_labels, a_draft, a_cellNext, a_cellTag, a_cellData, a_cellCoercion, a_closureNode, a_closureEnv, upd a_frameNode 0 (-1), upd a_frameStage 0 0, upd a_frameEnv 0 0, upd a_framePending 0 0, a_frameData, a_frameCoercion)) : wpX_begin post (f_maxNodes, f_maxFuel, f_nodeCount, f_outcome, f_programRoot, f_faultKind, f_faultNode, f_walkTop, f_contextDepth, f_coercionCount, f_compiledCount, f_cellCount, f_closureCount, f_top, f_running, f_atNode, f_atEnv, f_valueTag, f_valueData, f_valueCoercion, f_typeOfResult, f_fuelSpent, f_blamedLabel, a_kinds, a_operands, a_hasParent, a_inProgram, a_nodeType, a_siteTargets, a_siteCoercions, a_walkNode, a_walkStep, a_contextType, a_labels, a_draft, a_cellNext, a_cellTag, a_cellData, a_cellCoercion, a_closureNode, a_closureEnv, a_frameNode, a_frameStage, a_frameEnv, a_framePending, a_frameData, a_frameCoercion) := nm_e (nm_e (nm_e (nm_e H)))
theorem gx_give {post : SX → Prop} {x y z : Int32} (H : post (f_maxNodes, f_maxFuel, f_nodeCount, f_outcome, f_programRoot, f_faultKind, f_faultNode, f_walkTop, f_contextDepth, f_coercionCount, f_compiledCount, f_cellCount, f_closureCount, f_top, f_running, -1, f_atEnv, x, y, z, f_typeOfResult, f_fuelSpent, f_blamedLabel, a_kinds, a_operands, a_hasParent, a_inProgram, a_nodeType, a_siteTargets, a_siteCoercions, a_walkNode, a_walkStep, a_contextType, a_labels, a_draft, a_cellNext, a_cellTag, a_cellData, a_cellCoercion, a_closureNode, a_closureEnv, a_frameNode, a_frameStage, a_frameEnv, a_framePending, a_frameData, a_frameCoercion)) : wpX_give post (f_maxNodes, f_maxFuel, f_nodeCount, f_outcome, f_programRoot, f_faultKind, f_faultNode, f_walkTop, f_contextDepth, f_coercionCount, f_compiledCount, f_cellCount, f_closureCount, f_top, f_running, f_atNode, f_atEnv, f_valueTag, f_valueData, f_valueCoercion, f_typeOfResult, f_fuelSpent, f_blamedLabel, a_kinds, a_operands, a_hasParent, a_inProgram, a_nodeType, a_siteTargets, a_siteCoercions, a_walkNode, a_walkStep, a_contextType, a_labels, a_draft, a_cellNext, a_cellTag, a_cellData, a_cellCoercion, a_closureNode, a_closureEnv, a_frameNode, a_frameStage, a_frameEnv, a_framePending, a_frameData, a_frameCoercion) x y z := H
theorem gx_sb {post : SX → Prop} {x : Int32} (H : post (f_maxNodes, f_maxFuel, f_nodeCount, 4, f_programRoot, f_faultKind, f_faultNode, f_walkTop, f_contextDepth, f_coercionCount, f_compiledCount, f_cellCount, f_closureCount, f_top, 0, f_atNode, f_atEnv, f_valueTag, f_valueData, f_valueCoercion, f_typeOfResult, f_fuelSpent, x, a_kinds, a_operands, a_hasParent, a_inProgram, a_nodeType, a_siteTargets, a_siteCoercions, a_walkNode, a_walkStep, a_contextType, a_labels, a_draft, a_cellNext, a_cellTag, a_cellData, a_cellCoercion, a_closureNode, a_closureEnv, a_frameNode, a_frameStage, a_frameEnv, a_framePending, a_frameData, a_frameCoercion)) : wpX_stopBlaming post (f_maxNodes, f_maxFuel, f_nodeCount, f_outcome, f_programRoot, f_faultKind, f_faultNode, f_walkTop, f_contextDepth, f_coercionCount, f_compiledCount, f_cellCount, f_closureCount, f_top, f_running, f_atNode, f_atEnv, f_valueTag, f_valueData, f_valueCoercion, f_typeOfResult, f_fuelSpent, f_blamedLabel, a_kinds, a_operands, a_hasParent, a_inProgram, a_nodeType, a_siteTargets, a_siteCoercions, a_walkNode, a_walkStep, a_contextType, a_labels, a_draft, a_cellNext, a_cellTag, a_cellData, a_cellCoercion, a_closureNode, a_closureEnv, a_frameNode, a_frameStage, a_frameEnv, a_framePending, a_frameData, a_frameCoercion) x := H
theorem gx_st {post : SX → Prop} {x : Int32} (H : post (f_maxNodes, f_maxFuel, f_nodeCount, x, f_programRoot, f_faultKind, f_faultNode, f_walkTop, f_contextDepth, f_coercionCount, f_compiledCount, f_cellCount, f_closureCount, f_top, 0, f_atNode, f_atEnv, f_valueTag, f_valueData, f_valueCoercion, f_typeOfResult, f_fuelSpent, f_blamedLabel, a_kinds, a_operands, a_hasParent, a_inProgram, a_nodeType, a_siteTargets, a_siteCoercions, a_walkNode, a_walkStep, a_contextType, a_labels, a_draft, a_cellNext, a_cellTag, a_cellData, a_cellCoercion, a_closureNode, a_closureEnv, a_frameNode, a_frameStage, a_frameEnv, a_framePending, a_frameData, a_frameCoercion)) : wpX_stop post (f_maxNodes, f_maxFuel, f_nodeCount, f_outcome, f_programRoot, f_faultKind, f_faultNode, f_walkTop, f_contextDepth, f_coercionCount, f_compiledCount, f_cellCount, f_closureCount, f_top, f_running, f_atNode, f_atEnv, f_valueTag, f_valueData, f_valueCoercion, f_typeOfResult, f_fuelSpent, f_blamedLabel, a_kinds, a_operands, a_hasParent, a_inProgram, a_nodeType, a_siteTargets, a_siteCoercions, a_walkNode, a_walkStep, a_contextType, a_labels, a_draft, a_cellNext, a_cellTag, a_cellData, a_cellCoercion, a_closureNode, a_closureEnv, a_frameNode, a_frameStage, a_frameEnv, a_framePending, a_frameData, a_frameCoercion) x := H
theorem gy_set {post : SY → Prop} {x y z : Int32} (H : post (g_capacity, g_fuel, g_count, g_state, g_wrongKind, g_wrongNode, g_program, g_used, g_blamed, g_resType, x, y, z, g_todo, g_todoEnv, g_closures, g_bindings, g_layers, g_depth, b_kinds, b_ops, b_parent, b_types, b_cNode, b_cEnv, b_bTag, b_bVal, b_bLay, b_bNext, b_lSource, b_lTarget, b_lLabel, b_lInner, b_frNode, b_frEnv, b_frPhase, b_frVal, b_frLay)) : wpY_set post (g_capacity, g_fuel, g_count, g_state, g_wrongKind, g_wrongNode, g_program, g_used, g_blamed, g_resType, g_vTag, g_vVal, g_vLay, g_todo, g_todoEnv, g_closures, g_bindings, g_layers, g_depth, b_kinds, b_ops, b_parent, b_types, b_cNode, b_cEnv, b_bTag, b_bVal, b_bLay, b_bNext, b_lSource, b_lTarget, b_lLabel, b_lInner, b_frNode, b_frEnv, b_frPhase, b_frVal, b_frLay) x y z := H
variable {G : Nat → List Int32} {lb0 : Nat → Int32} {comp cnt mf mn root cc nb : Nat} {eT : Nat → List Int32} {nc : Nat} {cm : Nat → Nat} {nl : Nat} {lw : Nat → Nat → Int32} {t d sp : Nat} {Q : gr_Q}
theorem gr_apply_fit (hB : gr_B mn mf cnt f_maxNodes (nI mf) f_nodeCount g_capacity (nI mf) (nI cnt) a_kinds a_operands a_hasParent a_kinds a_operands b_parent) (hP : gr_P root comp cnt G f_programRoot g_program f_compiledCount a_kinds a_operands b_types a_inProgram a_nodeType a_siteTargets a_siteCoercions a_labels) (hz : ∀ k, k < 9 → a_labels k = 0) {q c : Nat} {w : Nat → Int32} (hs : sp < mf) (a1 : comp ≤ cc) (a2 : cc ≤ comp + 5 * sp + 1) (a3 : nc ≤ sp) (a4 : nb ≤ 2 * sp) (a5 : nl ≤ 3 * sp) (hT : gc_T f_typeOfResult) (hTB : gr_TB a_kinds a_operands a_inProgram G a_labels cc nb eT nc cm nl lw a_cellNext a_cellTag a_cellData a_cellCoercion a_closureNode a_closureEnv b_bNext b_bTag b_bVal b_bLay b_cNode b_cEnv b_lSource b_lTarget b_lLabel b_lInner) (hLV : gr_LV nl lw g_vLay w) (hFn : gr_Fn a_operands nc cm q w (gc_fn f_typeOfResult)) (hc : c < cc) (hr : ∀ k, 3 ≤ k → k < 9 → gc_row a_labels c k = w k) {g0 : Nat} {dv p0 p1 : Int32} {v0 : SY} {R : SX → SY → Prop} (hR : ∀ u v, gr_R u v → R u v) (hg : 1 ≤ g0 ∧ g0 ≤ 2) (hdv : g0 = 2 → dv = 0 ∨ dv = 1) (hft : gc_ft (nI g0) (gc_td f_typeOfResult) = true)
    (hYA : ∀ post : Int32 → SY → Prop, wY_apply_117 post (nI g0) dv (nI g0) g_capacity (nI mf) (nI cnt) 2 g_wrongKind g_wrongNode g_program (nI (sp + 1)) g_blamed f_typeOfResult 3 (nI q) g_vLay g_todo g_todoEnv (nI nc) (nI nb) (nI nl) 1 a_kinds a_operands b_parent b_types b_cNode b_cEnv b_bTag b_bVal b_bLay b_bNext b_lSource b_lTarget b_lLabel b_lInner (upd b_frNode 0 (-1)) (upd b_frEnv 0 (-1)) (upd b_frPhase 0 2) (upd b_frVal 0 (nI q)) (upd b_frLay 0 g_vLay) → wpY_apply post v0 p0 p1) :
    wX_apply_132 (fun r u' => wpY_apply (fun r' v' => r' = r ∧ R u' v') v0 p0 p1) (nI g0) (gc_tc f_typeOfResult) (nI q) (nI c) dv f_maxNodes (nI mf) f_nodeCount 3 f_programRoot f_faultKind f_faultNode f_walkTop f_contextDepth (nI cc) f_compiledCount (nI (nb + 1)) (nI nc) f_top f_running f_atNode f_atEnv 3 (nI q) (nI c) f_typeOfResult (nI (sp + 1)) f_blamedLabel a_kinds a_operands a_hasParent a_inProgram a_nodeType a_siteTargets a_siteCoercions a_walkNode a_walkStep a_contextType a_labels a_draft a_cellNext a_cellTag a_cellData a_cellCoercion a_closureNode a_closureEnv a_frameNode a_frameStage a_frameEnv a_framePending a_frameData a_frameCoercion := by
  obtain ⟨b1, b2, b3, b4, _⟩ := id hB
  obtain ⟨_, _, _, _, _, _, p7, p8, hCK⟩ := id hP
  obtain ⟨t1, t2, t3, t4, t5, t6⟩ := hTB.2.2 q hFn.1
  obtain ⟨l1, l2, l3, l4, l5, l6⟩ := gr_N_kind (κ := 3) (by omega) (gr_CK_N hCK t3 t4) t5 (by decide)
  obtain ⟨g1, g2, g3, s, g4, g5, g6⟩ := l5 1 (by decide) (by decide)
  obtain ⟨o1, o2, o3, o4, o5⟩ := l4 0 (by decide)
  have hq := hFn.1
  have hg' : 1 ≤ g0 ∧ g0 ≤ 3 := by omega
  have ecf : gc_row a_labels c (2 + g0) = w (2 + g0) := hr (2 + g0) (by omega) (by omega)
  have hYB : ∀ post : Int32 → SY → Prop, (∀ s' bl' : Int32, (w (2 + g0) = 0 ∧ s' = 2 ∧ bl' = g_blamed) ∨ (¬ w (2 + g0) = 0 ∧ s' = 4 ∧ bl' = -(w (2 + g0))) →
      wpY_go (fun u => match u with | (g_capacity1, g_fuel1, g_count1, g_state1, g_wrongKind1, g_wrongNode1, g_program1, g_used1, g_blamed1, g_resType1, g_vTag1, g_vVal1, g_vLay1, g_todo1, g_todoEnv1, g_closures1, g_bindings1, g_layers1, g_depth1, b_kinds1, b_ops1, b_parent1, b_types1, b_cNode1, b_cEnv1, b_bTag1, b_bVal1, b_bLay1, b_bNext1, b_lSource1, b_lTarget1, b_lLabel1, b_lInner1, b_frNode1, b_frEnv1, b_frPhase1, b_frVal1, b_frLay1) => post g_state1 (g_capacity1, g_fuel1, g_count1, g_state1, g_wrongKind1, g_wrongNode1, g_program1, g_used1, g_blamed1, g_resType1, g_vTag1, g_vVal1, g_vLay1, g_todo1, g_todoEnv1, g_closures1, g_bindings1, g_layers1, g_depth1, b_kinds1, b_ops1, b_parent1, b_types1, b_cNode1, b_cEnv1, b_bTag1, b_bVal1, b_bLay1, b_bNext1, b_lSource1, b_lTarget1, b_lLabel1, b_lInner1, b_frNode1, b_frEnv1, b_frPhase1, b_frVal1, b_frLay1)) (g_capacity, nI mf, nI cnt, s', g_wrongKind, g_wrongNode, g_program, nI (sp + 1), bl', gc_tc f_typeOfResult, nI g0, dv, -1, a_operands (3 * cm q + 2), nI (nb + 1), nI nc, nI (nb + 2), nI nl, 1, a_kinds, a_operands, b_parent, b_types, b_cNode, b_cEnv, upd (upd b_bTag nb 3) (nb + 1) (nI g0), upd (upd b_bVal nb (nI q)) (nb + 1) dv, upd (upd b_bLay nb (-1)) (nb + 1) (-1), upd (upd b_bNext nb (b_cEnv q)) (nb + 1) (nI nb), b_lSource, b_lTarget, b_lLabel, b_lInner, upd b_frNode 0 (-1), upd b_frEnv 0 (-1), upd b_frPhase 0 2, upd b_frVal 0 (nI q), upd b_frLay 0 g_vLay)) → wpY_apply post v0 p0 p1 := by
    intro post H
    refine hYA post ?_
    unfold wY_apply_117
    refine gy_set ?_
    refine gy_dom ?_
    refine gy_fits (fun _ => br_f (by decide) ?_) (fun h => absurd h (by rw [hft]; decide))
    unfold wY_apply_146
    refine gy_enter (d := 0) (q := q) (m := cm q) (by decide) (by omega) t3 (by rw [gc_len, if_pos rfl]) t1 (by omega) hg' (by omega) hTB.1 (by rw [gc_len, if_pos rfl]; exact hLV) (fun s' bl' hh => ?_)
    refine gy_cod ?_
    rcases hh with ⟨h1, h2, h3⟩ | ⟨h1, _, h2, h3⟩ | ⟨_, h2, _⟩
    · exact H s' bl' (Or.inl ⟨h1, h2, h3⟩)
    · exact H s' bl' (Or.inr ⟨h1, h2, h3⟩)
    · exact absurd rfl h2
  unfold wX_apply_132
  refine gx_begin ?_
  refine gx_give ?_
  refine gx_enter (t := 0) (P := 0) (m := cm q) (s := s) (by omega) hc hz (by omega) (by omega) t3 t2 hg' (by decide) (by rw [gc_len, if_pos rfl]; rfl) (by omega) g4 (by omega) (by omega) (fun e => ?_) (fun e id lb2 cc2 dr2 fp' w1 w2 w3 w4 w5 => ?_)
  · rw [ecf] at e
    refine gr_drive0 ?_
    refine hYB _ (fun s' bl' hh => ?_)
    rcases hh with ⟨h1, _⟩ | ⟨_, h2, h3⟩
    · exact absurd h1 e
    · subst h2 h3
      refine gr_go0 (by decide) ⟨rfl, hR _ _ ?_⟩
      rw [ecf]
      exact gr_R4 (sp := sp + 1) hB hP hz (fun _ _ => rfl) (by omega)
  · rw [ecf] at e
    have z1 := w1.1
    have z2 := w1.2.1
    refine gr_drive (M := 7 * (mf - (sp + 1)) + 4) (v := (g_capacity, nI mf, nI cnt, 2, g_wrongKind, g_wrongNode, g_program, nI (sp + 1), g_blamed, gc_tc f_typeOfResult, nI g0, dv, -1, a_operands (3 * cm q + 2), nI (nb + 1), nI nc, nI (nb + 2), nI nl, 1, a_kinds, a_operands, b_parent, b_types, b_cNode, b_cEnv, upd (upd b_bTag nb 3) (nb + 1) (nI g0), upd (upd b_bVal nb (nI q)) (nb + 1) dv, upd (upd b_bLay nb (-1)) (nb + 1) (-1), upd (upd b_bNext nb (b_cEnv q)) (nb + 1) (nI nb), b_lSource, b_lTarget, b_lLabel, b_lInner, upd b_frNode 0 (-1), upd b_frEnv 0 (-1), upd b_frPhase 0 2, upd b_frVal 0 (nI q), upd b_frLay 0 g_vLay)) (by omega) ?_ (fun u' v' hr hy => ?_)
    · have hV : gr_VY a_operands nc cm nl lw g0 dv (-1) (gc_td f_typeOfResult) gc_zv := ⟨hg', hft, hdv, fun e => by omega⟩
      obtain ⟨eT', E1, E2, E3⟩ := gr_enter_TB (gr_TB_lb hTB w1.1 w1.2.2) (show cnt ≤ 48 by omega) (by omega) (gc_Ext_z w1 (by omega) hz) hCK hFn (gc_tdfn _).symm (gc_td_A hT) hV (co := 0) (fun e => by omega) e
      refine ⟨mn, mf, cnt, root, comp, G, a_labels, cc2, nb + 2, eT', nc, cm, nl, lw, 0, 1, sp + 1, (gc_sq (gc_sq (gr_sv a_operands b_types 3 (cm q) 1) (gc_ev w)) gc_zv, b_types (gr_ch a_operands 3 (cm q) 0), 1, 0, 0), hB, hP, ⟨rfl, rfl, rfl, rfl, rfl, rfl, rfl, rfl, rfl, rfl, rfl, rfl, rfl⟩, ?_, Or.inl ⟨⟨gr_ch a_operands 3 (cm q) 0, id, o2, o2, by omega, o3, E3, rfl, w4, w2, ?_⟩, by dsimp only; omega⟩⟩
      · refine ⟨⟨by omega, by omega, by omega, by dsimp only; omega, by dsimp only; omega, by dsimp only; omega, by omega⟩, gc_Ext_z w1 (by omega) hz, fun j hj => w1.2.2 j (by omega), ⟨by rw [gc_len, if_pos rfl], gc_A_T (gc_tc_A hT)⟩, E2, (gc_zv, gc_tc f_typeOfResult, 0, 0, 0), Or.inl ⟨Or.inr (Or.inr ⟨q, w, gc_fn f_typeOfResult, Or.inl (by rw [gc_len, if_pos rfl]), by rw [gc_len, if_pos rfl], by rw [gc_len, if_pos rfl], by rw [gc_len, if_pos rfl]; exact hLV, hFn, ?_, (gc_tcfn _).symm, rfl⟩), rfl, rfl⟩⟩
        unfold gc_fn
        by_cases z : f_typeOfResult = 0
        · rw [if_pos z]; exact ⟨3, by decide, by decide, rfl⟩
        · rw [if_neg z]; exact hT
      · refine gc_ap_tr w3 ?_
        show gc_ap _ (gc_sq (gc_sq (gr_sv a_operands b_types 3 (cm q) 1) (gc_ev w)) gc_zv)
        rw [gc_sq_as]
        refine gc_ap_sq (gc_ap_of (fun j hj => g6 j hj)) (gc_ap_sq (gc_ap_of (fun j hj => ?_)) (gc_ap_of (fun k hk => gc_row0 hz hk)))
        unfold gc_ev
        by_cases j3 : j < 3
        · rw [if_pos j3, if_pos j3]
          exact hr (6 + j) (by omega) (by omega)
        · rw [if_neg j3, if_neg j3]
    · obtain ⟨f_maxNodes2, f_maxFuel2, f_nodeCount2, f_outcome2, f_programRoot2, f_faultKind2, f_faultNode2, f_walkTop2, f_contextDepth2, f_coercionCount2, f_compiledCount2, f_cellCount2, f_closureCount2, f_top2, f_running2, f_atNode2, f_atEnv2, f_valueTag2, f_valueData2, f_valueCoercion2, f_typeOfResult2, f_fuelSpent2, f_blamedLabel2, a_kinds2, a_operands2, a_hasParent2, a_inProgram2, a_nodeType2, a_siteTargets2, a_siteCoercions2, a_walkNode2, a_walkStep2, a_contextType2, a_labels2, a_draft2, a_cellNext2, a_cellTag2, a_cellData2, a_cellCoercion2, a_closureNode2, a_closureEnv2, a_frameNode2, a_frameStage2, a_frameEnv2, a_framePending2, a_frameData2, a_frameCoercion2⟩ := u'
      obtain ⟨g_capacity2, g_fuel2, g_count2, g_state2, g_wrongKind2, g_wrongNode2, g_program2, g_used2, g_blamed2, g_resType2, g_vTag2, g_vVal2, g_vLay2, g_todo2, g_todoEnv2, g_closures2, g_bindings2, g_layers2, g_depth2, b_kinds2, b_ops2, b_parent2, b_types2, b_cNode2, b_cEnv2, b_bTag2, b_bVal2, b_bLay2, b_bNext2, b_lSource2, b_lTarget2, b_lLabel2, b_lInner2, b_frNode2, b_frEnv2, b_frPhase2, b_frVal2, b_frLay2⟩ := v'
      refine hYB _ (fun s' bl' hh => ?_)
      rcases hh with ⟨_, h2, h3⟩ | ⟨h1, _⟩
      · subst h2 h3
        exact gr_go (by omega) hy ⟨gr_R_out hr, hR _ _ hr⟩
      · exact absurd e h1
theorem gr_apply (hB : gr_B mn mf cnt f_maxNodes (nI mf) f_nodeCount g_capacity (nI mf) (nI cnt) a_kinds a_operands a_hasParent a_kinds a_operands b_parent) (hP : gr_P root comp cnt G f_programRoot g_program f_compiledCount a_kinds a_operands b_types a_inProgram a_nodeType a_siteTargets a_siteCoercions a_labels) (hz : ∀ k, k < 9 → a_labels k = 0) {q c : Nat} {w : Nat → Int32} (hs : sp < mf) (a1 : comp ≤ cc) (a2 : cc ≤ comp + 5 * sp + 1) (a3 : nc ≤ sp) (a4 : nb ≤ 2 * sp) (a5 : nl ≤ 3 * sp) (hT : gc_T f_typeOfResult) (hTB : gr_TB a_kinds a_operands a_inProgram G a_labels cc nb eT nc cm nl lw a_cellNext a_cellTag a_cellData a_cellCoercion a_closureNode a_closureEnv b_bNext b_bTag b_bVal b_bLay b_cNode b_cEnv b_lSource b_lTarget b_lLabel b_lInner) (hLV : gr_LV nl lw g_vLay w) (hFn : gr_Fn a_operands nc cm q w (gc_fn f_typeOfResult)) (hc : c < cc) (hr : ∀ k, 3 ≤ k → k < 9 → gc_row a_labels c k = w k) {g0 : Nat} {p1 : Int32} {R : SX → SY → Prop} (hR : ∀ u v, gr_R u v → R u v) (hg : 1 ≤ g0 ∧ g0 ≤ 2) :
    wX_apply_34 (fun r u' => wpY_apply (fun r' v' => r' = r ∧ R u' v') (g_capacity, nI mf, nI cnt, 3, g_wrongKind, g_wrongNode, g_program, nI sp, g_blamed, f_typeOfResult, 3, nI q, g_vLay, g_todo, g_todoEnv, nI nc, nI nb, nI nl, g_depth, a_kinds, a_operands, b_parent, b_types, b_cNode, b_cEnv, b_bTag, b_bVal, b_bLay, b_bNext, b_lSource, b_lTarget, b_lLabel, b_lInner, b_frNode, b_frEnv, b_frPhase, b_frVal, b_frLay) (nI g0) p1) (nI g0) p1 f_maxNodes (nI mf) f_nodeCount 3 f_programRoot f_faultKind f_faultNode f_walkTop f_contextDepth (nI cc) f_compiledCount (nI (nb + 1)) (nI nc) f_top f_running f_atNode f_atEnv 3 (nI q) (nI c) f_typeOfResult (nI sp) f_blamedLabel a_kinds a_operands a_hasParent a_inProgram a_nodeType a_siteTargets a_siteCoercions a_walkNode a_walkStep a_contextType a_labels a_draft a_cellNext a_cellTag a_cellData a_cellCoercion a_closureNode a_closureEnv a_frameNode a_frameStage a_frameEnv a_framePending a_frameData a_frameCoercion := by
  obtain ⟨b1, b2, b3, b4, _⟩ := id hB
  obtain ⟨_, _, _, _, _, _, p7, p8, hCK⟩ := id hP
  obtain ⟨t1, t2, t3, t4, t5, t6⟩ := hTB.2.2 q hFn.1
  have hq := hFn.1
  have hg' : 1 ≤ g0 ∧ g0 ≤ 3 := by omega
  have Y30 : ∀ post : Int32 → SY → Prop, wY_apply_30 post (nI g0) p1 g_capacity (nI mf) (nI cnt) 3 g_wrongKind g_wrongNode g_program (nI sp) g_blamed f_typeOfResult 3 (nI q) g_vLay g_todo g_todoEnv (nI nc) (nI nb) (nI nl) g_depth a_kinds a_operands b_parent b_types b_cNode b_cEnv b_bTag b_bVal b_bLay b_bNext b_lSource b_lTarget b_lLabel b_lInner b_frNode b_frEnv b_frPhase b_frVal b_frLay → wpY_apply post (g_capacity, nI mf, nI cnt, 3, g_wrongKind, g_wrongNode, g_program, nI sp, g_blamed, f_typeOfResult, 3, nI q, g_vLay, g_todo, g_todoEnv, nI nc, nI nb, nI nl, g_depth, a_kinds, a_operands, b_parent, b_types, b_cNode, b_cEnv, b_bTag, b_bVal, b_bLay, b_bNext, b_lSource, b_lTarget, b_lLabel, b_lInner, b_frNode, b_frEnv, b_frPhase, b_frVal, b_frLay) (nI g0) p1 := by
    intro post H
    refine br_t rfl (br_t rfl (pk_eq g0 1 (fun _ => H) (fun _ => pk_eq g0 2 (fun _ => H) (fun h => by omega))))
  have Y117 : ∀ (dv : Int32) (post : Int32 → SY → Prop), (g0 = 1 → dv = p1) → (g0 = 2 → dv = if p1 = 0 then 0 else 1) → wY_apply_117 post (nI g0) dv (nI g0) g_capacity (nI mf) (nI cnt) 2 g_wrongKind g_wrongNode g_program (nI (sp + 1)) g_blamed f_typeOfResult 3 (nI q) g_vLay g_todo g_todoEnv (nI nc) (nI nb) (nI nl) 1 a_kinds a_operands b_parent b_types b_cNode b_cEnv b_bTag b_bVal b_bLay b_bNext b_lSource b_lTarget b_lLabel b_lInner (upd b_frNode 0 (-1)) (upd b_frEnv 0 (-1)) (upd b_frPhase 0 2) (upd b_frVal 0 (nI q)) (upd b_frLay 0 g_vLay) → wpY_apply post (g_capacity, nI mf, nI cnt, 3, g_wrongKind, g_wrongNode, g_program, nI sp, g_blamed, f_typeOfResult, 3, nI q, g_vLay, g_todo, g_todoEnv, nI nc, nI nb, nI nl, g_depth, a_kinds, a_operands, b_parent, b_types, b_cNode, b_cEnv, b_bTag, b_bVal, b_bLay, b_bNext, b_lSource, b_lTarget, b_lLabel, b_lInner, b_frNode, b_frEnv, b_frPhase, b_frVal, b_frLay) (nI g0) p1 := by
    intro dv post h1 h2 H
    refine Y30 post (pk_eq sp mf (fun h => by omega) (fun _ => nm_r (nI_1 sp) (nm_e (nm_e (nm_e ?_)))))
    refine ⟨by exact gc_in (n := 0) (by decide) (by decide), nm_e ⟨by exact gc_in (n := 0) (by decide) (by decide), nm_e ?_⟩⟩
    refine pk_eq g0 1 (fun e => ?_) (fun e => br_c (fun z => ?_) (fun z => ?_))
    · rw [h1 e] at H; exact H
    · rw [h2 (by omega), if_pos z] at H; exact H
    · rw [h2 (by omega), if_neg z] at H; exact H
  unfold wX_apply_34
  refine gx_dom ?_
  refine gx_cod ?_
  refine pk_lt sp mf (fun _ => nm_r (nI_1 sp) ?_) (fun h => by omega)
  refine gx_fits (fun hft => br_f (by decide) ?_) (fun hft => br_t rfl ?_)
  · refine pk_eq g0 2 (fun e => br_c (fun z => ?_) (fun z => ?_)) (fun e => ?_)
    · exact gr_apply_fit hB hP hz hs a1 a2 a3 a4 a5 hT hTB hLV hFn hc hr hR hg (fun _ => Or.inl z) hft (fun post => Y117 p1 post (fun _ => rfl) (fun _ => by rw [if_pos z, z]))
    · exact gr_apply_fit hB hP hz hs a1 a2 a3 a4 a5 hT hTB hLV hFn hc hr hR hg (fun _ => Or.inr rfl) hft (fun post => Y117 1 post (fun h => by omega) (fun _ => by rw [if_neg z]))
    · exact gr_apply_fit hB hP hz hs a1 a2 a3 a4 a5 hT hTB hLV hFn hc hr hR hg (fun h => by omega) hft (fun post => Y117 p1 post (fun _ => rfl) (fun h => by omega))
  · refine gx_sb ?_
    refine Y117 (if g0 = 1 then p1 else if p1 = 0 then 0 else 1) _ (fun e => if_pos e) (fun e => if_neg (by omega)) ?_
    unfold wY_apply_117
    refine gy_set ?_
    refine gy_dom ?_
    refine gy_fits (fun h => absurd h (by rw [hft]; decide)) (fun _ => br_t rfl (br_t rfl ?_))
    unfold wY_apply_146
    refine gy_enter (d := 0) (q := q) (m := cm q) (by decide) (by omega) t3 (by rw [gc_len, if_pos rfl]) t1 (by omega) hg' (by omega) hTB.1 (by rw [gc_len, if_pos rfl]; exact hLV) (fun s' bl' hh => ?_)
    refine gy_cod ?_
    have e : s' = 4 ∧ bl' = 1000 := by
      rcases hh with ⟨_, h2, h3⟩ | ⟨_, h2, _⟩ | ⟨_, _, h2, h3⟩
      · exact ⟨h2, h3⟩
      · exact absurd h2 (by decide)
      · exact ⟨h2, h3⟩
    obtain ⟨h2, h3⟩ := e
    subst h2 h3
    refine gr_go0 (by decide) ⟨rfl, hR _ _ ?_⟩
    exact gr_R4 (sp := sp + 1) hB hP hz (fun _ _ => rfl) (by omega)
end
end
section
section
variable {f_maxNodes f_maxFuel f_nodeCount f_outcome f_programRoot f_faultKind f_faultNode f_walkTop f_contextDepth f_coercionCount f_compiledCount f_cellCount f_closureCount f_top f_running f_atNode f_atEnv f_valueTag f_valueData f_valueCoercion f_typeOfResult f_fuelSpent f_blamedLabel : Int32} {a_kinds a_operands a_hasParent a_inProgram a_nodeType a_siteTargets a_siteCoercions a_walkNode a_walkStep a_contextType a_labels a_draft a_cellNext a_cellTag a_cellData a_cellCoercion a_closureNode a_closureEnv a_frameNode a_frameStage a_frameEnv a_framePending a_frameData a_frameCoercion : Nat → Int32}
theorem gx_pc {post : Int32 → Prop} {κ : Nat} (hκ : κ ≤ 8) (H : post (nI (gc_pc κ))) : wpX_plainCount post (f_maxNodes, f_maxFuel, f_nodeCount, f_outcome, f_programRoot, f_faultKind, f_faultNode, f_walkTop, f_contextDepth, f_coercionCount, f_compiledCount, f_cellCount, f_closureCount, f_top, f_running, f_atNode, f_atEnv, f_valueTag, f_valueData, f_valueCoercion, f_typeOfResult, f_fuelSpent, f_blamedLabel, a_kinds, a_operands, a_hasParent, a_inProgram, a_nodeType, a_siteTargets, a_siteCoercions, a_walkNode, a_walkStep, a_contextType, a_labels, a_draft, a_cellNext, a_cellTag, a_cellData, a_cellCoercion, a_closureNode, a_closureEnv, a_frameNode, a_frameStage, a_frameEnv, a_framePending, a_frameData, a_frameCoercion) (nI κ) := by
  have T := gc_tab hκ
  have C : ∀ i, gc_pc κ = i → post (nI i) := fun i e => by rw [← e]; exact H
  exact pk_lt κ 3 (fun h => C 1 (by omega)) (fun h => pk_lt 7 κ (fun h => C 1 (by omega)) (fun h => pk_eq κ 3 (fun e => C 2 (by omega)) (fun e => pk_eq κ 4 (fun e => C 0 (by omega)) (fun e => pk_eq κ 5 (fun e => C 1 (by omega)) (fun e => pk_eq κ 6 (fun e => C 0 (by omega)) (fun e => pk_eq κ 7 (fun e => C 0 (by omega)) (fun e => trivial)))))))
theorem gx_nc {post : Int32 → Prop} {κ : Nat} (hκ : κ ≤ 8) (H : post (nI (gc_nc κ))) : wpX_childCount post (f_maxNodes, f_maxFuel, f_nodeCount, f_outcome, f_programRoot, f_faultKind, f_faultNode, f_walkTop, f_contextDepth, f_coercionCount, f_compiledCount, f_cellCount, f_closureCount, f_top, f_running, f_atNode, f_atEnv, f_valueTag, f_valueData, f_valueCoercion, f_typeOfResult, f_fuelSpent, f_blamedLabel, a_kinds, a_operands, a_hasParent, a_inProgram, a_nodeType, a_siteTargets, a_siteCoercions, a_walkNode, a_walkStep, a_contextType, a_labels, a_draft, a_cellNext, a_cellTag, a_cellData, a_cellCoercion, a_closureNode, a_closureEnv, a_frameNode, a_frameStage, a_frameEnv, a_framePending, a_frameData, a_frameCoercion) (nI κ) := by
  have T := gc_tab hκ
  have C : ∀ i, gc_nc κ = i → post (nI i) := fun i e => by rw [← e]; exact H
  exact pk_lt κ 3 (fun h => C 0 (by omega)) (fun h => pk_lt 8 κ (fun h => by omega) (fun h => pk_eq κ 3 (fun e => C 1 (by omega)) (fun e => pk_eq κ 4 (fun e => C 2 (by omega)) (fun e => pk_eq κ 5 (fun e => C 2 (by omega)) (fun e => pk_eq κ 6 (fun e => C 3 (by omega)) (fun e => pk_eq κ 7 (fun e => C 2 (by omega)) (fun e => pk_eq κ 8 (fun e => C 1 (by omega)) (fun e => trivial))))))))
theorem gx_ns {post : Int32 → Prop} {κ : Nat} (hκ : κ ≤ 8) (H : post (nI (gc_ns κ))) : wpX_siteCount post (f_maxNodes, f_maxFuel, f_nodeCount, f_outcome, f_programRoot, f_faultKind, f_faultNode, f_walkTop, f_contextDepth, f_coercionCount, f_compiledCount, f_cellCount, f_closureCount, f_top, f_running, f_atNode, f_atEnv, f_valueTag, f_valueData, f_valueCoercion, f_typeOfResult, f_fuelSpent, f_blamedLabel, a_kinds, a_operands, a_hasParent, a_inProgram, a_nodeType, a_siteTargets, a_siteCoercions, a_walkNode, a_walkStep, a_contextType, a_labels, a_draft, a_cellNext, a_cellTag, a_cellData, a_cellCoercion, a_closureNode, a_closureEnv, a_frameNode, a_frameStage, a_frameEnv, a_framePending, a_frameData, a_frameCoercion) (nI κ) := by
  have T := gc_tab hκ
  refine pk_eq κ 7 (fun e => ?_) (fun e => ?_)
  · have e0 : gc_ns κ = 0 := by omega
    rw [e0] at H
    exact H
  · refine gx_nc hκ ?_
    have e0 : gc_ns κ = gc_nc κ := by omega
    rw [← e0]
    exact H
theorem gx_childType {post : Int32 → Prop} {n κ i c : Nat} (hn : n < 48) (hK : a_kinds n = nI κ) (hκ : κ ≤ 8) (hi : i < gc_nc κ) (hO : a_operands (3 * n + gc_pc κ + i) = nI c) (hc : c < 48) (H : post (a_nodeType c)) : wpX_childType post (f_maxNodes, f_maxFuel, f_nodeCount, f_outcome, f_programRoot, f_faultKind, f_faultNode, f_walkTop, f_contextDepth, f_coercionCount, f_compiledCount, f_cellCount, f_closureCount, f_top, f_running, f_atNode, f_atEnv, f_valueTag, f_valueData, f_valueCoercion, f_typeOfResult, f_fuelSpent, f_blamedLabel, a_kinds, a_operands, a_hasParent, a_inProgram, a_nodeType, a_siteTargets, a_siteCoercions, a_walkNode, a_walkStep, a_contextType, a_labels, a_draft, a_cellNext, a_cellTag, a_cellData, a_cellCoercion, a_closureNode, a_closureEnv, a_frameNode, a_frameStage, a_frameEnv, a_framePending, a_frameData, a_frameCoercion) (nI n) (nI i) := by
  have T := gc_tab hκ
  have eK : a_kinds (nI n).toNatClampNeg = nI κ := by rw [gc_cl (by omega)]; exact hK
  have e : 3 * nI n + nI (gc_pc κ) + nI i = nI (3 * n + gc_pc κ + i) := by rw [gc_3, nI_add, nI_add]
  refine ⟨gc_in hn (by decide), ?_⟩
  rw [eK]
  refine gx_pc hκ ?_
  rw [e, gc_cl (by omega), hO, gc_cl (by omega)]
  exact ⟨gc_in (by omega) (by decide), gc_in hc (by decide), H⟩
theorem gx_arrow {post : Int32 → Prop} {x y : Int32} (H : post (gc_ta x y)) : wpX_arrow post (f_maxNodes, f_maxFuel, f_nodeCount, f_outcome, f_programRoot, f_faultKind, f_faultNode, f_walkTop, f_contextDepth, f_coercionCount, f_compiledCount, f_cellCount, f_closureCount, f_top, f_running, f_atNode, f_atEnv, f_valueTag, f_valueData, f_valueCoercion, f_typeOfResult, f_fuelSpent, f_blamedLabel, a_kinds, a_operands, a_hasParent, a_inProgram, a_nodeType, a_siteTargets, a_siteCoercions, a_walkNode, a_walkStep, a_contextType, a_labels, a_draft, a_cellNext, a_cellTag, a_cellData, a_cellCoercion, a_closureNode, a_closureEnv, a_frameNode, a_frameStage, a_frameEnv, a_framePending, a_frameData, a_frameCoercion) x y := by
  unfold gc_ta at H
  refine br_c (fun z => br_c (fun z2 => ?_) (fun z2 => ?_)) (fun z => ?_)
  · rw [if_pos ⟨z, z2⟩] at H; exact H
  · rw [if_neg (fun h => z2 h.2)] at H; exact H
  · rw [if_neg (fun h => z h.1)] at H; exact H
theorem gx_atom {post : Int32 → Prop} {s t : Int32} (h1 : gc_at s t = true → post 1) (h0 : gc_at s t = false → post 0) : wpX_consistentAtoms post (f_maxNodes, f_maxFuel, f_nodeCount, f_outcome, f_programRoot, f_faultKind, f_faultNode, f_walkTop, f_contextDepth, f_coercionCount, f_compiledCount, f_cellCount, f_closureCount, f_top, f_running, f_atNode, f_atEnv, f_valueTag, f_valueData, f_valueCoercion, f_typeOfResult, f_fuelSpent, f_blamedLabel, a_kinds, a_operands, a_hasParent, a_inProgram, a_nodeType, a_siteTargets, a_siteCoercions, a_walkNode, a_walkStep, a_contextType, a_labels, a_draft, a_cellNext, a_cellTag, a_cellData, a_cellCoercion, a_closureNode, a_closureEnv, a_frameNode, a_frameStage, a_frameEnv, a_framePending, a_frameData, a_frameCoercion) s t := by
  have h0' : ¬ gc_at s t = true → post 0 := fun z => h0 ((Bool.not_eq_true _).mp z)
  rw [gc_at_iff] at h1 h0'
  refine br_c (fun a => h1 (Or.inl a)) (fun a => br_c (fun b => h1 (Or.inr (Or.inl b))) (fun b => br_c (fun c => h1 (Or.inr (Or.inr c))) (fun c => h0' ?_)))
  rintro (z | z | z)
  · exact a z
  · exact b z
  · exact c z
theorem gc_le3 {x : Int32} : 3 ≤ x ↔ ¬ x < 3 := by
  rw [Int32.le_iff_toInt_le, Int32.lt_iff_toInt_lt]
  have h3 : (3 : Int32).toInt = 3 := by decide
  omega
theorem gx_cons {post : Int32 → Prop} {s t : Int32} (h1 : gc_co s t = true → post 1) (h0 : gc_co s t = false → post 0) : wpX_consistent post (f_maxNodes, f_maxFuel, f_nodeCount, f_outcome, f_programRoot, f_faultKind, f_faultNode, f_walkTop, f_contextDepth, f_coercionCount, f_compiledCount, f_cellCount, f_closureCount, f_top, f_running, f_atNode, f_atEnv, f_valueTag, f_valueData, f_valueCoercion, f_typeOfResult, f_fuelSpent, f_blamedLabel, a_kinds, a_operands, a_hasParent, a_inProgram, a_nodeType, a_siteTargets, a_siteCoercions, a_walkNode, a_walkStep, a_contextType, a_labels, a_draft, a_cellNext, a_cellTag, a_cellData, a_cellCoercion, a_closureNode, a_closureEnv, a_frameNode, a_frameStage, a_frameEnv, a_framePending, a_frameData, a_frameCoercion) s t := by
  unfold wpX_consistent
  refine gx_atom (fun z => br_f (by decide) (h1 (by unfold gc_co; rw [z]; rfl))) (fun z => br_t rfl (br_c (fun a => h0 ?_) (fun a => br_c (fun b => ?_) (fun b => h0 ?_))))
  · unfold gc_co; rw [z, decide_eq_true a]; rfl
  · refine gx_dom ?_
    refine gx_dom ?_
    refine gx_cod ?_
    refine gx_cod ?_
    have hb : ¬ t < 3 := gc_le3.mp b
    refine gx_atom (fun z1 => br_f (by decide) (gx_atom (fun z2 => br_f (by decide) (h1 ?_)) (fun z2 => br_t rfl (h0 ?_)))) (fun z1 => br_t rfl (h0 ?_))
    · unfold gc_co; rw [z, decide_eq_false a, decide_eq_false hb, z1, z2]; rfl
    · unfold gc_co; rw [z, decide_eq_false a, decide_eq_false hb, z1, z2]; rfl
    · unfold gc_co; rw [z, decide_eq_false a, decide_eq_false hb, z1]; rfl
  · have hb : t < 3 := Classical.byContradiction (fun q => b (gc_le3.mpr q))
    unfold gc_co; rw [z, decide_eq_false a, decide_eq_true hb]; rfl
-- drafting a layer
theorem gx_layer_l {post : SX → Prop} {lbl ds ct x8 x9 : Int32} {dr0 : Nat → Int32}
    (H : ∀ dr' : Nat → Int32, (∀ j, j < 3 → dr' j = dr0 j) → (∀ k, 1 ≤ k → k ≤ 3 → dr' (2 + k) = if ¬ x8 = 0 ∧ gc_ft (nI k) ds = false then lbl else 0) → (∀ k, 1 ≤ k → k ≤ 3 → dr' (5 + k) = if ¬ x9 = 0 ∧ gc_ft (nI k) ct = false then lbl else 0) → post (f_maxNodes, f_maxFuel, f_nodeCount, f_outcome, f_programRoot, f_faultKind, f_faultNode, f_walkTop, f_contextDepth, f_coercionCount, f_compiledCount, f_cellCount, f_closureCount, f_top, f_running, f_atNode, f_atEnv, f_valueTag, f_valueData, f_valueCoercion, f_typeOfResult, f_fuelSpent, f_blamedLabel, a_kinds, a_operands, a_hasParent, a_inProgram, a_nodeType, a_siteTargets, a_siteCoercions, a_walkNode, a_walkStep, a_contextType, a_labels, dr', a_cellNext, a_cellTag, a_cellData, a_cellCoercion, a_closureNode, a_closureEnv, a_frameNode, a_frameStage, a_frameEnv, a_framePending, a_frameData, a_frameCoercion)) :
    ∀ m g, g + m = 4 → 1 ≤ g → ∀ (dr : Nat → Int32) n, m < n → (∀ j, j < 3 → dr j = dr0 j) → (∀ k, 1 ≤ k → k ≤ 3 → dr (2 + k) = if k < g ∧ ¬ x8 = 0 ∧ gc_ft (nI k) ds = false then lbl else 0) → (∀ k, 1 ≤ k → k ≤ 3 → dr (5 + k) = if k < g ∧ ¬ x9 = 0 ∧ gc_ft (nI k) ct = false then lbl else 0) →
    wX_draftLayer_65 post lbl ds ct x8 x9 f_maxNodes f_maxFuel f_nodeCount f_outcome f_programRoot f_faultKind f_faultNode f_walkTop f_contextDepth f_coercionCount f_compiledCount f_cellCount f_closureCount f_top f_running f_atNode f_atEnv f_valueTag f_valueData f_valueCoercion f_typeOfResult f_fuelSpent f_blamedLabel n (nI g) a_kinds a_operands a_hasParent a_inProgram a_nodeType a_siteTargets a_siteCoercions a_walkNode a_walkStep a_contextType a_labels dr a_cellNext a_cellTag a_cellData a_cellCoercion a_closureNode a_closureEnv a_frameNode a_frameStage a_frameEnv a_framePending a_frameData a_frameCoercion := by
  intro m
  induction m with
  | zero =>
    intro g hg h1 dr n hn i1 i2 i3
    obtain ⟨n, rfl⟩ : ∃ q, n = q + 1 := ⟨n - 1, by omega⟩
    refine pk_lt 3 g (fun _ => H dr i1 (fun k k1 k2 => ?_) (fun k k1 k2 => ?_)) (fun h => by omega)
    · rw [i2 k k1 k2]
      have e : (k < g ∧ ¬ x8 = 0 ∧ gc_ft (nI k) ds = false) = (¬ x8 = 0 ∧ gc_ft (nI k) ds = false) := propext ⟨fun h => h.2, fun h => ⟨by omega, h⟩⟩
      simp only [e]
    · rw [i3 k k1 k2]
      have e : (k < g ∧ ¬ x9 = 0 ∧ gc_ft (nI k) ct = false) = (¬ x9 = 0 ∧ gc_ft (nI k) ct = false) := propext ⟨fun h => h.2, fun h => ⟨by omega, h⟩⟩
      simp only [e]
  | succ m ih =>
    intro g hg h1 dr n hn i1 i2 i3
    obtain ⟨n, rfl⟩ : ∃ q, n = q + 1 := ⟨n - 1, by omega⟩
    have e5 : 5 + nI g = nI (5 + g) := by rw [show (5 : Int32) = nI 5 from rfl, nI_add]
    have e2 : 2 + nI g = nI (2 + g) := by rw [show (2 : Int32) = nI 2 from rfl, nI_add]
    -- the second half
    have Z : ∀ dr1 : Nat → Int32, (∀ j, j < 3 → dr1 j = dr0 j) → (∀ k, 1 ≤ k → k ≤ 3 → dr1 (2 + k) = if k < g + 1 ∧ ¬ x8 = 0 ∧ gc_ft (nI k) ds = false then lbl else 0) → (∀ k, 1 ≤ k → k ≤ 3 → dr1 (5 + k) = if k < g ∧ ¬ x9 = 0 ∧ gc_ft (nI k) ct = false then lbl else 0) →
        wX_draftLayer_97 post (wX_draftLayer_65 post lbl ds ct x8 x9 f_maxNodes f_maxFuel f_nodeCount f_outcome f_programRoot f_faultKind f_faultNode f_walkTop f_contextDepth f_coercionCount f_compiledCount f_cellCount f_closureCount f_top f_running f_atNode f_atEnv f_valueTag f_valueData f_valueCoercion f_typeOfResult f_fuelSpent f_blamedLabel n) lbl ds ct x8 x9 (nI g) f_maxNodes f_maxFuel f_nodeCount f_outcome f_programRoot f_faultKind f_faultNode f_walkTop f_contextDepth f_coercionCount f_compiledCount f_cellCount f_closureCount f_top f_running f_atNode f_atEnv f_valueTag f_valueData f_valueCoercion f_typeOfResult f_fuelSpent f_blamedLabel a_kinds a_operands a_hasParent a_inProgram a_nodeType a_siteTargets a_siteCoercions a_walkNode a_walkStep a_contextType a_labels dr1 a_cellNext a_cellTag a_cellData a_cellCoercion a_closureNode a_closureEnv a_frameNode a_frameStage a_frameEnv a_framePending a_frameData a_frameCoercion := by
      intro dr1 j1 j2 j3
      have S : (¬ (¬ x9 = 0 ∧ gc_ft (nI g) ct = false)) → wX_draftLayer_65 post lbl ds ct x8 x9 f_maxNodes f_maxFuel f_nodeCount f_outcome f_programRoot f_faultKind f_faultNode f_walkTop f_contextDepth f_coercionCount f_compiledCount f_cellCount f_closureCount f_top f_running f_atNode f_atEnv f_valueTag f_valueData f_valueCoercion f_typeOfResult f_fuelSpent f_blamedLabel n (nI (g + 1)) a_kinds a_operands a_hasParent a_inProgram a_nodeType a_siteTargets a_siteCoercions a_walkNode a_walkStep a_contextType a_labels dr1 a_cellNext a_cellTag a_cellData a_cellCoercion a_closureNode a_closureEnv a_frameNode a_frameStage a_frameEnv a_framePending a_frameData a_frameCoercion := by
        intro hno
        refine ih (g + 1) (by omega) (by omega) dr1 n (by omega) j1 j2 (fun k k1 k2 => ?_)
        rw [j3 k k1 k2]
        have e : (k < g ∧ ¬ x9 = 0 ∧ gc_ft (nI k) ct = false) = (k < g + 1 ∧ ¬ x9 = 0 ∧ gc_ft (nI k) ct = false) := propext ⟨fun h => ⟨by omega, h.2⟩, fun h => ⟨by
          by_cases ek : k = g
          · subst ek; exact absurd h.2 hno
          · omega, h.2⟩⟩
        simp only [e]
      refine br_c (fun z => nm_r (nI_1 g) (S (fun h => h.1 z))) (fun z => gx_fits (fun hf => br_f (by decide) (nm_r (nI_1 g) (S (fun h => by rw [hf] at h; exact Bool.noConfusion h.2)))) (fun hf => br_t rfl ⟨by rw [e5]; exact gc_in (by omega) (by decide), ?_⟩))
      refine nm_r (e' := upd dr1 (5 + g) lbl) (by rw [e5, gc_cl (by omega)]) (nm_r (nI_1 g) ?_)
      refine ih (g + 1) (by omega) (by omega) _ n (by omega) (fun j hj => ?_) (fun k k1 k2 => ?_) (fun k k1 k2 => ?_)
      · rw [gc_len, if_neg (by omega)]; exact j1 j hj
      · rw [gc_len, if_neg (by omega)]; exact j2 k k1 k2
      · rw [gc_len]
        by_cases ek : k = g
        · subst ek
          rw [if_pos rfl, if_pos ⟨by omega, z, hf⟩]
        · rw [if_neg (by omega), j3 k k1 k2]
          have e : (k < g ∧ ¬ x9 = 0 ∧ gc_ft (nI k) ct = false) = (k < g + 1 ∧ ¬ x9 = 0 ∧ gc_ft (nI k) ct = false) := propext ⟨fun h => ⟨by omega, h.2⟩, fun h => ⟨by omega, h.2⟩⟩
          simp only [e]
    have S : (¬ (¬ x8 = 0 ∧ gc_ft (nI g) ds = false)) → (∀ k, 1 ≤ k → k ≤ 3 → dr (2 + k) = if k < g + 1 ∧ ¬ x8 = 0 ∧ gc_ft (nI k) ds = false then lbl else 0) := by
      intro hno k k1 k2
      rw [i2 k k1 k2]
      have e : (k < g ∧ ¬ x8 = 0 ∧ gc_ft (nI k) ds = false) = (k < g + 1 ∧ ¬ x8 = 0 ∧ gc_ft (nI k) ds = false) := propext ⟨fun h => ⟨by omega, h.2⟩, fun h => ⟨by
        by_cases ek : k = g
        · subst ek; exact absurd h.2 hno
        · omega, h.2⟩⟩
      simp only [e]
    refine pk_lt 3 g (fun h => by omega) (fun _ => br_c (fun z => Z dr i1 (S (fun h => h.1 z)) i3) (fun z => gx_fits (fun hf => br_f (by decide) (Z dr i1 (S (fun h => by rw [hf] at h; exact Bool.noConfusion h.2)) i3)) (fun hf => br_t rfl ⟨by rw [e2]; exact gc_in (by omega) (by decide), ?_⟩)))
    refine nm_r (e' := upd dr (2 + g) lbl) (by rw [e2, gc_cl (by omega)]) (Z _ (fun j hj => ?_) (fun k k1 k2 => ?_) (fun k k1 k2 => ?_))
    · rw [gc_len, if_neg (by omega)]; exact i1 j hj
    · rw [gc_len]
      by_cases ek : k = g
      · subst ek
        rw [if_pos rfl, if_pos ⟨by omega, z, hf⟩]
      · rw [if_neg (by omega), i2 k k1 k2]
        have e : (k < g ∧ ¬ x8 = 0 ∧ gc_ft (nI k) ds = false) = (k < g + 1 ∧ ¬ x8 = 0 ∧ gc_ft (nI k) ds = false) := propext ⟨fun h => ⟨by omega, h.2⟩, fun h => ⟨by omega, h.2⟩⟩
        simp only [e]
    · rw [gc_len, if_neg (by omega)]; exact i3 k k1 k2
theorem gx_layer {post : SX → Prop} {s t lbl : Int32} (hd : ∀ j, 3 ≤ j → j < 9 → a_draft j = 0)
    (H : ∀ dr' : Nat → Int32, (∀ j, j < 3 → dr' j = a_draft j) → (∀ j, 3 ≤ j → j < 9 → dr' j = gc_ly s t lbl j) → post (f_maxNodes, f_maxFuel, f_nodeCount, f_outcome, f_programRoot, f_faultKind, f_faultNode, f_walkTop, f_contextDepth, f_coercionCount, f_compiledCount, f_cellCount, f_closureCount, f_top, f_running, f_atNode, f_atEnv, f_valueTag, f_valueData, f_valueCoercion, f_typeOfResult, f_fuelSpent, f_blamedLabel, a_kinds, a_operands, a_hasParent, a_inProgram, a_nodeType, a_siteTargets, a_siteCoercions, a_walkNode, a_walkStep, a_contextType, a_labels, dr', a_cellNext, a_cellTag, a_cellData, a_cellCoercion, a_closureNode, a_closureEnv, a_frameNode, a_frameStage, a_frameEnv, a_framePending, a_frameData, a_frameCoercion)) : wpX_draftLayer post (f_maxNodes, f_maxFuel, f_nodeCount, f_outcome, f_programRoot, f_faultKind, f_faultNode, f_walkTop, f_contextDepth, f_coercionCount, f_compiledCount, f_cellCount, f_closureCount, f_top, f_running, f_atNode, f_atEnv, f_valueTag, f_valueData, f_valueCoercion, f_typeOfResult, f_fuelSpent, f_blamedLabel, a_kinds, a_operands, a_hasParent, a_inProgram, a_nodeType, a_siteTargets, a_siteCoercions, a_walkNode, a_walkStep, a_contextType, a_labels, a_draft, a_cellNext, a_cellTag, a_cellData, a_cellCoercion, a_closureNode, a_closureEnv, a_frameNode, a_frameStage, a_frameEnv, a_framePending, a_frameData, a_frameCoercion) s t lbl := by
  have L : ∀ x8 x9 : Int32, (¬ x8 = 0 ↔ gc_td t = 0 ∧ ¬ gc_td s = 0) → (¬ x9 = 0 ↔ gc_tc s = 0 ∧ ¬ gc_tc t = 0) → ∃ n, wX_draftLayer_65 post lbl (gc_td s) (gc_tc t) x8 x9 f_maxNodes f_maxFuel f_nodeCount f_outcome f_programRoot f_faultKind f_faultNode f_walkTop f_contextDepth f_coercionCount f_compiledCount f_cellCount f_closureCount f_top f_running f_atNode f_atEnv f_valueTag f_valueData f_valueCoercion f_typeOfResult f_fuelSpent f_blamedLabel n 1 a_kinds a_operands a_hasParent a_inProgram a_nodeType a_siteTargets a_siteCoercions a_walkNode a_walkStep a_contextType a_labels a_draft a_cellNext a_cellTag a_cellData a_cellCoercion a_closureNode a_closureEnv a_frameNode a_frameStage a_frameEnv a_framePending a_frameData a_frameCoercion := by
    intro x8 x9 h8 h9
    refine ⟨4, gx_layer_l (dr0 := a_draft) (fun dr' j1 j2 j3 => H dr' j1 (fun j h1 h2 => ?_)) 3 1 rfl (by decide) a_draft 4 (by decide) (fun _ _ => rfl) (fun k k1 k2 => ?_) (fun k k1 k2 => ?_)⟩
    · by_cases hj : j < 6
      · obtain ⟨k, rfl⟩ : ∃ k, j = 2 + k := ⟨j - 2, by omega⟩
        rw [j2 k (by omega) (by omega), gc_ly_in (by omega)]
        have e : (¬ x8 = 0 ∧ gc_ft (nI k) (gc_td s) = false) = (gc_td t = 0 ∧ ¬ gc_td s = 0 ∧ gc_ft (nI k) (gc_td s) = false) := propext ⟨fun h => ⟨(h8.mp h.1).1, (h8.mp h.1).2, h.2⟩, fun h => ⟨h8.mpr ⟨h.1, h.2.1⟩, h.2.2⟩⟩
        simp only [e]
      · obtain ⟨k, rfl⟩ : ∃ k, j = 5 + k := ⟨j - 5, by omega⟩
        rw [j3 k (by omega) (by omega), gc_ly_out (by omega)]
        have e : (¬ x9 = 0 ∧ gc_ft (nI k) (gc_tc t) = false) = (gc_tc s = 0 ∧ ¬ gc_tc t = 0 ∧ gc_ft (nI k) (gc_tc t) = false) := propext ⟨fun h => ⟨(h9.mp h.1).1, (h9.mp h.1).2, h.2⟩, fun h => ⟨h9.mpr ⟨h.1, h.2.1⟩, h.2.2⟩⟩
        simp only [e]
    · rw [hd (2 + k) (by omega) (by omega), if_neg (fun h => by omega)]
    · rw [hd (5 + k) (by omega) (by omega), if_neg (fun h => by omega)]
  have L2 : ∀ x8 : Int32, (¬ x8 = 0 ↔ gc_td t = 0 ∧ ¬ gc_td s = 0) → wX_draftLayer_43 post lbl (gc_td s) (gc_tc s) (gc_tc t) x8 f_maxNodes f_maxFuel f_nodeCount f_outcome f_programRoot f_faultKind f_faultNode f_walkTop f_contextDepth f_coercionCount f_compiledCount f_cellCount f_closureCount f_top f_running f_atNode f_atEnv f_valueTag f_valueData f_valueCoercion f_typeOfResult f_fuelSpent f_blamedLabel a_kinds a_operands a_hasParent a_inProgram a_nodeType a_siteTargets a_siteCoercions a_walkNode a_walkStep a_contextType a_labels a_draft a_cellNext a_cellTag a_cellData a_cellCoercion a_closureNode a_closureEnv a_frameNode a_frameStage a_frameEnv a_framePending a_frameData a_frameCoercion := by
    intro x8 h8
    refine br_c (fun z => br_c (fun z2 => L x8 0 h8 ⟨fun h => absurd rfl h, fun h => absurd z2 h.2⟩) (fun z2 => L x8 1 h8 ⟨fun _ => ⟨z, z2⟩, fun _ => by decide⟩)) (fun z => L x8 0 h8 ⟨fun h => absurd rfl h, fun h => absurd h.1 z⟩)
  unfold wpX_draftLayer
  refine gx_dom ?_
  refine gx_dom ?_
  refine gx_cod ?_
  refine gx_cod ?_
  refine br_c (fun z => br_c (fun z2 => L2 0 ⟨fun h => absurd rfl h, fun h => absurd z2 h.2⟩) (fun z2 => L2 1 ⟨fun _ => ⟨z, z2⟩, fun _ => by decide⟩)) (fun z => L2 0 ⟨fun h => absurd rfl h, fun h => absurd h.1 z⟩)
theorem gx_cc21 {post : Int32 → SX → Prop} {cc : Nat} {t lbl : Int32} (hcc : cc < 800)
    (H : ∀ (id : Nat) (lb' : Nat → Int32) (cc' : Nat) (dr' : Nat → Int32), gc_Ext 1 a_labels cc lb' cc' → id < cc' → (∀ j, j < 9 → gc_row lb' id j = gc_cv 0 t lbl j) → post (nI id) (f_maxNodes, f_maxFuel, f_nodeCount, f_outcome, f_programRoot, f_faultKind, f_faultNode, f_walkTop, f_contextDepth, nI cc', f_compiledCount, f_cellCount, f_closureCount, f_top, f_running, f_atNode, f_atEnv, f_valueTag, f_valueData, f_valueCoercion, f_typeOfResult, f_fuelSpent, f_blamedLabel, a_kinds, a_operands, a_hasParent, a_inProgram, a_nodeType, a_siteTargets, a_siteCoercions, a_walkNode, a_walkStep, a_contextType, lb', dr', a_cellNext, a_cellTag, a_cellData, a_cellCoercion, a_closureNode, a_closureEnv, a_frameNode, a_frameStage, a_frameEnv, a_framePending, a_frameData, a_frameCoercion)) :
    ∀ m g, g + m = 4 → 1 ≤ g → ∀ (dr : Nat → Int32) n, m < n → (∀ k, 1 ≤ k → k ≤ 3 → dr (k - 1) = if k < g ∧ gc_ft (nI k) t = false then lbl else 0) → (∀ j, 3 ≤ j → j < 9 → dr j = 0) →
    wX_compileCast_21 post t lbl f_maxNodes f_maxFuel f_nodeCount f_outcome f_programRoot f_faultKind f_faultNode f_walkTop f_contextDepth (nI cc) f_compiledCount f_cellCount f_closureCount f_top f_running f_atNode f_atEnv f_valueTag f_valueData f_valueCoercion f_typeOfResult f_fuelSpent f_blamedLabel n (nI g) a_kinds a_operands a_hasParent a_inProgram a_nodeType a_siteTargets a_siteCoercions a_walkNode a_walkStep a_contextType a_labels dr a_cellNext a_cellTag a_cellData a_cellCoercion a_closureNode a_closureEnv a_frameNode a_frameStage a_frameEnv a_framePending a_frameData a_frameCoercion := by
  intro m
  induction m with
  | zero =>
    intro g hg h1 dr n hn i1 i2
    obtain ⟨n, rfl⟩ : ∃ q, n = q + 1 := ⟨n - 1, by omega⟩
    have lo : ∀ j, j < 3 → dr j = gc_cv 0 t lbl j := by
      intro j hj
      have := i1 (j + 1) (by omega) (by omega)
      rw [show j + 1 - 1 = j by omega] at this
      rw [this]
      unfold gc_cv
      rw [if_pos hj]
      have e : (j + 1 < g ∧ gc_ft (nI (j + 1)) t = false) = ((0 : Int32) = 0 ∧ gc_ft (nI (j + 1)) t = false) := propext ⟨fun h => ⟨rfl, h.2⟩, fun h => ⟨by omega, h.2⟩⟩
      simp only [e]
    refine pk_lt 3 g (fun _ => br_c (fun z => ?_) (fun z => ?_)) (fun h => by omega)
    · refine gx_intern hcc (fun id lb' cc' x1 x2 x3 => H id lb' cc' dr x1 x2 (fun j hj => (x3 j hj).trans ?_))
      by_cases hj3 : j < 3
      · exact lo j hj3
      · rw [i2 j (by omega) hj, gc_cv_hi (by omega)]
        have e : gc_ly (gc_fn 0) (gc_fn t) lbl = gc_zv := gc_ly_0 _ (by rw [gc_tdfn, gc_td0]) (by rw [gc_tcfn]; exact gc_tc_le (Int32.le_trans z (by decide)))
        rw [e]
        rfl
    · refine gx_layer i2 (fun dr' d1 d2 => ?_)
      refine gx_intern hcc (fun id lb' cc' x1 x2 x3 => H id lb' cc' dr' x1 x2 (fun j hj => (x3 j hj).trans ?_))
      by_cases hj3 : j < 3
      · exact (d1 j hj3).trans (lo j hj3)
      · rw [d2 j (by omega) hj, gc_cv_hi (by omega)]
        have e : gc_fn t = t := by
          unfold gc_fn
          rw [if_neg]
          intro e0
          exact z (by rw [e0]; decide)
        rw [e]
        rfl
  | succ m ih =>
    intro g hg h1 dr n hn i1 i2
    obtain ⟨n, rfl⟩ : ∃ q, n = q + 1 := ⟨n - 1, by omega⟩
    have e1 : nI g - 1 = nI (g - 1) := gc_s1 h1
    refine pk_lt 3 g (fun h => by omega) (fun _ => gx_fits (fun hf => br_f (by decide) (nm_r (nI_1 g) ?_)) (fun hf => br_t rfl ⟨by rw [e1]; exact gc_in (by omega) (by decide), ?_⟩))
    · refine ih (g + 1) (by omega) (by omega) dr n (by omega) (fun k k1 k2 => ?_) i2
      rw [i1 k k1 k2]
      have e : (k < g ∧ gc_ft (nI k) t = false) = (k < g + 1 ∧ gc_ft (nI k) t = false) := propext ⟨fun h => ⟨by omega, h.2⟩, fun h => ⟨by
        by_cases ek : k = g
        · rw [ek, hf] at h; exact Bool.noConfusion h.2
        · omega, h.2⟩⟩
      simp only [e]
    · refine nm_r (e' := upd dr (g - 1) lbl) (by rw [e1, gc_cl (by omega)]) (nm_r (nI_1 g) ?_)
      refine ih (g + 1) (by omega) (by omega) _ n (by omega) (fun k k1 k2 => ?_) (fun j j1 j2 => by rw [gc_len, if_neg (by omega)]; exact i2 j j1 j2)
      rw [gc_len]
      by_cases ek : k = g
      · subst ek
        rw [if_pos rfl, if_pos ⟨by omega, hf⟩]
      · rw [if_neg (by omega), i1 k k1 k2]
        have e : (k < g ∧ gc_ft (nI k) t = false) = (k < g + 1 ∧ gc_ft (nI k) t = false) := propext ⟨fun h => ⟨by omega, h.2⟩, fun h => ⟨by omega, h.2⟩⟩
        simp only [e]
theorem gx_compile {post : Int32 → SX → Prop} {cc : Nat} {s t lbl : Int32} (hcc : cc < 800) (hc1 : 1 ≤ cc) (hz : ∀ k, k < 9 → a_labels k = 0)
    (H : ∀ (id : Nat) (lb' : Nat → Int32) (cc' : Nat) (dr' : Nat → Int32), gc_Ext 1 a_labels cc lb' cc' → id < cc' → (∀ j, j < 9 → gc_row lb' id j = gc_cv s t lbl j) → post (nI id) (f_maxNodes, f_maxFuel, f_nodeCount, f_outcome, f_programRoot, f_faultKind, f_faultNode, f_walkTop, f_contextDepth, nI cc', f_compiledCount, f_cellCount, f_closureCount, f_top, f_running, f_atNode, f_atEnv, f_valueTag, f_valueData, f_valueCoercion, f_typeOfResult, f_fuelSpent, f_blamedLabel, a_kinds, a_operands, a_hasParent, a_inProgram, a_nodeType, a_siteTargets, a_siteCoercions, a_walkNode, a_walkStep, a_contextType, lb', dr', a_cellNext, a_cellTag, a_cellData, a_cellCoercion, a_closureNode, a_closureEnv, a_frameNode, a_frameStage, a_frameEnv, a_framePending, a_frameData, a_frameCoercion)) :
    wpX_compileCast post (f_maxNodes, f_maxFuel, f_nodeCount, f_outcome, f_programRoot, f_faultKind, f_faultNode, f_walkTop, f_contextDepth, nI cc, f_compiledCount, f_cellCount, f_closureCount, f_top, f_running, f_atNode, f_atEnv, f_valueTag, f_valueData, f_valueCoercion, f_typeOfResult, f_fuelSpent, f_blamedLabel, a_kinds, a_operands, a_hasParent, a_inProgram, a_nodeType, a_siteTargets, a_siteCoercions, a_walkNode, a_walkStep, a_contextType, a_labels, a_draft, a_cellNext, a_cellTag, a_cellData, a_cellCoercion, a_closureNode, a_closureEnv, a_frameNode, a_frameStage, a_frameEnv, a_framePending, a_frameData, a_frameCoercion) s t lbl := by
  refine br_c (fun e => ?_) (fun hne => ?_)
  · subst e
    refine H 0 a_labels cc a_draft (gc_Ext_rfl _ _ _) (by omega) (fun j hj => ?_)
    rw [gc_row0 hz hj, gc_cv_same]
    rfl
  · refine gx_clearDraft (b := 0) (e := 9) (by decide) (by decide) (fun dr0 g1 _ => ?_)
    refine br_c (fun z => ⟨4, ?_⟩) (fun z => br_c (fun z2 => br_c (fun z3 => ?_) (fun z3 => ?_)) (fun z2 => ?_))
    · subst z
      exact gx_cc21 hcc H 3 1 rfl (by decide) dr0 4 (by decide) (fun k k1 k2 => by rw [g1 (k - 1) (by omega) (by omega), if_neg (fun h => by omega)]) (fun j j1 j2 => g1 j (by omega) j2)
    · refine gx_intern hcc (fun id lb' cc' x1 x2 x3 => H id lb' cc' dr0 x1 x2 (fun j hj => (x3 j hj).trans ?_))
      rw [g1 j (by omega) hj]
      by_cases hj3 : j < 3
      · unfold gc_cv
        rw [if_pos hj3, if_neg (fun h => z h.1)]
      · rw [gc_cv_hi (by omega)]
        have e : gc_ly (gc_fn s) (gc_fn t) lbl = gc_zv := gc_ly_0 _ (by rw [gc_tdfn]; exact gc_td_le (Int32.le_trans z3 (by decide))) (by rw [gc_tcfn, z2, gc_tc0])
        rw [e]
        rfl
    · refine gx_layer (fun j j1 j2 => g1 j (by omega) j2) (fun dr' d1 d2 => ?_)
      refine gx_intern hcc (fun id lb' cc' x1 x2 x3 => H id lb' cc' dr' x1 x2 (fun j hj => (x3 j hj).trans ?_))
      by_cases hj3 : j < 3
      · rw [d1 j hj3, g1 j (by omega) hj]
        unfold gc_cv
        rw [if_pos hj3, if_neg (fun h => z h.1)]
      · rw [d2 j (by omega) hj, gc_cv_hi (by omega)]
        unfold gc_fn
        rw [if_neg z, if_pos z2]
    · refine gx_layer (fun j j1 j2 => g1 j (by omega) j2) (fun dr' d1 d2 => ?_)
      refine gx_intern hcc (fun id lb' cc' x1 x2 x3 => H id lb' cc' dr' x1 x2 (fun j hj => (x3 j hj).trans ?_))
      by_cases hj3 : j < 3
      · rw [d1 j hj3, g1 j (by omega) hj]
        unfold gc_cv
        rw [if_pos hj3, if_neg (fun h => z h.1)]
      · rw [d2 j (by omega) hj, gc_cv_hi (by omega)]
        unfold gc_fn
        rw [if_neg z, if_neg z2]
theorem gx_setSite {post : SX → Prop} {cc n k : Nat} {s t : Int32} (hcc : cc < 800) (hc1 : 1 ≤ cc) (hz : ∀ k, k < 9 → a_labels k = 0) (hn : n < 48) (hk : 1 ≤ k ∧ k ≤ 3)
    (H : ∀ (id : Nat) (lb' : Nat → Int32) (cc' : Nat) (dr' : Nat → Int32), gc_Ext 1 a_labels cc lb' cc' → id < cc' → (∀ j, j < 9 → gc_row lb' id j = gc_cv s t (nI (4 * n + k)) j) → post (f_maxNodes, f_maxFuel, f_nodeCount, f_outcome, f_programRoot, f_faultKind, f_faultNode, f_walkTop, f_contextDepth, nI cc', f_compiledCount, f_cellCount, f_closureCount, f_top, f_running, f_atNode, f_atEnv, f_valueTag, f_valueData, f_valueCoercion, f_typeOfResult, f_fuelSpent, f_blamedLabel, a_kinds, a_operands, a_hasParent, a_inProgram, a_nodeType, upd a_siteTargets (3 * n + (k - 1)) t, upd a_siteCoercions (3 * n + (k - 1)) (nI id), a_walkNode, a_walkStep, a_contextType, lb', dr', a_cellNext, a_cellTag, a_cellData, a_cellCoercion, a_closureNode, a_closureEnv, a_frameNode, a_frameStage, a_frameEnv, a_framePending, a_frameData, a_frameCoercion)) :
    wpX_setSite post (f_maxNodes, f_maxFuel, f_nodeCount, f_outcome, f_programRoot, f_faultKind, f_faultNode, f_walkTop, f_contextDepth, nI cc, f_compiledCount, f_cellCount, f_closureCount, f_top, f_running, f_atNode, f_atEnv, f_valueTag, f_valueData, f_valueCoercion, f_typeOfResult, f_fuelSpent, f_blamedLabel, a_kinds, a_operands, a_hasParent, a_inProgram, a_nodeType, a_siteTargets, a_siteCoercions, a_walkNode, a_walkStep, a_contextType, a_labels, a_draft, a_cellNext, a_cellTag, a_cellData, a_cellCoercion, a_closureNode, a_closureEnv, a_frameNode, a_frameStage, a_frameEnv, a_framePending, a_frameData, a_frameCoercion) (nI n) (nI k) s t := by
  have e1 : 3 * nI n + nI k - 1 = nI (3 * n + (k - 1)) := by
    rw [gc_3, nI_add, gc_s1 (by omega)]
    exact congrArg nI (by omega)
  have e2 : 4 * nI n + nI k = nI (4 * n + k) := by rw [gc_4, nI_add]
  have hi : vp_in (nI (3 * n + (k - 1))) 144 := gc_in (by omega) (by decide)
  refine nm_r e1 ⟨hi, nm_r (e' := upd a_siteTargets (3 * n + (k - 1)) t) (by rw [gc_cl (by omega)]) ?_⟩
  rw [e2]
  refine gx_compile hcc hc1 hz (fun id lb' cc' dr' x1 x2 x3 => ⟨hi, nm_r (e' := upd a_siteCoercions (3 * n + (k - 1)) (nI id)) (by rw [gc_cl (by omega)]) (H id lb' cc' dr' x1 x2 x3)⟩)
end
end
section
def gc_je (κ : Nat) (o0 o1 : Int32) (T : Nat → Int32) (lk : Option Int32) : Nat :=
  if κ = 2 then (if lk.isNone = true then 1 else 0)
  else if κ = 3 then (if gc_co (T 0) o1 = true then 0 else 7)
  else if κ = 4 then (if T 0 = 1 then 2 else if T 0 = 2 then 2 else if gc_co (T 1) (gc_td (T 0)) = true then 0 else 3)
  else if κ = 5 then (if gc_co (T 0) 1 = true then (if gc_co (T 1) 1 = true then 0 else 4) else 4)
  else if κ = 6 then (if gc_co (T 0) 2 = true then (if gc_co (T 1) (T 2) = true then 0 else 6) else 5)
  else if κ = 8 then (if gc_co (T 0) o0 = true then 0 else 8) else 0
def gc_jt (κ : Nat) (o0 o1 : Int32) (T : Nat → Int32) (lk : Option Int32) : Int32 :=
  if κ = 0 then 1 else if κ = 1 then 2 else if κ = 2 then lk.getD 0 else if κ = 3 then gc_ta o0 o1 else if κ = 4 then gc_tc (T 0)
  else if κ = 5 then (if o0 < 3 then 1 else 2) else if κ = 6 then (if T 1 = T 2 then T 1 else if T 1 < 3 then 0 else if T 2 < 3 then 0 else 3) else if κ = 7 then T 1 else o0
def gc_jg (κ : Nat) (o0 o1 : Int32) (T : Nat → Int32) (k : Nat) : Int32 :=
  if κ = 3 then o1 else if κ = 4 then (if k = 2 then gc_td (T 0) else gc_fn (T 0)) else if κ = 5 then 1 else if κ = 6 then (if k = 1 then 2 else gc_jt 6 o0 o1 T none) else o0
section
variable {f_maxNodes f_maxFuel f_nodeCount f_outcome f_programRoot f_faultKind f_faultNode f_walkTop f_contextDepth f_coercionCount f_compiledCount f_cellCount f_closureCount f_top f_running f_atNode f_atEnv f_valueTag f_valueData f_valueCoercion f_typeOfResult f_fuelSpent f_blamedLabel : Int32} {a_kinds a_operands a_hasParent a_inProgram a_nodeType a_siteTargets a_siteCoercions a_walkNode a_walkStep a_contextType a_labels a_draft a_cellNext a_cellTag a_cellData a_cellCoercion a_closureNode a_closureEnv a_frameNode a_frameStage a_frameEnv a_framePending a_frameData a_frameCoercion : Nat → Int32}
theorem gx_ct {post : Int32 → Prop} {n κ i : Nat} {T : Nat → Int32} (hn : n < 48) (hK : a_kinds n = nI κ) (hκ : κ ≤ 8) (hi : i < gc_nc κ) (hch : ∀ w, w < gc_nc κ → ∃ c, c < 48 ∧ a_operands (3 * n + gc_pc κ + w) = nI c ∧ a_nodeType c = T w) (H : post (T i)) : wpX_childType post (f_maxNodes, f_maxFuel, f_nodeCount, f_outcome, f_programRoot, f_faultKind, f_faultNode, f_walkTop, f_contextDepth, f_coercionCount, f_compiledCount, f_cellCount, f_closureCount, f_top, f_running, f_atNode, f_atEnv, f_valueTag, f_valueData, f_valueCoercion, f_typeOfResult, f_fuelSpent, f_blamedLabel, a_kinds, a_operands, a_hasParent, a_inProgram, a_nodeType, a_siteTargets, a_siteCoercions, a_walkNode, a_walkStep, a_contextType, a_labels, a_draft, a_cellNext, a_cellTag, a_cellData, a_cellCoercion, a_closureNode, a_closureEnv, a_frameNode, a_frameStage, a_frameEnv, a_framePending, a_frameData, a_frameCoercion) (nI n) (nI i) := by
  obtain ⟨c, h1, h2, h3⟩ := hch i hi
  rw [← h3] at H
  exact gx_childType hn hK hκ hi h2 h1 H
theorem gx_judge3 {post : Int32 → SX → Prop} {lk : Option Int32} {cc n κ : Nat} {T : Nat → Int32} (hcc : cc + 3 ≤ 800) (hc1 : 1 ≤ cc) (hz : ∀ k, k < 9 → a_labels k = 0) (hn : n < 48) (hch : ∀ w, w < gc_nc κ → ∃ c, c < 48 ∧ a_operands (3 * n + gc_pc κ + w) = nI c ∧ a_nodeType c = T w) (hK : a_kinds n = nI κ) (e3 : κ = 3) (He : ∀ e : Nat, gc_je κ (a_operands (3 * n)) (a_operands (3 * n + 1)) T lk = e → e ≠ 0 → e ≤ 8 → post (nI e) (f_maxNodes, f_maxFuel, f_nodeCount, f_outcome, f_programRoot, f_faultKind, f_faultNode, f_walkTop, f_contextDepth, nI cc, f_compiledCount, f_cellCount, f_closureCount, f_top, f_running, f_atNode, f_atEnv, f_valueTag, f_valueData, f_valueCoercion, f_typeOfResult, f_fuelSpent, f_blamedLabel, a_kinds, a_operands, a_hasParent, a_inProgram, a_nodeType, a_siteTargets, a_siteCoercions, a_walkNode, a_walkStep, a_contextType, a_labels, a_draft, a_cellNext, a_cellTag, a_cellData, a_cellCoercion, a_closureNode, a_closureEnv, a_frameNode, a_frameStage, a_frameEnv, a_framePending, a_frameData, a_frameCoercion)) (Hok : gc_je κ (a_operands (3 * n)) (a_operands (3 * n + 1)) T lk = 0 → ∀ (cc' : Nat) (lb' dr' st' sc' : Nat → Int32), gc_Ext 3 a_labels cc lb' cc' → (∀ j, (j < 3 * n ∨ 3 * n + 3 ≤ j) → st' j = a_siteTargets j ∧ sc' j = a_siteCoercions j) → (∀ k, 1 ≤ k → k ≤ gc_ns κ → st' (3 * n + (k - 1)) = gc_jg κ (a_operands (3 * n)) (a_operands (3 * n + 1)) T k ∧ ∃ id, sc' (3 * n + (k - 1)) = nI id ∧ id < cc' ∧ ∀ j, j < 9 → gc_row lb' id j = gc_cv (T (k - 1)) (gc_jg κ (a_operands (3 * n)) (a_operands (3 * n + 1)) T k) (nI (4 * n + k)) j) → post 0 (f_maxNodes, f_maxFuel, f_nodeCount, f_outcome, f_programRoot, f_faultKind, f_faultNode, f_walkTop, f_contextDepth, nI cc', f_compiledCount, f_cellCount, f_closureCount, f_top, f_running, f_atNode, f_atEnv, f_valueTag, f_valueData, f_valueCoercion, f_typeOfResult, f_fuelSpent, f_blamedLabel, a_kinds, a_operands, a_hasParent, a_inProgram, upd a_nodeType n (gc_jt κ (a_operands (3 * n)) (a_operands (3 * n + 1)) T lk), st', sc', a_walkNode, a_walkStep, a_contextType, lb', dr', a_cellNext, a_cellTag, a_cellData, a_cellCoercion, a_closureNode, a_closureEnv, a_frameNode, a_frameStage, a_frameEnv, a_framePending, a_frameData, a_frameCoercion)) : wpX_judgeFunction post (f_maxNodes, f_maxFuel, f_nodeCount, f_outcome, f_programRoot, f_faultKind, f_faultNode, f_walkTop, f_contextDepth, nI cc, f_compiledCount, f_cellCount, f_closureCount, f_top, f_running, f_atNode, f_atEnv, f_valueTag, f_valueData, f_valueCoercion, f_typeOfResult, f_fuelSpent, f_blamedLabel, a_kinds, a_operands, a_hasParent, a_inProgram, a_nodeType, a_siteTargets, a_siteCoercions, a_walkNode, a_walkStep, a_contextType, a_labels, a_draft, a_cellNext, a_cellTag, a_cellData, a_cellCoercion, a_closureNode, a_closureEnv, a_frameNode, a_frameStage, a_frameEnv, a_framePending, a_frameData, a_frameCoercion) (nI n) := by
  subst e3
  unfold gc_je at He Hok
  rw [if_neg (by decide), if_pos rfl] at He Hok
  have i0 : vp_in (3 * nI n) 144 := by rw [gc_3]; exact gc_in (by omega) (by decide)
  have i1 : vp_in (3 * nI n + 1) 144 := by rw [gc_3, nI_1]; exact gc_in (by omega) (by decide)
  refine ⟨i0, nm_r (e' := a_operands (3 * n)) (by rw [gc_3, gc_cl (by omega)]) ⟨i1, nm_r (e' := a_operands (3 * n + 1)) (by rw [gc_3, nI_1, gc_cl (by omega)]) ?_⟩⟩
  refine gx_ct (i := 0) hn hK (by decide) (by decide) hch ?_
  refine gx_cons (fun z => br_f (by decide) ?_) (fun z => br_t rfl ?_)
  · rw [if_pos z] at Hok
    refine gx_arrow ⟨gc_in hn (by decide), nm_r (e' := upd a_nodeType n (gc_ta (a_operands (3 * n)) (a_operands (3 * n + 1)))) (by rw [gc_cl (by omega)]) ?_⟩
    refine gx_setSite (k := 1) (by omega) hc1 hz hn (by decide) (fun id lb' cc' dr' x1 x2 x3 => Hok rfl cc' lb' dr' _ _ (gc_Ext_le x1 (by decide)) (fun j hj => ?_) (fun k k1 k2 => ?_))
    · rw [gc_len, if_neg (by omega), gc_len, if_neg (by omega)]; exact ⟨rfl, rfl⟩
    · have : k ≤ 1 := k2
      obtain rfl : k = 1 := by omega
      rw [gc_len, if_pos rfl, gc_len, if_pos rfl]
      exact ⟨rfl, id, rfl, x2, x3⟩
  · rw [if_neg (by rw [z]; decide)] at He
    exact He 7 rfl (by decide) (by decide)
theorem gx_judge8 {post : Int32 → SX → Prop} {lk : Option Int32} {cc n κ : Nat} {T : Nat → Int32} (hcc : cc + 3 ≤ 800) (hc1 : 1 ≤ cc) (hz : ∀ k, k < 9 → a_labels k = 0) (hn : n < 48) (hch : ∀ w, w < gc_nc κ → ∃ c, c < 48 ∧ a_operands (3 * n + gc_pc κ + w) = nI c ∧ a_nodeType c = T w) (hK : a_kinds n = nI κ) (e3 : κ = 8) (He : ∀ e : Nat, gc_je κ (a_operands (3 * n)) (a_operands (3 * n + 1)) T lk = e → e ≠ 0 → e ≤ 8 → post (nI e) (f_maxNodes, f_maxFuel, f_nodeCount, f_outcome, f_programRoot, f_faultKind, f_faultNode, f_walkTop, f_contextDepth, nI cc, f_compiledCount, f_cellCount, f_closureCount, f_top, f_running, f_atNode, f_atEnv, f_valueTag, f_valueData, f_valueCoercion, f_typeOfResult, f_fuelSpent, f_blamedLabel, a_kinds, a_operands, a_hasParent, a_inProgram, a_nodeType, a_siteTargets, a_siteCoercions, a_walkNode, a_walkStep, a_contextType, a_labels, a_draft, a_cellNext, a_cellTag, a_cellData, a_cellCoercion, a_closureNode, a_closureEnv, a_frameNode, a_frameStage, a_frameEnv, a_framePending, a_frameData, a_frameCoercion)) (Hok : gc_je κ (a_operands (3 * n)) (a_operands (3 * n + 1)) T lk = 0 → ∀ (cc' : Nat) (lb' dr' st' sc' : Nat → Int32), gc_Ext 3 a_labels cc lb' cc' → (∀ j, (j < 3 * n ∨ 3 * n + 3 ≤ j) → st' j = a_siteTargets j ∧ sc' j = a_siteCoercions j) → (∀ k, 1 ≤ k → k ≤ gc_ns κ → st' (3 * n + (k - 1)) = gc_jg κ (a_operands (3 * n)) (a_operands (3 * n + 1)) T k ∧ ∃ id, sc' (3 * n + (k - 1)) = nI id ∧ id < cc' ∧ ∀ j, j < 9 → gc_row lb' id j = gc_cv (T (k - 1)) (gc_jg κ (a_operands (3 * n)) (a_operands (3 * n + 1)) T k) (nI (4 * n + k)) j) → post 0 (f_maxNodes, f_maxFuel, f_nodeCount, f_outcome, f_programRoot, f_faultKind, f_faultNode, f_walkTop, f_contextDepth, nI cc', f_compiledCount, f_cellCount, f_closureCount, f_top, f_running, f_atNode, f_atEnv, f_valueTag, f_valueData, f_valueCoercion, f_typeOfResult, f_fuelSpent, f_blamedLabel, a_kinds, a_operands, a_hasParent, a_inProgram, upd a_nodeType n (gc_jt κ (a_operands (3 * n)) (a_operands (3 * n + 1)) T lk), st', sc', a_walkNode, a_walkStep, a_contextType, lb', dr', a_cellNext, a_cellTag, a_cellData, a_cellCoercion, a_closureNode, a_closureEnv, a_frameNode, a_frameStage, a_frameEnv, a_framePending, a_frameData, a_frameCoercion)) : wpX_judgeAscription post (f_maxNodes, f_maxFuel, f_nodeCount, f_outcome, f_programRoot, f_faultKind, f_faultNode, f_walkTop, f_contextDepth, nI cc, f_compiledCount, f_cellCount, f_closureCount, f_top, f_running, f_atNode, f_atEnv, f_valueTag, f_valueData, f_valueCoercion, f_typeOfResult, f_fuelSpent, f_blamedLabel, a_kinds, a_operands, a_hasParent, a_inProgram, a_nodeType, a_siteTargets, a_siteCoercions, a_walkNode, a_walkStep, a_contextType, a_labels, a_draft, a_cellNext, a_cellTag, a_cellData, a_cellCoercion, a_closureNode, a_closureEnv, a_frameNode, a_frameStage, a_frameEnv, a_framePending, a_frameData, a_frameCoercion) (nI n) := by
  subst e3
  unfold gc_je at He Hok
  rw [if_neg (by decide), if_neg (by decide), if_neg (by decide), if_neg (by decide), if_neg (by decide), if_pos rfl] at He Hok
  have i0 : vp_in (3 * nI n) 144 := by rw [gc_3]; exact gc_in (by omega) (by decide)
  refine ⟨i0, nm_r (e' := a_operands (3 * n)) (by rw [gc_3, gc_cl (by omega)]) ?_⟩
  refine gx_ct (i := 0) hn hK (by decide) (by decide) hch ?_
  refine gx_cons (fun z => br_f (by decide) ?_) (fun z => br_t rfl ?_)
  · rw [if_pos z] at Hok
    refine ⟨gc_in hn (by decide), nm_r (e' := upd a_nodeType n (a_operands (3 * n))) (by rw [gc_cl (by omega)]) ?_⟩
    refine gx_setSite (k := 1) (by omega) hc1 hz hn (by decide) (fun id lb' cc' dr' x1 x2 x3 => Hok rfl cc' lb' dr' _ _ (gc_Ext_le x1 (by decide)) (fun j hj => ?_) (fun k k1 k2 => ?_))
    · rw [gc_len, if_neg (by omega), gc_len, if_neg (by omega)]; exact ⟨rfl, rfl⟩
    · have : k ≤ 1 := k2
      obtain rfl : k = 1 := by omega
      rw [gc_len, if_pos rfl, gc_len, if_pos rfl]
      exact ⟨rfl, id, rfl, x2, x3⟩
  · rw [if_neg (by rw [z]; decide)] at He
    exact He 8 rfl (by decide) (by decide)
theorem gx_two {post : SX → Prop} {cc n : Nat} {T : Nat → Int32} {t1 t2 : Int32} (hcc : cc + 3 ≤ 800) (hc1 : 1 ≤ cc) (hz : ∀ k, k < 9 → a_labels k = 0) (hn : n < 48)
    (H : ∀ (cc' : Nat) (lb' dr' st' sc' : Nat → Int32), gc_Ext 2 a_labels cc lb' cc' → (∀ j, (j < 3 * n ∨ 3 * n + 2 ≤ j) → st' j = a_siteTargets j ∧ sc' j = a_siteCoercions j) → (∀ k, 1 ≤ k → k ≤ 2 → st' (3 * n + (k - 1)) = (if k = 1 then t1 else t2) ∧ ∃ id, sc' (3 * n + (k - 1)) = nI id ∧ id < cc' ∧ ∀ j, j < 9 → gc_row lb' id j = gc_cv (T (k - 1)) (if k = 1 then t1 else t2) (nI (4 * n + k)) j) → post (f_maxNodes, f_maxFuel, f_nodeCount, f_outcome, f_programRoot, f_faultKind, f_faultNode, f_walkTop, f_contextDepth, nI cc', f_compiledCount, f_cellCount, f_closureCount, f_top, f_running, f_atNode, f_atEnv, f_valueTag, f_valueData, f_valueCoercion, f_typeOfResult, f_fuelSpent, f_blamedLabel, a_kinds, a_operands, a_hasParent, a_inProgram, a_nodeType, st', sc', a_walkNode, a_walkStep, a_contextType, lb', dr', a_cellNext, a_cellTag, a_cellData, a_cellCoercion, a_closureNode, a_closureEnv, a_frameNode, a_frameStage, a_frameEnv, a_framePending, a_frameData, a_frameCoercion)) :
    wpX_setSite (fun u => match u with | (f_maxNodes1, f_maxFuel1, f_nodeCount1, f_outcome1, f_programRoot1, f_faultKind1, f_faultNode1, f_walkTop1, f_contextDepth1, f_coercionCount1, f_compiledCount1, f_cellCount1, f_closureCount1, f_top1, f_running1, f_atNode1, f_atEnv1, f_valueTag1, f_valueData1, f_valueCoercion1, f_typeOfResult1, f_fuelSpent1, f_blamedLabel1, a_kinds1, a_operands1, a_hasParent1, a_inProgram1, a_nodeType1, a_siteTargets1, a_siteCoercions1, a_walkNode1, a_walkStep1, a_contextType1, a_labels1, a_draft1, a_cellNext1, a_cellTag1, a_cellData1, a_cellCoercion1, a_closureNode1, a_closureEnv1, a_frameNode1, a_frameStage1, a_frameEnv1, a_framePending1, a_frameData1, a_frameCoercion1) => wpX_setSite post (f_maxNodes1, f_maxFuel1, f_nodeCount1, f_outcome1, f_programRoot1, f_faultKind1, f_faultNode1, f_walkTop1, f_contextDepth1, f_coercionCount1, f_compiledCount1, f_cellCount1, f_closureCount1, f_top1, f_running1, f_atNode1, f_atEnv1, f_valueTag1, f_valueData1, f_valueCoercion1, f_typeOfResult1, f_fuelSpent1, f_blamedLabel1, a_kinds1, a_operands1, a_hasParent1, a_inProgram1, a_nodeType1, a_siteTargets1, a_siteCoercions1, a_walkNode1, a_walkStep1, a_contextType1, a_labels1, a_draft1, a_cellNext1, a_cellTag1, a_cellData1, a_cellCoercion1, a_closureNode1, a_closureEnv1, a_frameNode1, a_frameStage1, a_frameEnv1, a_framePending1, a_frameData1, a_frameCoercion1) (nI n) 2 (T 1) t2) (f_maxNodes, f_maxFuel, f_nodeCount, f_outcome, f_programRoot, f_faultKind, f_faultNode, f_walkTop, f_contextDepth, nI cc, f_compiledCount, f_cellCount, f_closureCount, f_top, f_running, f_atNode, f_atEnv, f_valueTag, f_valueData, f_valueCoercion, f_typeOfResult, f_fuelSpent, f_blamedLabel, a_kinds, a_operands, a_hasParent, a_inProgram, a_nodeType, a_siteTargets, a_siteCoercions, a_walkNode, a_walkStep, a_contextType, a_labels, a_draft, a_cellNext, a_cellTag, a_cellData, a_cellCoercion, a_closureNode, a_closureEnv, a_frameNode, a_frameStage, a_frameEnv, a_framePending, a_frameData, a_frameCoercion) (nI n) 1 (T 0) t1 := by
  refine gx_setSite (k := 1) (by omega) hc1 hz hn (by decide) (fun id lb' cc' dr' x1 x2 x3 => ?_)
  have y1 := x1.1
  have y2 := x1.2.1
  refine gx_setSite (k := 2) (by omega) (by omega) (gc_Ext_z x1 hc1 hz) hn (by decide) (fun id2 lb2 cc2 dr2 w1 w2 w3 => H cc2 lb2 dr2 _ _ (gc_Ext_tr x1 w1) (fun j hj => ?_) (fun k k1 k2 => ?_))
  · rw [gc_len, if_neg (by omega), gc_len, if_neg (by omega), gc_len, if_neg (by omega), gc_len, if_neg (by omega)]; exact ⟨rfl, rfl⟩
  · by_cases ek : k = 1
    · subst ek
      exact ⟨(pk_un (by omega)).trans pk_us, id, (pk_un (by omega)).trans pk_us, by have := w1.1; omega, fun j hj => (gc_Ext_row w1 x2 hj).trans (x3 j hj)⟩
    · obtain rfl : k = 2 := by omega
      exact ⟨pk_us, id2, pk_us, w2, w3⟩
theorem gx_judge4 {post : Int32 → SX → Prop} {lk : Option Int32} {cc n κ : Nat} {T : Nat → Int32} (hcc : cc + 3 ≤ 800) (hc1 : 1 ≤ cc) (hz : ∀ k, k < 9 → a_labels k = 0) (hn : n < 48) (hch : ∀ w, w < gc_nc κ → ∃ c, c < 48 ∧ a_operands (3 * n + gc_pc κ + w) = nI c ∧ a_nodeType c = T w) (hK : a_kinds n = nI κ) (e3 : κ = 4) (He : ∀ e : Nat, gc_je κ (a_operands (3 * n)) (a_operands (3 * n + 1)) T lk = e → e ≠ 0 → e ≤ 8 → post (nI e) (f_maxNodes, f_maxFuel, f_nodeCount, f_outcome, f_programRoot, f_faultKind, f_faultNode, f_walkTop, f_contextDepth, nI cc, f_compiledCount, f_cellCount, f_closureCount, f_top, f_running, f_atNode, f_atEnv, f_valueTag, f_valueData, f_valueCoercion, f_typeOfResult, f_fuelSpent, f_blamedLabel, a_kinds, a_operands, a_hasParent, a_inProgram, a_nodeType, a_siteTargets, a_siteCoercions, a_walkNode, a_walkStep, a_contextType, a_labels, a_draft, a_cellNext, a_cellTag, a_cellData, a_cellCoercion, a_closureNode, a_closureEnv, a_frameNode, a_frameStage, a_frameEnv, a_framePending, a_frameData, a_frameCoercion)) (Hok : gc_je κ (a_operands (3 * n)) (a_operands (3 * n + 1)) T lk = 0 → ∀ (cc' : Nat) (lb' dr' st' sc' : Nat → Int32), gc_Ext 3 a_labels cc lb' cc' → (∀ j, (j < 3 * n ∨ 3 * n + 3 ≤ j) → st' j = a_siteTargets j ∧ sc' j = a_siteCoercions j) → (∀ k, 1 ≤ k → k ≤ gc_ns κ → st' (3 * n + (k - 1)) = gc_jg κ (a_operands (3 * n)) (a_operands (3 * n + 1)) T k ∧ ∃ id, sc' (3 * n + (k - 1)) = nI id ∧ id < cc' ∧ ∀ j, j < 9 → gc_row lb' id j = gc_cv (T (k - 1)) (gc_jg κ (a_operands (3 * n)) (a_operands (3 * n + 1)) T k) (nI (4 * n + k)) j) → post 0 (f_maxNodes, f_maxFuel, f_nodeCount, f_outcome, f_programRoot, f_faultKind, f_faultNode, f_walkTop, f_contextDepth, nI cc', f_compiledCount, f_cellCount, f_closureCount, f_top, f_running, f_atNode, f_atEnv, f_valueTag, f_valueData, f_valueCoercion, f_typeOfResult, f_fuelSpent, f_blamedLabel, a_kinds, a_operands, a_hasParent, a_inProgram, upd a_nodeType n (gc_jt κ (a_operands (3 * n)) (a_operands (3 * n + 1)) T lk), st', sc', a_walkNode, a_walkStep, a_contextType, lb', dr', a_cellNext, a_cellTag, a_cellData, a_cellCoercion, a_closureNode, a_closureEnv, a_frameNode, a_frameStage, a_frameEnv, a_framePending, a_frameData, a_frameCoercion)) : wpX_judgeApplication post (f_maxNodes, f_maxFuel, f_nodeCount, f_outcome, f_programRoot, f_faultKind, f_faultNode, f_walkTop, f_contextDepth, nI cc, f_compiledCount, f_cellCount, f_closureCount, f_top, f_running, f_atNode, f_atEnv, f_valueTag, f_valueData, f_valueCoercion, f_typeOfResult, f_fuelSpent, f_blamedLabel, a_kinds, a_operands, a_hasParent, a_inProgram, a_nodeType, a_siteTargets, a_siteCoercions, a_walkNode, a_walkStep, a_contextType, a_labels, a_draft, a_cellNext, a_cellTag, a_cellData, a_cellCoercion, a_closureNode, a_closureEnv, a_frameNode, a_frameStage, a_frameEnv, a_framePending, a_frameData, a_frameCoercion) (nI n) := by
  subst e3
  unfold gc_je at He Hok
  rw [if_neg (by decide), if_neg (by decide), if_pos rfl] at He Hok
  unfold wpX_judgeApplication
  refine gx_ct (i := 0) hn hK (by decide) (by decide) hch ?_
  refine gx_ct (i := 1) hn hK (by decide) (by decide) hch ?_
  have A : ¬ T 0 = 1 → ¬ T 0 = 2 → wX_judgeApplication_35 post (nI n) (T 0) (T 1) (gc_fn (T 0)) f_maxNodes f_maxFuel f_nodeCount f_outcome f_programRoot f_faultKind f_faultNode f_walkTop f_contextDepth (nI cc) f_compiledCount f_cellCount f_closureCount f_top f_running f_atNode f_atEnv f_valueTag f_valueData f_valueCoercion f_typeOfResult f_fuelSpent f_blamedLabel a_kinds a_operands a_hasParent a_inProgram a_nodeType a_siteTargets a_siteCoercions a_walkNode a_walkStep a_contextType a_labels a_draft a_cellNext a_cellTag a_cellData a_cellCoercion a_closureNode a_closureEnv a_frameNode a_frameStage a_frameEnv a_framePending a_frameData a_frameCoercion := by
    intro z1 z2
    rw [if_neg z1, if_neg z2] at He Hok
    unfold wX_judgeApplication_35
    refine gx_dom ?_
    rw [gc_tdfn]
    refine gx_cons (fun z => br_f (by decide) ?_) (fun z => br_t rfl ?_)
    · rw [if_pos z] at Hok
      refine gx_cod ⟨gc_in hn (by decide), nm_r (e' := upd a_nodeType n (gc_tc (T 0))) (by rw [gc_cl (by omega), gc_tcfn]) ?_⟩
      refine gx_two hcc hc1 hz hn (fun cc' lb' dr' st' sc' x1 x2 x3 => Hok rfl cc' lb' dr' st' sc' (gc_Ext_le x1 (by decide)) (fun j hj => x2 j (by omega)) (fun k k1 k2 => ?_))
      have k2' : k ≤ 2 := k2
      have := x3 k k1 k2'
      have e : gc_jg 4 (a_operands (3 * n)) (a_operands (3 * n + 1)) T k = if k = 1 then gc_fn (T 0) else gc_td (T 0) := by
        unfold gc_jg
        rw [if_neg (by decide), if_pos rfl]
        by_cases ek : k = 1
        · rw [if_pos ek, if_neg (by omega)]
        · rw [if_neg ek, if_pos (by omega)]
      rw [e]
      exact this
    · rw [if_neg (by rw [z]; decide)] at He
      exact He 3 rfl (by decide) (by decide)
  refine br_c (fun z => ?_) (fun z1 => br_c (fun z => ?_) (fun z2 => br_c (fun z => ?_) (fun z => ?_)))
  · rw [if_pos z] at He; exact He 2 rfl (by decide) (by decide)
  · rw [if_neg z1, if_pos z] at He; exact He 2 rfl (by decide) (by decide)
  · have := A z1 z2
    unfold gc_fn at this
    rw [if_pos z] at this
    exact this
  · have := A z1 z2
    unfold gc_fn at this
    rw [if_neg z] at this
    exact this
theorem gx_judge5 {post : Int32 → SX → Prop} {lk : Option Int32} {cc n κ : Nat} {T : Nat → Int32} (hcc : cc + 3 ≤ 800) (hc1 : 1 ≤ cc) (hz : ∀ k, k < 9 → a_labels k = 0) (hn : n < 48) (hch : ∀ w, w < gc_nc κ → ∃ c, c < 48 ∧ a_operands (3 * n + gc_pc κ + w) = nI c ∧ a_nodeType c = T w) (hK : a_kinds n = nI κ) (e3 : κ = 5) (He : ∀ e : Nat, gc_je κ (a_operands (3 * n)) (a_operands (3 * n + 1)) T lk = e → e ≠ 0 → e ≤ 8 → post (nI e) (f_maxNodes, f_maxFuel, f_nodeCount, f_outcome, f_programRoot, f_faultKind, f_faultNode, f_walkTop, f_contextDepth, nI cc, f_compiledCount, f_cellCount, f_closureCount, f_top, f_running, f_atNode, f_atEnv, f_valueTag, f_valueData, f_valueCoercion, f_typeOfResult, f_fuelSpent, f_blamedLabel, a_kinds, a_operands, a_hasParent, a_inProgram, a_nodeType, a_siteTargets, a_siteCoercions, a_walkNode, a_walkStep, a_contextType, a_labels, a_draft, a_cellNext, a_cellTag, a_cellData, a_cellCoercion, a_closureNode, a_closureEnv, a_frameNode, a_frameStage, a_frameEnv, a_framePending, a_frameData, a_frameCoercion)) (Hok : gc_je κ (a_operands (3 * n)) (a_operands (3 * n + 1)) T lk = 0 → ∀ (cc' : Nat) (lb' dr' st' sc' : Nat → Int32), gc_Ext 3 a_labels cc lb' cc' → (∀ j, (j < 3 * n ∨ 3 * n + 3 ≤ j) → st' j = a_siteTargets j ∧ sc' j = a_siteCoercions j) → (∀ k, 1 ≤ k → k ≤ gc_ns κ → st' (3 * n + (k - 1)) = gc_jg κ (a_operands (3 * n)) (a_operands (3 * n + 1)) T k ∧ ∃ id, sc' (3 * n + (k - 1)) = nI id ∧ id < cc' ∧ ∀ j, j < 9 → gc_row lb' id j = gc_cv (T (k - 1)) (gc_jg κ (a_operands (3 * n)) (a_operands (3 * n + 1)) T k) (nI (4 * n + k)) j) → post 0 (f_maxNodes, f_maxFuel, f_nodeCount, f_outcome, f_programRoot, f_faultKind, f_faultNode, f_walkTop, f_contextDepth, nI cc', f_compiledCount, f_cellCount, f_closureCount, f_top, f_running, f_atNode, f_atEnv, f_valueTag, f_valueData, f_valueCoercion, f_typeOfResult, f_fuelSpent, f_blamedLabel, a_kinds, a_operands, a_hasParent, a_inProgram, upd a_nodeType n (gc_jt κ (a_operands (3 * n)) (a_operands (3 * n + 1)) T lk), st', sc', a_walkNode, a_walkStep, a_contextType, lb', dr', a_cellNext, a_cellTag, a_cellData, a_cellCoercion, a_closureNode, a_closureEnv, a_frameNode, a_frameStage, a_frameEnv, a_framePending, a_frameData, a_frameCoercion)) : wpX_judgePrimitive post (f_maxNodes, f_maxFuel, f_nodeCount, f_outcome, f_programRoot, f_faultKind, f_faultNode, f_walkTop, f_contextDepth, nI cc, f_compiledCount, f_cellCount, f_closureCount, f_top, f_running, f_atNode, f_atEnv, f_valueTag, f_valueData, f_valueCoercion, f_typeOfResult, f_fuelSpent, f_blamedLabel, a_kinds, a_operands, a_hasParent, a_inProgram, a_nodeType, a_siteTargets, a_siteCoercions, a_walkNode, a_walkStep, a_contextType, a_labels, a_draft, a_cellNext, a_cellTag, a_cellData, a_cellCoercion, a_closureNode, a_closureEnv, a_frameNode, a_frameStage, a_frameEnv, a_framePending, a_frameData, a_frameCoercion) (nI n) := by
  subst e3
  unfold gc_je at He Hok
  rw [if_neg (by decide), if_neg (by decide), if_neg (by decide), if_pos rfl] at He Hok
  unfold wpX_judgePrimitive
  refine gx_ct (i := 0) hn hK (by decide) (by decide) hch ?_
  refine gx_ct (i := 1) hn hK (by decide) (by decide) hch ?_
  refine gx_cons (fun z => br_f (by decide) ?_) (fun z => br_t rfl ?_)
  · rw [if_pos z] at He Hok
    refine gx_cons (fun z => br_f (by decide) ?_) (fun z => br_t rfl ?_)
    · rw [if_pos z] at Hok
      have A : ∀ τ : Int32, τ = gc_jt 5 (a_operands (3 * n)) (a_operands (3 * n + 1)) T lk → wX_judgePrimitive_56 post (nI n) (T 0) (T 1) τ (nI n) f_maxNodes f_maxFuel f_nodeCount f_outcome f_programRoot f_faultKind f_faultNode f_walkTop f_contextDepth (nI cc) f_compiledCount f_cellCount f_closureCount f_top f_running f_atNode f_atEnv f_valueTag f_valueData f_valueCoercion f_typeOfResult f_fuelSpent f_blamedLabel a_kinds a_operands a_hasParent a_inProgram a_nodeType a_siteTargets a_siteCoercions a_walkNode a_walkStep a_contextType a_labels a_draft a_cellNext a_cellTag a_cellData a_cellCoercion a_closureNode a_closureEnv a_frameNode a_frameStage a_frameEnv a_framePending a_frameData a_frameCoercion := by
        intro τ eτ
        refine ⟨gc_in hn (by decide), nm_r (e' := upd a_nodeType n τ) (by rw [gc_cl (by omega)]) ?_⟩
        subst eτ
        refine gx_two hcc hc1 hz hn (fun cc' lb' dr' st' sc' x1 x2 x3 => Hok rfl cc' lb' dr' st' sc' (gc_Ext_le x1 (by decide)) (fun j hj => x2 j (by omega)) (fun k k1 k2 => ?_))
        have k2' : k ≤ 2 := k2
        have := x3 k k1 k2'
        have e : (if k = 1 then (1 : Int32) else 1) = gc_jg 5 (a_operands (3 * n)) (a_operands (3 * n + 1)) T k := by
          by_cases ek : k = 1
          · rw [if_pos ek]; rfl
          · rw [if_neg ek]; rfl
        rw [e] at this
        exact this
      have e0 : a_operands (3 * nI n).toNatClampNeg = a_operands (3 * n) := by rw [gc_3, gc_cl (by omega)]
      refine ⟨by rw [gc_3]; exact gc_in (by omega) (by decide), ?_⟩
      rw [e0]
      refine br_c (fun z => A 1 ?_) (fun z => A 2 ?_)
      · unfold gc_jt; rw [if_neg (by decide), if_neg (by decide), if_neg (by decide), if_neg (by decide), if_neg (by decide), if_pos rfl, if_pos z]
      · unfold gc_jt; rw [if_neg (by decide), if_neg (by decide), if_neg (by decide), if_neg (by decide), if_neg (by decide), if_pos rfl, if_neg z]
    · rw [if_neg (by rw [z]; decide)] at He
      exact He 4 rfl (by decide) (by decide)
  · rw [if_neg (by rw [z]; decide)] at He
    exact He 4 rfl (by decide) (by decide)
theorem gx_judge6 {post : Int32 → SX → Prop} {lk : Option Int32} {cc n κ : Nat} {T : Nat → Int32} (hcc : cc + 3 ≤ 800) (hc1 : 1 ≤ cc) (hz : ∀ k, k < 9 → a_labels k = 0) (hn : n < 48) (hch : ∀ w, w < gc_nc κ → ∃ c, c < 48 ∧ a_operands (3 * n + gc_pc κ + w) = nI c ∧ a_nodeType c = T w) (hK : a_kinds n = nI κ) (e3 : κ = 6) (He : ∀ e : Nat, gc_je κ (a_operands (3 * n)) (a_operands (3 * n + 1)) T lk = e → e ≠ 0 → e ≤ 8 → post (nI e) (f_maxNodes, f_maxFuel, f_nodeCount, f_outcome, f_programRoot, f_faultKind, f_faultNode, f_walkTop, f_contextDepth, nI cc, f_compiledCount, f_cellCount, f_closureCount, f_top, f_running, f_atNode, f_atEnv, f_valueTag, f_valueData, f_valueCoercion, f_typeOfResult, f_fuelSpent, f_blamedLabel, a_kinds, a_operands, a_hasParent, a_inProgram, a_nodeType, a_siteTargets, a_siteCoercions, a_walkNode, a_walkStep, a_contextType, a_labels, a_draft, a_cellNext, a_cellTag, a_cellData, a_cellCoercion, a_closureNode, a_closureEnv, a_frameNode, a_frameStage, a_frameEnv, a_framePending, a_frameData, a_frameCoercion)) (Hok : gc_je κ (a_operands (3 * n)) (a_operands (3 * n + 1)) T lk = 0 → ∀ (cc' : Nat) (lb' dr' st' sc' : Nat → Int32), gc_Ext 3 a_labels cc lb' cc' → (∀ j, (j < 3 * n ∨ 3 * n + 3 ≤ j) → st' j = a_siteTargets j ∧ sc' j = a_siteCoercions j) → (∀ k, 1 ≤ k → k ≤ gc_ns κ → st' (3 * n + (k - 1)) = gc_jg κ (a_operands (3 * n)) (a_operands (3 * n + 1)) T k ∧ ∃ id, sc' (3 * n + (k - 1)) = nI id ∧ id < cc' ∧ ∀ j, j < 9 → gc_row lb' id j = gc_cv (T (k - 1)) (gc_jg κ (a_operands (3 * n)) (a_operands (3 * n + 1)) T k) (nI (4 * n + k)) j) → post 0 (f_maxNodes, f_maxFuel, f_nodeCount, f_outcome, f_programRoot, f_faultKind, f_faultNode, f_walkTop, f_contextDepth, nI cc', f_compiledCount, f_cellCount, f_closureCount, f_top, f_running, f_atNode, f_atEnv, f_valueTag, f_valueData, f_valueCoercion, f_typeOfResult, f_fuelSpent, f_blamedLabel, a_kinds, a_operands, a_hasParent, a_inProgram, upd a_nodeType n (gc_jt κ (a_operands (3 * n)) (a_operands (3 * n + 1)) T lk), st', sc', a_walkNode, a_walkStep, a_contextType, lb', dr', a_cellNext, a_cellTag, a_cellData, a_cellCoercion, a_closureNode, a_closureEnv, a_frameNode, a_frameStage, a_frameEnv, a_framePending, a_frameData, a_frameCoercion)) : wpX_judgeConditional post (f_maxNodes, f_maxFuel, f_nodeCount, f_outcome, f_programRoot, f_faultKind, f_faultNode, f_walkTop, f_contextDepth, nI cc, f_compiledCount, f_cellCount, f_closureCount, f_top, f_running, f_atNode, f_atEnv, f_valueTag, f_valueData, f_valueCoercion, f_typeOfResult, f_fuelSpent, f_blamedLabel, a_kinds, a_operands, a_hasParent, a_inProgram, a_nodeType, a_siteTargets, a_siteCoercions, a_walkNode, a_walkStep, a_contextType, a_labels, a_draft, a_cellNext, a_cellTag, a_cellData, a_cellCoercion, a_closureNode, a_closureEnv, a_frameNode, a_frameStage, a_frameEnv, a_framePending, a_frameData, a_frameCoercion) (nI n) := by
  subst e3
  unfold gc_je at He Hok
  rw [if_neg (by decide), if_neg (by decide), if_neg (by decide), if_neg (by decide), if_pos rfl] at He Hok
  unfold wpX_judgeConditional
  refine gx_ct (i := 0) hn hK (by decide) (by decide) hch ?_
  refine gx_ct (i := 1) hn hK (by decide) (by decide) hch ?_
  refine gx_ct (i := 2) hn hK (by decide) (by decide) hch ?_
  refine gx_cons (fun z => br_f (by decide) ?_) (fun z => br_t rfl ?_)
  · rw [if_pos z] at He Hok
    refine gx_cons (fun z => br_f (by decide) ?_) (fun z => br_t rfl ?_)
    · rw [if_pos z] at Hok
      have A : ∀ τ : Int32, τ = gc_jt 6 (a_operands (3 * n)) (a_operands (3 * n + 1)) T lk → wX_judgeConditional_75 post (nI n) (T 0) (T 1) (T 2) τ f_maxNodes f_maxFuel f_nodeCount f_outcome f_programRoot f_faultKind f_faultNode f_walkTop f_contextDepth (nI cc) f_compiledCount f_cellCount f_closureCount f_top f_running f_atNode f_atEnv f_valueTag f_valueData f_valueCoercion f_typeOfResult f_fuelSpent f_blamedLabel a_kinds a_operands a_hasParent a_inProgram a_nodeType a_siteTargets a_siteCoercions a_walkNode a_walkStep a_contextType a_labels a_draft a_cellNext a_cellTag a_cellData a_cellCoercion a_closureNode a_closureEnv a_frameNode a_frameStage a_frameEnv a_framePending a_frameData a_frameCoercion := by
        intro τ eτ
        refine ⟨gc_in hn (by decide), nm_r (e' := upd a_nodeType n τ) (by rw [gc_cl (by omega)]) ?_⟩
        refine gx_two (T := T) (t1 := 2) (t2 := τ) hcc hc1 hz hn (fun cc' lb' dr' st' sc' x1 x2 x3 => ?_)
        have y1 := x1.1
        have y2 := x1.2.1
        refine gx_setSite (k := 3) (by omega) (by omega) (gc_Ext_z x1 hc1 hz) hn (by decide) (fun id2 lb2 cc2 dr2 w1 w2 w3 => ?_)
        subst eτ
        refine Hok rfl cc2 lb2 dr2 _ _ (gc_Ext_tr x1 w1) (fun j hj => ?_) (fun k k1 k2 => ?_)
        · rw [gc_len, if_neg (by omega), gc_len, if_neg (by omega)]; exact x2 j (by omega)
        · have k2' : k ≤ 3 := k2
          have e : gc_jg 6 (a_operands (3 * n)) (a_operands (3 * n + 1)) T k = if k = 1 then 2 else gc_jt 6 (a_operands (3 * n)) (a_operands (3 * n + 1)) T lk := rfl
          rw [e]
          by_cases ek : k = 3
          · subst ek
            exact ⟨pk_us, id2, pk_us, w2, w3⟩
          · obtain ⟨h1, id, h2, h3, h4⟩ := x3 k k1 (by omega)
            exact ⟨(pk_un (by omega)).trans h1, id, (pk_un (by omega)).trans h2, by have := w1.1; omega, fun j hj => (gc_Ext_row w1 h3 hj).trans (h4 j hj)⟩
      refine br_c (fun z => A _ ?_) (fun z => br_c (fun z2 => A _ ?_) (fun z2 => br_c (fun z3 => A _ ?_) (fun z3 => A _ ?_)))
      · exact (if_pos z).symm
      · exact ((if_neg z).trans (if_pos z2)).symm
      · exact ((if_neg z).trans ((if_neg z2).trans (if_pos z3))).symm
      · exact ((if_neg z).trans ((if_neg z2).trans (if_neg z3))).symm
    · rw [if_neg (by rw [z]; decide)] at He
      exact He 6 rfl (by decide) (by decide)
  · rw [if_neg (by rw [z]; decide)] at He
    exact He 5 rfl (by decide) (by decide)
theorem gx_judge {post : Int32 → SX → Prop} {lk : Option Int32} {L i : Nat} {cc n κ : Nat} {T : Nat → Int32} (hcc : cc + 3 ≤ 800) (hc1 : 1 ≤ cc) (hz : ∀ k, k < 9 → a_labels k = 0) (hn : n < 48) (hch : ∀ w, w < gc_nc κ → ∃ c, c < 48 ∧ a_operands (3 * n + gc_pc κ + w) = nI c ∧ a_nodeType c = T w) (hK : a_kinds n = nI κ) (hκ : κ ≤ 8) (hv : κ = 2 → i < 16 ∧ L < 100 ∧ a_operands (3 * n) = nI i ∧ ((lk = none ∧ L ≤ i) ∨ (lk = some (a_contextType (L - 1 - i)) ∧ i < L))) (hL : f_contextDepth = nI L) (He : ∀ e : Nat, gc_je κ (a_operands (3 * n)) (a_operands (3 * n + 1)) T lk = e → e ≠ 0 → e ≤ 8 → post (nI e) (f_maxNodes, f_maxFuel, f_nodeCount, f_outcome, f_programRoot, f_faultKind, f_faultNode, f_walkTop, f_contextDepth, nI cc, f_compiledCount, f_cellCount, f_closureCount, f_top, f_running, f_atNode, f_atEnv, f_valueTag, f_valueData, f_valueCoercion, f_typeOfResult, f_fuelSpent, f_blamedLabel, a_kinds, a_operands, a_hasParent, a_inProgram, a_nodeType, a_siteTargets, a_siteCoercions, a_walkNode, a_walkStep, a_contextType, a_labels, a_draft, a_cellNext, a_cellTag, a_cellData, a_cellCoercion, a_closureNode, a_closureEnv, a_frameNode, a_frameStage, a_frameEnv, a_framePending, a_frameData, a_frameCoercion)) (Hok : gc_je κ (a_operands (3 * n)) (a_operands (3 * n + 1)) T lk = 0 → ∀ (cc' : Nat) (lb' dr' st' sc' : Nat → Int32), gc_Ext 3 a_labels cc lb' cc' → (∀ j, (j < 3 * n ∨ 3 * n + 3 ≤ j) → st' j = a_siteTargets j ∧ sc' j = a_siteCoercions j) → (∀ k, 1 ≤ k → k ≤ gc_ns κ → st' (3 * n + (k - 1)) = gc_jg κ (a_operands (3 * n)) (a_operands (3 * n + 1)) T k ∧ ∃ id, sc' (3 * n + (k - 1)) = nI id ∧ id < cc' ∧ ∀ j, j < 9 → gc_row lb' id j = gc_cv (T (k - 1)) (gc_jg κ (a_operands (3 * n)) (a_operands (3 * n + 1)) T k) (nI (4 * n + k)) j) → post 0 (f_maxNodes, f_maxFuel, f_nodeCount, f_outcome, f_programRoot, f_faultKind, f_faultNode, f_walkTop, f_contextDepth, nI cc', f_compiledCount, f_cellCount, f_closureCount, f_top, f_running, f_atNode, f_atEnv, f_valueTag, f_valueData, f_valueCoercion, f_typeOfResult, f_fuelSpent, f_blamedLabel, a_kinds, a_operands, a_hasParent, a_inProgram, upd a_nodeType n (gc_jt κ (a_operands (3 * n)) (a_operands (3 * n + 1)) T lk), st', sc', a_walkNode, a_walkStep, a_contextType, lb', dr', a_cellNext, a_cellTag, a_cellData, a_cellCoercion, a_closureNode, a_closureEnv, a_frameNode, a_frameStage, a_frameEnv, a_framePending, a_frameData, a_frameCoercion)) : wpX_judge post (f_maxNodes, f_maxFuel, f_nodeCount, f_outcome, f_programRoot, f_faultKind, f_faultNode, f_walkTop, f_contextDepth, nI cc, f_compiledCount, f_cellCount, f_closureCount, f_top, f_running, f_atNode, f_atEnv, f_valueTag, f_valueData, f_valueCoercion, f_typeOfResult, f_fuelSpent, f_blamedLabel, a_kinds, a_operands, a_hasParent, a_inProgram, a_nodeType, a_siteTargets, a_siteCoercions, a_walkNode, a_walkStep, a_contextType, a_labels, a_draft, a_cellNext, a_cellTag, a_cellData, a_cellCoercion, a_closureNode, a_closureEnv, a_frameNode, a_frameStage, a_frameEnv, a_framePending, a_frameData, a_frameCoercion) (nI n) := by
  have hi : vp_in (nI n) 48 := gc_in hn (by decide)
  have N0 : gc_ns κ = 0 → gc_je κ (a_operands (3 * n)) (a_operands (3 * n + 1)) T lk = 0 → ∀ τ, τ = gc_jt κ (a_operands (3 * n)) (a_operands (3 * n + 1)) T lk → post 0 (f_maxNodes, f_maxFuel, f_nodeCount, f_outcome, f_programRoot, f_faultKind, f_faultNode, f_walkTop, f_contextDepth, nI cc, f_compiledCount, f_cellCount, f_closureCount, f_top, f_running, f_atNode, f_atEnv, f_valueTag, f_valueData, f_valueCoercion, f_typeOfResult, f_fuelSpent, f_blamedLabel, a_kinds, a_operands, a_hasParent, a_inProgram, upd a_nodeType n τ, a_siteTargets, a_siteCoercions, a_walkNode, a_walkStep, a_contextType, a_labels, a_draft, a_cellNext, a_cellTag, a_cellData, a_cellCoercion, a_closureNode, a_closureEnv, a_frameNode, a_frameStage, a_frameEnv, a_framePending, a_frameData, a_frameCoercion) := by
    intro h0 hj τ e
    subst e
    exact Hok hj cc a_labels a_draft a_siteTargets a_siteCoercions (gc_Ext_rfl _ _ _) (fun _ _ => ⟨rfl, rfl⟩) (fun k k1 k2 => by omega)
  have en : ∀ τ, upd a_nodeType (nI n).toNatClampNeg τ = upd a_nodeType n τ := fun τ => by rw [gc_cl (by omega)]
  refine ⟨hi, nm_r (e' := nI κ) (by rw [gc_cl (by omega)]; exact hK) ?_⟩
  refine br_f (gc_nneg κ (by omega)) (pk_lt 7 κ (fun h => ?_) (fun h => pk_eq κ 0 (fun e => ⟨hi, nm_r (en 1) ?_⟩) (fun e0 => pk_eq κ 1 (fun e => ⟨hi, nm_r (en 2) ?_⟩) (fun e1 => pk_eq κ 2 (fun e => ?_) (fun e2 => pk_eq κ 3 (fun e => ?_) (fun e3 => pk_eq κ 4 (fun e => ?_) (fun e4 => pk_eq κ 5 (fun e => ?_) (fun e5 => pk_eq κ 6 (fun e => ?_) (fun e6 => pk_eq κ 7 (fun e => ?_) (fun e7 => trivial))))))))))
  · exact gx_judge8 hcc hc1 hz hn hch hK (by omega) He Hok
  · subst e; exact N0 rfl rfl _ rfl
  · subst e; exact N0 rfl rfl _ rfl
  · subst e hL
    obtain ⟨v1, v2, v3, v4⟩ := hv rfl
    unfold gc_je at He
    rw [if_pos rfl] at He
    refine ⟨by rw [gc_3]; exact gc_in (by omega) (by decide), nm_r (e' := nI i) (by rw [gc_3, gc_cl (by omega)]; exact v3) ?_⟩
    refine pk_lt i L (fun h => ?_) (fun h => ?_)
    · rcases v4 with ⟨_, h'⟩ | ⟨h1, _⟩
      · omega
      · have ei : nI L - 1 - nI i = nI (L - 1 - i) := by rw [gc_s1 (by omega), pk_sub (by omega)]
        have N1 := N0 rfl (by unfold gc_je; rw [if_pos rfl, h1]; rfl) (a_contextType (L - 1 - i)) (by unfold gc_jt; rw [if_neg (by decide), if_neg (by decide), if_pos rfl, h1]; rfl)
        refine ⟨by rw [ei]; exact gc_in (by omega) (by decide), hi, nm_r (e' := upd a_nodeType n (a_contextType (L - 1 - i))) (by rw [ei, gc_cl (by omega), gc_cl (by omega)]) N1⟩
    · rcases v4 with ⟨h1, _⟩ | ⟨_, h'⟩
      · rw [h1] at He
        exact He 1 rfl (by decide) (by decide)
      · omega
  · exact gx_judge3 hcc hc1 hz hn hch hK e He Hok
  · exact gx_judge4 hcc hc1 hz hn hch hK e He Hok
  · exact gx_judge5 hcc hc1 hz hn hch hK e He Hok
  · exact gx_judge6 hcc hc1 hz hn hch hK e He Hok
  · subst e
    refine gx_ct (i := 1) hn hK (by decide) (by decide) hch ⟨hi, nm_r (en _) ?_⟩
    exact N0 rfl rfl _ rfl
end
end
section
def gk_f (K O : Nat → Int32) : Nat → Nat → Nat
  | 0 => fun n => n
  | f + 1 => fun n => if 0 < gc_nc (K n).toNatClampNeg then gk_f K O f (gr_ch O (K n).toNatClampNeg n 0) else n
def gk_fst (K O : Nat → Int32) (n : Nat) : Nat := gk_f K O (n + 1) n
-- the nodes form trees
def gk_T (K O : Nat → Int32) (cnt : Nat) : Prop := ∀ n, n < cnt → ∃ κ, K n = nI κ ∧ κ ≤ 8 ∧ ∀ w, w < gc_nc κ → O (3 * n + gc_pc κ + w) = nI (gr_ch O κ n w) ∧ gr_ch O κ n w < n
theorem gk_f_eq {K O : Nat → Int32} {cnt : Nat} (h : gk_T K O cnt) : ∀ b n, n < b → n < cnt → ∀ f f', n < f → n < f' → gk_f K O f n = gk_f K O f' n := by
  intro b
  induction b with
  | zero => intro n hn; omega
  | succ b ih =>
    intro n hn hc f f' h1 h2
    obtain ⟨f, rfl⟩ : ∃ q, f = q + 1 := ⟨f - 1, by omega⟩
    obtain ⟨f', rfl⟩ : ∃ q, f' = q + 1 := ⟨f' - 1, by omega⟩
    obtain ⟨κ, k1, k2, k3⟩ := h n hc
    have eκ : (K n).toNatClampNeg = κ := by rw [k1]; exact gc_cl (by omega)
    show (if 0 < gc_nc (K n).toNatClampNeg then gk_f K O f (gr_ch O (K n).toNatClampNeg n 0) else n) = (if 0 < gc_nc (K n).toNatClampNeg then gk_f K O f' (gr_ch O (K n).toNatClampNeg n 0) else n)
    rw [eκ]
    by_cases z : 0 < gc_nc κ
    · rw [if_pos z, if_pos z]
      have := (k3 0 z).2
      exact ih _ (by omega) (by omega) f f' (by omega) (by omega)
    · rw [if_neg z, if_neg z]
theorem gk_fst_eq {K O : Nat → Int32} {cnt n κ : Nat} (h : gk_T K O cnt) (hn : n < cnt) (hK : K n = nI κ) (hκ : κ ≤ 8) : gk_fst K O n = if 0 < gc_nc κ then gk_fst K O (gr_ch O κ n 0) else n := by
  obtain ⟨κ', k1, k2, k3⟩ := h n hn
  obtain rfl : κ' = κ := gc_inj (k1.symm.trans hK) (by omega) (by omega)
  have eκ : (K n).toNatClampNeg = κ' := by rw [k1]; exact gc_cl (by omega)
  show (if 0 < gc_nc (K n).toNatClampNeg then gk_f K O n (gr_ch O (K n).toNatClampNeg n 0) else n) = _
  rw [eκ]
  by_cases z : 0 < gc_nc κ'
  · rw [if_pos z, if_pos z]
    have := (k3 0 z).2
    exact gk_f_eq h n _ (by omega) (by omega) _ _ (by omega) (by omega)
  · rw [if_neg z, if_neg z]
section
variable {g_capacity g_fuel g_count g_state g_wrongKind g_wrongNode g_program g_used g_blamed g_resType g_vTag g_vVal g_vLay g_todo g_todoEnv g_closures g_bindings g_layers g_depth : Int32} {b_kinds b_ops b_parent b_types b_cNode b_cEnv b_bTag b_bVal b_bLay b_bNext b_lSource b_lTarget b_lLabel b_lInner b_frNode b_frEnv b_frPhase b_frVal b_frLay : Nat → Int32}
theorem gy_isNode {post : Int32 → Prop} {κ w : Nat} (hκ : κ ≤ 8) (hw : w ≤ 2) (h1 : gc_pc κ ≤ w → w < gc_pc κ + gc_nc κ → post 1) (h0 : ¬ (gc_pc κ ≤ w ∧ w < gc_pc κ + gc_nc κ) → post 0) : wpY_isNode post (g_capacity, g_fuel, g_count, g_state, g_wrongKind, g_wrongNode, g_program, g_used, g_blamed, g_resType, g_vTag, g_vVal, g_vLay, g_todo, g_todoEnv, g_closures, g_bindings, g_layers, g_depth, b_kinds, b_ops, b_parent, b_types, b_cNode, b_cEnv, b_bTag, b_bVal, b_bLay, b_bNext, b_lSource, b_lTarget, b_lLabel, b_lInner, b_frNode, b_frEnv, b_frPhase, b_frVal, b_frLay) (nI κ) (nI w) := by
  have T := gc_tab hκ
  have c27 : gc_pc κ = 0 → gc_nc κ = 2 → wY_isNode_27 post (nI w) g_capacity g_fuel g_count g_state g_wrongKind g_wrongNode g_program g_used g_blamed g_resType g_vTag g_vVal g_vLay g_todo g_todoEnv g_closures g_bindings g_layers g_depth b_kinds b_ops b_parent b_types b_cNode b_cEnv b_bTag b_bVal b_bLay b_bNext b_lSource b_lTarget b_lLabel b_lInner b_frNode b_frEnv b_frPhase b_frVal b_frLay := fun a b => pk_eq w 0 (fun e => h1 (by omega) (by omega)) (fun e => pk_eq w 1 (fun e => h1 (by omega) (by omega)) (fun e => h0 (by omega)))
  exact pk_eq κ 3 (fun e => pk_eq w 2 (fun e => h1 (by omega) (by omega)) (fun e => h0 (by omega))) (fun e3 => pk_eq κ 4 (fun e => c27 (by omega) (by omega)) (fun e4 => pk_eq κ 7 (fun e => c27 (by omega) (by omega)) (fun e7 => pk_eq κ 5 (fun e => pk_eq w 1 (fun e => h1 (by omega) (by omega)) (fun e => pk_eq w 2 (fun e => h1 (by omega) (by omega)) (fun e => h0 (by omega)))) (fun e5 => pk_eq κ 6 (fun e => h1 (by omega) (by omega)) (fun e6 => pk_eq κ 8 (fun e => pk_eq w 1 (fun e => h1 (by omega) (by omega)) (fun e => h0 (by omega))) (fun e8 => h0 (by omega)))))))
theorem gy_arrow {post : Int32 → Prop} {x y : Int32} (H : post (gc_ta x y)) : wpY_arrow post (g_capacity, g_fuel, g_count, g_state, g_wrongKind, g_wrongNode, g_program, g_used, g_blamed, g_resType, g_vTag, g_vVal, g_vLay, g_todo, g_todoEnv, g_closures, g_bindings, g_layers, g_depth, b_kinds, b_ops, b_parent, b_types, b_cNode, b_cEnv, b_bTag, b_bVal, b_bLay, b_bNext, b_lSource, b_lTarget, b_lLabel, b_lInner, b_frNode, b_frEnv, b_frPhase, b_frVal, b_frLay) x y := by
  unfold gc_ta at H
  refine br_c (fun z => br_c (fun z2 => ?_) (fun z2 => ?_)) (fun z => ?_)
  · rw [if_pos ⟨z, z2⟩] at H; exact H
  · rw [if_neg (fun h => z2 h.2)] at H; exact H
  · rw [if_neg (fun h => z h.1)] at H; exact H
theorem gy_cons {post : Int32 → Prop} {s t : Int32} (h1 : gc_co s t = true → post 1) (h0 : gc_co s t = false → post 0) : wpY_consistent post (g_capacity, g_fuel, g_count, g_state, g_wrongKind, g_wrongNode, g_program, g_used, g_blamed, g_resType, g_vTag, g_vVal, g_vLay, g_todo, g_todoEnv, g_closures, g_bindings, g_layers, g_depth, b_kinds, b_ops, b_parent, b_types, b_cNode, b_cEnv, b_bTag, b_bVal, b_bLay, b_bNext, b_lSource, b_lTarget, b_lLabel, b_lInner, b_frNode, b_frEnv, b_frPhase, b_frVal, b_frLay) s t := by
  have h0' : ¬ gc_co s t = true → post 0 := fun z => h0 ((Bool.not_eq_true _).mp z)
  rw [gc_co_iff] at h1 h0'
  refine br_c (fun a => h1 (Or.inl (Or.inl a))) (fun a => br_c (fun b => h1 (Or.inl (Or.inr (Or.inl b)))) (fun b => br_c (fun c => h1 (Or.inl (Or.inr (Or.inr c)))) (fun c => ?_)))
  have na : ¬ (s = t ∨ s = 0 ∨ t = 0) := by
    rintro (z | z | z)
    · exact a z
    · exact b z
    · exact c z
  refine br_c (fun d => h0' (fun z => z.elim na (fun q => q.1 d))) (fun d => br_c (fun e => ?_) (fun e => h0' (fun z => z.elim na (fun q => e (gc_le3.mpr q.2.1)))))
  refine gy_dom ?_
  refine gy_dom ?_
  refine gy_cod ?_
  refine gy_cod ?_
  have c69 : (gc_td s = gc_td t ∨ gc_td s = 0 ∨ gc_td t = 0) → wY_consistent_69 post (gc_tc s) (gc_tc t) g_capacity g_fuel g_count g_state g_wrongKind g_wrongNode g_program g_used g_blamed g_resType g_vTag g_vVal g_vLay g_todo g_todoEnv g_closures g_bindings g_layers g_depth b_kinds b_ops b_parent b_types b_cNode b_cEnv b_bTag b_bVal b_bLay b_bNext b_lSource b_lTarget b_lLabel b_lInner b_frNode b_frEnv b_frPhase b_frVal b_frLay := by
    intro hd
    refine br_c (fun q => h1 (Or.inr ⟨d, gc_le3.mp e, hd, Or.inl q⟩)) (fun q1 => br_c (fun q => h1 (Or.inr ⟨d, gc_le3.mp e, hd, Or.inr (Or.inl q)⟩)) (fun q2 => br_c (fun q => h1 (Or.inr ⟨d, gc_le3.mp e, hd, Or.inr (Or.inr q)⟩)) (fun q3 => h0' (fun z => z.elim na (fun q => ?_)))))
    rcases q.2.2.2 with z | z | z
    · exact q1 z
    · exact q2 z
    · exact q3 z
  refine br_c (fun q => c69 (Or.inl q)) (fun q1 => br_c (fun q => c69 (Or.inr (Or.inl q))) (fun q2 => br_c (fun q => c69 (Or.inr (Or.inr q))) (fun q3 => h0' (fun z => z.elim na (fun q => ?_)))))
  rcases q.2.2.1 with z | z | z
  · exact q1 z
  · exact q2 z
  · exact q3 z
theorem gy_first_l {post : Int32 → Prop} {cnt : Nat} (hT : gk_T b_kinds b_ops cnt) (hc : cnt ≤ 48) : ∀ b n i f, n < b → n < cnt → i + n ≤ 47 → n < f → post (nI (gk_fst b_kinds b_ops n)) → wY_first_4 post g_capacity g_fuel g_count g_state g_wrongKind g_wrongNode g_program g_used g_blamed g_resType g_vTag g_vVal g_vLay g_todo g_todoEnv g_closures g_bindings g_layers g_depth b_kinds b_ops b_parent b_types b_cNode b_cEnv b_bTag b_bVal b_bLay b_bNext b_lSource b_lTarget b_lLabel b_lInner b_frNode b_frEnv b_frPhase b_frVal b_frLay f (nI n) (nI i) := by
  intro b
  induction b with
  | zero => intro n i f hn; omega
  | succ b ih =>
    intro n i f hb hn hi hf H
    obtain ⟨f, rfl⟩ : ∃ q, f = q + 1 := ⟨f - 1, by omega⟩
    obtain ⟨κ, k1, k2, k3⟩ := hT n hn
    have T := gc_tab k2
    rw [gk_fst_eq hT hn k1 k2] at H
    have e2 : 3 * nI n + 2 = nI (3 * n + 2) := by rw [gc_3, gc_p2]
    have e1 : 3 * nI n + 1 = nI (3 * n + 1) := by rw [gc_3, nI_1]
    have D : ∀ (x : Int32) (j : Nat), x = nI (3 * n + j) → j = gc_pc κ → 0 < gc_nc κ → vp_in x 144 ∧ (∀ y, y = b_ops x.toNatClampNeg → ∀ z, z = nI i + 1 → wY_first_4 post g_capacity g_fuel g_count g_state g_wrongKind g_wrongNode g_program g_used g_blamed g_resType g_vTag g_vVal g_vLay g_todo g_todoEnv g_closures g_bindings g_layers g_depth b_kinds b_ops b_parent b_types b_cNode b_cEnv b_bTag b_bVal b_bLay b_bNext b_lSource b_lTarget b_lLabel b_lInner b_frNode b_frEnv b_frPhase b_frVal b_frLay f y z) := by
      intro x j ex ej hp
      rw [if_pos hp] at H
      obtain ⟨c1, c2⟩ := k3 0 hp
      subst ex ej
      refine ⟨gc_in (by omega) (by decide), nm_r (e' := nI (gr_ch b_ops κ n 0)) (by rw [gc_cl (by omega)]; exact c1) (nm_r (nI_1 i) (ih _ (i + 1) f (by omega) (by omega) (by omega) (by omega) H))⟩
    have E : ¬ 0 < gc_nc κ → post (nI n) := fun hp => by rw [if_neg hp] at H; exact H
    refine pk_le 48 i (fun h => by omega) (fun _ => ⟨gc_in (by omega) (by decide), nm_r (e' := nI κ) (by rw [gc_cl (by omega)]; exact k1) ?_⟩)
    refine gy_isNode (w := 0) k2 (by decide) (fun a b => br_f (by decide) (D _ 0 (gc_3 n) (by omega) (by omega))) (fun a => br_t rfl ?_)
    refine gy_isNode (w := 1) k2 (by decide) (fun a b => br_f (by decide) (D _ 1 e1 (by omega) (by omega))) (fun a => br_t rfl ?_)
    refine gy_isNode (w := 2) k2 (by decide) (fun a b => br_f (by decide) (D _ 2 e2 (by omega) (by omega))) (fun a => br_t rfl (E (by omega)))
theorem gy_first {post : Int32 → Prop} {cnt n : Nat} (hT : gk_T b_kinds b_ops cnt) (hc : cnt ≤ 48) (hn : n < cnt) (H : post (nI (gk_fst b_kinds b_ops n))) : wpY_first post (g_capacity, g_fuel, g_count, g_state, g_wrongKind, g_wrongNode, g_program, g_used, g_blamed, g_resType, g_vTag, g_vVal, g_vLay, g_todo, g_todoEnv, g_closures, g_bindings, g_layers, g_depth, b_kinds, b_ops, b_parent, b_types, b_cNode, b_cEnv, b_bTag, b_bVal, b_bLay, b_bNext, b_lSource, b_lTarget, b_lLabel, b_lInner, b_frNode, b_frEnv, b_frPhase, b_frVal, b_frLay) (nI n) :=
  ⟨n + 1, gy_first_l hT hc (n + 1) n 0 (n + 1) (by omega) hn (by omega) (by omega) H⟩
theorem gy_next {post : Int32 → Prop} {cnt n p κ w : Nat} (hT : gk_T b_kinds b_ops cnt) (hc : cnt ≤ 48) (hn : n < 48) (hp : p < cnt) (hpar : b_parent n = nI p) (hK : b_kinds p = nI κ) (hκ : κ ≤ 8) (hw : w < gc_nc κ) (hO : b_ops (3 * p + gc_pc κ + w) = nI n)
    (hd : ∀ w', w' < gc_nc κ → w' ≠ w → ¬ b_ops (3 * p + gc_pc κ + w') = nI n)
    (H : post (nI (if w + 1 < gc_nc κ then gk_fst b_kinds b_ops (gr_ch b_ops κ p (w + 1)) else p))) : wpY_next post (g_capacity, g_fuel, g_count, g_state, g_wrongKind, g_wrongNode, g_program, g_used, g_blamed, g_resType, g_vTag, g_vVal, g_vLay, g_todo, g_todoEnv, g_closures, g_bindings, g_layers, g_depth, b_kinds, b_ops, b_parent, b_types, b_cNode, b_cEnv, b_bTag, b_bVal, b_bLay, b_bNext, b_lSource, b_lTarget, b_lLabel, b_lInner, b_frNode, b_frEnv, b_frPhase, b_frVal, b_frLay) (nI n) := by
  have T := gc_tab hκ
  obtain ⟨κ', k1, k2, k3⟩ := hT p hp
  obtain rfl : κ' = κ := gc_inj (k1.symm.trans hK) (by omega) (by omega)
  have L : ∀ m j, j + m = 2 → j ≤ gc_pc κ' + w + 1 → (w + 1 < gc_nc κ' → j ≤ gc_pc κ' + w) → ∀ f, m < f → wY_next_17 post (nI n) (nI p) (nI κ') g_capacity g_fuel g_count g_state g_wrongKind g_wrongNode g_program g_used g_blamed g_resType g_vTag g_vVal g_vLay g_todo g_todoEnv g_closures g_bindings g_layers g_depth b_kinds b_ops b_parent b_types b_cNode b_cEnv b_bTag b_bVal b_bLay b_bNext b_lSource b_lTarget b_lLabel b_lInner b_frNode b_frEnv b_frPhase b_frVal b_frLay f (nI j) := by
    intro m
    induction m with
    | zero =>
      intro j hj h1 h2 f hf
      obtain ⟨f, rfl⟩ : ∃ q, f = q + 1 := ⟨f - 1, by omega⟩
      refine pk_le 2 j (fun _ => ?_) (fun h => by omega)
      rw [if_neg (by omega)] at H
      exact H
    | succ m ih =>
      intro j hj h1 h2 f hf
      obtain ⟨f, rfl⟩ : ∃ q, f = q + 1 := ⟨f - 1, by omega⟩
      have ej : 3 * nI p + nI j = nI (3 * p + j) := by rw [gc_3, nI_add]
      have ej1 : 3 * nI p + nI j + 1 = nI (3 * p + j + 1) := by rw [ej, nI_1]
      refine pk_le 2 j (fun h => by omega) (fun _ => ?_)
      refine gy_isNode (w := j) k2 (by omega) (fun a b => br_f (by decide) ⟨by rw [ej]; exact gc_in (by omega) (by decide), ?_⟩) (fun a => br_t rfl (nm_r (nI_1 j) ?_))
      · rw [ej, gc_cl (by omega)]
        refine br_c (fun z => ?_) (fun z => nm_r (nI_1 j) ?_)
        · have hjw : j = gc_pc κ' + w := by
            refine Classical.byContradiction (fun hne => hd (j - gc_pc κ') (by omega) (by omega) ?_)
            rw [show 3 * p + gc_pc κ' + (j - gc_pc κ') = 3 * p + j by omega]
            exact z
          rw [nI_1 j]
          refine gy_isNode (w := j + 1) k2 (by omega) (fun a b => br_f (by decide) ⟨by rw [nI_1]; exact gc_in (by omega) (by decide), ?_⟩) (fun a => br_t rfl ?_)
          · rw [if_pos (by omega)] at H
            obtain ⟨c1, c2⟩ := k3 (w + 1) (by omega)
            have eo : b_ops (nI (3 * p + j) + 1).toNatClampNeg = nI (gr_ch b_ops κ' p (w + 1)) := by
              rw [nI_1, gc_cl (by omega), ← c1]
              exact congrArg b_ops (by omega)
            rw [eo]
            exact gy_first hT hc (by omega) H
          · exact nm_e (ih (j + 1) (by omega) (by omega) (by omega) f (by omega))
        · refine ih (j + 1) (by omega) ?_ ?_ f (by omega)
          · have : j ≠ gc_pc κ' + w := by
              intro e
              apply z
              rw [e, ← Nat.add_assoc]
              exact hO
            omega
          · intro _
            have : j ≠ gc_pc κ' + w := by
              intro e
              apply z
              rw [e, ← Nat.add_assoc]
              exact hO
            omega
      · exact ih (j + 1) (by omega) (by omega) (by omega) f (by omega)
  refine ⟨gc_in hn (by decide), nm_r (e' := nI p) (by rw [gc_cl (by omega)]; exact hpar) ⟨gc_in (by omega) (by decide), nm_r (e' := nI κ') (by rw [gc_cl (by omega)]; exact hK) ⟨3, ?_⟩⟩⟩
  exact L 2 0 rfl (by omega) (by omega) 3 (by decide)
end
end
section
theorem gc_m2 (n : Nat) : nI (n + 2) + (-2) = nI n := by
  rw [← gc_p2 n, Int32.add_assoc, show (2 : Int32) + (-2) = 0 by decide, Int32.add_zero]
def gk_V (K O ty par : Nat → Int32) (G : Nat → List Int32) (cnt root : Nat) (V : Nat → Bool) : Prop := ∀ x, V x = true → x < cnt ∧
  ((x = root ∧ G x = []) ∨ (x < root ∧ ∃ p κ w, V p = true ∧ x < p ∧ par x = nI p ∧ K p = nI κ ∧ κ ≤ 8 ∧ w < gc_nc κ ∧ O (3 * p + gc_pc κ + w) = nI x ∧ (κ = 7 → w = 0 → ¬ O (3 * p + 1) = nI x) ∧ G x = gr_ext O ty κ p w (G p)))
section
variable {g_capacity g_fuel g_count g_state g_wrongKind g_wrongNode g_program g_used g_blamed g_resType g_vTag g_vVal g_vLay g_todo g_todoEnv g_closures g_bindings g_layers g_depth : Int32} {b_kinds b_ops b_parent b_types b_cNode b_cEnv b_bTag b_bVal b_bLay b_bNext b_lSource b_lTarget b_lLabel b_lInner b_frNode b_frEnv b_frPhase b_frVal b_frLay : Nat → Int32}
theorem gy_varType_l {post : Int32 → Prop} {cnt root : Nat} {G : Nat → List Int32} {V : Nat → Bool} (hT : gk_T b_kinds b_ops cnt) (hc : cnt ≤ 48) (hr : root < cnt) (hV : gk_V b_kinds b_ops b_types b_parent G cnt root V) :
    ∀ b x left i f, x + b = 48 → V x = true → i ≤ x → left < 100 → b < f → post (((G x)[left]?).getD (-1)) → wY_varType_15 post (nI root) g_capacity g_fuel g_count g_state g_wrongKind g_wrongNode g_program g_used g_blamed g_resType g_vTag g_vVal g_vLay g_todo g_todoEnv g_closures g_bindings g_layers g_depth b_kinds b_ops b_parent b_types b_cNode b_cEnv b_bTag b_bVal b_bLay b_bNext b_lSource b_lTarget b_lLabel b_lInner b_frNode b_frEnv b_frPhase b_frVal b_frLay f (nI left) (nI x) (nI i) := by
  intro b
  induction b using Nat.strongRecOn with
  | _ b ih =>
    intro x left i f hb hx hi hl hf H
    obtain ⟨f, rfl⟩ : ∃ q, f = q + 1 := ⟨f - 1, by omega⟩
    obtain ⟨hxc, hcase⟩ := hV x hx
    refine pk_le 48 i (fun h => by omega) (fun _ => ?_)
    rcases hcase with ⟨e, eG⟩ | ⟨hlt, p, κ, w, v1, v2, v3, v4, v5, v6, v7, v8, v9⟩
    · subst e
      rw [eG] at H
      exact br_t rfl H
    · obtain ⟨hpc, _⟩ := hV p v1
      obtain ⟨κ', k1, k2, k3⟩ := hT p hpc
      obtain rfl : κ' = κ := gc_inj (k1.symm.trans v4) (by omega) (by omega)
      have hip : vp_in (nI p) 48 := gc_in (by omega) (by decide)
      have eK : b_kinds (nI p).toNatClampNeg = nI κ' := by rw [gc_cl (by omega)]; exact v4
      have e1 : 3 * nI p + 1 = nI (3 * p + 1) := by rw [gc_3, nI_1]
      have C : ∀ left', left' < 100 → ((G p)[left']?).getD (-1) = ((G x)[left]?).getD (-1) → wY_varType_15 post (nI root) g_capacity g_fuel g_count g_state g_wrongKind g_wrongNode g_program g_used g_blamed g_resType g_vTag g_vVal g_vLay g_todo g_todoEnv g_closures g_bindings g_layers g_depth b_kinds b_ops b_parent b_types b_cNode b_cEnv b_bTag b_bVal b_bLay b_bNext b_lSource b_lTarget b_lLabel b_lInner b_frNode b_frEnv b_frPhase b_frVal b_frLay f (nI left') (nI p) (nI (i + 1)) := by
        intro left' h1 h2
        refine ih (48 - p) (by omega) p left' (i + 1) f (by omega) v1 (by omega) h1 (by omega) ?_
        rw [h2]
        exact H
      refine pk_eq x root (fun h => by omega) (fun _ => ⟨gc_in (by omega) (by decide), nm_r (e' := nI p) (by rw [gc_cl (by omega)]; exact v3) ⟨hip, ?_⟩⟩)
      rw [eK]
      unfold gr_ext at v9
      refine pk_eq κ' 3 (fun e => ?_) (fun e3 => ⟨hip, pk_eq κ' 7 (fun e => ?_) (fun e7 => nm_r (nI_1 i) (C left hl ?_))⟩)
      · rw [if_pos e] at v9
        rw [v9] at H
        refine pk_eq left 0 (fun z => ⟨by rw [gc_3]; exact gc_in (by omega) (by decide), ?_⟩) (fun z => pk_eq left 1 (fun z2 => ⟨by rw [gc_3]; exact gc_in (by omega) (by decide), by rw [e1]; exact gc_in (by omega) (by decide), ?_⟩) (fun z2 => ?_))
        · subst z
          rw [gc_3, gc_cl (by omega)]
          exact H
        · subst z2
          rw [gc_3, gc_cl (by omega), nI_1, gc_cl (by omega)]
          exact gy_arrow H
        · obtain ⟨l2, rfl⟩ : ∃ q, left = q + 2 := ⟨left - 2, by omega⟩
          refine nm_r (gc_m2 l2) (nm_r (nI_1 i) (C l2 (by omega) ?_))
          rw [v9]
          rfl
      · rw [if_neg e3] at v9
        subst e
        refine ⟨by rw [e1]; exact gc_in (by omega) (by decide), ?_⟩
        rw [e1, gc_cl (by omega)]
        have hw2 : w < 2 := v6
        by_cases hw : w = 1
        · subst hw
          rw [if_pos ⟨rfl, rfl⟩] at v9
          refine br_t v7 (pk_eq left 0 (fun z => ⟨by rw [gc_3]; exact gc_in (by omega) (by decide), ?_, ?_⟩) (fun z => ?_))
          · have := k3 0 (by decide)
            rw [gc_3, gc_cl (by omega), show b_ops (3 * p) = nI (gr_ch b_ops 7 p 0) from this.1]
            exact gc_in (by omega) (by decide)
          · subst z
            rw [v9] at H
            rw [gc_3, gc_cl (by omega)]
            exact H
          · obtain ⟨l1, rfl⟩ : ∃ q, left = q + 1 := ⟨left - 1, by omega⟩
            refine nm_r (pk_m1 l1) (nm_r (nI_1 i) (C l1 (by omega) ?_))
            rw [v9]
            rfl
        · obtain rfl : w = 0 := by omega
          rw [if_neg (fun h => by omega)] at v9
          refine br_f (v8 rfl rfl) (nm_r (nI_1 i) (C left hl ?_))
          rw [v9]
      · rw [if_neg e3, if_neg (fun h => e7 h.1)] at v9
        rw [v9]
theorem gy_varType {post : Int32 → Prop} {cnt root n i : Nat} {G : Nat → List Int32} {V : Nat → Bool} (hT : gk_T b_kinds b_ops cnt) (hc : cnt ≤ 48) (hr : root < cnt) (hV : gk_V b_kinds b_ops b_types b_parent G cnt root V) (hn : V n = true) (hO : b_ops (3 * n) = nI i) (hi : i < 16)
    (H : post (((G n)[i]?).getD (-1))) : wpY_varType post (g_capacity, g_fuel, g_count, g_state, g_wrongKind, g_wrongNode, g_program, g_used, g_blamed, g_resType, g_vTag, g_vVal, g_vLay, g_todo, g_todoEnv, g_closures, g_bindings, g_layers, g_depth, b_kinds, b_ops, b_parent, b_types, b_cNode, b_cEnv, b_bTag, b_bVal, b_bLay, b_bNext, b_lSource, b_lTarget, b_lLabel, b_lInner, b_frNode, b_frEnv, b_frPhase, b_frVal, b_frLay) (nI n) (nI root) := by
  have hnc := (hV n hn).1
  refine ⟨by rw [gc_3]; exact gc_in (by omega) (by decide), nm_r (e' := nI i) (by rw [gc_3, gc_cl (by omega)]; exact hO) ⟨48 - n + 1, ?_⟩⟩
  exact gy_varType_l hT hc hr hV (48 - n) n i 0 (48 - n + 1) (by omega) hn (by omega) (by omega) (by omega) H
theorem gy_judge {post : Int32 → SY → Prop} {n κ root : Nat} {T : Nat → Int32} {lk : Option Int32} (hn : n < 48) (hK : b_kinds n = nI κ) (hκ : κ ≤ 8) (hch : ∀ w, w < gc_nc κ → ∃ c, c < 48 ∧ b_ops (3 * n + gc_pc κ + w) = nI c ∧ b_types c = T w)
    (hv : κ = 2 → ∀ post : Int32 → Prop, post (lk.getD (-1)) → wpY_varType post (g_capacity, g_fuel, g_count, g_state, g_wrongKind, g_wrongNode, g_program, g_used, g_blamed, g_resType, g_vTag, g_vVal, g_vLay, g_todo, g_todoEnv, g_closures, g_bindings, g_layers, g_depth, b_kinds, b_ops, b_parent, b_types, b_cNode, b_cEnv, b_bTag, b_bVal, b_bLay, b_bNext, b_lSource, b_lTarget, b_lLabel, b_lInner, b_frNode, b_frEnv, b_frPhase, b_frVal, b_frLay) (nI n) (nI root)) (hv0 : κ = 2 → ∀ t, lk = some t → 0 ≤ t) (hO5 : κ = 5 → ∃ op, op ≤ 4 ∧ b_ops (3 * n) = nI op)
    (He : ∀ e : Nat, gc_je κ (b_ops (3 * n)) (b_ops (3 * n + 1)) T lk = e → e ≠ 0 → e ≤ 8 → post (nI e) (g_capacity, g_fuel, g_count, g_state, g_wrongKind, g_wrongNode, g_program, g_used, g_blamed, g_resType, g_vTag, g_vVal, g_vLay, g_todo, g_todoEnv, g_closures, g_bindings, g_layers, g_depth, b_kinds, b_ops, b_parent, b_types, b_cNode, b_cEnv, b_bTag, b_bVal, b_bLay, b_bNext, b_lSource, b_lTarget, b_lLabel, b_lInner, b_frNode, b_frEnv, b_frPhase, b_frVal, b_frLay))
    (Hok : gc_je κ (b_ops (3 * n)) (b_ops (3 * n + 1)) T lk = 0 → post 0 (g_capacity, g_fuel, g_count, g_state, g_wrongKind, g_wrongNode, g_program, g_used, g_blamed, g_resType, g_vTag, g_vVal, g_vLay, g_todo, g_todoEnv, g_closures, g_bindings, g_layers, g_depth, b_kinds, b_ops, b_parent, upd b_types n (gc_jt κ (b_ops (3 * n)) (b_ops (3 * n + 1)) T lk), b_cNode, b_cEnv, b_bTag, b_bVal, b_bLay, b_bNext, b_lSource, b_lTarget, b_lLabel, b_lInner, b_frNode, b_frEnv, b_frPhase, b_frVal, b_frLay)) : wpY_judge post (g_capacity, g_fuel, g_count, g_state, g_wrongKind, g_wrongNode, g_program, g_used, g_blamed, g_resType, g_vTag, g_vVal, g_vLay, g_todo, g_todoEnv, g_closures, g_bindings, g_layers, g_depth, b_kinds, b_ops, b_parent, b_types, b_cNode, b_cEnv, b_bTag, b_bVal, b_bLay, b_bNext, b_lSource, b_lTarget, b_lLabel, b_lInner, b_frNode, b_frEnv, b_frPhase, b_frVal, b_frLay) (nI n) (nI root) := by
  have hT := gc_tab hκ
  have hi : vp_in (nI n) 48 := gc_in hn (by decide)
  have e1 : 3 * nI n + 1 = nI (3 * n + 1) := by rw [gc_3, nI_1]
  have e2 : 3 * nI n + 2 = nI (3 * n + 2) := by rw [gc_3, gc_p2]
  have W : ∀ τ, gc_je κ (b_ops (3 * n)) (b_ops (3 * n + 1)) T lk = 0 → τ = gc_jt κ (b_ops (3 * n)) (b_ops (3 * n + 1)) T lk → vp_in (nI n) 48 ∧ (∀ y, y = upd b_types (nI n).toNatClampNeg τ → post 0 (g_capacity, g_fuel, g_count, g_state, g_wrongKind, g_wrongNode, g_program, g_used, g_blamed, g_resType, g_vTag, g_vVal, g_vLay, g_todo, g_todoEnv, g_closures, g_bindings, g_layers, g_depth, b_kinds, b_ops, b_parent, y, b_cNode, b_cEnv, b_bTag, b_bVal, b_bLay, b_bNext, b_lSource, b_lTarget, b_lLabel, b_lInner, b_frNode, b_frEnv, b_frPhase, b_frVal, b_frLay)) := by
    intro τ h1 h2
    subst h2
    exact ⟨hi, nm_r (e' := upd b_types n (gc_jt κ (b_ops (3 * n)) (b_ops (3 * n + 1)) T lk)) (by rw [gc_cl (by omega)]) (Hok h1)⟩
  -- the judging proper, from the three types by place
  have Z : ∀ x7 x8 x9 : Int32, (∀ w, w < gc_nc κ → (gc_pc κ + w = 0 → x7 = T w) ∧ (gc_pc κ + w = 1 → x8 = T w) ∧ (gc_pc κ + w = 2 → x9 = T w)) →
      wY_judge_105 post (nI n) (nI root) (nI κ) (b_ops (3 * n)) (b_ops (3 * n + 1)) x7 x8 x9 g_capacity g_fuel g_count g_state g_wrongKind g_wrongNode g_program g_used g_blamed g_resType g_vTag g_vVal g_vLay g_todo g_todoEnv g_closures g_bindings g_layers g_depth b_kinds b_ops b_parent b_types b_cNode b_cEnv b_bTag b_bVal b_bLay b_bNext b_lSource b_lTarget b_lLabel b_lInner b_frNode b_frEnv b_frPhase b_frVal b_frLay := by
    intro x7 x8 x9 hx
    obtain rfl | rfl | rfl | rfl | rfl | rfl | rfl | rfl | rfl : κ = 0 ∨ κ = 1 ∨ κ = 2 ∨ κ = 3 ∨ κ = 4 ∨ κ = 5 ∨ κ = 6 ∨ κ = 7 ∨ κ = 8 := by omega
    · exact br_t rfl (br_f (by decide) (br_f (by decide) (br_f (by decide) (br_f (by decide) (br_f (by decide) (br_f (by decide) (br_f (by decide) (br_f (by decide) (W 1 rfl rfl)))))))))
    · exact br_f (by decide) (br_t rfl (br_f (by decide) (br_f (by decide) (br_f (by decide) (br_f (by decide) (br_f (by decide) (br_f (by decide) (br_f (by decide) (W 2 rfl rfl)))))))))
    · refine br_f (by decide) (br_f (by decide) (br_t rfl (hv rfl _ ?_)))
      cases hlk : lk with
      | none =>
        rw [hlk] at He
        exact br_f (by decide) (He 1 rfl (by decide) (by decide))
      | some t =>
        have ht := hv0 rfl t hlk
        refine br_t ht ?_
        exact br_f (by decide) (br_f (by decide) (br_f (by decide) (br_f (by decide) (br_f (by decide) (br_f (by decide) (W t (by rw [hlk]; rfl) (by rw [hlk]; rfl)))))))
    · obtain ⟨_, _, h9⟩ := hx 0 (by decide)
      have h9' := h9 rfl
      subst h9'
      have ej : gc_je 3 (b_ops (3 * n)) (b_ops (3 * n + 1)) T lk = if gc_co (T 0) (b_ops (3 * n + 1)) = true then 0 else 7 := rfl
      refine br_f (by decide) (br_f (by decide) (br_f (by decide) (br_t rfl (gy_cons (fun z => br_f (by decide) (gy_arrow ?_)) (fun z => br_t rfl (He 7 (ej.trans (if_neg (by rw [z]; decide))) (by decide) (by decide)))))))
      exact br_f (by decide) (br_f (by decide) (br_f (by decide) (br_f (by decide) (br_f (by decide) (W _ (ej.trans (if_pos z)) rfl)))))
    · obtain ⟨h7, _, _⟩ := hx 0 (by decide)
      obtain ⟨_, h8, _⟩ := hx 1 (by decide)
      have h7' := h7 rfl
      have h8' := h8 rfl
      subst h7' h8'
      have ej : gc_je 4 (b_ops (3 * n)) (b_ops (3 * n + 1)) T lk = if T 0 = 1 then 2 else if T 0 = 2 then 2 else if gc_co (T 1) (gc_td (T 0)) = true then 0 else 3 := rfl
      refine br_f (by decide) (br_f (by decide) (br_f (by decide) (br_f (by decide) (br_t rfl (br_c (fun z => He 2 (ej.trans (if_pos z)) (by decide) (by decide)) (fun z1 => br_c (fun z => He 2 (ej.trans ((if_neg z1).trans (if_pos z))) (by decide) (by decide)) (fun z2 => gy_dom (gy_cons (fun z => br_f (by decide) (gy_cod ?_)) (fun z => br_t rfl (He 3 (ej.trans ((if_neg z1).trans ((if_neg z2).trans (if_neg (by rw [z]; decide))))) (by decide) (by decide)))))))))))
      exact br_f (by decide) (br_f (by decide) (br_f (by decide) (br_f (by decide) (W _ (ej.trans ((if_neg z1).trans ((if_neg z2).trans (if_pos z)))) rfl))))
    · obtain ⟨_, h8, _⟩ := hx 0 (by decide)
      obtain ⟨_, _, h9⟩ := hx 1 (by decide)
      have h8' := h8 rfl
      have h9' := h9 rfl
      subst h8' h9'
      obtain ⟨op, o1, o2⟩ := hO5 rfl
      have ej : gc_je 5 (b_ops (3 * n)) (b_ops (3 * n + 1)) T lk = if gc_co (T 0) 1 = true then (if gc_co (T 1) 1 = true then 0 else 4) else 4 := rfl
      have et : gc_jt 5 (b_ops (3 * n)) (b_ops (3 * n + 1)) T lk = if b_ops (3 * n) < 3 then 1 else 2 := rfl
      refine br_f (by decide) (br_f (by decide) (br_f (by decide) (br_f (by decide) (br_f (by decide) (br_t rfl (gy_cons (fun z => br_f (by decide) (gy_cons (fun z2 => br_f (by decide) ?_) (fun z2 => br_t rfl (He 4 (ej.trans ((if_pos z).trans (if_neg (by rw [z2]; decide)))) (by decide) (by decide))))) (fun z => br_t rfl (He 4 (ej.trans (if_neg (by rw [z]; decide))) (by decide) (by decide)))))))))
      have e0 := ej.trans ((if_pos z).trans (if_pos z2))
      rw [o2] at W et ⊢
      rw [o2] at e0
      refine pk_lt 2 op (fun h => ?_) (fun h => ?_)
      · exact br_f (by decide) (br_f (by decide) (br_f (by decide) (W 2 e0 (et.trans (if_neg (fun q => by have := (nI_ltI (a := op) (b := 3) (by omega) (by decide)).mp q; omega))).symm)))
      · exact br_f (by decide) (br_f (by decide) (br_f (by decide) (W 1 e0 (et.trans (if_pos (nI_lt (a := op) (b := 3) (by omega) (by decide)))).symm)))
    · obtain ⟨h7, _, _⟩ := hx 0 (by decide)
      obtain ⟨_, h8, _⟩ := hx 1 (by decide)
      obtain ⟨_, _, h9⟩ := hx 2 (by decide)
      have h7' := h7 rfl
      have h8' := h8 rfl
      have h9' := h9 rfl
      subst h7' h8' h9'
      have ej : gc_je 6 (b_ops (3 * n)) (b_ops (3 * n + 1)) T lk = if gc_co (T 0) 2 = true then (if gc_co (T 1) (T 2) = true then 0 else 6) else 5 := rfl
      have et : gc_jt 6 (b_ops (3 * n)) (b_ops (3 * n + 1)) T lk = if T 1 = T 2 then T 1 else if T 1 < 3 then 0 else if T 2 < 3 then 0 else 3 := rfl
      refine br_f (by decide) (br_f (by decide) (br_f (by decide) (br_f (by decide) (br_f (by decide) (br_f (by decide) (br_t rfl (gy_cons (fun z => br_f (by decide) (gy_cons (fun z2 => br_f (by decide) ?_) (fun z2 => br_t rfl (He 6 (ej.trans ((if_pos z).trans (if_neg (by rw [z2]; decide)))) (by decide) (by decide))))) (fun z => br_t rfl (He 5 (ej.trans (if_neg (by rw [z]; decide))) (by decide) (by decide))))))))))
      have e0 := ej.trans ((if_pos z).trans (if_pos z2))
      refine br_c (fun q => ?_) (fun q => br_c (fun q2 => ?_) (fun q2 => br_c (fun q3 => ?_) (fun q3 => ?_)))
      · exact br_f (by decide) (br_f (by decide) (W _ e0 (et.trans (if_pos q)).symm))
      · exact br_f (by decide) (br_f (by decide) (W _ e0 (et.trans ((if_neg q).trans (if_pos q2))).symm))
      · exact br_f (by decide) (br_f (by decide) (W _ e0 (et.trans ((if_neg q).trans ((if_neg q2).trans (if_pos q3)))).symm))
      · exact br_f (by decide) (br_f (by decide) (W _ e0 (et.trans ((if_neg q).trans ((if_neg q2).trans (if_neg q3)))).symm))
    · obtain ⟨_, h8, _⟩ := hx 1 (by decide)
      have h8' := h8 rfl
      subst h8'
      exact br_f (by decide) (br_f (by decide) (br_f (by decide) (br_f (by decide) (br_f (by decide) (br_f (by decide) (br_f (by decide) (br_t rfl (br_f (by decide) (W _ rfl rfl)))))))))
    · obtain ⟨_, h8, _⟩ := hx 0 (by decide)
      have h8' := h8 rfl
      subst h8'
      have ej : gc_je 8 (b_ops (3 * n)) (b_ops (3 * n + 1)) T lk = if gc_co (T 0) (b_ops (3 * n)) = true then 0 else 8 := rfl
      exact br_f (by decide) (br_f (by decide) (br_f (by decide) (br_f (by decide) (br_f (by decide) (br_f (by decide) (br_f (by decide) (br_f (by decide) (br_t rfl (gy_cons (fun z => br_f (by decide) (W _ (ej.trans (if_pos z)) rfl)) (fun z => br_t rfl (He 8 (ej.trans (if_neg (by rw [z]; decide))) (by decide) (by decide))))))))))))
  refine ⟨hi, nm_r (e' := nI κ) (by rw [gc_cl (by omega)]; exact hK) ⟨by rw [gc_3]; exact gc_in (by omega) (by decide), nm_r (e' := b_ops (3 * n)) (by rw [gc_3, gc_cl (by omega)]) ⟨by rw [e1]; exact gc_in (by omega) (by decide), nm_r (e' := b_ops (3 * n + 1)) (by rw [e1, gc_cl (by omega)]) ⟨by rw [e2]; exact gc_in (by omega) (by decide), nm_r (e' := b_ops (3 * n + 2)) (by rw [e2, gc_cl (by omega)]) ?_⟩⟩⟩⟩
  have ch : ∀ j, j ≤ 2 → gc_pc κ ≤ j → j < gc_pc κ + gc_nc κ → vp_in (b_ops (3 * n + j)) 48 ∧ b_types (b_ops (3 * n + j)).toNatClampNeg = T (j - gc_pc κ) := by
    intro j hj h1 h2
    obtain ⟨c, c1, c2, c3⟩ := hch (j - gc_pc κ) (by omega)
    rw [show 3 * n + gc_pc κ + (j - gc_pc κ) = 3 * n + j by omega] at c2
    rw [c2, gc_cl (by omega)]
    exact ⟨gc_in c1 (by decide), c3⟩
  have U : ∀ j, j ≤ 2 → (gc_pc κ ≤ j → j < gc_pc κ + gc_nc κ → ∀ w, w < gc_nc κ → gc_pc κ + w = j → b_types (b_ops (3 * n + j)).toNatClampNeg = T w) := by
    intro j hj h1 h2 w hw e
    rw [(ch j hj h1 h2).2]
    exact congrArg T (by omega)
  have D0 : (gc_pc κ ≤ 0 ∧ 0 < gc_pc κ + gc_nc κ) ∨ ¬ (gc_pc κ ≤ 0 ∧ 0 < gc_pc κ + gc_nc κ) := Classical.em _
  have K2 : ∀ x7 x8, (∀ w, w < gc_nc κ → (gc_pc κ + w = 0 → x7 = T w) ∧ (gc_pc κ + w = 1 → x8 = T w)) → wY_judge_83 post (nI n) (nI root) (nI κ) (b_ops (3 * n)) (b_ops (3 * n + 1)) (b_ops (3 * n + 2)) x7 x8 g_capacity g_fuel g_count g_state g_wrongKind g_wrongNode g_program g_used g_blamed g_resType g_vTag g_vVal g_vLay g_todo g_todoEnv g_closures g_bindings g_layers g_depth b_kinds b_ops b_parent b_types b_cNode b_cEnv b_bTag b_bVal b_bLay b_bNext b_lSource b_lTarget b_lLabel b_lInner b_frNode b_frEnv b_frPhase b_frVal b_frLay := by
    intro x7 x8 hx
    unfold wY_judge_83
    refine gy_isNode (w := 2) hκ (by decide) (fun a b => br_f (by decide) ⟨(ch 2 (by decide) a b).1, Z _ _ _ (fun w hw => ⟨(hx w hw).1, (hx w hw).2, fun e => U 2 (by decide) a b w hw e⟩)⟩) (fun a => br_t rfl (Z _ _ _ (fun w hw => ⟨(hx w hw).1, (hx w hw).2, fun e => by omega⟩)))
  have K1 : ∀ x7, (∀ w, w < gc_nc κ → (gc_pc κ + w = 0 → x7 = T w)) → wY_judge_61 post (nI n) (nI root) (nI κ) (b_ops (3 * n)) (b_ops (3 * n + 1)) (b_ops (3 * n + 2)) x7 g_capacity g_fuel g_count g_state g_wrongKind g_wrongNode g_program g_used g_blamed g_resType g_vTag g_vVal g_vLay g_todo g_todoEnv g_closures g_bindings g_layers g_depth b_kinds b_ops b_parent b_types b_cNode b_cEnv b_bTag b_bVal b_bLay b_bNext b_lSource b_lTarget b_lLabel b_lInner b_frNode b_frEnv b_frPhase b_frVal b_frLay := by
    intro x7 hx
    unfold wY_judge_61
    refine gy_isNode (w := 1) hκ (by decide) (fun a b => br_f (by decide) ⟨(ch 1 (by decide) a b).1, K2 _ _ (fun w hw => ⟨hx w hw, fun e => U 1 (by decide) a b w hw e⟩)⟩) (fun a => br_t rfl (K2 _ _ (fun w hw => ⟨hx w hw, fun e => by omega⟩)))
  refine gy_isNode (w := 0) hκ (by decide) (fun a b => br_f (by decide) ⟨(ch 0 (by decide) a b).1, K1 _ (fun w hw e => U 0 (by decide) a b w hw e)⟩) (fun a => br_t rfl (K1 _ (fun w hw e => by omega)))
end
end
section
def gk_C (cT : Nat → Int32) (L : List Int32) : Prop := ∀ i, i < L.length → L[i]? = some (cT (L.length - 1 - i))
theorem gk_C_push {cT : Nat → Int32} {L : List Int32} (h : gk_C cT L) (x : Int32) : gk_C (upd cT L.length x) (x :: L) := by
  intro i hi
  cases i with
  | zero =>
    show some x = some (upd cT L.length x ((L.length + 1) - 1 - 0))
    rw [show L.length + 1 - 1 - 0 = L.length by omega, pk_us]
  | succ i =>
    have hi' : i + 1 < L.length + 1 := hi
    show L[i]? = some (upd cT L.length x ((L.length + 1) - 1 - (i + 1)))
    rw [pk_un (by omega), h i (by omega), show L.length + 1 - 1 - (i + 1) = L.length - 1 - i by omega]
theorem gk_C_pop {cT : Nat → Int32} {L : List Int32} {x : Int32} (h : gk_C cT (x :: L)) : gk_C cT L := by
  intro i hi
  have := h (i + 1) (by show i + 1 < L.length + 1; omega)
  have e : (x :: L).length - 1 - (i + 1) = L.length - 1 - i := by show L.length + 1 - 1 - (i + 1) = _; omega
  rw [e] at this
  exact this
section
variable {f_maxNodes f_maxFuel f_nodeCount f_outcome f_programRoot f_faultKind f_faultNode f_walkTop f_contextDepth f_coercionCount f_compiledCount f_cellCount f_closureCount f_top f_running f_atNode f_atEnv f_valueTag f_valueData f_valueCoercion f_typeOfResult f_fuelSpent f_blamedLabel : Int32} {a_kinds a_operands a_hasParent a_inProgram a_nodeType a_siteTargets a_siteCoercions a_walkNode a_walkStep a_contextType a_labels a_draft a_cellNext a_cellTag a_cellData a_cellCoercion a_closureNode a_closureEnv a_frameNode a_frameStage a_frameEnv a_framePending a_frameData a_frameCoercion : Nat → Int32}
theorem gx_pushC {post : SX → Prop} {l : Nat} {x : Int32} (hl : l < 100) (H : post (f_maxNodes, f_maxFuel, f_nodeCount, f_outcome, f_programRoot, f_faultKind, f_faultNode, f_walkTop, nI (l + 1), f_coercionCount, f_compiledCount, f_cellCount, f_closureCount, f_top, f_running, f_atNode, f_atEnv, f_valueTag, f_valueData, f_valueCoercion, f_typeOfResult, f_fuelSpent, f_blamedLabel, a_kinds, a_operands, a_hasParent, a_inProgram, a_nodeType, a_siteTargets, a_siteCoercions, a_walkNode, a_walkStep, upd a_contextType l x, a_labels, a_draft, a_cellNext, a_cellTag, a_cellData, a_cellCoercion, a_closureNode, a_closureEnv, a_frameNode, a_frameStage, a_frameEnv, a_framePending, a_frameData, a_frameCoercion)) : wpX_pushContext post (f_maxNodes, f_maxFuel, f_nodeCount, f_outcome, f_programRoot, f_faultKind, f_faultNode, f_walkTop, nI l, f_coercionCount, f_compiledCount, f_cellCount, f_closureCount, f_top, f_running, f_atNode, f_atEnv, f_valueTag, f_valueData, f_valueCoercion, f_typeOfResult, f_fuelSpent, f_blamedLabel, a_kinds, a_operands, a_hasParent, a_inProgram, a_nodeType, a_siteTargets, a_siteCoercions, a_walkNode, a_walkStep, a_contextType, a_labels, a_draft, a_cellNext, a_cellTag, a_cellData, a_cellCoercion, a_closureNode, a_closureEnv, a_frameNode, a_frameStage, a_frameEnv, a_framePending, a_frameData, a_frameCoercion) x :=
  pk_le 100 l (fun h => by omega) (fun _ => ⟨gc_in hl (by decide), nm_r (e' := upd a_contextType l x) (by rw [gc_cl (by omega)]) (nm_r (nI_1 l) H)⟩)
theorem gx_open {post : SX → Prop} {n κ w : Nat} {L : List Int32} (hn : n < 48) (hK : a_kinds n = nI κ) (hκ : κ ≤ 8) (hL : L.length + 2 ≤ 100) (hC : gk_C a_contextType L) (hw : w < 3) (h7 : κ = 7 → ∃ c, c < 48 ∧ a_operands (3 * n) = nI c)
    (H : ∀ cT' : Nat → Int32, gk_C cT' (gr_ext a_operands a_nodeType κ n w L) → post (f_maxNodes, f_maxFuel, f_nodeCount, f_outcome, f_programRoot, f_faultKind, f_faultNode, f_walkTop, nI (gr_ext a_operands a_nodeType κ n w L).length, f_coercionCount, f_compiledCount, f_cellCount, f_closureCount, f_top, f_running, f_atNode, f_atEnv, f_valueTag, f_valueData, f_valueCoercion, f_typeOfResult, f_fuelSpent, f_blamedLabel, a_kinds, a_operands, a_hasParent, a_inProgram, a_nodeType, a_siteTargets, a_siteCoercions, a_walkNode, a_walkStep, cT', a_labels, a_draft, a_cellNext, a_cellTag, a_cellData, a_cellCoercion, a_closureNode, a_closureEnv, a_frameNode, a_frameStage, a_frameEnv, a_framePending, a_frameData, a_frameCoercion)) : wpX_openScope post (f_maxNodes, f_maxFuel, f_nodeCount, f_outcome, f_programRoot, f_faultKind, f_faultNode, f_walkTop, nI L.length, f_coercionCount, f_compiledCount, f_cellCount, f_closureCount, f_top, f_running, f_atNode, f_atEnv, f_valueTag, f_valueData, f_valueCoercion, f_typeOfResult, f_fuelSpent, f_blamedLabel, a_kinds, a_operands, a_hasParent, a_inProgram, a_nodeType, a_siteTargets, a_siteCoercions, a_walkNode, a_walkStep, a_contextType, a_labels, a_draft, a_cellNext, a_cellTag, a_cellData, a_cellCoercion, a_closureNode, a_closureEnv, a_frameNode, a_frameStage, a_frameEnv, a_framePending, a_frameData, a_frameCoercion) (nI n) (nI w) := by
  have hi : vp_in (nI n) 48 := gc_in hn (by decide)
  have eK : a_kinds (nI n).toNatClampNeg = nI κ := by rw [gc_cl (by omega)]; exact hK
  have e1 : 3 * nI n + 1 = nI (3 * n + 1) := by rw [gc_3, nI_1]
  refine ⟨hi, ?_⟩
  rw [eK]
  unfold gr_ext at H
  refine pk_eq κ 3 (fun e => ⟨by rw [gc_3]; exact gc_in (by omega) (by decide), nm_r (e' := a_operands (3 * n)) (by rw [gc_3, gc_cl (by omega)]) ⟨by rw [e1]; exact gc_in (by omega) (by decide), ?_⟩⟩) (fun e3 => ⟨hi, pk_eq κ 7 (fun e => pk_eq w 1 (fun ew => ?_) (fun ew => ?_)) (fun e7 => ?_)⟩)
  · rw [if_pos e] at H
    rw [e1, gc_cl (by omega)]
    refine gx_arrow ?_
    refine gx_pushC (by omega) ?_
    refine gx_pushC (by omega) ?_
    exact H _ (gk_C_push (gk_C_push hC _) _)
  · rw [if_neg e3, if_pos ⟨e, ew⟩] at H
    subst e
    obtain ⟨c, c1, c2⟩ := h7 rfl
    refine gx_childType (i := 0) (c := c) hn hK (by decide) (by decide) c2 c1 ?_
    refine gx_pushC (by omega) ?_
    rw [c2, gc_cl (by omega)] at H
    exact H _ (gk_C_push hC _)
  · rw [if_neg e3, if_neg (fun h => ew h.2)] at H
    exact H _ hC
  · rw [if_neg e3, if_neg (fun h => e7 h.1)] at H
    exact H _ hC
theorem gx_close' {post : SX → Prop} {κ l : Nat} (hκ : κ ≤ 8) (h3 : κ = 3 → 2 ≤ l) (h7 : κ = 7 → 1 ≤ l) (H : post (f_maxNodes, f_maxFuel, f_nodeCount, f_outcome, f_programRoot, f_faultKind, f_faultNode, f_walkTop, nI (l - (if κ = 3 then 2 else if κ = 7 then 1 else 0)), f_coercionCount, f_compiledCount, f_cellCount, f_closureCount, f_top, f_running, f_atNode, f_atEnv, f_valueTag, f_valueData, f_valueCoercion, f_typeOfResult, f_fuelSpent, f_blamedLabel, a_kinds, a_operands, a_hasParent, a_inProgram, a_nodeType, a_siteTargets, a_siteCoercions, a_walkNode, a_walkStep, a_contextType, a_labels, a_draft, a_cellNext, a_cellTag, a_cellData, a_cellCoercion, a_closureNode, a_closureEnv, a_frameNode, a_frameStage, a_frameEnv, a_framePending, a_frameData, a_frameCoercion)) : wpX_closeScope post (f_maxNodes, f_maxFuel, f_nodeCount, f_outcome, f_programRoot, f_faultKind, f_faultNode, f_walkTop, nI l, f_coercionCount, f_compiledCount, f_cellCount, f_closureCount, f_top, f_running, f_atNode, f_atEnv, f_valueTag, f_valueData, f_valueCoercion, f_typeOfResult, f_fuelSpent, f_blamedLabel, a_kinds, a_operands, a_hasParent, a_inProgram, a_nodeType, a_siteTargets, a_siteCoercions, a_walkNode, a_walkStep, a_contextType, a_labels, a_draft, a_cellNext, a_cellTag, a_cellData, a_cellCoercion, a_closureNode, a_closureEnv, a_frameNode, a_frameStage, a_frameEnv, a_framePending, a_frameData, a_frameCoercion) (nI κ) := by
  refine pk_eq κ 3 (fun e => ?_) (fun e3 => pk_eq κ 7 (fun e => ?_) (fun e7 => ?_))
  · rw [if_pos e] at H
    exact nm_r (gc_s2 (h3 e)) H
  · rw [if_neg e3, if_pos e] at H
    exact nm_r (gc_s1 (h7 e)) H
  · rw [if_neg e3, if_neg e7] at H
    exact H
theorem gx_descend {post : SX → Prop} {t : Nat} {x : Int32} (ht : t + 1 < 48) (H : post (f_maxNodes, f_maxFuel, f_nodeCount, f_outcome, f_programRoot, f_faultKind, f_faultNode, nI (t + 1), f_contextDepth, f_coercionCount, f_compiledCount, f_cellCount, f_closureCount, f_top, f_running, f_atNode, f_atEnv, f_valueTag, f_valueData, f_valueCoercion, f_typeOfResult, f_fuelSpent, f_blamedLabel, a_kinds, a_operands, a_hasParent, a_inProgram, a_nodeType, a_siteTargets, a_siteCoercions, upd a_walkNode (t + 1) x, upd a_walkStep (t + 1) 0, a_contextType, a_labels, a_draft, a_cellNext, a_cellTag, a_cellData, a_cellCoercion, a_closureNode, a_closureEnv, a_frameNode, a_frameStage, a_frameEnv, a_framePending, a_frameData, a_frameCoercion)) : wpX_descend post (f_maxNodes, f_maxFuel, f_nodeCount, f_outcome, f_programRoot, f_faultKind, f_faultNode, nI t, f_contextDepth, f_coercionCount, f_compiledCount, f_cellCount, f_closureCount, f_top, f_running, f_atNode, f_atEnv, f_valueTag, f_valueData, f_valueCoercion, f_typeOfResult, f_fuelSpent, f_blamedLabel, a_kinds, a_operands, a_hasParent, a_inProgram, a_nodeType, a_siteTargets, a_siteCoercions, a_walkNode, a_walkStep, a_contextType, a_labels, a_draft, a_cellNext, a_cellTag, a_cellData, a_cellCoercion, a_closureNode, a_closureEnv, a_frameNode, a_frameStage, a_frameEnv, a_framePending, a_frameData, a_frameCoercion) x := by
  have hi : vp_in (nI (t + 1)) 48 := gc_in ht (by decide)
  have e : nI t + 1 = nI (t + 1) := nI_1 t
  refine pk_le 48 (t + 1) (fun h => by omega) (fun _ => nm_r e ⟨hi, nm_r (e' := upd a_walkNode (t + 1) x) (by rw [gc_cl (by omega)]) ⟨hi, nm_r (e' := upd a_walkStep (t + 1) 0) (by rw [gc_cl (by omega)]) H⟩⟩) (hy := e)
theorem gx_walk_down {post : SX → Prop} {t n k κ c : Nat} {L : List Int32} (ht : t + 1 < 48) (hn : n < 48) (hN : a_walkNode t = nI n) (hS : a_walkStep t = nI k) (hK : a_kinds n = nI κ) (hκ : κ ≤ 8) (hk : k < gc_nc κ) (hO : a_operands (3 * n + gc_pc κ + k) = nI c)
    (hL : L.length + 2 ≤ 100) (hC : gk_C a_contextType L) (h7 : κ = 7 → ∃ c, c < 48 ∧ a_operands (3 * n) = nI c)
    (H : ∀ cT' : Nat → Int32, gk_C cT' (gr_ext a_operands a_nodeType κ n k L) → post (f_maxNodes, f_maxFuel, f_nodeCount, f_outcome, f_programRoot, f_faultKind, f_faultNode, nI (t + 1), nI (gr_ext a_operands a_nodeType κ n k L).length, f_coercionCount, f_compiledCount, f_cellCount, f_closureCount, f_top, f_running, f_atNode, f_atEnv, f_valueTag, f_valueData, f_valueCoercion, f_typeOfResult, f_fuelSpent, f_blamedLabel, a_kinds, a_operands, a_hasParent, a_inProgram, a_nodeType, a_siteTargets, a_siteCoercions, upd a_walkNode (t + 1) (nI c), upd (upd a_walkStep t (nI (k + 1))) (t + 1) 0, cT', a_labels, a_draft, a_cellNext, a_cellTag, a_cellData, a_cellCoercion, a_closureNode, a_closureEnv, a_frameNode, a_frameStage, a_frameEnv, a_framePending, a_frameData, a_frameCoercion)) :
    wpX_walk post (f_maxNodes, f_maxFuel, f_nodeCount, f_outcome, f_programRoot, f_faultKind, f_faultNode, nI t, nI L.length, f_coercionCount, f_compiledCount, f_cellCount, f_closureCount, f_top, f_running, f_atNode, f_atEnv, f_valueTag, f_valueData, f_valueCoercion, f_typeOfResult, f_fuelSpent, f_blamedLabel, a_kinds, a_operands, a_hasParent, a_inProgram, a_nodeType, a_siteTargets, a_siteCoercions, a_walkNode, a_walkStep, a_contextType, a_labels, a_draft, a_cellNext, a_cellTag, a_cellData, a_cellCoercion, a_closureNode, a_closureEnv, a_frameNode, a_frameStage, a_frameEnv, a_framePending, a_frameData, a_frameCoercion) := by
  have T := gc_tab hκ
  have hi : vp_in (nI t) 48 := gc_in (by omega) (by decide)
  have e : 3 * nI n + nI (gc_pc κ) + nI k = nI (3 * n + gc_pc κ + k) := by rw [gc_3, nI_add, nI_add]
  refine ⟨hi, nm_r (e' := nI n) (by rw [gc_cl (by omega)]; exact hN) ⟨hi, nm_r (e' := nI k) (by rw [gc_cl (by omega)]; exact hS) ⟨gc_in hn (by decide), nm_r (e' := nI κ) (by rw [gc_cl (by omega)]; exact hK) ?_⟩⟩⟩
  refine gx_nc hκ (pk_le (gc_nc κ) k (fun h => by omega) (fun _ => ?_))
  refine gx_open hn hK hκ hL hC (by omega) h7 (fun cT' hC' => ⟨hi, nm_r (e' := upd a_walkStep t (nI (k + 1))) (by rw [gc_cl (by omega), nI_1]) ?_⟩)
  refine gx_pc hκ ?_
  rw [e, gc_cl (by omega), hO]
  exact ⟨gc_in (by omega) (by decide), gx_descend ht (H cT' hC')⟩
theorem gx_walk_judge {post : SX → Prop} {t l i : Nat} {lk : Option Int32} {cc n κ : Nat} {T : Nat → Int32} (hcc : cc + 3 ≤ 800) (hc1 : 1 ≤ cc) (hz : ∀ k, k < 9 → a_labels k = 0) (hn : n < 48) (hch : ∀ w, w < gc_nc κ → ∃ c, c < 48 ∧ a_operands (3 * n + gc_pc κ + w) = nI c ∧ a_nodeType c = T w) (hK : a_kinds n = nI κ) (ht : t < 48) (hN : a_walkNode t = nI n) (hS : a_walkStep t = nI (gc_nc κ)) (hκ : κ ≤ 8) (h3 : κ = 3 → 2 ≤ l) (h7 : κ = 7 → 1 ≤ l)
    (hv : κ = 2 → i < 16 ∧ l < 100 ∧ a_operands (3 * n) = nI i ∧ ((lk = none ∧ l ≤ i) ∨ (lk = some (a_contextType (l - 1 - i)) ∧ i < l)))
    (He : ∀ e : Nat, gc_je κ (a_operands (3 * n)) (a_operands (3 * n + 1)) T lk = e → e ≠ 0 → e ≤ 8 → post (f_maxNodes, f_maxFuel, f_nodeCount, f_outcome, f_programRoot, nI e, nI n, nI t, nI (l - (if κ = 3 then 2 else if κ = 7 then 1 else 0)), nI cc, f_compiledCount, f_cellCount, f_closureCount, f_top, f_running, f_atNode, f_atEnv, f_valueTag, f_valueData, f_valueCoercion, f_typeOfResult, f_fuelSpent, f_blamedLabel, a_kinds, a_operands, a_hasParent, a_inProgram, a_nodeType, a_siteTargets, a_siteCoercions, a_walkNode, a_walkStep, a_contextType, a_labels, a_draft, a_cellNext, a_cellTag, a_cellData, a_cellCoercion, a_closureNode, a_closureEnv, a_frameNode, a_frameStage, a_frameEnv, a_framePending, a_frameData, a_frameCoercion))
    (Hok : gc_je κ (a_operands (3 * n)) (a_operands (3 * n + 1)) T lk = 0 → ∀ (cc' : Nat) (lb' dr' st' sc' : Nat → Int32), gc_Ext 3 a_labels cc lb' cc' → (∀ j, (j < 3 * n ∨ 3 * n + 3 ≤ j) → st' j = a_siteTargets j ∧ sc' j = a_siteCoercions j) → (∀ k, 1 ≤ k → k ≤ gc_ns κ → st' (3 * n + (k - 1)) = gc_jg κ (a_operands (3 * n)) (a_operands (3 * n + 1)) T k ∧ ∃ id, sc' (3 * n + (k - 1)) = nI id ∧ id < cc' ∧ ∀ j, j < 9 → gc_row lb' id j = gc_cv (T (k - 1)) (gc_jg κ (a_operands (3 * n)) (a_operands (3 * n + 1)) T k) (nI (4 * n + k)) j) →
      post (f_maxNodes, f_maxFuel, f_nodeCount, f_outcome, f_programRoot, 0, f_faultNode, nI t - 1, nI (l - (if κ = 3 then 2 else if κ = 7 then 1 else 0)), nI cc', f_compiledCount, f_cellCount, f_closureCount, f_top, f_running, f_atNode, f_atEnv, f_valueTag, f_valueData, f_valueCoercion, f_typeOfResult, f_fuelSpent, f_blamedLabel, a_kinds, a_operands, a_hasParent, upd a_inProgram n 1, upd a_nodeType n (gc_jt κ (a_operands (3 * n)) (a_operands (3 * n + 1)) T lk), st', sc', a_walkNode, a_walkStep, a_contextType, lb', dr', a_cellNext, a_cellTag, a_cellData, a_cellCoercion, a_closureNode, a_closureEnv, a_frameNode, a_frameStage, a_frameEnv, a_framePending, a_frameData, a_frameCoercion)) :
    wpX_walk post (f_maxNodes, f_maxFuel, f_nodeCount, f_outcome, f_programRoot, f_faultKind, f_faultNode, nI t, nI l, nI cc, f_compiledCount, f_cellCount, f_closureCount, f_top, f_running, f_atNode, f_atEnv, f_valueTag, f_valueData, f_valueCoercion, f_typeOfResult, f_fuelSpent, f_blamedLabel, a_kinds, a_operands, a_hasParent, a_inProgram, a_nodeType, a_siteTargets, a_siteCoercions, a_walkNode, a_walkStep, a_contextType, a_labels, a_draft, a_cellNext, a_cellTag, a_cellData, a_cellCoercion, a_closureNode, a_closureEnv, a_frameNode, a_frameStage, a_frameEnv, a_framePending, a_frameData, a_frameCoercion) := by
  have hi : vp_in (nI t) 48 := gc_in (by omega) (by decide)
  refine ⟨hi, nm_r (e' := nI n) (by rw [gc_cl (by omega)]; exact hN) ⟨hi, nm_r (e' := nI (gc_nc κ)) (by rw [gc_cl (by omega)]; exact hS) ⟨gc_in hn (by decide), nm_r (e' := nI κ) (by rw [gc_cl (by omega)]; exact hK) ?_⟩⟩⟩
  have T' := gc_tab hκ
  refine gx_nc hκ (pk_le (gc_nc κ) (gc_nc κ) (fun _ => ?_) (fun h => by omega))
  refine gx_close' hκ h3 h7 ?_
  refine gx_judge (lk := lk) (L := l - (if κ = 3 then 2 else if κ = 7 then 1 else 0)) (i := i) hcc hc1 hz hn hch hK hκ (fun e => ?_) rfl (fun e h1 h2 h3' => ?_) (fun h cc' lb' dr' st' sc' x1 x2 x3 => ?_)
  · have := hv e
    subst e
    exact this
  · exact br_f (gc_ne0 h2 (by omega)) (He e h1 h2 h3')
  · exact br_t rfl ⟨gc_in hn (by decide), nm_r (e' := upd a_inProgram n 1) (by rw [gc_cl (by omega)]; rfl) (nm_e (Hok h cc' lb' dr' st' sc' x1 x2 x3))⟩
end
end
section
def gk_cn (V : Nat → Bool) : Nat → Nat
  | 0 => 0
  | n + 1 => gk_cn V n + (if V n = true then 1 else 0)
theorem gk_cn_le {V : Nat → Bool} {c : Nat} (h : ∀ x, V x = true → x < c) : ∀ n, gk_cn V n ≤ c := by
  have L : ∀ n, gk_cn V n ≤ n ∧ (c ≤ n → gk_cn V n ≤ c) := by
    intro n
    induction n with
    | zero => exact ⟨Nat.le_refl _, fun _ => Nat.zero_le _⟩
    | succ n ih =>
      show gk_cn V n + (if V n = true then 1 else 0) ≤ n + 1 ∧ (c ≤ n + 1 → gk_cn V n + (if V n = true then 1 else 0) ≤ c)
      by_cases hv : V n = true
      · rw [if_pos hv]
        have := h n hv
        exact ⟨by omega, fun _ => by omega⟩
      · rw [if_neg hv]
        refine ⟨by omega, fun h1 => ?_⟩
        by_cases h2 : c ≤ n
        · have := ih.2 h2; omega
        · omega
  intro n
  by_cases h2 : c ≤ n
  · exact (L n).2 h2
  · have := (L n).1; omega
theorem gk_cn_cg {V W : Nat → Bool} : ∀ n, (∀ x, x < n → W x = V x) → gk_cn W n = gk_cn V n := by
  intro n
  induction n with
  | zero => intro _; rfl
  | succ n ih =>
    intro h
    show gk_cn W n + _ = gk_cn V n + _
    rw [ih (fun x hx => h x (by omega)), h n (by omega)]
theorem gk_cn_add {V : Nat → Bool} {c : Nat} (hc : V c = false) : ∀ n, c < n → gk_cn (fun x => if x = c then true else V x) n = gk_cn V n + 1 := by
  intro n
  induction n with
  | zero => intro h; omega
  | succ n ih =>
    intro h
    show gk_cn _ n + (if (if n = c then true else V n) = true then 1 else 0) = gk_cn V n + (if V n = true then 1 else 0) + 1
    by_cases e : n = c
    · subst e
      rw [gk_cn_cg (V := V) n (fun x hx => if_neg (by omega)), if_pos rfl, if_pos rfl, hc, if_neg (by decide)]
    · rw [ih (by omega), if_neg e]
      omega
-- a node's facts carry over
section
variable {K O ty ip : Nat → Int32} {G : Nat → List Int32} {nt st sc lb : Nat → Int32} {comp cnt : Nat} {ty' ip' : Nat → Int32} {G' : Nat → List Int32} {nt' st' sc' lb' : Nat → Int32} {comp' : Nat}
theorem gr_ext_cg {κ n w : Nat} {L : List Int32} (h : κ = 7 → w = 1 → ty' (gr_ch O 7 n 0) = ty (gr_ch O 7 n 0)) : gr_ext O ty' κ n w L = gr_ext O ty κ n w L := by
  unfold gr_ext
  by_cases e3 : κ = 3
  · rw [if_pos e3, if_pos e3]
  · rw [if_neg e3, if_neg e3]
    by_cases e7 : κ = 7 ∧ w = 1
    · rw [if_pos e7, if_pos e7]
      have := h e7.1 e7.2
      exact congrArg (· :: L) this
    · rw [if_neg e7, if_neg e7]
theorem gr_t_cg {κ n k : Nat} (hκ : κ ≤ 8) (h1 : 1 ≤ k) (h2 : k ≤ gc_ns κ) (hn : ty' n = ty n) (hc : ∀ w, w < gc_nc κ → ty' (gr_ch O κ n w) = ty (gr_ch O κ n w)) : gr_t O ty' κ n k = gr_t O ty κ n k := by
  have T := gc_tab hκ
  unfold gr_t gc_tg
  rw [hc (k - 1) (by omega)]
  by_cases e3 : κ = 3
  · rw [if_pos e3, if_pos e3]
  · rw [if_neg e3, if_neg e3]
    by_cases e4 : κ = 4
    · rw [if_pos e4, if_pos e4]
      subst e4
      have := hc 0 (by decide)
      have e : ty' (O (3 * n)).toNatClampNeg = ty (O (3 * n)).toNatClampNeg := this
      rw [e]
    · rw [if_neg e4, if_neg e4, hn]
theorem gr_N_cg {n : Nat} (hcnt : cnt ≤ 48) (h : gr_N K O ty ip G nt st sc lb comp cnt n) (hc : comp ≤ comp') (e1 : ty' n = ty n) (e2 : nt' n = nt n)
    (e3 : ∀ κ w, K n = nI κ → κ ≤ 8 → w < gc_nc κ → ty' (gr_ch O κ n w) = ty (gr_ch O κ n w) ∧ ip' (gr_ch O κ n w) = 1 ∧ G' (gr_ch O κ n w) = G (gr_ch O κ n w)) (e4 : G' n = G n)
    (e5 : ∀ j, 3 * n ≤ j → j < 3 * n + 3 → st' j = st j ∧ sc' j = sc j) (e6 : ∀ j, j < 9 * comp → lb' j = lb j) : gr_N K O ty' ip' G' nt' st' sc' lb' comp' cnt n := by
  obtain ⟨h1, κ, h2, h3, h4, h5, h6, h7, h8⟩ := h
  have T := gc_tab h3
  have hch : ∀ w, w < gc_nc κ → ty' (gr_ch O κ n w) = ty (gr_ch O κ n w) := fun w hw => (e3 κ w h2 h3 hw).1
  refine ⟨h1, κ, h2, h3, by rw [e1]; exact h4, by rw [e1, e2]; exact h5, fun w hw => ?_, fun k k1 k2 => ?_, ?_⟩
  · obtain ⟨c, c1, c2, c3, c4, c5⟩ := h6 w hw
    have ec : gr_ch O κ n w = c := by unfold gr_ch; rw [c1]; exact gc_cl (by omega)
    obtain ⟨q1, q2, q3⟩ := e3 κ w h2 h3 hw
    rw [ec] at q1 q2 q3
    refine ⟨c, c1, c2, q2, by rw [q1]; exact c4, ?_⟩
    rw [q3, c5, e4]
    refine (gr_ext_cg (fun a b => ?_)).symm
    subst a
    exact hch 0 (by decide)
  · obtain ⟨s1, s2, s3, id, s4, s5, s6⟩ := h7 k k1 k2
    obtain ⟨q1, q2⟩ := e5 (3 * n + (k - 1)) (by omega) (by omega)
    have et := gr_t_cg (O := O) (ty := ty) (ty' := ty') h3 k1 k2 e1 hch
    have ec := hch (k - 1) (by omega)
    refine ⟨by rw [et, q1]; exact s1, by rw [et]; exact s2, by rw [et, ec]; exact s3, id, by rw [q2]; exact s4, by omega, fun j hj => ?_⟩
    refine (e6 _ (by omega)).trans ((s6 j hj).trans ?_)
    unfold gr_sv
    rw [et, ec]
  · obtain ⟨r0, r1, r2, r3, r4, r5, r7, r8⟩ := h8
    refine ⟨fun e => by rw [e1]; exact r0 e, fun e => by rw [e1]; exact r1 e, fun e => by rw [e1, e4]; exact r2 e, fun e => by rw [e1]; exact r3 e, fun e => ?_, fun e => by rw [e1]; exact r5 e, fun e => ?_, fun e => by rw [e1]; exact r8 e⟩
    · subst e
      rw [e1, hch 0 (by decide)]
      exact r4 rfl
    · subst e
      rw [e1, hch 1 (by decide)]
      exact r7 rfl
end
-- the judged node's own facts
theorem gc_T_i (j : Nat) (h : j < 20) (h4 : j ≠ 4) : gc_T (nI j) := ⟨j, h, h4, rfl⟩
theorem gc_T_fn {t : Int32} (h : gc_T t) : gc_T (gc_fn t) := by
  unfold gc_fn
  by_cases z : t = 0
  · rw [if_pos z]; exact gc_T_i 3 (by decide) (by decide)
  · rw [if_neg z]; exact h
theorem gc_co_fn {t : Int32} (h : gc_T t) : gc_co t (gc_fn t) = true := by
  unfold gc_fn
  by_cases z : t = 0
  · exact gc_co_iff.mpr (Or.inl (Or.inr (Or.inl z)))
  · rw [if_neg z]; exact gc_co_iff.mpr (Or.inl (Or.inl rfl))
theorem gk_jt_T {κ : Nat} {o0 o1 : Int32} {T : Nat → Int32} {lk : Option Int32} (hκ : κ ≤ 8) (hT : ∀ w, w < gc_nc κ → gc_T (T w)) (hlk : κ = 2 → ∃ t, lk = some t ∧ gc_T t) (h3 : κ = 3 → gc_A o0 ∧ gc_A o1) (h8 : κ = 8 → gc_T o0) : gc_T (gc_jt κ o0 o1 T lk) := by
  obtain rfl | rfl | rfl | rfl | rfl | rfl | rfl | rfl | rfl : κ = 0 ∨ κ = 1 ∨ κ = 2 ∨ κ = 3 ∨ κ = 4 ∨ κ = 5 ∨ κ = 6 ∨ κ = 7 ∨ κ = 8 := by omega
  · exact gc_T_i 1 (by decide) (by decide)
  · exact gc_T_i 2 (by decide) (by decide)
  · obtain ⟨t, e, ht⟩ := hlk rfl
    subst e
    exact ht
  · exact gc_ta_T (h3 rfl).1 (h3 rfl).2
  · exact gc_A_T (gc_tc_A (hT 0 (by decide)))
  · show gc_T (if o0 < 3 then 1 else 2)
    by_cases z : o0 < 3
    · rw [if_pos z]; exact gc_T_i 1 (by decide) (by decide)
    · rw [if_neg z]; exact gc_T_i 2 (by decide) (by decide)
  · show gc_T (if T 1 = T 2 then T 1 else if T 1 < 3 then 0 else if T 2 < 3 then 0 else 3)
    by_cases z : T 1 = T 2
    · rw [if_pos z]; exact hT 1 (by decide)
    · rw [if_neg z]
      by_cases z2 : T 1 < 3
      · rw [if_pos z2]; exact gc_T_i 0 (by decide) (by decide)
      · rw [if_neg z2]
        by_cases z3 : T 2 < 3
        · rw [if_pos z3]; exact gc_T_i 0 (by decide) (by decide)
        · rw [if_neg z3]; exact gc_T_i 3 (by decide) (by decide)
  · exact hT 1 (by decide)
  · exact h8 rfl
theorem gc_co0 (s : Int32) : gc_co s 0 = true := gc_co_iff.mpr (Or.inl (Or.inr (Or.inr rfl)))
theorem gc_co3 {s : Int32} (h : ¬ s < 3) : gc_co s 3 = true := gc_co_iff.mpr (Or.inr ⟨h, by decide, Or.inr (Or.inr gc_td3), Or.inr (Or.inr gc_tc3)⟩)
theorem gk_jg_T {κ k : Nat} {o0 o1 : Int32} {T : Nat → Int32} {lk : Option Int32} (hκ : κ ≤ 8) (hT : ∀ w, w < gc_nc κ → gc_T (T w)) (h3 : κ = 3 → gc_A o1) (h8 : κ = 8 → gc_T o0) (k1 : 1 ≤ k) (k2 : k ≤ gc_ns κ) (he : gc_je κ o0 o1 T lk = 0) :
    gc_T (gc_jg κ o0 o1 T k) ∧ gc_co (T (k - 1)) (gc_jg κ o0 o1 T k) = true := by
  obtain rfl | rfl | rfl | rfl | rfl | rfl | rfl | rfl | rfl : κ = 0 ∨ κ = 1 ∨ κ = 2 ∨ κ = 3 ∨ κ = 4 ∨ κ = 5 ∨ κ = 6 ∨ κ = 7 ∨ κ = 8 := by omega
  · have : k ≤ 0 := k2; omega
  · have : k ≤ 0 := k2; omega
  · have : k ≤ 0 := k2; omega
  · have : k ≤ 1 := k2
    obtain rfl : k = 1 := by omega
    have he' : (if gc_co (T 0) o1 = true then 0 else 7) = 0 := he
    by_cases z : gc_co (T 0) o1 = true
    · exact ⟨gc_A_T (h3 rfl), z⟩
    · rw [if_neg z] at he'; exact absurd he' (by decide)
  · have : k ≤ 2 := k2
    have he' : (if T 0 = 1 then 2 else if T 0 = 2 then 2 else if gc_co (T 1) (gc_td (T 0)) = true then 0 else 3) = 0 := he
    by_cases z1 : T 0 = 1
    · rw [if_pos z1] at he'; exact absurd he' (by decide)
    · by_cases z2 : T 0 = 2
      · rw [if_neg z1, if_pos z2] at he'; exact absurd he' (by decide)
      · rw [if_neg z1, if_neg z2] at he'
        by_cases z : gc_co (T 1) (gc_td (T 0)) = true
        · by_cases e : k = 1
          · subst e
            exact ⟨gc_T_fn (hT 0 (by decide)), gc_co_fn (hT 0 (by decide))⟩
          · obtain rfl : k = 2 := by omega
            exact ⟨gc_A_T (gc_td_A (hT 0 (by decide))), z⟩
        · rw [if_neg z] at he'; exact absurd he' (by decide)
  · have : k ≤ 2 := k2
    have he' : (if gc_co (T 0) 1 = true then (if gc_co (T 1) 1 = true then 0 else 4) else 4) = 0 := he
    by_cases z : gc_co (T 0) 1 = true
    · rw [if_pos z] at he'
      by_cases z2 : gc_co (T 1) 1 = true
      · refine ⟨gc_T_i 1 (by decide) (by decide), ?_⟩
        by_cases e : k = 1
        · subst e; exact z
        · obtain rfl : k = 2 := by omega
          exact z2
      · rw [if_neg z2] at he'; exact absurd he' (by decide)
    · rw [if_neg z] at he'; exact absurd he' (by decide)
  · have : k ≤ 3 := k2
    have he' : (if gc_co (T 0) 2 = true then (if gc_co (T 1) (T 2) = true then 0 else 6) else 5) = 0 := he
    have hj := gk_jt_T (κ := 6) (o0 := o0) (o1 := o1) (T := T) (lk := none) (by decide) hT (fun e => by omega) (fun e => by omega) (fun e => by omega)
    by_cases z : gc_co (T 0) 2 = true
    · rw [if_pos z] at he'
      by_cases e : k = 1
      · subst e; exact ⟨gc_T_i 2 (by decide) (by decide), z⟩
      · have eg : gc_jg 6 o0 o1 T k = gc_jt 6 o0 o1 T none := by unfold gc_jg; rw [if_neg (by decide), if_neg (by decide), if_neg (by decide), if_pos rfl, if_neg e]
        rw [eg]
        refine ⟨hj, ?_⟩
        have ej : gc_jt 6 o0 o1 T none = if T 1 = T 2 then T 1 else if T 1 < 3 then 0 else if T 2 < 3 then 0 else 3 := rfl
        rw [ej]
        by_cases y1 : T 1 = T 2
        · rw [if_pos y1]
          by_cases e2 : k = 2
          · subst e2; exact gc_co_iff.mpr (Or.inl (Or.inl rfl))
          · obtain rfl : k = 3 := by omega
            exact gc_co_iff.mpr (Or.inl (Or.inl y1.symm))
        · rw [if_neg y1]
          by_cases y2 : T 1 < 3
          · rw [if_pos y2]; exact gc_co0 _
          · rw [if_neg y2]
            by_cases y3 : T 2 < 3
            · rw [if_pos y3]; exact gc_co0 _
            · rw [if_neg y3]
              by_cases e2 : k = 2
              · subst e2; exact gc_co3 y2
              · obtain rfl : k = 3 := by omega
                exact gc_co3 y3
    · rw [if_neg z] at he'; exact absurd he' (by decide)
  · have : k ≤ 0 := k2; omega
  · have : k ≤ 1 := k2
    obtain rfl : k = 1 := by omega
    have he' : (if gc_co (T 0) o0 = true then 0 else 8) = 0 := he
    by_cases z : gc_co (T 0) o0 = true
    · exact ⟨h8 rfl, z⟩
    · rw [if_neg z] at he'; exact absurd he' (by decide)
theorem gk_rule {O ty' : Nat → Int32} {G : Nat → List Int32} {κ n : Nat} {T : Nat → Int32} {lk : Option Int32} (hκ : κ ≤ 8) (hpl : gr_plain O κ n) (hT : ∀ w, w < gc_nc κ → ty' (gr_ch O κ n w) = T w) (he : gc_je κ (O (3 * n)) (O (3 * n + 1)) T lk = 0) (ht : ty' n = gc_jt κ (O (3 * n)) (O (3 * n + 1)) T lk)
    (hlk : κ = 2 → ∀ i, O (3 * n) = nI i → i < 16 → lk = (G n)[i]?) : gr_rule O ty' G κ n := by
  obtain ⟨p1, p2, p3, p5, p8⟩ := hpl
  refine ⟨fun e => ?_, fun e => ?_, fun e => ?_, fun e => ?_, fun e => ?_, fun e => ?_, fun e => ?_, fun e => ?_⟩
  · subst e; exact ht
  · subst e; exact ⟨ht, p1 rfl⟩
  · subst e
    obtain ⟨i, i1, i2⟩ := p2 rfl
    refine ⟨i, i1, i2, ?_⟩
    have h1 := hlk rfl i i2 i1
    have he' : (if lk.isNone = true then 1 else 0) = 0 := he
    rw [← h1, ht]
    cases hl : lk with
    | none => rw [hl] at he'; exact absurd he' (by decide)
    | some t => rfl
  · subst e; exact ⟨(p3 rfl).1, (p3 rfl).2, ht⟩
  · subst e
    have he' : (if T 0 = 1 then 2 else if T 0 = 2 then 2 else if gc_co (T 1) (gc_td (T 0)) = true then 0 else 3) = 0 := he
    rw [hT 0 (by decide)]
    by_cases z1 : T 0 = 1
    · rw [if_pos z1] at he'; exact absurd he' (by decide)
    · by_cases z2 : T 0 = 2
      · rw [if_neg z1, if_pos z2] at he'; exact absurd he' (by decide)
      · exact ⟨ht, z1, z2⟩
  · subst e
    obtain ⟨op, o1, o2⟩ := p5 rfl
    refine ⟨op, o1, o2, ?_⟩
    have ht' : ty' n = if O (3 * n) < 3 then 1 else 2 := ht
    rw [ht', o2]
    by_cases z : op < 3
    · rw [if_pos z]
      exact if_pos (nI_lt (a := op) (b := 3) z (by decide))
    · rw [if_neg z]
      exact if_neg (fun q => z ((nI_ltI (a := op) (b := 3) (by omega) (by decide)).mp q))
  · subst e
    rw [hT 1 (by decide)]
    exact ht
  · subst e; exact ht
theorem gk_TR_T {cnt : Nat} {K O par hp : Nat → Int32} (h : gr_TR cnt K O par hp) (hc : cnt ≤ 48) : gk_T K O cnt := by
  intro n hn
  obtain ⟨⟨κ, k1, k2, k3, _⟩, _⟩ := h n hn
  refine ⟨κ, k1, k2, fun w hw => ?_⟩
  obtain ⟨c, c1, c2, c3⟩ := k3 w hw
  have ec : gr_ch O κ n w = c := by unfold gr_ch; rw [c1]; exact gc_cl (by omega)
  rw [ec]
  exact ⟨c1, c2⟩
theorem gk_TR_k {cnt : Nat} {K O par hp : Nat → Int32} (h : gr_TR cnt K O par hp) (hc : cnt ≤ 48) {n κ : Nat} (hn : n < cnt) (hK : K n = nI κ) (hκ : κ ≤ 8) :
    (∀ w, w < gc_nc κ → O (3 * n + gc_pc κ + w) = nI (gr_ch O κ n w) ∧ gr_ch O κ n w < n ∧ par (gr_ch O κ n w) = nI n) ∧ (∀ w w', w < gc_nc κ → w' < gc_nc κ → w' ≠ w → ¬ gr_ch O κ n w' = gr_ch O κ n w) ∧ gr_plain O κ n := by
  obtain ⟨⟨κ', k1, k2, k3, k4, k5⟩, _⟩ := h n hn
  obtain rfl : κ' = κ := gc_inj (k1.symm.trans hK) (by omega) (by omega)
  have C : ∀ w, w < gc_nc κ' → O (3 * n + gc_pc κ' + w) = nI (gr_ch O κ' n w) ∧ gr_ch O κ' n w < n ∧ par (gr_ch O κ' n w) = nI n := by
    intro w hw
    obtain ⟨c, c1, c2, c3⟩ := k3 w hw
    have ec : gr_ch O κ' n w = c := by unfold gr_ch; rw [c1]; exact gc_cl (by omega)
    rw [ec]
    exact ⟨c1, c2, c3⟩
  refine ⟨C, fun w w' hw hw' hne e => ?_, k5⟩
  have q := (C w hw).1
  have q' := (C w' hw').1
  rw [e] at q'
  by_cases hlt : w < w'
  · exact k4 w w' hlt hw' (q.trans q'.symm)
  · exact k4 w' w (by omega) hw (q'.trans q.symm)
end
section
def gk_E (K O ty ip : Nat → Int32) (G : Nat → List Int32) (V : Nat → Bool) (nt st sc lb : Nat → Int32) (cc cnt : Nat) : Prop :=
  ∀ x, x < 48 → (ip x = 0 ∧ ty x = -1) ∨ (ip x = 1 ∧ V x = true ∧ gr_N K O ty ip G nt st sc lb cc cnt x)
def gk_F (root cnt t : Nat) (s k : Nat → Nat) (K O par ty ip : Nat → Int32) (G : Nat → List Int32) (V : Nat → Bool) : Prop :=
  ∀ x, V x = true → x < cnt ∧ (∀ t', t' ∈ G x → gc_T t') ∧ (x = root ∨ (x < root ∧ ∃ p κ w, V p = true ∧ x < p ∧ par x = nI p ∧ K p = nI κ ∧ κ ≤ 8 ∧ w < gc_nc κ ∧ gr_ch O κ p w = x ∧ G x = gr_ext O ty κ p w (G p) ∧ (κ = 7 → w = 1 → ip (gr_ch O 7 p 0) = 1) ∧ (ip p = 1 ∨ ∃ j, j ≤ t ∧ s j = p ∧ w < k j)))
def gk_B (root cnt t : Nat) (s k : Nat → Nat) (G : Nat → List Int32) (V : Nat → Bool) (ip wN wS : Nat → Int32) : Prop :=
  ∀ j, j ≤ t → wN j = nI (s j) ∧ wS j = nI (k j) ∧ s j < cnt ∧ s j + j ≤ root ∧ V (s j) = true ∧ ip (s j) = 0 ∧ (G (s j)).length ≤ 2 * j
def gk_Cn (t : Nat) (s k : Nat → Nat) (K O ty ip : Nat → Int32) (G : Nat → List Int32) : Prop :=
  ∀ j, j < t → s (j + 1) < s j ∧ ∃ κ, K (s j) = nI κ ∧ κ ≤ 8 ∧ 1 ≤ k j ∧ k j ≤ gc_nc κ ∧ s (j + 1) = gr_ch O κ (s j) (k j - 1) ∧ G (s (j + 1)) = gr_ext O ty κ (s j) (k j - 1) (G (s j)) ∧ ∀ w, w < k j - 1 → ip (gr_ch O κ (s j) w) = 1 ∧ G (gr_ch O κ (s j) w) = gr_ext O ty κ (s j) w (G (s j))
def gk_D (t : Nat) (s k : Nat → Nat) (K O ty ip : Nat → Int32) (G : Nat → List Int32) (cT : Nat → Int32) (cd : Int32) : Prop :=
  ∃ κ, K (s t) = nI κ ∧ κ ≤ 8 ∧ k t ≤ gc_nc κ ∧ (∀ w, w < k t → ip (gr_ch O κ (s t) w) = 1 ∧ G (gr_ch O κ (s t) w) = gr_ext O ty κ (s t) w (G (s t))) ∧ ∃ L, L = (if k t = 0 then G (s t) else gr_ext O ty κ (s t) (k t - 1) (G (s t))) ∧ cd = nI L.length ∧ gk_C cT L
def gk_I (root cnt t np : Nat) (s k : Nat → Nat) (G : Nat → List Int32) (V : Nat → Bool) (cc : Nat) (K O par ty ip nt st sc lb wN wS cT : Nat → Int32) (cd : Int32) : Prop :=
  (t < 48 ∧ s 0 = root ∧ G root = [] ∧ V root = true ∧ gk_cn V 48 = np + t + 1 ∧ 1 ≤ cc ∧ cc ≤ 1 + 3 * np ∧ (∀ j, j < 9 → lb j = 0)) ∧
  gk_B root cnt t s k G V ip wN wS ∧ gk_Cn t s k K O ty ip G ∧ gk_D t s k K O ty ip G cT cd ∧ gk_E K O ty ip G V nt st sc lb cc cnt ∧ gk_F root cnt t s k K O par ty ip G V
theorem gr_ext_len {O ty : Nat → Int32} {κ n w : Nat} {L : List Int32} : (gr_ext O ty κ n w L).length ≤ L.length + 2 := by
  unfold gr_ext
  by_cases e3 : κ = 3
  · rw [if_pos e3]; exact Nat.le_refl _
  · rw [if_neg e3]
    by_cases e7 : κ = 7 ∧ w = 1
    · rw [if_pos e7]; show L.length + 1 ≤ _; omega
    · rw [if_neg e7]; omega
theorem gk_sdec {t : Nat} {s : Nat → Nat} (h : ∀ j, j < t → s (j + 1) < s j) : ∀ d i, i + d ≤ t → 1 ≤ d → s (i + d) < s i := by
  intro d
  induction d with
  | zero => intro i _ h; omega
  | succ d ih =>
    intro i h1 h2
    by_cases e : d = 0
    · subst e; exact h i (by omega)
    · have a := ih i (by omega) (by omega)
      have b := h (i + d) (by omega)
      rw [show i + (d + 1) = i + d + 1 by omega]
      omega
section
variable {root cnt t np : Nat} {s k : Nat → Nat} {G : Nat → List Int32} {V : Nat → Bool} {cc : Nat} {K O par ty ip nt st sc lb wN wS cT : Nat → Int32} {cd : Int32} {hp : Nat → Int32}
theorem gk_ipV (h : gk_E K O ty ip G V nt st sc lb cc cnt) {x : Nat} (hx : x < 48) (hi : ip x = 1) : V x = true ∧ gr_N K O ty ip G nt st sc lb cc cnt x := by
  rcases h x hx with ⟨h, _⟩ | ⟨_, h⟩
  · rw [h] at hi; exact absurd hi (by decide)
  · exact h
theorem gk_down (hTR : gr_TR cnt K O par hp) (hcnt : cnt ≤ 48) (hroot : root < cnt) (h : gk_I root cnt t np s k G V cc K O par ty ip nt st sc lb wN wS cT cd) {κ : Nat} (hK : K (s t) = nI κ) (hκ : κ ≤ 8) (hk : k t < gc_nc κ) :
    ∃ (s' k' : Nat → Nat) (G' : Nat → List Int32) (V' : Nat → Bool) (L : List Int32), t + 1 < 48 ∧ L.length + 2 ≤ 100 ∧ cd = nI L.length ∧ gk_C cT L ∧ s' (t + 1) = gr_ch O κ (s t) (k t) ∧ k' (t + 1) = 0 ∧
      ∀ cT', gk_C cT' (gr_ext O nt κ (s t) (k t) L) → gk_I root cnt (t + 1) np s' k' G' V' cc K O par ty ip nt st sc lb (upd wN (t + 1) (nI (gr_ch O κ (s t) (k t)))) (upd (upd wS t (nI (k t + 1))) (t + 1) 0) cT' (nI (gr_ext O nt κ (s t) (k t) L).length) := by
  obtain ⟨⟨a1, a2, a3, a4, a5, a6, a7, a8⟩, hB, hC, ⟨κ', d1, d2, d3, d4, L, d5, d6, d7⟩, hE, hF⟩ := h
  obtain rfl : κ' = κ := gc_inj (d1.symm.trans hK) (by omega) (by omega)
  have T := gc_tab hκ
  obtain ⟨b1, b2, b3, b4, b5, b6, b7⟩ := hB t (Nat.le_refl _)
  obtain ⟨t1, t2, t3⟩ := gk_TR_k hTR hcnt b3 hK hκ
  obtain ⟨c1, c2, c3⟩ := t1 (k t) hk
  -- the context is the node's own
  have eL : L = G (s t) := by
    rw [d5]
    by_cases e : k t = 0
    · rw [if_pos e]
    · rw [if_neg e]
      unfold gr_ext
      rw [if_neg (by omega), if_neg (by omega)]
  -- the child is new
  have hfresh : V (gr_ch O κ' (s t) (k t)) = false := by
    cases hv : V (gr_ch O κ' (s t) (k t)) with
    | false => rfl
    | true =>
      exfalso
      obtain ⟨_, _, h3⟩ := hF _ hv
      rcases h3 with h3 | ⟨h3, p, κ, w, v1, v2, v3, v4, v5, v6, v7, v8, v9, v10⟩
      · omega
      · have hpc := (hF p v1).1
        obtain rfl : p = s t := gc_inj (v3.symm.trans c3) (by omega) (by omega)
        obtain rfl : κ = κ' := gc_inj (v4.symm.trans hK) (by omega) (by omega)
        have ew : w = k t := Classical.byContradiction (fun ne => t2 (k t) w hk v6 ne v7)
        rcases v10 with v | ⟨j, j1, j2, j3⟩
        · rw [b6] at v; exact absurd v (by decide)
        · have : j = t := by
            refine Classical.byContradiction (fun ne => ?_)
            have := gk_sdec (fun j hj => (hC j hj).1) (t - j) j (by omega) (by omega)
            rw [show j + (t - j) = t by omega] at this
            omega
          subst this
          omega
  have hVne : ∀ x, V x = true → x ≠ gr_ch O κ' (s t) (k t) := fun x hx e => by rw [e, hfresh] at hx; exact Bool.noConfusion hx
  have hip0 : ip (gr_ch O κ' (s t) (k t)) = 0 := by
    rcases hE (gr_ch O κ' (s t) (k t)) (by omega) with h | h
    · exact h.1
    · rw [hfresh] at h; exact Bool.noConfusion h.2.1
  have enty : ∀ L', gr_ext O nt κ' (s t) (k t) L' = gr_ext O ty κ' (s t) (k t) L' := by
    intro L'
    refine gr_ext_cg (fun e7 ek => ?_)
    subst e7
    obtain ⟨i1, _⟩ := d4 0 (by omega)
    obtain ⟨_, hN⟩ := gk_ipV hE (by have := (t1 0 (by decide)).2.1; omega) i1
    obtain ⟨_, _, _, _, _, h5, _⟩ := hN
    exact h5
  have hn : s t < 48 := by omega
  refine ⟨fun j => if j = t + 1 then gr_ch O κ' (s t) (k t) else s j, fun j => if j = t + 1 then 0 else if j = t then k t + 1 else k j, fun x => if x = gr_ch O κ' (s t) (k t) then gr_ext O ty κ' (s t) (k t) (G (s t)) else G x, fun x => if x = gr_ch O κ' (s t) (k t) then true else V x, L, by omega, by rw [eL]; omega, d6, d7, if_pos rfl, if_pos rfl, fun cT' hC' => ?_⟩
  have hne : s t ≠ gr_ch O κ' (s t) (k t) := by omega
  have hipne : ∀ x, x < 48 → ip x = 1 → x ≠ gr_ch O κ' (s t) (k t) := fun x hx hi => hVne x (gk_ipV hE hx hi).1
  refine ⟨⟨by omega, ?_, ?_, ?_, ?_, a6, a7, a8⟩, ?_, ?_, ?_, ?_, ?_⟩
  · show (if 0 = t + 1 then _ else s 0) = root
    rw [if_neg (by omega)]; exact a2
  · show (if root = gr_ch O κ' (s t) (k t) then _ else G root) = []
    rw [if_neg (by omega)]; exact a3
  · show (if root = gr_ch O κ' (s t) (k t) then true else V root) = true
    rw [if_neg (by omega)]; exact a4
  · rw [gk_cn_add hfresh 48 (by omega), a5]; omega
  · intro j hj
    by_cases ej : j = t + 1
    · subst ej
      simp only [if_pos]
      refine ⟨pk_us, pk_us, by omega, by omega, trivial, hip0, ?_⟩
      have := gr_ext_len (O := O) (ty := ty) (κ := κ') (n := s t) (w := k t) (L := G (s t))
      omega
    · obtain ⟨q1, q2, q3, q4, q5, q6, q7⟩ := hB j (by omega)
      have ne : s j ≠ gr_ch O κ' (s t) (k t) := hVne _ q5
      simp only [if_neg ej, if_neg ne]
      refine ⟨(pk_un ej).trans q1, ?_, q3, q4, q5, q6, q7⟩
      rw [pk_un ej]
      by_cases e2 : j = t
      · subst e2; rw [pk_us, if_pos rfl]
      · rw [pk_un e2, if_neg e2]; exact q2
  · intro j hj
    by_cases ej : j = t
    · subst ej
      simp only [if_pos, if_neg (show ¬ j = j + 1 by omega), if_neg hne]
      refine ⟨c2, κ', hK, hκ, by omega, by omega, rfl, rfl, fun w hw => ?_⟩
      have hw' : w < k j := by omega
      have ne : gr_ch O κ' (s j) w ≠ gr_ch O κ' (s j) (k j) := t2 (k j) w hk (by omega) (by omega)
      simp only [if_neg ne]
      exact d4 w hw'
    · obtain ⟨q1, κ2, q2, q3, q4, q5, q6, q7, q8⟩ := hC j (by omega)
      have ne1 : s j ≠ gr_ch O κ' (s t) (k t) := hVne _ (hB j (by omega)).2.2.2.2.1
      have ne2 : s (j + 1) ≠ gr_ch O κ' (s t) (k t) := hVne _ (hB (j + 1) (by omega)).2.2.2.2.1
      simp only [if_neg ej, if_neg (show ¬ j + 1 = t + 1 by omega), if_neg (show ¬ j = t + 1 by omega), if_neg ne1, if_neg ne2]
      refine ⟨q1, κ2, q2, q3, q4, q5, q6, q7, fun w hw => ?_⟩
      obtain ⟨w1, w2⟩ := q8 w hw
      have hlt := ((gk_TR_k hTR hcnt (hB j (by omega)).2.2.1 q2 q3).1 w (by omega)).2.1
      have hsj := (hB j (by omega)).2.2.1
      have ne3 := hipne _ (by omega) w1
      simp only [if_neg ne3]
      exact ⟨w1, w2⟩
  · obtain ⟨κ2, k1, k2, k3⟩ := gk_TR_T hTR hcnt (gr_ch O κ' (s t) (k t)) (by omega)
    refine ⟨κ2, ?_, k2, ?_, fun w hw => ?_, gr_ext O ty κ' (s t) (k t) (G (s t)), ?_, ?_, ?_⟩
    · simp only [if_pos]; exact k1
    · simp only [if_pos]; omega
    · simp only [if_pos] at hw; omega
    · simp only [if_pos]
    · rw [enty, eL]
    · rw [enty, eL] at hC'; exact hC'
  · intro x hx
    rcases hE x hx with h | ⟨h1, h2, h3⟩
    · exact Or.inl h
    · have ne := hVne x h2
      refine Or.inr ⟨h1, (if_neg ne).trans h2, ?_⟩
      refine gr_N_cg hcnt h3 (Nat.le_refl _) rfl rfl (fun κ2 w q1 q2 q3 => ?_) (if_neg ne) (fun _ _ _ => ⟨rfl, rfl⟩) (fun _ _ => rfl)
      obtain ⟨_, _, _, n4, _⟩ := gr_N_kind hcnt h3 q1 q2
      obtain ⟨m1, m2, m3, _⟩ := n4 w q3
      exact ⟨rfl, m3, if_neg (hipne _ (by omega) m3)⟩
  · intro x hx
    by_cases e : x = gr_ch O κ' (s t) (k t)
    · subst e
      simp only [if_pos]
      refine ⟨by omega, fun t' ht' => ?_, Or.inr ⟨by omega, s t, κ', k t, ?_, c2, c3, hK, hκ, hk, rfl, ?_, fun e7 ek => ?_, Or.inr ⟨t, by omega, ?_, ?_⟩⟩⟩
      · have hGT := (hF (s t) b5).2.1
        unfold gr_ext at ht'
        by_cases e3 : κ' = 3
        · rw [if_pos e3] at ht'
          obtain ⟨p3a, p3b⟩ := t3.2.2.1 e3
          rcases List.mem_cons.mp ht' with h | h
          · rw [h]; exact gc_A_T p3a
          · rcases List.mem_cons.mp h with h | h
            · rw [h]; exact gc_ta_T p3a p3b
            · exact hGT _ h
        · rw [if_neg e3] at ht'
          by_cases e7 : κ' = 7 ∧ k t = 1
          · rw [if_pos e7] at ht'
            rcases List.mem_cons.mp ht' with h | h
            · obtain ⟨e7a, e7b⟩ := e7
              subst e7a
              obtain ⟨i1, _⟩ := d4 0 (by omega)
              obtain ⟨_, hN⟩ := gk_ipV hE (by have := (t1 0 (by decide)).2.1; omega) i1
              obtain ⟨_, _, _, _, h4, _⟩ := hN
              rw [h]
              exact h4
            · exact hGT _ h
          · rw [if_neg e7] at ht'
            exact hGT _ ht'
      · show (if s t = gr_ch O κ' (s t) (k t) then true else V (s t)) = true
        rw [if_neg hne]; exact b5
      · simp only [if_neg hne]
      · subst e7
        exact (d4 0 (by omega)).1
      · simp only [if_neg (show ¬ t = t + 1 by omega)]
      · simp only [if_neg (show ¬ t = t + 1 by omega), if_pos]; omega
    · simp only [if_neg e] at hx ⊢
      obtain ⟨h1, h2, h3⟩ := hF x hx
      refine ⟨h1, h2, ?_⟩
      rcases h3 with h3 | ⟨h3, p, κ, w, v1, v2, v3, v4, v5, v6, v7, v8, v9, v10⟩
      · exact Or.inl h3
      · have ne := hVne p v1
        refine Or.inr ⟨h3, p, κ, w, (if_neg ne).trans v1, v2, v3, v4, v5, v6, v7, by simp only [if_neg ne]; exact v8, v9, ?_⟩
        rcases v10 with v | ⟨j, j1, j2, j3⟩
        · exact Or.inl v
        · refine Or.inr ⟨j, by omega, ?_, ?_⟩
          · simp only [if_neg (show ¬ j = t + 1 by omega)]; exact j2
          · simp only [if_neg (show ¬ j = t + 1 by omega)]
            by_cases ej : j = t
            · subst ej; rw [if_pos rfl]; omega
            · rw [if_neg ej]; exact j3
end
end
section
section
variable {root cnt t np : Nat} {s k : Nat → Nat} {G : Nat → List Int32} {V : Nat → Bool} {cc : Nat} {K O par ty ip nt st sc lb wN wS cT : Nat → Int32} {cd : Int32} {hp : Nat → Int32}
theorem gk_close (h : gk_I root cnt t np s k G V cc K O par ty ip nt st sc lb wN wS cT cd) {κ : Nat} (hK : K (s t) = nI κ) (hκ : κ ≤ 8) (hk : k t = gc_nc κ) (hr : root < 48) :
    ∃ l, cd = nI l ∧ l < 100 ∧ l - (if κ = 3 then 2 else if κ = 7 then 1 else 0) = (G (s t)).length ∧ gk_C cT (G (s t)) ∧ (κ = 3 → 2 ≤ l) ∧ (κ = 7 → 1 ≤ l) ∧ (κ = 2 → l = (G (s t)).length) := by
  obtain ⟨⟨a1, a2, a3, a4, a5, a6, a7, a8⟩, hB, hC, ⟨κ', d1, d2, d3, d4, L, d5, d6, d7⟩, hE, hF⟩ := h
  obtain rfl : κ' = κ := gc_inj (d1.symm.trans hK) (by omega) (by omega)
  have T := gc_tab hκ
  obtain ⟨b1, b2, b3, b4, b5, b6, b7⟩ := hB t (Nat.le_refl _)
  unfold gr_ext at d5
  by_cases e3 : κ' = 3
  · have eL : L = O (3 * s t) :: gc_ta (O (3 * s t)) (O (3 * s t + 1)) :: G (s t) := by rw [d5, if_neg (by omega), if_pos e3]
    rw [eL] at d6 d7
    refine ⟨_, d6, ?_, ?_, gk_C_pop (gk_C_pop d7), fun _ => ?_, fun _ => ?_, fun e => by omega⟩
    · show (G (s t)).length + 1 + 1 < 100; omega
    · rw [if_pos e3]; show (G (s t)).length + 1 + 1 - 2 = _; omega
    · show 2 ≤ (G (s t)).length + 1 + 1; omega
    · omega
  · by_cases e7 : κ' = 7
    · have eL : L = ty (O (3 * s t)).toNatClampNeg :: G (s t) := by rw [d5, if_neg (by omega), if_neg e3, if_pos ⟨e7, by omega⟩]
      rw [eL] at d6 d7
      refine ⟨_, d6, ?_, ?_, gk_C_pop d7, fun _ => by omega, fun _ => ?_, fun e => by omega⟩
      · show (G (s t)).length + 1 < 100; omega
      · rw [if_neg e3, if_pos e7]; show (G (s t)).length + 1 - 1 = _; omega
      · show 1 ≤ (G (s t)).length + 1; omega
    · have eL : L = G (s t) := by
        rw [d5]
        by_cases z : k t = 0
        · rw [if_pos z]
        · rw [if_neg z, if_neg e3, if_neg (fun h => e7 h.1)]
      rw [eL] at d6 d7
      refine ⟨_, d6, by omega, ?_, d7, fun _ => by omega, fun _ => by omega, fun e => rfl⟩
      rw [if_neg e3, if_neg e7]; omega
theorem gk_Eup (hTR : gr_TR cnt K O par hp) (hcnt : cnt ≤ 48) (h : gk_I root cnt t np s k G V cc K O par ty ip nt st sc lb wN wS cT cd) {κ : Nat} (hK : K (s t) = nI κ) (hκ : κ ≤ 8) (hk : k t = gc_nc κ) {lk : Option Int32} {T : Nat → Int32} (hT : T = fun w => ty (gr_ch O κ (s t) w))
    (he : gc_je κ (O (3 * s t)) (O (3 * s t + 1)) T lk = 0) (hlk : κ = 2 → ∀ i, O (3 * s t) = nI i → i < 16 → lk = (G (s t))[i]?)
    {cc' : Nat} {lb' st' sc' : Nat → Int32} (x1 : gc_Ext 3 lb cc lb' cc') (x2 : ∀ j, (j < 3 * s t ∨ 3 * s t + 3 ≤ j) → st' j = st j ∧ sc' j = sc j)
    (x3 : ∀ k', 1 ≤ k' → k' ≤ gc_ns κ → st' (3 * s t + (k' - 1)) = gc_jg κ (O (3 * s t)) (O (3 * s t + 1)) T k' ∧ ∃ id, sc' (3 * s t + (k' - 1)) = nI id ∧ id < cc' ∧ ∀ j, j < 9 → gc_row lb' id j = gc_cv (T (k' - 1)) (gc_jg κ (O (3 * s t)) (O (3 * s t + 1)) T k') (nI (4 * s t + k')) j) :
    gk_E K O (upd ty (s t) (gc_jt κ (O (3 * s t)) (O (3 * s t + 1)) T lk)) (upd ip (s t) 1) G V (upd nt (s t) (gc_jt κ (O (3 * s t)) (O (3 * s t + 1)) T lk)) st' sc' lb' cc' cnt := by
  obtain ⟨⟨a1, a2, a3, a4, a5, a6, a7, a8⟩, hB, hC, ⟨κ', d1, d2, d3, d4, L, d5, d6, d7⟩, hE, hF⟩ := h
  obtain rfl : κ' = κ := gc_inj (d1.symm.trans hK) (by omega) (by omega)
  have TT := gc_tab hκ
  obtain ⟨b1, b2, b3, b4, b5, b6, b7⟩ := hB t (Nat.le_refl _)
  obtain ⟨t1, t2, t3⟩ := gk_TR_k hTR hcnt b3 hK hκ
  have hipne : ∀ x, ip x = 1 → x ≠ s t := fun x hi e => by rw [e, b6] at hi; exact absurd hi (by decide)
  have hchT : ∀ w, w < gc_nc κ' → gc_T (T w) := by
    intro w hw
    obtain ⟨i1, _⟩ := d4 w (by omega)
    obtain ⟨_, hN⟩ := gk_ipV hE (by have := (t1 w hw).2.1; omega) i1
    obtain ⟨_, _, _, _, h4, _⟩ := hN
    rw [hT]
    exact h4
  have hlkT : κ' = 2 → ∃ t, lk = some t ∧ gc_T t := by
    intro e
    subst e
    obtain ⟨i, i1, i2⟩ := t3.2.1 rfl
    have h1 := hlk rfl i i2 i1
    have he' : (if lk.isNone = true then 1 else 0) = 0 := he
    cases hl : lk with
    | none => rw [hl] at he'; exact absurd he' (by decide)
    | some τ =>
      refine ⟨τ, rfl, (hF (s t) b5).2.1 τ ?_⟩
      rw [hl] at h1
      exact List.mem_of_getElem? h1.symm
  have hτ := gk_jt_T hκ hchT hlkT (o0 := O (3 * s t)) (o1 := O (3 * s t + 1)) (fun e => t3.2.2.1 e) (fun e => t3.2.2.2.2 e)
  intro x hx
  by_cases e : x = s t
  · subst e
    refine Or.inr ⟨pk_us, b5, b3, κ', hK, hκ, by rw [pk_us]; exact hτ, by rw [pk_us, pk_us], fun w hw => ?_, fun k' k1 k2 => ?_, ?_⟩
    · obtain ⟨i1, i2⟩ := d4 w (by omega)
      obtain ⟨q1, q2, q3⟩ := t1 w hw
      have ne := hipne _ i1
      refine ⟨_, q1, q2, by rw [pk_un ne]; exact i1, by rw [pk_un ne]; have := hchT w hw; rw [hT] at this; exact this, ?_⟩
      rw [i2]
      refine (gr_ext_cg (fun e7 ew => pk_un ?_)).symm
      subst e7
      exact hipne _ (d4 0 (by omega)).1
    · obtain ⟨y1, id, y2, y3, y4⟩ := x3 k' k1 k2
      have ne := hipne _ (d4 (k' - 1) (by omega)).1
      have et : gr_t O (upd ty (s t) (gc_jt κ' (O (3 * s t)) (O (3 * s t + 1)) T lk)) κ' (s t) k' = gc_jg κ' (O (3 * s t)) (O (3 * s t + 1)) T k' := by
        unfold gr_t gc_tg gc_jg
        rw [pk_un ne]
        by_cases e3 : κ' = 3
        · rw [if_pos e3, if_pos e3]
        · rw [if_neg e3, if_neg e3]
          by_cases e4 : κ' = 4
          · rw [if_pos e4, if_pos e4]
            subst e4
            have ne0 := hipne _ (d4 0 (by omega)).1
            by_cases ek : k' = 2
            · rw [if_pos ek, if_pos ek]
              have : upd ty (s t) (gc_jt 4 (O (3 * s t)) (O (3 * s t + 1)) T lk) (gr_ch O 4 (s t) 0) = T 0 := by rw [pk_un ne0, hT]
              exact congrArg gc_td this
            · rw [if_neg ek, if_neg ek]
              have k2' : k' ≤ 2 := k2
              obtain rfl : k' = 1 := by omega
              rw [hT]
          · rw [if_neg e4, if_neg e4]
            by_cases e5 : κ' = 5
            · rw [if_pos e5, if_pos e5]
            · rw [if_neg e5, if_neg e5]
              by_cases e6 : κ' = 6
              · rw [if_pos e6, if_pos e6]
                by_cases ek : k' = 1
                · rw [if_pos ek, if_pos ek]
                · rw [if_neg ek, if_neg ek, pk_us]
                  subst e6
                  rfl
              · rw [if_neg e6, if_neg e6]
      have es : upd ty (s t) (gc_jt κ' (O (3 * s t)) (O (3 * s t + 1)) T lk) (gr_ch O κ' (s t) (k' - 1)) = T (k' - 1) := by rw [pk_un ne, hT]
      obtain ⟨g1, g2⟩ := gk_jg_T (k := k') hκ hchT (fun e => (t3.2.2.1 e).2) (fun e => t3.2.2.2.2 e) k1 k2 he
      refine ⟨by rw [et]; exact y1, by rw [et]; exact g1, by rw [et, es]; exact g2, id, y2, y3, fun j hj => ?_⟩
      unfold gr_sv
      rw [et, es]
      exact y4 j hj
    · refine gk_rule hκ t3 (T := T) (lk := lk) (fun w hw => ?_) he pk_us hlk
      rw [pk_un (hipne _ (d4 w (by omega)).1), hT]
  · rcases hE x hx with ⟨h1, h2⟩ | ⟨h1, h2, h3⟩
    · exact Or.inl ⟨(pk_un e).trans h1, (pk_un e).trans h2⟩
    · refine Or.inr ⟨(pk_un e).trans h1, h2, ?_⟩
      refine gr_N_cg hcnt h3 x1.1 (pk_un e) (pk_un e) (fun κ2 w q1 q2 q3 => ?_) rfl (fun j j1 j2 => x2 j (by omega)) x1.2.2
      obtain ⟨_, _, _, n4, _⟩ := gr_N_kind hcnt h3 q1 q2
      obtain ⟨m1, m2, m3, _⟩ := n4 w q3
      have ne := hipne _ m3
      exact ⟨pk_un ne, (pk_un ne).trans m3, rfl⟩
theorem gk_up (hTR : gr_TR cnt K O par hp) (hcnt : cnt ≤ 48) (h : gk_I root cnt t np s k G V cc K O par ty ip nt st sc lb wN wS cT cd) (ht : 1 ≤ t) {κ : Nat} (hK : K (s t) = nI κ) (hκ : κ ≤ 8) (hk : k t = gc_nc κ) {τ : Int32}
    {cc' : Nat} {lb' st' sc' nt' : Nat → Int32} (x1 : gc_Ext 3 lb cc lb' cc') (hE' : gk_E K O (upd ty (s t) τ) (upd ip (s t) 1) G V nt' st' sc' lb' cc' cnt) (hcT : gk_C cT (G (s t))) :
    gk_I root cnt (t - 1) (np + 1) s k G V cc' K O par (upd ty (s t) τ) (upd ip (s t) 1) nt' st' sc' lb' wN wS cT (nI (G (s t)).length) := by
  obtain ⟨⟨a1, a2, a3, a4, a5, a6, a7, a8⟩, hB, hC, ⟨κ', d1, d2, d3, d4, L, d5, d6, d7⟩, hE, hF⟩ := h
  obtain ⟨b1, b2, b3, b4, b5, b6, b7⟩ := hB t (Nat.le_refl _)
  have hipne : ∀ x, ip x = 1 → x ≠ s t := fun x hi e => by rw [e, b6] at hi; exact absurd hi (by decide)
  have hip1 : ∀ x, ip x = 1 → upd ip (s t) 1 x = 1 := fun x hi => (pk_un (hipne x hi)).trans hi
  have hsne : ∀ j, j < t → s j ≠ s t := fun j hj e => by
    have := gk_sdec (fun j hj => (hC j hj).1) (t - j) j (by omega) (by omega)
    rw [show j + (t - j) = t by omega] at this
    omega
  have y1 := x1.1
  have y2 := x1.2.1
  refine ⟨⟨by omega, a2, a3, a4, by omega, by omega, by omega, gc_Ext_z x1 a6 a8⟩, ?_, ?_, ?_, hE', ?_⟩
  · intro j hj
    obtain ⟨q1, q2, q3, q4, q5, q6, q7⟩ := hB j (by omega)
    exact ⟨q1, q2, q3, q4, q5, (pk_un (hsne j (by omega))).trans q6, q7⟩
  · intro j hj
    obtain ⟨q1, κ2, q2, q3, q4, q5, q6, q7, q8⟩ := hC j (by omega)
    refine ⟨q1, κ2, q2, q3, q4, q5, q6, ?_, fun w hw => ?_⟩
    · rw [q7]
      refine (gr_ext_cg (fun e7 ew => pk_un ?_)).symm
      subst e7
      exact hipne _ (q8 0 (by omega)).1
    · obtain ⟨w1, w2⟩ := q8 w hw
      refine ⟨hip1 _ w1, ?_⟩
      rw [w2]
      refine (gr_ext_cg (fun e7 ew => pk_un ?_)).symm
      subst e7
      exact hipne _ (q8 0 (by omega)).1
  · obtain ⟨q1, κ2, q2, q3, q4, q5, q6, q7, q8⟩ := hC (t - 1) (by omega)
    rw [show t - 1 + 1 = t by omega] at q1 q6 q7
    have ee : ∀ w, w < k (t - 1) → gr_ext O (upd ty (s t) τ) κ2 (s (t - 1)) w (G (s (t - 1))) = gr_ext O ty κ2 (s (t - 1)) w (G (s (t - 1))) := by
      intro w hw
      refine gr_ext_cg (fun e7 ew => pk_un ?_)
      subst e7
      exact hipne _ (q8 0 (by omega)).1
    refine ⟨κ2, q2, q3, q5, fun w hw => ?_, G (s t), ?_, rfl, hcT⟩
    · rw [ee w hw]
      by_cases ew : w = k (t - 1) - 1
      · rw [ew, ← q6]
        exact ⟨pk_us, q7⟩
      · obtain ⟨w1, w2⟩ := q8 w (by omega)
        exact ⟨hip1 _ w1, w2⟩
    · rw [if_neg (by omega), ee _ (by omega), ← q7]
  · intro x hx
    obtain ⟨h1, h2, h3⟩ := hF x hx
    refine ⟨h1, h2, ?_⟩
    rcases h3 with h3 | ⟨h3, p, κ3, w, v1, v2, v3, v4, v5, v6, v7, v8, v9, v10⟩
    · exact Or.inl h3
    · refine Or.inr ⟨h3, p, κ3, w, v1, v2, v3, v4, v5, v6, v7, ?_, fun e7 ew => hip1 _ (v9 e7 ew), ?_⟩
      · rw [v8]
        exact (gr_ext_cg (fun e7 ew => pk_un (hipne _ (v9 e7 ew)))).symm
      · rcases v10 with v | ⟨j, j1, j2, j3⟩
        · exact Or.inl (hip1 _ v)
        · by_cases ej : j = t
          · subst ej
            rw [← j2]
            exact Or.inl pk_us
          · exact Or.inr ⟨j, by omega, j2, j3⟩
theorem gk_FV (hTR : gr_TR cnt K O par hp) (hcnt : cnt ≤ 48) (h : gk_I root cnt t np s k G V cc K O par ty ip nt st sc lb wN wS cT cd) : gk_V K O ty par G cnt root V := by
  obtain ⟨⟨a1, a2, a3, a4, a5, a6, a7, a8⟩, hB, hC, hD, hE, hF⟩ := h
  intro x hx
  obtain ⟨h1, h2, h3⟩ := hF x hx
  refine ⟨h1, ?_⟩
  rcases h3 with h3 | ⟨h3, p, κ, w, v1, v2, v3, v4, v5, v6, v7, v8, v9, v10⟩
  · exact Or.inl ⟨h3, by rw [h3]; exact a3⟩
  · obtain ⟨t1, t2, t3⟩ := gk_TR_k hTR hcnt (hF p v1).1 v4 v5
    have hpc := (hF p v1).1
    refine Or.inr ⟨h3, p, κ, w, v1, v2, v3, v4, v5, v6, ?_, fun e7 ew eo => ?_, v8⟩
    · rw [(t1 w v6).1, v7]
    · subst e7 ew
      have q := (t1 1 (by decide)).1
      have q' : O (3 * p + 1) = nI (gr_ch O 7 p 1) := q
      have := gc_inj (q'.symm.trans eo) (by have := (t1 1 (by decide)).2.1; omega) (by omega)
      exact t2 0 1 (by decide) (by decide) (by decide) (this.trans v7.symm)
end
end
section
def gk_WX (PX : Int32 → SX → Prop) (root n x : Nat) (u : SX) : Prop := match u with
  | (f_maxNodes, f_maxFuel, f_nodeCount, f_outcome, f_programRoot, f_faultKind, f_faultNode, f_walkTop, f_contextDepth, f_coercionCount, f_compiledCount, f_cellCount, f_closureCount, f_top, f_running, f_atNode, f_atEnv, f_valueTag, f_valueData, f_valueCoercion, f_typeOfResult, f_fuelSpent, f_blamedLabel, a_kinds, a_operands, a_hasParent, a_inProgram, a_nodeType, a_siteTargets, a_siteCoercions, a_walkNode, a_walkStep, a_contextType, a_labels, a_draft, a_cellNext, a_cellTag, a_cellData, a_cellCoercion, a_closureNode, a_closureEnv, a_frameNode, a_frameStage, a_frameEnv, a_framePending, a_frameData, a_frameCoercion) => wX_check_42 PX (nI root) n (nI x) f_maxNodes f_maxFuel f_nodeCount f_outcome f_programRoot f_faultKind f_faultNode f_walkTop f_contextDepth f_coercionCount f_compiledCount f_cellCount f_closureCount f_top f_running f_atNode f_atEnv f_valueTag f_valueData f_valueCoercion f_typeOfResult f_fuelSpent f_blamedLabel a_kinds a_operands a_hasParent a_inProgram a_nodeType a_siteTargets a_siteCoercions a_walkNode a_walkStep a_contextType a_labels a_draft a_cellNext a_cellTag a_cellData a_cellCoercion a_closureNode a_closureEnv a_frameNode a_frameStage a_frameEnv a_framePending a_frameData a_frameCoercion
def gk_WY (post : Int32 → SY → Prop) (root n y c : Nat) (v : SY) : Prop := match v with
  | (g_capacity, g_fuel, g_count, g_state, g_wrongKind, g_wrongNode, g_program, g_used, g_blamed, g_resType, g_vTag, g_vVal, g_vLay, g_todo, g_todoEnv, g_closures, g_bindings, g_layers, g_depth, b_kinds, b_ops, b_parent, b_types, b_cNode, b_cEnv, b_bTag, b_bVal, b_bLay, b_bNext, b_lSource, b_lTarget, b_lLabel, b_lInner, b_frNode, b_frEnv, b_frPhase, b_frVal, b_frLay) => wY_check_55 post (nI root) n (nI y) (nI c) g_capacity g_fuel g_count g_state g_wrongKind g_wrongNode g_program g_used g_blamed g_resType g_vTag g_vVal g_vLay g_todo g_todoEnv g_closures g_bindings g_layers g_depth b_kinds b_ops b_parent b_types b_cNode b_cEnv b_bTag b_bVal b_bLay b_bNext b_lSource b_lTarget b_lLabel b_lInner b_frNode b_frEnv b_frPhase b_frVal b_frLay
def gk_Yt (root y np : Nat) (v : SY) (r : Int32) (v' : SY) : Prop := ∀ (post : Int32 → SY → Prop) (ny : Nat), 48 - np < ny → post r v' → gk_WY post root ny y np v
def gk_GX (root x y np : Nat) (u : SX) (v : SY) : Prop := ∀ (nx : Nat) (PX : Int32 → SX → Prop), 96 - x < nx → (∀ r u' v', gr_R u' v' → gk_Yt root y np v r v' → PX r u') → gk_WX PX root nx x u
def gk_y (K O : Nat → Int32) (κ n k : Nat) : Nat := if k < gc_nc κ then gk_fst K O (gr_ch O κ n k) else n
def gk_Sim (root x y np : Nat) (u : SX) (v : SY) : Prop := match u with
  | (f_maxNodes, f_maxFuel, f_nodeCount, f_outcome, f_programRoot, f_faultKind, f_faultNode, f_walkTop, f_contextDepth, f_coercionCount, f_compiledCount, f_cellCount, f_closureCount, f_top, f_running, f_atNode, f_atEnv, f_valueTag, f_valueData, f_valueCoercion, f_typeOfResult, f_fuelSpent, f_blamedLabel, a_kinds, a_operands, a_hasParent, a_inProgram, a_nodeType, a_siteTargets, a_siteCoercions, a_walkNode, a_walkStep, a_contextType, a_labels, a_draft, a_cellNext, a_cellTag, a_cellData, a_cellCoercion, a_closureNode, a_closureEnv, a_frameNode, a_frameStage, a_frameEnv, a_framePending, a_frameData, a_frameCoercion) => match v with
    | (g_capacity, g_fuel, g_count, g_state, g_wrongKind, g_wrongNode, g_program, g_used, g_blamed, g_resType, g_vTag, g_vVal, g_vLay, g_todo, g_todoEnv, g_closures, g_bindings, g_layers, g_depth, b_kinds, b_ops, b_parent, b_types, b_cNode, b_cEnv, b_bTag, b_bVal, b_bLay, b_bNext, b_lSource, b_lTarget, b_lLabel, b_lInner, b_frNode, b_frEnv, b_frPhase, b_frVal, b_frLay) => ∃ (mn mf cnt t : Nat) (s k : Nat → Nat) (G : Nat → List Int32) (V : Nat → Bool) (cc : Nat), gr_B mn mf cnt f_maxNodes f_maxFuel f_nodeCount g_capacity g_fuel g_count a_kinds a_operands a_hasParent b_kinds b_ops b_parent ∧ root < cnt ∧ x = 2 * np + t ∧ f_walkTop = nI t ∧ f_faultKind = 0 ∧ f_programRoot = nI root ∧ g_program = nI root ∧ f_fuelSpent = 0 ∧ g_used = 0 ∧ f_coercionCount = nI cc ∧ (∃ κ, a_kinds (s t) = nI κ ∧ κ ≤ 8 ∧ y = gk_y a_kinds a_operands κ (s t) (k t)) ∧ gk_I root cnt t np s k G V cc a_kinds a_operands b_parent b_types a_inProgram a_nodeType a_siteTargets a_siteCoercions a_labels a_walkNode a_walkStep a_contextType f_contextDepth
section
variable {f_maxNodes f_maxFuel f_nodeCount f_outcome f_programRoot f_faultKind f_faultNode f_walkTop f_contextDepth f_coercionCount f_compiledCount f_cellCount f_closureCount f_top f_running f_atNode f_atEnv f_valueTag f_valueData f_valueCoercion f_typeOfResult f_fuelSpent f_blamedLabel : Int32} {a_kinds a_operands a_hasParent a_inProgram a_nodeType a_siteTargets a_siteCoercions a_walkNode a_walkStep a_contextType a_labels a_draft a_cellNext a_cellTag a_cellData a_cellCoercion a_closureNode a_closureEnv a_frameNode a_frameStage a_frameEnv a_framePending a_frameData a_frameCoercion : Nat → Int32} {g_capacity g_fuel g_count g_state g_wrongKind g_wrongNode g_program g_used g_blamed g_resType g_vTag g_vVal g_vLay g_todo g_todoEnv g_closures g_bindings g_layers g_depth : Int32} {b_kinds b_ops b_parent b_types b_cNode b_cEnv b_bTag b_bVal b_bLay b_bNext b_lSource b_lTarget b_lLabel b_lInner b_frNode b_frEnv b_frPhase b_frVal b_frLay : Nat → Int32}
variable {root cnt t np mn mf x y : Nat} {s k : Nat → Nat} {G : Nat → List Int32} {V : Nat → Bool} {cc : Nat}
theorem gk_sdown {κ : Nat} {v : SY} (hv : v = (g_capacity, g_fuel, nI cnt, g_state, g_wrongKind, g_wrongNode, nI root, 0, g_blamed, g_resType, g_vTag, g_vVal, g_vLay, g_todo, g_todoEnv, g_closures, g_bindings, g_layers, g_depth, a_kinds, a_operands, b_parent, b_types, b_cNode, b_cEnv, b_bTag, b_bVal, b_bLay, b_bNext, b_lSource, b_lTarget, b_lLabel, b_lInner, b_frNode, b_frEnv, b_frPhase, b_frVal, b_frLay)) (hB : gr_B mn mf cnt f_maxNodes f_maxFuel f_nodeCount g_capacity g_fuel (nI cnt) a_kinds a_operands a_hasParent a_kinds a_operands b_parent) (hr : root < cnt) (hx : x = 2 * np + t) (hI : gk_I root cnt t np s k G V cc a_kinds a_operands b_parent b_types a_inProgram a_nodeType a_siteTargets a_siteCoercions a_labels a_walkNode a_walkStep a_contextType f_contextDepth) (hK : a_kinds (s t) = nI κ) (hκ : κ ≤ 8) (hy : y = gk_y a_kinds a_operands κ (s t) (k t)) (hk : k t < gc_nc κ)
    (IH : ∀ u, gk_Sim root (x + 1) y np u v → gk_GX root (x + 1) y np u v) : gk_GX root x y np (f_maxNodes, f_maxFuel, f_nodeCount, f_outcome, nI root, 0, f_faultNode, nI t, f_contextDepth, nI cc, f_compiledCount, f_cellCount, f_closureCount, f_top, f_running, f_atNode, f_atEnv, f_valueTag, f_valueData, f_valueCoercion, f_typeOfResult, 0, f_blamedLabel, a_kinds, a_operands, a_hasParent, a_inProgram, a_nodeType, a_siteTargets, a_siteCoercions, a_walkNode, a_walkStep, a_contextType, a_labels, a_draft, a_cellNext, a_cellTag, a_cellData, a_cellCoercion, a_closureNode, a_closureEnv, a_frameNode, a_frameStage, a_frameEnv, a_framePending, a_frameData, a_frameCoercion) v := by
  obtain ⟨b1, b2, b3, b4, _, _, _, _, _, _, _, _, hTR⟩ := id hB
  have hc : cnt ≤ 48 := by omega
  obtain ⟨s', k', G', V', L, g1, g2, g3, g4, g5, g6, g7⟩ := gk_down hTR hc hr hI hK hκ hk
  obtain ⟨⟨a1, a2, a3, a4, a5, a6, a7, a8⟩, hBB, _, _, _, hF⟩ := id hI
  have hcn := gk_cn_le (fun z hz => (hF z hz).1) 48
  obtain ⟨q1, q2, q3, q4, q5, q6, q7⟩ := hBB t (Nat.le_refl _)
  obtain ⟨t1, t2, t3⟩ := gk_TR_k hTR hc q3 hK hκ
  obtain ⟨c1, c2, c3⟩ := t1 (k t) hk
  intro nx PX h1 H
  obtain ⟨n, rfl⟩ : ∃ q, nx = q + 1 := ⟨nx - 1, by omega⟩
  refine pk_le 128 x (fun h => by omega) (fun _ => br_f (gc_nneg t (by omega)) (br_t rfl ?_))
  subst g3
  refine gx_walk_down g1 (by omega) q1 q2 hK hκ hk c1 g2 g4 (fun e7 => ?_) (fun cT' hC' => nm_r (nI_1 x) ?_)
  · subst e7
    have := t1 0 (by decide)
    exact ⟨_, by omega, this.1⟩
  · have hI' := g7 cT' hC'
    subst hv
    refine IH (f_maxNodes, f_maxFuel, f_nodeCount, f_outcome, nI root, 0, f_faultNode, nI (t + 1), nI (gr_ext a_operands a_nodeType κ (s t) (k t) L).length, nI cc, f_compiledCount, f_cellCount, f_closureCount, f_top, f_running, f_atNode, f_atEnv, f_valueTag, f_valueData, f_valueCoercion, f_typeOfResult, 0, f_blamedLabel, a_kinds, a_operands, a_hasParent, a_inProgram, a_nodeType, a_siteTargets, a_siteCoercions, upd a_walkNode (t + 1) (nI (gr_ch a_operands κ (s t) (k t))), upd (upd a_walkStep t (nI (k t + 1))) (t + 1) 0, cT', a_labels, a_draft, a_cellNext, a_cellTag, a_cellData, a_cellCoercion, a_closureNode, a_closureEnv, a_frameNode, a_frameStage, a_frameEnv, a_framePending, a_frameData, a_frameCoercion) ⟨mn, mf, cnt, t + 1, s', k', G', V', cc, hB, hr, by omega, rfl, rfl, rfl, rfl, rfl, rfl, rfl, ?_, hI'⟩ n PX (by omega) H
    obtain ⟨κ2, e1, e2, e3⟩ := gk_TR_T hTR hc (gr_ch a_operands κ (s t) (k t)) (by omega)
    refine ⟨κ2, by rw [g5]; exact e1, e2, ?_⟩
    rw [hy, g5, g6]
    unfold gk_y
    rw [if_pos hk, gk_fst_eq (gk_TR_T hTR hc) (by omega) e1 e2]
theorem gk_sjudge {κ : Nat} (hB : gr_B mn mf cnt f_maxNodes f_maxFuel f_nodeCount g_capacity g_fuel (nI cnt) a_kinds a_operands a_hasParent a_kinds a_operands b_parent) (hr : root < cnt) (hx : x = 2 * np + t) (hI : gk_I root cnt t np s k G V cc a_kinds a_operands b_parent b_types a_inProgram a_nodeType a_siteTargets a_siteCoercions a_labels a_walkNode a_walkStep a_contextType f_contextDepth) (hK : a_kinds (s t) = nI κ) (hκ : κ ≤ 8) (hk : k t = gc_nc κ)
    (IH : ∀ y' u v', gk_Sim root (x + 1) y' (np + 1) u v' → gk_GX root (x + 1) y' (np + 1) u v') : gk_GX root x (s t) np (f_maxNodes, f_maxFuel, f_nodeCount, f_outcome, nI root, 0, f_faultNode, nI t, f_contextDepth, nI cc, f_compiledCount, f_cellCount, f_closureCount, f_top, f_running, f_atNode, f_atEnv, f_valueTag, f_valueData, f_valueCoercion, f_typeOfResult, 0, f_blamedLabel, a_kinds, a_operands, a_hasParent, a_inProgram, a_nodeType, a_siteTargets, a_siteCoercions, a_walkNode, a_walkStep, a_contextType, a_labels, a_draft, a_cellNext, a_cellTag, a_cellData, a_cellCoercion, a_closureNode, a_closureEnv, a_frameNode, a_frameStage, a_frameEnv, a_framePending, a_frameData, a_frameCoercion) (g_capacity, g_fuel, nI cnt, g_state, g_wrongKind, g_wrongNode, nI root, 0, g_blamed, g_resType, g_vTag, g_vVal, g_vLay, g_todo, g_todoEnv, g_closures, g_bindings, g_layers, g_depth, a_kinds, a_operands, b_parent, b_types, b_cNode, b_cEnv, b_bTag, b_bVal, b_bLay, b_bNext, b_lSource, b_lTarget, b_lLabel, b_lInner, b_frNode, b_frEnv, b_frPhase, b_frVal, b_frLay) := by
  obtain ⟨b1, b2, b3, b4, _, _, _, _, _, _, _, _, hTR⟩ := id hB
  have hc : cnt ≤ 48 := by omega
  obtain ⟨⟨a1, a2, a3, a4, a5, a6, a7, a8⟩, hBB, hCn, hD, hE, hF⟩ := id hI
  have hcn := gk_cn_le (fun z hz => (hF z hz).1) 48
  obtain ⟨q1, q2, q3, q4, q5, q6, q7⟩ := hBB t (Nat.le_refl _)
  obtain ⟨t1, t2, t3⟩ := gk_TR_k hTR hc q3 hK hκ
  obtain ⟨κ', d1, d2, d3, d4, _⟩ := id hD
  obtain rfl : κ' = κ := gc_inj (d1.symm.trans hK) (by omega) (by omega)
  obtain ⟨l, l1, l2, l3, l4, l5, l6, l7⟩ := gk_close hI hK hκ hk (by omega)
  -- the looked-up type
  obtain ⟨lk, i, hlk, hv⟩ : ∃ (lk : Option Int32) (i : Nat), (κ' = 2 → ∀ i', a_operands (3 * s t) = nI i' → i' < 16 → lk = (G (s t))[i']?) ∧ (κ' = 2 → i < 16 ∧ l < 100 ∧ a_operands (3 * s t) = nI i ∧ ((lk = none ∧ l ≤ i) ∨ (lk = some (a_contextType (l - 1 - i)) ∧ i < l))) := by
    by_cases e : κ' = 2
    · obtain ⟨i, i1, i2⟩ := t3.2.1 e
      refine ⟨(G (s t))[i]?, i, fun _ i' e1 e2 => ?_, fun _ => ⟨i1, l2, i2, ?_⟩⟩
      · rw [gc_inj (i2.symm.trans e1) (by omega) (by omega)]
      · rw [l7 e]
        by_cases z : i < (G (s t)).length
        · exact Or.inr ⟨l4 i z, z⟩
        · exact Or.inl ⟨List.getElem?_eq_none (by omega), by omega⟩
    · exact ⟨none, 0, fun h => absurd h e, fun h => absurd h e⟩
  have hVt := gk_FV hTR hc hI
  have hchX : ∀ w, w < gc_nc κ' → ∃ c, c < 48 ∧ a_operands (3 * s t + gc_pc κ' + w) = nI c ∧ a_nodeType c = (fun w => b_types (gr_ch a_operands κ' (s t) w)) w := by
    intro w hw
    obtain ⟨e1, e2, e3⟩ := t1 w hw
    obtain ⟨i1, _⟩ := d4 w (by omega)
    obtain ⟨_, hN⟩ := gk_ipV hE (by omega) i1
    obtain ⟨_, _, _, _, _, h5, _⟩ := hN
    exact ⟨_, by omega, e1, h5⟩
  have hchY : ∀ w, w < gc_nc κ' → ∃ c, c < 48 ∧ a_operands (3 * s t + gc_pc κ' + w) = nI c ∧ b_types c = (fun w => b_types (gr_ch a_operands κ' (s t) w)) w := by
    intro w hw
    obtain ⟨e1, e2, e3⟩ := t1 w hw
    exact ⟨_, by omega, e1, rfl⟩
  -- the reference's judging
  have hYJ : ∀ (post : Int32 → SY → Prop),
      (∀ e : Nat, gc_je κ' (a_operands (3 * s t)) (a_operands (3 * s t + 1)) (fun w => b_types (gr_ch a_operands κ' (s t) w)) lk = e → e ≠ 0 → e ≤ 8 → post (nI e) (g_capacity, g_fuel, nI cnt, g_state, g_wrongKind, g_wrongNode, nI root, 0, g_blamed, g_resType, g_vTag, g_vVal, g_vLay, g_todo, g_todoEnv, g_closures, g_bindings, g_layers, g_depth, a_kinds, a_operands, b_parent, b_types, b_cNode, b_cEnv, b_bTag, b_bVal, b_bLay, b_bNext, b_lSource, b_lTarget, b_lLabel, b_lInner, b_frNode, b_frEnv, b_frPhase, b_frVal, b_frLay)) →
      (gc_je κ' (a_operands (3 * s t)) (a_operands (3 * s t + 1)) (fun w => b_types (gr_ch a_operands κ' (s t) w)) lk = 0 → post 0 (g_capacity, g_fuel, nI cnt, g_state, g_wrongKind, g_wrongNode, nI root, 0, g_blamed, g_resType, g_vTag, g_vVal, g_vLay, g_todo, g_todoEnv, g_closures, g_bindings, g_layers, g_depth, a_kinds, a_operands, b_parent, upd b_types (s t) (gc_jt κ' (a_operands (3 * s t)) (a_operands (3 * s t + 1)) (fun w => b_types (gr_ch a_operands κ' (s t) w)) lk), b_cNode, b_cEnv, b_bTag, b_bVal, b_bLay, b_bNext, b_lSource, b_lTarget, b_lLabel, b_lInner, b_frNode, b_frEnv, b_frPhase, b_frVal, b_frLay)) →
      wpY_judge post (g_capacity, g_fuel, nI cnt, g_state, g_wrongKind, g_wrongNode, nI root, 0, g_blamed, g_resType, g_vTag, g_vVal, g_vLay, g_todo, g_todoEnv, g_closures, g_bindings, g_layers, g_depth, a_kinds, a_operands, b_parent, b_types, b_cNode, b_cEnv, b_bTag, b_bVal, b_bLay, b_bNext, b_lSource, b_lTarget, b_lLabel, b_lInner, b_frNode, b_frEnv, b_frPhase, b_frVal, b_frLay) (nI (s t)) (nI root) := by
    intro post He Hok
    refine gy_judge (by omega) hK hκ hchY (fun e post' hp => ?_) (fun e τ hτ => ?_) (fun e => t3.2.2.2.1 e) He Hok
    · obtain ⟨i', i1, i2⟩ := t3.2.1 e
      rw [hlk e i' i2 i1] at hp
      exact gy_varType (gk_TR_T hTR hc) hc hr hVt q5 i2 i1 hp
    · obtain ⟨i', i1, i2⟩ := t3.2.1 e
      rw [hlk e i' i2 i1] at hτ
      exact gc_T_pos ((hF (s t) q5).2.1 τ (List.mem_of_getElem? hτ))
  intro nx PX h1 H
  obtain ⟨n, rfl⟩ : ∃ q, nx = q + 2 := ⟨nx - 2, by omega⟩
  refine pk_le 128 x (fun h => by omega) (fun _ => br_f (gc_nneg t (by omega)) (br_t rfl ?_))
  subst l1
  refine gx_walk_judge (lk := lk) (i := i) (by omega) a6 a8 (by omega) hchX hK a1 q1 (by rw [q2, hk]) hκ l5 l6 hv (fun e e1 e2 e3 => nm_r (nI_1 x) ?_) (fun he cc' lb' dr' st' sc' x1 x2 x3 => nm_r (nI_1 x) ?_)
  · -- an error
    refine pk_le 128 (x + 1) (fun h => by omega) (fun _ => br_f (gc_nneg t (by omega)) (br_f (gc_ne0 e2 (by omega)) (br_f (gc_ne0 e2 (by omega)) ?_)))
    refine H (-1) _ (g_capacity, g_fuel, nI cnt, 1, nI e, nI (s t), nI root, 0, g_blamed, g_resType, g_vTag, g_vVal, g_vLay, g_todo, g_todoEnv, g_closures, g_bindings, g_layers, g_depth, a_kinds, a_operands, b_parent, b_types, b_cNode, b_cEnv, b_bTag, b_bVal, b_bLay, b_bNext, b_lSource, b_lTarget, b_lLabel, b_lInner, b_frNode, b_frEnv, b_frPhase, b_frVal, b_frLay) ⟨mn, mf, cnt, 0, hB, a8, rfl, by omega, rfl, rfl, Or.inr (Or.inl ⟨rfl, rfl, rfl⟩)⟩ (fun post ny h2 hp => ?_)
    obtain ⟨ny, rfl⟩ : ∃ q, ny = q + 1 := ⟨ny - 1, by omega⟩
    refine pk_le cnt np (fun h => by omega) (fun _ => hYJ _ (fun e' e1' e2' e3' => br_f (gc_ne0 e2' (by omega)) ?_) (fun h0 => absurd (e1.symm.trans h0) e2))
    obtain rfl : e' = e := e1'.symm.trans e1
    exact hp
  · have hE' := gk_Eup hTR hc hI hK hκ hk rfl he hlk x1 x2 x3
    have y1 := x1.1
    have y2 := x1.2.1
    by_cases ht : t = 0
    · subst ht
      have er : s 0 = root := a2
      refine pk_le 128 (x + 1) (fun h => by omega) (fun _ => br_t (by decide) (br_t rfl ⟨gc_in (by omega) (by decide), ?_⟩))
      refine H _ _ (g_capacity, g_fuel, nI cnt, 2, g_wrongKind, g_wrongNode, nI root, 0, g_blamed, g_resType, g_vTag, g_vVal, g_vLay, g_todo, g_todoEnv, g_closures, g_bindings, g_layers, g_depth, a_kinds, a_operands, b_parent, upd b_types (s 0) (gc_jt κ' (a_operands (3 * s 0)) (a_operands (3 * s 0 + 1)) (fun w => b_types (gr_ch a_operands κ' (s 0) w)) lk), b_cNode, b_cEnv, b_bTag, b_bVal, b_bLay, b_bNext, b_lSource, b_lTarget, b_lLabel, b_lInner, b_frNode, b_frEnv, b_frPhase, b_frVal, b_frLay) ⟨mn, mf, cnt, 0, hB, gc_Ext_z x1 a6 a8, rfl, by omega, rfl, rfl, Or.inr (Or.inr ⟨root, cc', G, ⟨by omega, by rw [er]; exact pk_us, a3, rfl, rfl, rfl, by omega, by omega, fun z hz => ?_⟩, Or.inl rfl⟩)⟩ (fun post ny h2 hp => ?_)
      · rcases hE' z hz with h | ⟨h, _, h'⟩
        · exact Or.inl h
        · exact Or.inr ⟨h, h'⟩
      · obtain ⟨ny, rfl⟩ : ∃ q, ny = q + 1 := ⟨ny - 1, by omega⟩
        refine pk_le cnt np (fun h => by omega) (fun _ => hYJ _ (fun e e1' e2' _ => absurd (e1'.symm.trans he) e2') (fun _ => br_t rfl (br_t (by rw [er]) ⟨gc_in (by omega) (by decide), ?_⟩)))
        rw [gc_cl (by omega), er, pk_us] at hp
        rw [gc_cl (by omega), er, pk_us]
        exact hp
    · have hne : s t ≠ root := by omega
      obtain ⟨p1, κ2, p2, p3, p4, p5, p6, p7, p8⟩ := hCn (t - 1) (by omega)
      rw [show t - 1 + 1 = t by omega] at p1 p6 p7
      obtain ⟨w1, w2, w3⟩ := gk_TR_k hTR hc (hBB (t - 1) (by omega)).2.2.1 p2 p3
      have hspc := (hBB (t - 1) (by omega)).2.2.1
      obtain ⟨z1, z2, z3⟩ := w1 (k (t - 1) - 1) (by omega)
      have hI' := gk_up hTR hc hI (by omega) hK hκ hk x1 hE' l4
      refine IH (gk_y a_kinds a_operands κ2 (s (t - 1)) (k (t - 1))) (f_maxNodes, f_maxFuel, f_nodeCount, f_outcome, nI root, 0, f_faultNode, nI t - 1, nI (l - (if κ' = 3 then 2 else if κ' = 7 then 1 else 0)), nI cc', f_compiledCount, f_cellCount, f_closureCount, f_top, f_running, f_atNode, f_atEnv, f_valueTag, f_valueData, f_valueCoercion, f_typeOfResult, 0, f_blamedLabel, a_kinds, a_operands, a_hasParent, upd a_inProgram (s t) 1, upd a_nodeType (s t) (gc_jt κ' (a_operands (3 * s t)) (a_operands (3 * s t + 1)) (fun w => b_types (gr_ch a_operands κ' (s t) w)) lk), st', sc', a_walkNode, a_walkStep, a_contextType, lb', dr', a_cellNext, a_cellTag, a_cellData, a_cellCoercion, a_closureNode, a_closureEnv, a_frameNode, a_frameStage, a_frameEnv, a_framePending, a_frameData, a_frameCoercion) (g_capacity, g_fuel, nI cnt, g_state, g_wrongKind, g_wrongNode, nI root, 0, g_blamed, g_resType, g_vTag, g_vVal, g_vLay, g_todo, g_todoEnv, g_closures, g_bindings, g_layers, g_depth, a_kinds, a_operands, b_parent, upd b_types (s t) (gc_jt κ' (a_operands (3 * s t)) (a_operands (3 * s t + 1)) (fun w => b_types (gr_ch a_operands κ' (s t) w)) lk), b_cNode, b_cEnv, b_bTag, b_bVal, b_bLay, b_bNext, b_lSource, b_lTarget, b_lLabel, b_lInner, b_frNode, b_frEnv, b_frPhase, b_frVal, b_frLay) ⟨mn, mf, cnt, t - 1, s, k, G, V, cc', hB, hr, by omega, gc_s1 (by omega), rfl, rfl, rfl, rfl, rfl, rfl, ⟨κ2, p2, p3, rfl⟩, ?_⟩ (n + 1) PX (by omega) (fun r u' v' hR hY => H r u' v' hR (fun post ny h2 hp => ?_))
      · rw [l3]
        exact hI'
      · obtain ⟨ny, rfl⟩ : ∃ q, ny = q + 1 := ⟨ny - 1, by omega⟩
        refine pk_le cnt np (fun h => by omega) (fun _ => hYJ _ (fun e e1' e2' _ => absurd (e1'.symm.trans he) e2') (fun _ => br_t rfl (br_f (gc_ne hne (by omega) (by omega)) ?_)))
        refine gy_next (p := s (t - 1)) (κ := κ2) (w := k (t - 1) - 1) (gk_TR_T hTR hc) hc (by omega) hspc (by rw [p6]; exact z3) p2 p3 (by omega) (by rw [p6]; exact z1) (fun w' hw' ne eo => ?_) ?_
        · have q := (w1 w' hw').1
          have := gc_inj (q.symm.trans eo) (by have := (w1 w' hw').2.1; omega) (by omega)
          exact w2 (k (t - 1) - 1) w' (by omega) hw' ne (this.trans p6)
        · refine nm_r (nI_1 np) ?_
          have := hY post ny (by omega) hp
          unfold gk_y at this
          rw [show k (t - 1) - 1 + 1 = k (t - 1) by omega]
          exact this
end
theorem gk_main : ∀ (m x root y np : Nat) (u : SX) (v : SY), x + m = 96 → gk_Sim root x y np u v → gk_GX root x y np u v := by
  intro m
  induction m with
  | zero =>
    intro x root y np u v hm h
    obtain ⟨f_maxNodes, f_maxFuel, f_nodeCount, f_outcome, f_programRoot, f_faultKind, f_faultNode, f_walkTop, f_contextDepth, f_coercionCount, f_compiledCount, f_cellCount, f_closureCount, f_top, f_running, f_atNode, f_atEnv, f_valueTag, f_valueData, f_valueCoercion, f_typeOfResult, f_fuelSpent, f_blamedLabel, a_kinds, a_operands, a_hasParent, a_inProgram, a_nodeType, a_siteTargets, a_siteCoercions, a_walkNode, a_walkStep, a_contextType, a_labels, a_draft, a_cellNext, a_cellTag, a_cellData, a_cellCoercion, a_closureNode, a_closureEnv, a_frameNode, a_frameStage, a_frameEnv, a_framePending, a_frameData, a_frameCoercion⟩ := u
    obtain ⟨g_capacity, g_fuel, g_count, g_state, g_wrongKind, g_wrongNode, g_program, g_used, g_blamed, g_resType, g_vTag, g_vVal, g_vLay, g_todo, g_todoEnv, g_closures, g_bindings, g_layers, g_depth, b_kinds, b_ops, b_parent, b_types, b_cNode, b_cEnv, b_bTag, b_bVal, b_bLay, b_bNext, b_lSource, b_lTarget, b_lLabel, b_lInner, b_frNode, b_frEnv, b_frPhase, b_frVal, b_frLay⟩ := v
    obtain ⟨mn, mf, cnt, t, s, k, G, V, cc, hB, hr, hx, _, _, _, _, _, _, _, _, hI⟩ := h
    obtain ⟨b1, b2, b3, b4, _⟩ := id hB
    obtain ⟨⟨a1, a2, a3, a4, a5, a6, a7, a8⟩, _, _, _, _, hF⟩ := id hI
    have hcn := gk_cn_le (fun z hz => (hF z hz).1) 48
    omega
  | succ m ih =>
    intro x root y np u v hm h
    obtain ⟨f_maxNodes, f_maxFuel, f_nodeCount, f_outcome, f_programRoot, f_faultKind, f_faultNode, f_walkTop, f_contextDepth, f_coercionCount, f_compiledCount, f_cellCount, f_closureCount, f_top, f_running, f_atNode, f_atEnv, f_valueTag, f_valueData, f_valueCoercion, f_typeOfResult, f_fuelSpent, f_blamedLabel, a_kinds, a_operands, a_hasParent, a_inProgram, a_nodeType, a_siteTargets, a_siteCoercions, a_walkNode, a_walkStep, a_contextType, a_labels, a_draft, a_cellNext, a_cellTag, a_cellData, a_cellCoercion, a_closureNode, a_closureEnv, a_frameNode, a_frameStage, a_frameEnv, a_framePending, a_frameData, a_frameCoercion⟩ := u
    obtain ⟨g_capacity, g_fuel, g_count, g_state, g_wrongKind, g_wrongNode, g_program, g_used, g_blamed, g_resType, g_vTag, g_vVal, g_vLay, g_todo, g_todoEnv, g_closures, g_bindings, g_layers, g_depth, b_kinds, b_ops, b_parent, b_types, b_cNode, b_cEnv, b_bTag, b_bVal, b_bLay, b_bNext, b_lSource, b_lTarget, b_lLabel, b_lInner, b_frNode, b_frEnv, b_frPhase, b_frVal, b_frLay⟩ := v
    obtain ⟨mn, mf, cnt, t, s, k, G, V, cc, hB, hr, hx, e1, e2, e3, e4, e5, e6, e7, ⟨κ, hK, hκ, hy⟩, hI⟩ := h
    obtain ⟨b1, b2, b3, b4, _, _, _, _, _, b10, b11, b12, _⟩ := id hB
    subst e1 e2 e3 e4 e5 e6 e7 b10 b11 b12
    by_cases hk : k t < gc_nc κ
    · exact gk_sdown rfl hB hr hx hI hK hκ hy hk (fun u hu => ih (x + 1) root y np u _ (by omega) hu)
    · have hk' : k t = gc_nc κ := by
        obtain ⟨_, _, _, ⟨κ', d1, d2, d3, _⟩, _⟩ := id hI
        obtain rfl : κ' = κ := gc_inj (d1.symm.trans hK) (by omega) (by omega)
        omega
      unfold gk_y at hy
      rw [if_neg hk] at hy
      subst hy
      exact gk_sjudge hB hr hx hI hK hκ hk' (fun y' u v' hu => ih (x + 1) root y' (np + 1) u v' (by omega) hu)
end
section
def gk_m1 (i : Nat) (ty : Nat → Int32) : Nat → Int32 := fun x => if x < i then -1 else ty x
theorem gk_cn_0 : ∀ n, gk_cn (fun _ => false) n = 0 := by
  intro n
  induction n with
  | zero => rfl
  | succ n ih => show gk_cn _ n + 0 = 0; rw [ih]
section
variable {f_maxNodes f_maxFuel f_nodeCount f_outcome f_programRoot f_faultKind f_faultNode f_walkTop f_contextDepth f_coercionCount f_compiledCount f_cellCount f_closureCount f_top f_running f_atNode f_atEnv f_valueTag f_valueData f_valueCoercion f_typeOfResult f_fuelSpent f_blamedLabel : Int32} {a_kinds a_operands a_hasParent a_inProgram a_nodeType a_siteTargets a_siteCoercions a_walkNode a_walkStep a_contextType a_labels a_draft a_cellNext a_cellTag a_cellData a_cellCoercion a_closureNode a_closureEnv a_frameNode a_frameStage a_frameEnv a_framePending a_frameData a_frameCoercion : Nat → Int32}
theorem gx_forget_l {post : SX → Prop} : ∀ m i, i + m = 48 → ∀ (ip : Nat → Int32) n, m < n → (∀ x, x < i → ip x = 0) → (∀ ip' : Nat → Int32, (∀ x, x < 48 → ip' x = 0) → post (f_maxNodes, f_maxFuel, f_nodeCount, f_outcome, f_programRoot, f_faultKind, f_faultNode, f_walkTop, f_contextDepth, f_coercionCount, f_compiledCount, f_cellCount, f_closureCount, f_top, f_running, f_atNode, f_atEnv, f_valueTag, f_valueData, f_valueCoercion, f_typeOfResult, f_fuelSpent, f_blamedLabel, a_kinds, a_operands, a_hasParent, ip', a_nodeType, a_siteTargets, a_siteCoercions, a_walkNode, a_walkStep, a_contextType, a_labels, a_draft, a_cellNext, a_cellTag, a_cellData, a_cellCoercion, a_closureNode, a_closureEnv, a_frameNode, a_frameStage, a_frameEnv, a_framePending, a_frameData, a_frameCoercion)) →
    wX_forgetProgram_62 post f_maxNodes f_maxFuel f_nodeCount f_outcome f_programRoot f_faultKind f_faultNode f_walkTop f_contextDepth f_coercionCount f_compiledCount f_cellCount f_closureCount f_top f_running f_atNode f_atEnv f_valueTag f_valueData f_valueCoercion f_typeOfResult f_fuelSpent f_blamedLabel n (nI i) a_kinds a_operands a_hasParent ip a_nodeType a_siteTargets a_siteCoercions a_walkNode a_walkStep a_contextType a_labels a_draft a_cellNext a_cellTag a_cellData a_cellCoercion a_closureNode a_closureEnv a_frameNode a_frameStage a_frameEnv a_framePending a_frameData a_frameCoercion := by
  intro m
  induction m with
  | zero =>
    intro i hi ip n hn h H
    obtain ⟨n, rfl⟩ : ∃ q, n = q + 1 := ⟨n - 1, by omega⟩
    exact pk_le 48 i (fun _ => H ip (fun x hx => h x (by omega))) (fun h => by omega)
  | succ m ih =>
    intro i hi ip n hn h H
    obtain ⟨n, rfl⟩ : ∃ q, n = q + 1 := ⟨n - 1, by omega⟩
    refine pk_le 48 i (fun h => by omega) (fun _ => ⟨gc_in (by omega) (by decide), nm_r (e' := upd ip i 0) (by rw [gc_cl (by omega)]; rfl) (nm_r (nI_1 i) (ih (i + 1) (by omega) _ n (by omega) (fun x hx => ?_) H))⟩)
    rw [gc_len]
    by_cases e : x = i
    · rw [if_pos e]
    · rw [if_neg e]; exact h x (by omega)
theorem gx_forget {post : SX → Prop} (H : ∀ ip' : Nat → Int32, (∀ x, x < 48 → ip' x = 0) → post (f_maxNodes, f_maxFuel, f_nodeCount, 0, 0, 0, 0, f_walkTop, 0, 1, 1, 1, 0, f_top, 0, f_atNode, f_atEnv, f_valueTag, f_valueData, f_valueCoercion, f_typeOfResult, 0, 0, a_kinds, a_operands, a_hasParent, ip', a_nodeType, a_siteTargets, a_siteCoercions, a_walkNode, a_walkStep, a_contextType, a_labels, a_draft, a_cellNext, a_cellTag, a_cellData, a_cellCoercion, a_closureNode, a_closureEnv, a_frameNode, a_frameStage, a_frameEnv, a_framePending, a_frameData, a_frameCoercion)) : wpX_forgetProgram post (f_maxNodes, f_maxFuel, f_nodeCount, f_outcome, f_programRoot, f_faultKind, f_faultNode, f_walkTop, f_contextDepth, f_coercionCount, f_compiledCount, f_cellCount, f_closureCount, f_top, f_running, f_atNode, f_atEnv, f_valueTag, f_valueData, f_valueCoercion, f_typeOfResult, f_fuelSpent, f_blamedLabel, a_kinds, a_operands, a_hasParent, a_inProgram, a_nodeType, a_siteTargets, a_siteCoercions, a_walkNode, a_walkStep, a_contextType, a_labels, a_draft, a_cellNext, a_cellTag, a_cellData, a_cellCoercion, a_closureNode, a_closureEnv, a_frameNode, a_frameStage, a_frameEnv, a_framePending, a_frameData, a_frameCoercion) :=
  ⟨49, gx_forget_l 48 0 rfl a_inProgram 49 (by decide) (fun x hx => absurd hx (Nat.not_lt_zero x)) H⟩
theorem gx_isNode {post : Int32 → Prop} {cnt : Nat} {p : Int32} (hc : cnt ≤ 48) (h1 : ∀ n, n < cnt → p = nI n → post 1) (h0 : (p < 0 ∨ nI cnt ≤ p) → post 0) : wpX_isNode post (f_maxNodes, f_maxFuel, nI cnt, f_outcome, f_programRoot, f_faultKind, f_faultNode, f_walkTop, f_contextDepth, f_coercionCount, f_compiledCount, f_cellCount, f_closureCount, f_top, f_running, f_atNode, f_atEnv, f_valueTag, f_valueData, f_valueCoercion, f_typeOfResult, f_fuelSpent, f_blamedLabel, a_kinds, a_operands, a_hasParent, a_inProgram, a_nodeType, a_siteTargets, a_siteCoercions, a_walkNode, a_walkStep, a_contextType, a_labels, a_draft, a_cellNext, a_cellTag, a_cellData, a_cellCoercion, a_closureNode, a_closureEnv, a_frameNode, a_frameStage, a_frameEnv, a_framePending, a_frameData, a_frameCoercion) p := by
  rcases pk_ix p (n := cnt) (by omega) with h | h | ⟨j, hj, rfl⟩
  · exact br_t h (h0 (Or.inl h))
  · have hp : ¬ p < 0 := fun z => by
      have : nI cnt < 0 := Int32.lt_of_le_of_lt h z
      exact gc_nneg cnt (by omega) this
    exact br_f hp (br_t h (h0 (Or.inr h)))
  · exact br_f (gc_nneg j (by omega)) (pk_le cnt j (fun h => by omega) (fun _ => h1 j hj rfl))
end
section
variable {g_capacity g_fuel g_count g_state g_wrongKind g_wrongNode g_program g_used g_blamed g_resType g_vTag g_vVal g_vLay g_todo g_todoEnv g_closures g_bindings g_layers g_depth : Int32} {b_kinds b_ops b_parent b_types b_cNode b_cEnv b_bTag b_bVal b_bLay b_bNext b_lSource b_lTarget b_lLabel b_lInner b_frNode b_frEnv b_frPhase b_frVal b_frLay : Nat → Int32}
theorem gy_reset {post : Int32 → SY → Prop} {root : Nat} (H : wpY_first (fun r => ∃ n55 : Nat, wY_check_55 post (nI root) n55 r 0 g_capacity g_fuel g_count g_state g_wrongKind g_wrongNode (nI root) 0 g_blamed g_resType g_vTag g_vVal g_vLay g_todo g_todoEnv g_closures g_bindings g_layers g_depth b_kinds b_ops b_parent (gk_m1 48 b_types) b_cNode b_cEnv b_bTag b_bVal b_bLay b_bNext b_lSource b_lTarget b_lLabel b_lInner b_frNode b_frEnv b_frPhase b_frVal b_frLay) (g_capacity, g_fuel, g_count, g_state, g_wrongKind, g_wrongNode, nI root, 0, g_blamed, g_resType, g_vTag, g_vVal, g_vLay, g_todo, g_todoEnv, g_closures, g_bindings, g_layers, g_depth, b_kinds, b_ops, b_parent, gk_m1 48 b_types, b_cNode, b_cEnv, b_bTag, b_bVal, b_bLay, b_bNext, b_lSource, b_lTarget, b_lLabel, b_lInner, b_frNode, b_frEnv, b_frPhase, b_frVal, b_frLay) (nI root)) :
    ∀ m i, i + m = 48 → ∀ n, m < n → wY_check_18 post (nI root) g_capacity g_fuel g_count g_state g_wrongKind g_wrongNode g_program g_used g_blamed g_resType g_vTag g_vVal g_vLay g_todo g_todoEnv g_closures g_bindings g_layers g_depth n (nI i) b_kinds b_ops b_parent (gk_m1 i b_types) b_cNode b_cEnv b_bTag b_bVal b_bLay b_bNext b_lSource b_lTarget b_lLabel b_lInner b_frNode b_frEnv b_frPhase b_frVal b_frLay := by
  intro m
  induction m with
  | zero =>
    intro i hi n hn
    obtain ⟨n, rfl⟩ : ∃ q, n = q + 1 := ⟨n - 1, by omega⟩
    obtain rfl : i = 48 := by omega
    exact pk_le 48 48 (fun _ => H) (fun h => by omega)
  | succ m ih =>
    intro i hi n hn
    obtain ⟨n, rfl⟩ : ∃ q, n = q + 1 := ⟨n - 1, by omega⟩
    have e : upd (gk_m1 i b_types) (nI i).toNatClampNeg (-1) = gk_m1 (i + 1) b_types := by
      rw [gc_cl (by omega)]
      funext x
      unfold gk_m1
      rw [gc_len]
      by_cases z : x = i
      · rw [if_pos z, if_pos (by omega)]
      · rw [if_neg z]
        by_cases z2 : x < i
        · rw [if_pos z2, if_pos (by omega)]
        · rw [if_neg z2, if_neg (by omega)]
    refine pk_le 48 i (fun h => by omega) (fun _ => ⟨gc_in (by omega) (by decide), nm_r e (nm_r (nI_1 i) (ih (i + 1) (by omega) n (by omega)))⟩)
end
section
variable {f_maxNodes f_maxFuel f_nodeCount f_outcome f_programRoot f_faultKind f_faultNode f_walkTop f_contextDepth f_coercionCount f_compiledCount f_cellCount f_closureCount f_top f_running f_atNode f_atEnv f_valueTag f_valueData f_valueCoercion f_typeOfResult f_fuelSpent f_blamedLabel : Int32} {a_kinds a_operands a_hasParent a_inProgram a_nodeType a_siteTargets a_siteCoercions a_walkNode a_walkStep a_contextType a_labels a_draft a_cellNext a_cellTag a_cellData a_cellCoercion a_closureNode a_closureEnv a_frameNode a_frameStage a_frameEnv a_framePending a_frameData a_frameCoercion : Nat → Int32} {g_capacity g_fuel g_count g_state g_wrongKind g_wrongNode g_program g_used g_blamed g_resType g_vTag g_vVal g_vLay g_todo g_todoEnv g_closures g_bindings g_layers g_depth : Int32} {b_kinds b_ops b_parent b_types b_cNode b_cEnv b_bTag b_bVal b_bLay b_bNext b_lSource b_lTarget b_lLabel b_lInner b_frNode b_frEnv b_frPhase b_frVal b_frLay : Nat → Int32}
variable {mn mf cnt : Nat}
theorem gr_check (hB : gr_B mn mf cnt f_maxNodes f_maxFuel f_nodeCount g_capacity g_fuel (nI cnt) a_kinds a_operands a_hasParent a_kinds a_operands b_parent) (hz : ∀ k, k < 9 → a_labels k = 0) {R : SX → SY → Prop} (hR : ∀ u v, gr_R u v → R u v) (h0 : R (f_maxNodes, f_maxFuel, nI cnt, f_outcome, f_programRoot, f_faultKind, f_faultNode, f_walkTop, f_contextDepth, f_coercionCount, f_compiledCount, f_cellCount, f_closureCount, f_top, f_running, f_atNode, f_atEnv, f_valueTag, f_valueData, f_valueCoercion, f_typeOfResult, f_fuelSpent, f_blamedLabel, a_kinds, a_operands, a_hasParent, a_inProgram, a_nodeType, a_siteTargets, a_siteCoercions, a_walkNode, a_walkStep, a_contextType, a_labels, a_draft, a_cellNext, a_cellTag, a_cellData, a_cellCoercion, a_closureNode, a_closureEnv, a_frameNode, a_frameStage, a_frameEnv, a_framePending, a_frameData, a_frameCoercion) (g_capacity, g_fuel, nI cnt, g_state, g_wrongKind, g_wrongNode, g_program, g_used, g_blamed, g_resType, g_vTag, g_vVal, g_vLay, g_todo, g_todoEnv, g_closures, g_bindings, g_layers, g_depth, a_kinds, a_operands, b_parent, b_types, b_cNode, b_cEnv, b_bTag, b_bVal, b_bLay, b_bNext, b_lSource, b_lTarget, b_lLabel, b_lInner, b_frNode, b_frEnv, b_frPhase, b_frVal, b_frLay)) (p : Int32) :
    wpX_check (fun r u' => wpY_check (fun r' v' => r' = r ∧ R u' v') (g_capacity, g_fuel, nI cnt, g_state, g_wrongKind, g_wrongNode, g_program, g_used, g_blamed, g_resType, g_vTag, g_vVal, g_vLay, g_todo, g_todoEnv, g_closures, g_bindings, g_layers, g_depth, a_kinds, a_operands, b_parent, b_types, b_cNode, b_cEnv, b_bTag, b_bVal, b_bLay, b_bNext, b_lSource, b_lTarget, b_lLabel, b_lInner, b_frNode, b_frEnv, b_frPhase, b_frVal, b_frLay) p) (f_maxNodes, f_maxFuel, nI cnt, f_outcome, f_programRoot, f_faultKind, f_faultNode, f_walkTop, f_contextDepth, f_coercionCount, f_compiledCount, f_cellCount, f_closureCount, f_top, f_running, f_atNode, f_atEnv, f_valueTag, f_valueData, f_valueCoercion, f_typeOfResult, f_fuelSpent, f_blamedLabel, a_kinds, a_operands, a_hasParent, a_inProgram, a_nodeType, a_siteTargets, a_siteCoercions, a_walkNode, a_walkStep, a_contextType, a_labels, a_draft, a_cellNext, a_cellTag, a_cellData, a_cellCoercion, a_closureNode, a_closureEnv, a_frameNode, a_frameStage, a_frameEnv, a_framePending, a_frameData, a_frameCoercion) p := by
  obtain ⟨b1, b2, b3, b4, b5, b6, b7, b8, b9, b10, b11, b12, hTR⟩ := id hB
  have hc : cnt ≤ 48 := by omega
  unfold wpX_check
  refine gx_isNode hc (fun root hr hp => br_f (by decide) ?_) (fun h => br_t rfl ?_)
  · subst hp
    obtain ⟨κ, k1, k2, k3⟩ := gk_TR_T hTR hc root hr
    refine gx_forget (fun ip' hip => ?_)
    refine nm_e (nm_e ⟨97, ?_⟩)
    refine gk_main 96 0 root (gk_fst a_kinds a_operands root) 0 (f_maxNodes, f_maxFuel, nI cnt, 0, nI root, 0, 0, 0, 0, 1, 1, 1, 0, f_top, 0, f_atNode, f_atEnv, f_valueTag, f_valueData, f_valueCoercion, f_typeOfResult, 0, 0, a_kinds, a_operands, a_hasParent, ip', a_nodeType, a_siteTargets, a_siteCoercions, upd a_walkNode 0 (nI root), upd a_walkStep 0 0, a_contextType, a_labels, a_draft, a_cellNext, a_cellTag, a_cellData, a_cellCoercion, a_closureNode, a_closureEnv, a_frameNode, a_frameStage, a_frameEnv, a_framePending, a_frameData, a_frameCoercion) (g_capacity, g_fuel, nI cnt, g_state, g_wrongKind, g_wrongNode, nI root, 0, g_blamed, g_resType, g_vTag, g_vVal, g_vLay, g_todo, g_todoEnv, g_closures, g_bindings, g_layers, g_depth, a_kinds, a_operands, b_parent, gk_m1 48 b_types, b_cNode, b_cEnv, b_bTag, b_bVal, b_bLay, b_bNext, b_lSource, b_lTarget, b_lLabel, b_lInner, b_frNode, b_frEnv, b_frPhase, b_frVal, b_frLay) rfl ?_ 97 _ (by decide) (fun r u' v' hr' hY => ?_)
    · refine ⟨mn, mf, cnt, 0, fun _ => root, fun _ => 0, fun _ => [], fun x => if x = root then true else (fun _ => false) x, 1, ?_, hr, rfl, rfl, rfl, rfl, rfl, rfl, rfl, rfl, ⟨κ, k1, k2, ?_⟩, ?_⟩
      · exact ⟨b1, b2, b3, b4, b5, b6, rfl, b8, b9, b10, b11, b12, hTR⟩
      · rw [gk_fst_eq (gk_TR_T hTR hc) hr k1 k2]; rfl
      · refine ⟨⟨by decide, rfl, rfl, if_pos rfl, ?_, by decide, by decide, hz⟩, fun j hj => ?_, fun j hj => absurd hj (Nat.not_lt_zero j), ⟨κ, k1, k2, Nat.zero_le _, fun w hw => absurd hw (Nat.not_lt_zero w), [], rfl, rfl, fun i hi => absurd hi (Nat.not_lt_zero i)⟩, fun x hx => Or.inl ⟨hip x hx, if_pos hx⟩, fun x hx => ?_⟩
        · rw [gk_cn_add (V := fun _ => false) rfl 48 (by omega), gk_cn_0]
        · obtain rfl : j = 0 := by omega
          exact ⟨pk_us, pk_us, hr, Nat.le_refl _, if_pos rfl, hip root (by omega), Nat.zero_le _⟩
        · have hx' : (if x = root then true else false) = true := hx
          by_cases e : x = root
          · subst e
            exact ⟨hr, fun t' ht' => absurd ht' (List.not_mem_nil), Or.inl rfl⟩
          · rw [if_neg e] at hx'; exact Bool.noConfusion hx'
    · refine br_f (gc_nneg root (by omega)) (pk_lt root cnt (fun _ => ⟨49, ?_⟩) (fun h => by omega))
      refine gy_reset ?_ 48 0 rfl 49 (by decide)
      refine gy_first (gk_TR_T hTR hc) hc hr ⟨49, ?_⟩
      exact hY (fun r' v'' => r' = r ∧ R u' v'') 49 (by decide) ⟨rfl, hR _ _ hr'⟩
  · refine br_c (fun _ => ⟨rfl, h0⟩) (fun hn => br_c (fun hlt => ?_) (fun _ => ⟨rfl, h0⟩))
    rcases h with h | h
    · exact absurd h hn
    · exact (Int32.lt_irrefl (Int32.lt_of_lt_of_le hlt h)).elim
end
end
section
def ga_pf (κ : Nat) (a b : Int32) : Prop := (κ = 2 → ¬ a < 0 ∧ ¬ 15 < a) ∧ (κ = 3 → ¬ a < 0 ∧ ¬ 3 < a ∧ ¬ b < 0 ∧ ¬ 3 < b) ∧ (κ = 5 → ¬ a < 0 ∧ ¬ 4 < a) ∧ (κ = 8 → ¬ a < 0 ∧ ¬ 19 < a)
def ga_A (a b c : Int32) : Nat → Int32 := fun w => if w = 0 then a else if w = 1 then b else c
def ga_fr (cnt : Nat) (hp : Nat → Int32) (x : Int32) : Prop := ∃ n, n < cnt ∧ x = nI n ∧ hp n = 0
def ga_cf (cnt : Nat) (hp : Nat → Int32) (κ : Nat) (A : Nat → Int32) (i : Nat) : Prop := ∀ w, gc_pc κ ≤ w → w < i → ga_fr cnt hp (A w) ∧ ∀ w', gc_pc κ ≤ w' → w' < w → ¬ A w = A w'
def ga_k (κ : Nat) (x : Int32) : Int32 := if κ = 1 then (if x = 0 then 0 else 1) else if κ = 8 then (if x = 4 then 3 else x) else x
def ga_v (κ : Nat) (A : Nat → Int32) (i : Nat) : Int32 := if i < gc_pc κ then ga_k κ (A i) else if i < gc_pc κ + gc_nc κ then A i else 0
def ga_ch (κ : Nat) (A : Nat → Int32) (x : Nat) : Prop := ∃ w, gc_pc κ ≤ w ∧ w < gc_pc κ + gc_nc κ ∧ A w = nI x
theorem ga_cf_s {cnt : Nat} {hp : Nat → Int32} {κ : Nat} {A : Nat → Int32} {i : Nat} (h : ga_cf cnt hp κ A i) (h1 : gc_pc κ ≤ i → ga_fr cnt hp (A i) ∧ ∀ w', gc_pc κ ≤ w' → w' < i → ¬ A i = A w') : ga_cf cnt hp κ A (i + 1) := by
  intro w w1 w2
  by_cases e : w = i
  · subst e; exact h1 w1
  · exact h w w1 (by omega)
section
variable {f_maxNodes f_maxFuel f_nodeCount f_outcome f_programRoot f_faultKind f_faultNode f_walkTop f_contextDepth f_coercionCount f_compiledCount f_cellCount f_closureCount f_top f_running f_atNode f_atEnv f_valueTag f_valueData f_valueCoercion f_typeOfResult f_fuelSpent f_blamedLabel : Int32} {a_kinds a_operands a_hasParent a_inProgram a_nodeType a_siteTargets a_siteCoercions a_walkNode a_walkStep a_contextType a_labels a_draft a_cellNext a_cellTag a_cellData a_cellCoercion a_closureNode a_closureEnv a_frameNode a_frameStage a_frameEnv a_framePending a_frameData a_frameCoercion : Nat → Int32}
theorem gx_pf {post : Int32 → Prop} {κ : Nat} {a b : Int32} (hκ : κ ≤ 8) (h1 : ga_pf κ a b → post 1) (h0 : ¬ ga_pf κ a b → post 0) : wpX_plainOperandsFit post (f_maxNodes, f_maxFuel, f_nodeCount, f_outcome, f_programRoot, f_faultKind, f_faultNode, f_walkTop, f_contextDepth, f_coercionCount, f_compiledCount, f_cellCount, f_closureCount, f_top, f_running, f_atNode, f_atEnv, f_valueTag, f_valueData, f_valueCoercion, f_typeOfResult, f_fuelSpent, f_blamedLabel, a_kinds, a_operands, a_hasParent, a_inProgram, a_nodeType, a_siteTargets, a_siteCoercions, a_walkNode, a_walkStep, a_contextType, a_labels, a_draft, a_cellNext, a_cellTag, a_cellData, a_cellCoercion, a_closureNode, a_closureEnv, a_frameNode, a_frameStage, a_frameEnv, a_framePending, a_frameData, a_frameCoercion) (nI κ) a b := by
  have e : ∀ p q r s : Prop, (κ = 2 → p) → (κ = 3 → q) → (κ = 5 → r) → (κ = 8 → s) → True := fun _ _ _ _ _ _ _ _ => trivial
  refine pk_lt κ 2 (fun h => h1 ⟨fun e => by omega, fun e => by omega, fun e => by omega, fun e => by omega⟩) (fun h => pk_lt 8 κ (fun h => by omega) (fun h => pk_eq κ 2 (fun e => ?_) (fun e2 => pk_eq κ 3 (fun e => ?_) (fun e3 => pk_eq κ 4 (fun e => h1 ⟨fun e => by omega, fun e => by omega, fun e => by omega, fun e => by omega⟩) (fun e4 => pk_eq κ 5 (fun e => ?_) (fun e5 => pk_eq κ 6 (fun e => h1 ⟨fun e => by omega, fun e => by omega, fun e => by omega, fun e => by omega⟩) (fun e6 => pk_eq κ 7 (fun e => h1 ⟨fun e => by omega, fun e => by omega, fun e => by omega, fun e => by omega⟩) (fun e7 => pk_eq κ 8 (fun e => ?_) (fun e8 => trivial)))))))))
  · exact br_c (fun z => h0 (fun h => (h.1 e).1 z)) (fun z => br_c (fun z2 => h0 (fun h => (h.1 e).2 z2)) (fun z2 => h1 ⟨fun _ => ⟨z, z2⟩, fun e => by omega, fun e => by omega, fun e => by omega⟩))
  · exact br_c (fun z => h0 (fun h => (h.2.1 e).1 z)) (fun z => br_c (fun z2 => h0 (fun h => (h.2.1 e).2.1 z2)) (fun z2 => br_c (fun z3 => h0 (fun h => (h.2.1 e).2.2.1 z3)) (fun z3 => br_c (fun z4 => h0 (fun h => (h.2.1 e).2.2.2 z4)) (fun z4 => h1 ⟨fun e => by omega, fun _ => ⟨z, z2, z3, z4⟩, fun e => by omega, fun e => by omega⟩))))
  · exact br_c (fun z => h0 (fun h => (h.2.2.1 e).1 z)) (fun z => br_c (fun z2 => h0 (fun h => (h.2.2.1 e).2 z2)) (fun z2 => h1 ⟨fun e => by omega, fun e => by omega, fun _ => ⟨z, z2⟩, fun e => by omega⟩))
  · exact br_c (fun z => h0 (fun h => (h.2.2.2 e).1 z)) (fun z => br_c (fun z2 => h0 (fun h => (h.2.2.2 e).2 z2)) (fun z2 => h1 ⟨fun e => by omega, fun e => by omega, fun e => by omega, fun _ => ⟨z, z2⟩⟩))
theorem gx_pick {post : Int32 → Prop} {i : Nat} {a b c : Int32} (hi : i ≤ 2) (H : post (ga_A a b c i)) : wpX_pick post (f_maxNodes, f_maxFuel, f_nodeCount, f_outcome, f_programRoot, f_faultKind, f_faultNode, f_walkTop, f_contextDepth, f_coercionCount, f_compiledCount, f_cellCount, f_closureCount, f_top, f_running, f_atNode, f_atEnv, f_valueTag, f_valueData, f_valueCoercion, f_typeOfResult, f_fuelSpent, f_blamedLabel, a_kinds, a_operands, a_hasParent, a_inProgram, a_nodeType, a_siteTargets, a_siteCoercions, a_walkNode, a_walkStep, a_contextType, a_labels, a_draft, a_cellNext, a_cellTag, a_cellData, a_cellCoercion, a_closureNode, a_closureEnv, a_frameNode, a_frameStage, a_frameEnv, a_framePending, a_frameData, a_frameCoercion) (nI i) a b c := by
  unfold ga_A at H
  refine pk_eq i 0 (fun e => ?_) (fun e0 => pk_eq i 1 (fun e => ?_) (fun e1 => ?_))
  · rw [if_pos e] at H; exact H
  · rw [if_neg e0, if_pos e] at H; exact H
  · rw [if_neg e0, if_neg e1] at H; exact H
theorem gx_cf65 {post J : Int32 → Prop} {a b c x5 x6 : Int32} {i p : Nat} (hi : i ≤ 2) (hp : p ≤ i) (h0 : (¬ ∀ w', p ≤ w' → w' < i → ¬ ga_A a b c i = ga_A a b c w') → post 0) (h1 : (∀ w', p ≤ w' → w' < i → ¬ ga_A a b c i = ga_A a b c w') → J (nI (i + 1))) :
    ∀ m j, j + m = i → p ≤ j → ∀ n, m < n → (∀ w', p ≤ w' → w' < j → ¬ ga_A a b c i = ga_A a b c w') → wX_childrenFree_65 post J a b c x5 x6 (nI i) (ga_A a b c i) f_maxNodes f_maxFuel f_nodeCount f_outcome f_programRoot f_faultKind f_faultNode f_walkTop f_contextDepth f_coercionCount f_compiledCount f_cellCount f_closureCount f_top f_running f_atNode f_atEnv f_valueTag f_valueData f_valueCoercion f_typeOfResult f_fuelSpent f_blamedLabel a_kinds a_operands a_hasParent a_inProgram a_nodeType a_siteTargets a_siteCoercions a_walkNode a_walkStep a_contextType a_labels a_draft a_cellNext a_cellTag a_cellData a_cellCoercion a_closureNode a_closureEnv a_frameNode a_frameStage a_frameEnv a_framePending a_frameData a_frameCoercion n (nI j) := by
  intro m
  induction m with
  | zero =>
    intro j hj hpj n hn h
    obtain ⟨n, rfl⟩ : ∃ q, n = q + 1 := ⟨n - 1, by omega⟩
    obtain rfl : j = i := by omega
    exact pk_le j j (fun _ => nm_r (nI_1 j) (h1 h)) (fun h => by omega)
  | succ m ih =>
    intro j hj hpj n hn h
    obtain ⟨n, rfl⟩ : ∃ q, n = q + 1 := ⟨n - 1, by omega⟩
    refine pk_le i j (fun h => by omega) (fun _ => gx_pick (by omega) (br_c (fun z => h0 (fun q => q j hpj (by omega) z)) (fun z => nm_r (nI_1 j) (ih (j + 1) (by omega) (by omega) n (by omega) (fun w' w1 w2 => ?_)))))
    by_cases e : w' = j
    · subst e; exact z
    · exact h w' w1 (by omega)
theorem gx_cf21 {post : Int32 → Prop} {cnt κ : Nat} {a b c : Int32} (hc : cnt ≤ 48) (hκ : κ ≤ 8) (h1 : ga_cf cnt a_hasParent κ (ga_A a b c) (gc_pc κ + gc_nc κ) → post 1) (h0 : ¬ ga_cf cnt a_hasParent κ (ga_A a b c) (gc_pc κ + gc_nc κ) → post 0) :
    ∀ m i, i + m = gc_pc κ + gc_nc κ → gc_pc κ ≤ i → ∀ n, m < n → ga_cf cnt a_hasParent κ (ga_A a b c) i → wX_childrenFree_21 post a b c (nI (gc_pc κ)) (nI (gc_pc κ + gc_nc κ)) f_maxNodes f_maxFuel (nI cnt) f_outcome f_programRoot f_faultKind f_faultNode f_walkTop f_contextDepth f_coercionCount f_compiledCount f_cellCount f_closureCount f_top f_running f_atNode f_atEnv f_valueTag f_valueData f_valueCoercion f_typeOfResult f_fuelSpent f_blamedLabel a_kinds a_operands a_hasParent a_inProgram a_nodeType a_siteTargets a_siteCoercions a_walkNode a_walkStep a_contextType a_labels a_draft a_cellNext a_cellTag a_cellData a_cellCoercion a_closureNode a_closureEnv a_frameNode a_frameStage a_frameEnv a_framePending a_frameData a_frameCoercion n (nI i) := by
  have T := gc_tab hκ
  intro m
  induction m with
  | zero =>
    intro i hi hpi n hn h
    obtain ⟨n, rfl⟩ : ∃ q, n = q + 1 := ⟨n - 1, by omega⟩
    refine pk_le (gc_pc κ + gc_nc κ) i (fun _ => h1 ?_) (fun h => by omega)
    rw [← hi]; exact h
  | succ m ih =>
    intro i hi hpi n hn h
    obtain ⟨n, rfl⟩ : ∃ q, n = q + 1 := ⟨n - 1, by omega⟩
    refine pk_le (gc_pc κ + gc_nc κ) i (fun h => by omega) (fun _ => gx_pick (by omega) ?_)
    refine gx_isNode hc (fun q hq eq => br_f (by decide) ?_) (fun hno => br_t rfl (h0 (fun hcf => ?_)))
    · rw [eq]
      refine ⟨gc_in (by omega) (by decide), ?_⟩
      rw [gc_cl (by omega)]
      refine br_c (fun z => ⟨i + 1, ?_⟩) (fun z => h0 (fun hcf => ?_))
      · rw [← eq]
        refine gx_cf65 (p := gc_pc κ) (by omega) hpi (fun hno => h0 (fun hcf => hno (hcf i hpi (by omega)).2)) (fun hyes => ih (i + 1) (by omega) (by omega) n (by omega) (ga_cf_s h (fun _ => ⟨⟨q, hq, eq, z⟩, hyes⟩))) (i - gc_pc κ) (gc_pc κ) (by omega) (Nat.le_refl _) (i + 1) (by omega) (fun w' w1 w2 => by omega)
      · obtain ⟨⟨q', q1, q2, q3⟩, _⟩ := hcf i hpi (by omega)
        have : q' = q := gc_inj (q2.symm.trans eq) (by omega) (by omega)
        rw [this] at q3
        exact z q3
    · obtain ⟨⟨q', q1, q2, q3⟩, _⟩ := hcf i hpi (by omega)
      rw [q2] at hno
      rcases hno with h | h
      · exact gc_nneg q' (by omega) h
      · have := (nI_leI (a := cnt) (b := q') (by omega) (by omega)).mp h
        omega
theorem gx_cf {post : Int32 → Prop} {cnt κ : Nat} {a b c : Int32} (hc : cnt ≤ 48) (hκ : κ ≤ 8) (h1 : ga_cf cnt a_hasParent κ (ga_A a b c) (gc_pc κ + gc_nc κ) → post 1) (h0 : ¬ ga_cf cnt a_hasParent κ (ga_A a b c) (gc_pc κ + gc_nc κ) → post 0) : wpX_childrenFree post (f_maxNodes, f_maxFuel, nI cnt, f_outcome, f_programRoot, f_faultKind, f_faultNode, f_walkTop, f_contextDepth, f_coercionCount, f_compiledCount, f_cellCount, f_closureCount, f_top, f_running, f_atNode, f_atEnv, f_valueTag, f_valueData, f_valueCoercion, f_typeOfResult, f_fuelSpent, f_blamedLabel, a_kinds, a_operands, a_hasParent, a_inProgram, a_nodeType, a_siteTargets, a_siteCoercions, a_walkNode, a_walkStep, a_contextType, a_labels, a_draft, a_cellNext, a_cellTag, a_cellData, a_cellCoercion, a_closureNode, a_closureEnv, a_frameNode, a_frameStage, a_frameEnv, a_framePending, a_frameData, a_frameCoercion) (nI κ) a b c := by
  unfold wpX_childrenFree
  refine gx_pc hκ ?_
  refine gx_nc hκ ?_
  refine nm_r (nI_add _ _) ⟨gc_nc κ + 1, ?_⟩
  exact gx_cf21 hc hκ h1 h0 (gc_nc κ) (gc_pc κ) rfl (Nat.le_refl _) (gc_nc κ + 1) (by omega) (fun w w1 w2 => by omega)
theorem gx_kept {post : Int32 → Prop} {κ : Nat} {x : Int32} (hκ : κ ≤ 8) (H : post (ga_k κ x)) : wpX_kept post (f_maxNodes, f_maxFuel, f_nodeCount, f_outcome, f_programRoot, f_faultKind, f_faultNode, f_walkTop, f_contextDepth, f_coercionCount, f_compiledCount, f_cellCount, f_closureCount, f_top, f_running, f_atNode, f_atEnv, f_valueTag, f_valueData, f_valueCoercion, f_typeOfResult, f_fuelSpent, f_blamedLabel, a_kinds, a_operands, a_hasParent, a_inProgram, a_nodeType, a_siteTargets, a_siteCoercions, a_walkNode, a_walkStep, a_contextType, a_labels, a_draft, a_cellNext, a_cellTag, a_cellData, a_cellCoercion, a_closureNode, a_closureEnv, a_frameNode, a_frameStage, a_frameEnv, a_framePending, a_frameData, a_frameCoercion) (nI κ) x := by
  unfold ga_k at H
  refine pk_eq κ 1 (fun e => br_c (fun z => ?_) (fun z => ?_)) (fun e1 => pk_eq κ 8 (fun e => br_c (fun z => ?_) (fun z => ?_)) (fun e8 => ?_))
  · rw [if_pos e, if_pos z] at H; exact H
  · rw [if_pos e, if_neg z] at H; exact H
  · rw [if_neg e1, if_pos e, if_pos z] at H; exact H
  · rw [if_neg e1, if_pos e, if_neg z] at H; exact H
  · rw [if_neg e1, if_neg e8] at H; exact H
theorem gx_add_s {post : Int32 → SX → Prop} {κ cnt i m : Nat} {a b c : Int32} {O' hp' : Nat → Int32} (hc : cnt < 48) (hκ : κ ≤ 8) (hi : i ≤ 2)
    (h1 : gc_pc κ ≤ i → i < gc_pc κ + gc_nc κ → ∃ q, q < 48 ∧ ga_A a b c i = nI q ∧ wX_add_101 post (nI κ) a b c (nI cnt) (nI (gc_pc κ)) (nI (gc_pc κ + gc_nc κ)) f_maxNodes f_maxFuel f_nodeCount f_outcome f_programRoot f_faultKind f_faultNode f_walkTop f_contextDepth f_coercionCount f_compiledCount f_cellCount f_closureCount f_top f_running f_atNode f_atEnv f_valueTag f_valueData f_valueCoercion f_typeOfResult f_fuelSpent f_blamedLabel m (nI (i + 1)) a_kinds (upd O' (3 * cnt + i) (ga_v κ (ga_A a b c) i)) (upd hp' q 1) a_inProgram a_nodeType a_siteTargets a_siteCoercions a_walkNode a_walkStep a_contextType a_labels a_draft a_cellNext a_cellTag a_cellData a_cellCoercion a_closureNode a_closureEnv a_frameNode a_frameStage a_frameEnv a_framePending a_frameData a_frameCoercion)
    (h0 : ¬ (gc_pc κ ≤ i ∧ i < gc_pc κ + gc_nc κ) → wX_add_101 post (nI κ) a b c (nI cnt) (nI (gc_pc κ)) (nI (gc_pc κ + gc_nc κ)) f_maxNodes f_maxFuel f_nodeCount f_outcome f_programRoot f_faultKind f_faultNode f_walkTop f_contextDepth f_coercionCount f_compiledCount f_cellCount f_closureCount f_top f_running f_atNode f_atEnv f_valueTag f_valueData f_valueCoercion f_typeOfResult f_fuelSpent f_blamedLabel m (nI (i + 1)) a_kinds (upd O' (3 * cnt + i) (ga_v κ (ga_A a b c) i)) hp' a_inProgram a_nodeType a_siteTargets a_siteCoercions a_walkNode a_walkStep a_contextType a_labels a_draft a_cellNext a_cellTag a_cellData a_cellCoercion a_closureNode a_closureEnv a_frameNode a_frameStage a_frameEnv a_framePending a_frameData a_frameCoercion) :
    wX_add_101 post (nI κ) a b c (nI cnt) (nI (gc_pc κ)) (nI (gc_pc κ + gc_nc κ)) f_maxNodes f_maxFuel f_nodeCount f_outcome f_programRoot f_faultKind f_faultNode f_walkTop f_contextDepth f_coercionCount f_compiledCount f_cellCount f_closureCount f_top f_running f_atNode f_atEnv f_valueTag f_valueData f_valueCoercion f_typeOfResult f_fuelSpent f_blamedLabel (m + 1) (nI i) a_kinds O' hp' a_inProgram a_nodeType a_siteTargets a_siteCoercions a_walkNode a_walkStep a_contextType a_labels a_draft a_cellNext a_cellTag a_cellData a_cellCoercion a_closureNode a_closureEnv a_frameNode a_frameStage a_frameEnv a_framePending a_frameData a_frameCoercion := by
  have T := gc_tab hκ
  have e : 3 * nI cnt + nI i = nI (3 * cnt + i) := by rw [gc_3, nI_add]
  have hin : vp_in (3 * nI cnt + nI i) 144 := by rw [e]; exact gc_in (by omega) (by decide)
  have eu : ∀ x, upd O' (3 * nI cnt + nI i).toNatClampNeg x = upd O' (3 * cnt + i) x := fun x => by rw [e, gc_cl (by omega)]
  unfold ga_v at h1 h0
  refine pk_le 3 i (fun h => by omega) (fun _ => gx_pick hi (pk_le (gc_pc κ) i (fun hp => pk_le (gc_pc κ + gc_nc κ) i (fun hn => ?_) (fun hn => ?_)) (fun hp => ?_)))
  · rw [if_neg (by omega), if_neg (by omega)] at h0
    exact ⟨hin, nm_r (eu 0) (nm_r (nI_1 i) (h0 (by omega)))⟩
  · rw [if_neg (by omega), if_pos (by omega)] at h1
    obtain ⟨q, q1, q2, q3⟩ := h1 hp hn
    rw [q2] at q3 ⊢
    exact ⟨hin, nm_r (eu (nI q)) ⟨gc_in q1 (by decide), nm_r (e' := upd hp' q 1) (by rw [gc_cl (by omega)]; rfl) (nm_r (nI_1 i) q3)⟩⟩
  · rw [if_pos hp] at h0
    exact gx_kept hκ ⟨hin, nm_r (eu _) (nm_r (nI_1 i) (h0 (by omega)))⟩
end
end
section
def ga_w (κ : Nat) (A : Nat → Int32) (i x : Nat) : Prop := ∃ w, gc_pc κ ≤ w ∧ w < i ∧ w < gc_pc κ + gc_nc κ ∧ A w = nI x
def ga_U (cnt κ : Nat) (A : Nat → Int32) (v z : Int32) (i : Nat) (f f' : Nat → Int32) : Prop := (∀ x, x < cnt → ga_w κ A i x → f' x = v) ∧ (∀ x, x < cnt → ¬ ga_w κ A i x → f' x = f x) ∧ f' cnt = z
theorem ga_U_0 {cnt κ : Nat} {A : Nat → Int32} {v z : Int32} {f : Nat → Int32} : ga_U cnt κ A v z 0 f (upd f cnt z) :=
  ⟨fun x _ h => by obtain ⟨w, _, w2, _⟩ := h; omega, fun x hx _ => pk_un (by omega), pk_us⟩
theorem ga_U_c {cnt κ : Nat} {A : Nat → Int32} {v z : Int32} {i q : Nat} {f f' : Nat → Int32} (h : ga_U cnt κ A v z i f f') (h1 : gc_pc κ ≤ i) (h2 : i < gc_pc κ + gc_nc κ) (hq : q < cnt) (hc : cnt ≤ 48) (eq : A i = nI q) : ga_U cnt κ A v z (i + 1) f (upd f' q v) := by
  obtain ⟨a, b, c⟩ := h
  refine ⟨fun x hx hw => ?_, fun x hx hw => ?_, (pk_un (by omega)).trans c⟩
  · rw [gc_len]
    by_cases e : x = q
    · rw [if_pos e]
    · rw [if_neg e]
      obtain ⟨w, w1, w2, w3, w4⟩ := hw
      refine a x hx ⟨w, w1, ?_, w3, w4⟩
      have : w ≠ i := fun ew => by
        rw [ew, eq] at w4
        exact e (gc_inj w4 (by omega) (by omega)).symm
      omega
  · have e : x ≠ q := fun e => hw ⟨i, h1, by omega, h2, by rw [e]; exact eq⟩
    rw [pk_un e]
    exact b x hx (fun hw' => hw (by obtain ⟨w, w1, w2, w3, w4⟩ := hw'; exact ⟨w, w1, by omega, w3, w4⟩))
theorem ga_U_n {cnt κ : Nat} {A : Nat → Int32} {v z : Int32} {i : Nat} {f f' : Nat → Int32} (h : ga_U cnt κ A v z i f f') (h1 : ¬ (gc_pc κ ≤ i ∧ i < gc_pc κ + gc_nc κ)) : ga_U cnt κ A v z (i + 1) f f' := by
  obtain ⟨a, b, c⟩ := h
  have e : ∀ x, ga_w κ A (i + 1) x ↔ ga_w κ A i x := fun x => ⟨fun ⟨w, w1, w2, w3, w4⟩ => ⟨w, w1, by omega, w3, w4⟩, fun ⟨w, w1, w2, w3, w4⟩ => ⟨w, w1, by omega, w3, w4⟩⟩
  exact ⟨fun x hx hw => a x hx ((e x).mp hw), fun x hx hw => b x hx (fun q => hw ((e x).mpr q)), c⟩
def ga_o (cnt κ : Nat) (A : Nat → Int32) (O : Nat → Int32) : Nat → Nat → Int32
  | 0 => O
  | i + 1 => upd (ga_o cnt κ A O i) (3 * cnt + i) (ga_v κ A i)
def ga_ok (cnt mn : Nat) (hp : Nat → Int32) (p0 p1 p2 p3 : Int32) (κ : Nat) : Prop := κ ≤ 8 ∧ p0 = nI κ ∧ cnt < mn ∧ ga_pf κ p1 p2 ∧ ga_cf cnt hp κ (ga_A p1 p2 p3) (gc_pc κ + gc_nc κ)
section
variable {f_maxNodes f_maxFuel f_nodeCount f_outcome f_programRoot f_faultKind f_faultNode f_walkTop f_contextDepth f_coercionCount f_compiledCount f_cellCount f_closureCount f_top f_running f_atNode f_atEnv f_valueTag f_valueData f_valueCoercion f_typeOfResult f_fuelSpent f_blamedLabel : Int32} {a_kinds a_operands a_hasParent a_inProgram a_nodeType a_siteTargets a_siteCoercions a_walkNode a_walkStep a_contextType a_labels a_draft a_cellNext a_cellTag a_cellData a_cellCoercion a_closureNode a_closureEnv a_frameNode a_frameStage a_frameEnv a_framePending a_frameData a_frameCoercion : Nat → Int32}
theorem gx_add_l {post : Int32 → SX → Prop} {κ cnt : Nat} {a b c : Int32} {O hp : Nat → Int32} (hc : cnt < 48) (hκ : κ ≤ 8) (hcf : ga_cf cnt hp κ (ga_A a b c) (gc_pc κ + gc_nc κ))
    (H : ∀ hp' : Nat → Int32, ga_U cnt κ (ga_A a b c) 1 0 3 hp hp' → post (nI cnt) (f_maxNodes, f_maxFuel, nI (cnt + 1), f_outcome, f_programRoot, f_faultKind, f_faultNode, f_walkTop, f_contextDepth, f_coercionCount, f_compiledCount, f_cellCount, f_closureCount, f_top, f_running, f_atNode, f_atEnv, f_valueTag, f_valueData, f_valueCoercion, f_typeOfResult, f_fuelSpent, f_blamedLabel, a_kinds, ga_o cnt κ (ga_A a b c) O 3, hp', a_inProgram, a_nodeType, a_siteTargets, a_siteCoercions, a_walkNode, a_walkStep, a_contextType, a_labels, a_draft, a_cellNext, a_cellTag, a_cellData, a_cellCoercion, a_closureNode, a_closureEnv, a_frameNode, a_frameStage, a_frameEnv, a_framePending, a_frameData, a_frameCoercion)) :
    ∀ m i, i + m = 3 → ∀ (hp' : Nat → Int32) n, m < n → ga_U cnt κ (ga_A a b c) 1 0 i hp hp' →
    wX_add_101 post (nI κ) a b c (nI cnt) (nI (gc_pc κ)) (nI (gc_pc κ + gc_nc κ)) f_maxNodes f_maxFuel (nI cnt) f_outcome f_programRoot f_faultKind f_faultNode f_walkTop f_contextDepth f_coercionCount f_compiledCount f_cellCount f_closureCount f_top f_running f_atNode f_atEnv f_valueTag f_valueData f_valueCoercion f_typeOfResult f_fuelSpent f_blamedLabel n (nI i) a_kinds (ga_o cnt κ (ga_A a b c) O i) hp' a_inProgram a_nodeType a_siteTargets a_siteCoercions a_walkNode a_walkStep a_contextType a_labels a_draft a_cellNext a_cellTag a_cellData a_cellCoercion a_closureNode a_closureEnv a_frameNode a_frameStage a_frameEnv a_framePending a_frameData a_frameCoercion := by
  intro m
  induction m with
  | zero =>
    intro i hi hp' n hn hU
    obtain ⟨n, rfl⟩ : ∃ q, n = q + 1 := ⟨n - 1, by omega⟩
    obtain rfl : i = 3 := by omega
    exact pk_le 3 3 (fun _ => nm_r (nI_1 cnt) (H hp' hU)) (fun h => by omega)
  | succ m ih =>
    intro i hi hp' n hn hU
    obtain ⟨n, rfl⟩ : ∃ q, n = q + 1 := ⟨n - 1, by omega⟩
    refine gx_add_s hc hκ (by omega) (fun h1 h2 => ?_) (fun h => ih (i + 1) (by omega) _ n (by omega) (ga_U_n hU h))
    obtain ⟨⟨q, q1, q2, q3⟩, _⟩ := hcf i h1 h2
    exact ⟨q, by omega, q2, ih (i + 1) (by omega) _ n (by omega) (ga_U_c hU h1 h2 q1 (by omega) q2)⟩
theorem gx_add {post : Int32 → SX → Prop} {cnt mn : Nat} {p0 p1 p2 p3 : Int32} (hmn : mn ≤ 48) (hc : cnt ≤ mn) (h0 : (¬ ∃ κ, ga_ok cnt mn a_hasParent p0 p1 p2 p3 κ) → post (-9999) (nI mn, f_maxFuel, nI cnt, f_outcome, f_programRoot, f_faultKind, f_faultNode, f_walkTop, f_contextDepth, f_coercionCount, f_compiledCount, f_cellCount, f_closureCount, f_top, f_running, f_atNode, f_atEnv, f_valueTag, f_valueData, f_valueCoercion, f_typeOfResult, f_fuelSpent, f_blamedLabel, a_kinds, a_operands, a_hasParent, a_inProgram, a_nodeType, a_siteTargets, a_siteCoercions, a_walkNode, a_walkStep, a_contextType, a_labels, a_draft, a_cellNext, a_cellTag, a_cellData, a_cellCoercion, a_closureNode, a_closureEnv, a_frameNode, a_frameStage, a_frameEnv, a_framePending, a_frameData, a_frameCoercion))
    (h1 : ∀ κ, ga_ok cnt mn a_hasParent p0 p1 p2 p3 κ → ∀ hp' : Nat → Int32, ga_U cnt κ (ga_A p1 p2 p3) 1 0 3 a_hasParent hp' → post (nI cnt) (nI mn, f_maxFuel, nI (cnt + 1), f_outcome, f_programRoot, f_faultKind, f_faultNode, f_walkTop, f_contextDepth, f_coercionCount, f_compiledCount, f_cellCount, f_closureCount, f_top, f_running, f_atNode, f_atEnv, f_valueTag, f_valueData, f_valueCoercion, f_typeOfResult, f_fuelSpent, f_blamedLabel, upd a_kinds cnt (nI κ), ga_o cnt κ (ga_A p1 p2 p3) a_operands 3, hp', a_inProgram, a_nodeType, a_siteTargets, a_siteCoercions, a_walkNode, a_walkStep, a_contextType, a_labels, a_draft, a_cellNext, a_cellTag, a_cellData, a_cellCoercion, a_closureNode, a_closureEnv, a_frameNode, a_frameStage, a_frameEnv, a_framePending, a_frameData, a_frameCoercion)) :
    wpX_add post (nI mn, f_maxFuel, nI cnt, f_outcome, f_programRoot, f_faultKind, f_faultNode, f_walkTop, f_contextDepth, f_coercionCount, f_compiledCount, f_cellCount, f_closureCount, f_top, f_running, f_atNode, f_atEnv, f_valueTag, f_valueData, f_valueCoercion, f_typeOfResult, f_fuelSpent, f_blamedLabel, a_kinds, a_operands, a_hasParent, a_inProgram, a_nodeType, a_siteTargets, a_siteCoercions, a_walkNode, a_walkStep, a_contextType, a_labels, a_draft, a_cellNext, a_cellTag, a_cellData, a_cellCoercion, a_closureNode, a_closureEnv, a_frameNode, a_frameStage, a_frameEnv, a_framePending, a_frameData, a_frameCoercion) p0 p1 p2 p3 := by
  refine br_c (fun z => h0 (fun ⟨κ, k1, k2, _⟩ => ?_)) (fun z => br_c (fun z8 => ?_) (fun z8 => h0 (fun ⟨κ, k1, k2, _⟩ => z8 ?_)))
  · rw [k2] at z; exact gc_nneg κ (by omega) z
  · obtain ⟨κ, hκ, rfl⟩ := nI_of2 (M := 8) (n := 8) (by decide) z z8
    have uq : ∀ κ', ga_ok cnt mn a_hasParent (nI κ) p1 p2 p3 κ' → κ' = κ := fun κ' h => (gc_inj h.2.1 (by omega) (by have := h.1; omega)).symm
    refine pk_lt cnt mn (fun hlt => ?_) (fun hge => h0 (fun ⟨κ', h⟩ => by have := h.2.2.1; omega))
    refine gx_pf hκ (fun hpf => br_f (by decide) ?_) (fun hpf => br_t rfl (h0 (fun ⟨κ', h⟩ => ?_)))
    · refine gx_cf (by omega) hκ (fun hcf => br_f (by decide) ?_) (fun hcf => br_t rfl (h0 (fun ⟨κ', h⟩ => ?_)))
      · have hok : ga_ok cnt mn a_hasParent (nI κ) p1 p2 p3 κ := ⟨hκ, rfl, hlt, hpf, hcf⟩
        refine gx_pc hκ ?_
        refine gx_nc hκ ?_
        refine nm_r (nI_add _ _) ⟨gc_in (by omega) (by decide), nm_r (e' := upd a_kinds cnt (nI κ)) (by rw [gc_cl (by omega)]) ⟨gc_in (by omega) (by decide), nm_r (e' := upd a_hasParent cnt 0) (by rw [gc_cl (by omega)]; rfl) ⟨4, ?_⟩⟩⟩
        exact gx_add_l (O := a_operands) (hp := a_hasParent) (by omega) hκ hcf (fun hp' hU => h1 κ hok hp' hU) 3 0 rfl _ 4 (by decide) ga_U_0
      · have e := uq κ' h
        subst e
        exact hcf h.2.2.2.2
    · have e := uq κ' h
      subst e
      exact hpf h.2.2.2.1
  · rw [k2]
    exact nI_le (b := 8) k1 (by decide)
end
section
variable {g_capacity g_fuel g_count g_state g_wrongKind g_wrongNode g_program g_used g_blamed g_resType g_vTag g_vVal g_vLay g_todo g_todoEnv g_closures g_bindings g_layers g_depth : Int32} {b_kinds b_ops b_parent b_types b_cNode b_cEnv b_bTag b_bVal b_bLay b_bNext b_lSource b_lTarget b_lLabel b_lInner b_frNode b_frEnv b_frPhase b_frVal b_frLay : Nat → Int32}
theorem gy_free {post : Int32 → Prop} {cnt : Nat} {hp : Nat → Int32} {p : Int32} (hc : cnt ≤ 48) (hph : ∀ n, n < cnt → (hp n = 0 ↔ ¬ 0 ≤ b_parent n)) (h1 : ga_fr cnt hp p → post 1) (h0 : ¬ ga_fr cnt hp p → post 0) : wpY_free post (g_capacity, g_fuel, nI cnt, g_state, g_wrongKind, g_wrongNode, g_program, g_used, g_blamed, g_resType, g_vTag, g_vVal, g_vLay, g_todo, g_todoEnv, g_closures, g_bindings, g_layers, g_depth, b_kinds, b_ops, b_parent, b_types, b_cNode, b_cEnv, b_bTag, b_bVal, b_bLay, b_bNext, b_lSource, b_lTarget, b_lLabel, b_lInner, b_frNode, b_frEnv, b_frPhase, b_frVal, b_frLay) p := by
  rcases pk_ix p (n := cnt) (by omega) with h | h | ⟨j, hj, rfl⟩
  · exact br_t h (h0 (fun ⟨n, n1, n2, _⟩ => by rw [n2] at h; exact gc_nneg n (by omega) h))
  · have hp' : ¬ p < 0 := fun z => gc_nneg cnt (by omega) (Int32.lt_of_le_of_lt h z)
    refine br_f hp' (br_t h (h0 (fun ⟨n, n1, n2, _⟩ => ?_)))
    rw [n2] at h
    have := (nI_leI (a := cnt) (b := n) (by omega) (by omega)).mp h
    omega
  · refine br_f (gc_nneg j (by omega)) (pk_le cnt j (fun h => by omega) (fun _ => ⟨gc_in (by omega) (by decide), ?_⟩))
    rw [gc_cl (by omega)]
    refine br_c (fun z => h0 (fun ⟨n, n1, n2, n3⟩ => ?_)) (fun z => h1 ⟨j, hj, rfl, (hph j hj).mpr z⟩)
    obtain rfl : n = j := gc_inj n2.symm (by omega) (by omega)
    exact (hph n hj).mp n3 z
theorem gy_345 {post : Int32 → SY → Prop} {κ cnt : Nat} {a b c : Int32} {hp O2 par : Nat → Int32} (hc : cnt < 48) (hκ : κ ≤ 8) (hcf : ga_cf cnt hp κ (ga_A a b c) (gc_pc κ + gc_nc κ)) {f0 f1 f2 : Int32} (e0 : f0 = 0 ↔ ¬ (gc_pc κ ≤ 0 ∧ 0 < gc_pc κ + gc_nc κ)) (e1 : f1 = 0 ↔ ¬ (gc_pc κ ≤ 1 ∧ 1 < gc_pc κ + gc_nc κ)) (e2 : f2 = 0 ↔ ¬ (gc_pc κ ≤ 2 ∧ 2 < gc_pc κ + gc_nc κ)) (hO2 : O2 = ga_o cnt κ (ga_A a b c) b_ops 2)
    (H : ∀ par' : Nat → Int32, ga_U cnt κ (ga_A a b c) (nI cnt) (-1) 3 par par' → post (nI cnt) (g_capacity, g_fuel, nI (cnt + 1), g_state, g_wrongKind, g_wrongNode, g_program, g_used, g_blamed, g_resType, g_vTag, g_vVal, g_vLay, g_todo, g_todoEnv, g_closures, g_bindings, g_layers, g_depth, b_kinds, ga_o cnt κ (ga_A a b c) b_ops 3, par', b_types, b_cNode, b_cEnv, b_bTag, b_bVal, b_bLay, b_bNext, b_lSource, b_lTarget, b_lLabel, b_lInner, b_frNode, b_frEnv, b_frPhase, b_frVal, b_frLay)) {z : Int32} (hz : z = ga_v κ (ga_A a b c) 2) :
    wY_add_345 post a b c f0 f1 f2 (nI cnt) z (3 * nI cnt + 2) g_capacity g_fuel (nI cnt) g_state g_wrongKind g_wrongNode g_program g_used g_blamed g_resType g_vTag g_vVal g_vLay g_todo g_todoEnv g_closures g_bindings g_layers g_depth b_kinds O2 (upd par cnt (-1)) b_types b_cNode b_cEnv b_bTag b_bVal b_bLay b_bNext b_lSource b_lTarget b_lLabel b_lInner b_frNode b_frEnv b_frPhase b_frVal b_frLay := by
  have e : 3 * nI cnt + 2 = nI (3 * cnt + 2) := by rw [gc_3, gc_p2]
  have T := gc_tab hκ
  subst hO2 hz
  have C : ∀ i, gc_pc κ ≤ i → i < gc_pc κ + gc_nc κ → ∃ q, q < cnt ∧ ga_A a b c i = nI q := by
    intro i h1 h2
    obtain ⟨⟨q, q1, q2, q3⟩, _⟩ := hcf i h1 h2
    exact ⟨q, q1, q2⟩
  have S2 : ∀ par', ga_U cnt κ (ga_A a b c) (nI cnt) (-1) 2 par par' → wY_add_372 post c f2 (nI cnt) g_capacity g_fuel (nI cnt) g_state g_wrongKind g_wrongNode g_program g_used g_blamed g_resType g_vTag g_vVal g_vLay g_todo g_todoEnv g_closures g_bindings g_layers g_depth b_kinds (ga_o cnt κ (ga_A a b c) b_ops 3) par' b_types b_cNode b_cEnv b_bTag b_bVal b_bLay b_bNext b_lSource b_lTarget b_lLabel b_lInner b_frNode b_frEnv b_frPhase b_frVal b_frLay := by
    intro par' hU
    refine br_c (fun z => nm_r (nI_1 cnt) (H _ (ga_U_n hU (e2.mp z)))) (fun z => ?_)
    have hch : gc_pc κ ≤ 2 ∧ 2 < gc_pc κ + gc_nc κ := Classical.byContradiction (fun q => z (e2.mpr q))
    obtain ⟨q, q1, q2⟩ := C 2 hch.1 hch.2
    have q2' : c = nI q := q2
    subst q2'
    exact ⟨gc_in (by omega) (by decide), nm_r (e' := upd par' q (nI cnt)) (by rw [gc_cl (by omega)]) (nm_r (nI_1 cnt) (H _ (ga_U_c hU hch.1 hch.2 q1 (by omega) q2)))⟩
  have S1 : ∀ par', ga_U cnt κ (ga_A a b c) (nI cnt) (-1) 1 par par' → wY_add_359 post b c f1 f2 (nI cnt) g_capacity g_fuel (nI cnt) g_state g_wrongKind g_wrongNode g_program g_used g_blamed g_resType g_vTag g_vVal g_vLay g_todo g_todoEnv g_closures g_bindings g_layers g_depth b_kinds (ga_o cnt κ (ga_A a b c) b_ops 3) par' b_types b_cNode b_cEnv b_bTag b_bVal b_bLay b_bNext b_lSource b_lTarget b_lLabel b_lInner b_frNode b_frEnv b_frPhase b_frVal b_frLay := by
    intro par' hU
    refine br_c (fun z => S2 _ (ga_U_n hU (e1.mp z))) (fun z => ?_)
    have hch : gc_pc κ ≤ 1 ∧ 1 < gc_pc κ + gc_nc κ := Classical.byContradiction (fun q => z (e1.mpr q))
    obtain ⟨q, q1, q2⟩ := C 1 hch.1 hch.2
    have q2' : b = nI q := q2
    subst q2'
    exact ⟨gc_in (by omega) (by decide), nm_r (e' := upd par' q (nI cnt)) (by rw [gc_cl (by omega)]) (S2 _ (ga_U_c hU hch.1 hch.2 q1 (by omega) q2))⟩
  refine ⟨by rw [e]; exact gc_in (by omega) (by decide), nm_r (e' := ga_o cnt κ (ga_A a b c) b_ops 3) (by rw [e, gc_cl (by omega)]; rfl) ?_⟩
  have hU0 : ga_U cnt κ (ga_A a b c) (nI cnt) (-1) 0 par (upd par cnt (-1)) := ga_U_0
  refine br_c (fun z => S1 _ (ga_U_n hU0 (e0.mp z))) (fun z => ?_)
  have hch : gc_pc κ ≤ 0 ∧ 0 < gc_pc κ + gc_nc κ := Classical.byContradiction (fun q => z (e0.mpr q))
  obtain ⟨q, q1, q2⟩ := C 0 hch.1 hch.2
  have q2' : a = nI q := q2
  subst q2'
  exact ⟨gc_in (by omega) (by decide), nm_r (e' := upd (upd par cnt (-1)) q (nI cnt)) (by rw [gc_cl (by omega)]) (S1 _ (ga_U_c hU0 hch.1 hch.2 q1 (by omega) q2))⟩
theorem gy_228 {post : Int32 → SY → Prop} {κ cnt : Nat} {a b c : Int32} {hp : Nat → Int32} (hc : cnt < 48) (hκ : κ ≤ 8) (hcf : ga_cf cnt hp κ (ga_A a b c) (gc_pc κ + gc_nc κ)) {f0 f1 f2 : Int32} (e0 : f0 = 0 ↔ ¬ (gc_pc κ ≤ 0 ∧ 0 < gc_pc κ + gc_nc κ)) (e1 : f1 = 0 ↔ ¬ (gc_pc κ ≤ 1 ∧ 1 < gc_pc κ + gc_nc κ)) (e2 : f2 = 0 ↔ ¬ (gc_pc κ ≤ 2 ∧ 2 < gc_pc κ + gc_nc κ))
    (H : ∀ par' : Nat → Int32, ga_U cnt κ (ga_A a b c) (nI cnt) (-1) 3 b_parent par' → post (nI cnt) (g_capacity, g_fuel, nI (cnt + 1), g_state, g_wrongKind, g_wrongNode, g_program, g_used, g_blamed, g_resType, g_vTag, g_vVal, g_vLay, g_todo, g_todoEnv, g_closures, g_bindings, g_layers, g_depth, upd b_kinds cnt (nI κ), ga_o cnt κ (ga_A a b c) b_ops 3, par', b_types, b_cNode, b_cEnv, b_bTag, b_bVal, b_bLay, b_bNext, b_lSource, b_lTarget, b_lLabel, b_lInner, b_frNode, b_frEnv, b_frPhase, b_frVal, b_frLay)) :
    wY_add_228 post (nI κ) a b c f0 f1 f2 g_capacity g_fuel (nI cnt) g_state g_wrongKind g_wrongNode g_program g_used g_blamed g_resType g_vTag g_vVal g_vLay g_todo g_todoEnv g_closures g_bindings g_layers g_depth b_kinds b_ops b_parent b_types b_cNode b_cEnv b_bTag b_bVal b_bLay b_bNext b_lSource b_lTarget b_lLabel b_lInner b_frNode b_frEnv b_frPhase b_frVal b_frLay := by
  have T := gc_tab hκ
  have e0' : 3 * nI cnt = nI (3 * cnt) := gc_3 cnt
  have e1' : 3 * nI cnt + 1 = nI (3 * cnt + 1) := by rw [gc_3, nI_1]
  have S312 : ∀ z, z = ga_v κ (ga_A a b c) 1 → wY_add_312 post (nI κ) a b c f0 f1 f2 (nI cnt) z (3 * nI cnt + 1) g_capacity g_fuel (nI cnt) g_state g_wrongKind g_wrongNode g_program g_used g_blamed g_resType g_vTag g_vVal g_vLay g_todo g_todoEnv g_closures g_bindings g_layers g_depth (upd b_kinds cnt (nI κ)) (ga_o cnt κ (ga_A a b c) b_ops 1) (upd b_parent cnt (-1)) b_types b_cNode b_cEnv b_bTag b_bVal b_bLay b_bNext b_lSource b_lTarget b_lLabel b_lInner b_frNode b_frEnv b_frPhase b_frVal b_frLay := by
    intro z hz
    subst hz
    refine ⟨by rw [e1']; exact gc_in (by omega) (by decide), nm_r (e' := ga_o cnt κ (ga_A a b c) b_ops 2) (by rw [e1', gc_cl (by omega)]; rfl) ?_⟩
    have Z : ∀ z, z = ga_v κ (ga_A a b c) 2 → wY_add_345 post a b c f0 f1 f2 (nI cnt) z (3 * nI cnt + 2) g_capacity g_fuel (nI cnt) g_state g_wrongKind g_wrongNode g_program g_used g_blamed g_resType g_vTag g_vVal g_vLay g_todo g_todoEnv g_closures g_bindings g_layers g_depth (upd b_kinds cnt (nI κ)) (ga_o cnt κ (ga_A a b c) b_ops 2) (upd b_parent cnt (-1)) b_types b_cNode b_cEnv b_bTag b_bVal b_bLay b_bNext b_lSource b_lTarget b_lLabel b_lInner b_frNode b_frEnv b_frPhase b_frVal b_frLay := fun z hz => gy_345 hc hκ hcf e0 e1 e2 rfl H hz
    have V1 : gc_pc κ ≤ 2 → 2 < gc_pc κ + gc_nc κ → c = ga_v κ (ga_A a b c) 2 := fun h1 h2 => by unfold ga_v; rw [if_neg (by omega), if_pos h2]; rfl
    have V0 : gc_pc κ ≤ 2 → ¬ 2 < gc_pc κ + gc_nc κ → 0 = ga_v κ (ga_A a b c) 2 := fun h1 h2 => by unfold ga_v; rw [if_neg (by omega), if_neg h2]
    exact pk_eq κ 3 (fun e => Z _ (V1 (by omega) (by omega))) (fun e3 => pk_eq κ 5 (fun e => Z _ (V1 (by omega) (by omega))) (fun e5 => pk_eq κ 6 (fun e => Z _ (V1 (by omega) (by omega))) (fun e6 => Z _ (V0 (by omega) (by omega)))))
  have S291 : ∀ z, z = ga_v κ (ga_A a b c) 0 → wY_add_291 post (nI κ) a b c f0 f1 f2 (nI cnt) z (3 * nI cnt) g_capacity g_fuel (nI cnt) g_state g_wrongKind g_wrongNode g_program g_used g_blamed g_resType g_vTag g_vVal g_vLay g_todo g_todoEnv g_closures g_bindings g_layers g_depth (upd b_kinds cnt (nI κ)) b_ops (upd b_parent cnt (-1)) b_types b_cNode b_cEnv b_bTag b_bVal b_bLay b_bNext b_lSource b_lTarget b_lLabel b_lInner b_frNode b_frEnv b_frPhase b_frVal b_frLay := by
    intro z hz
    subst hz
    refine ⟨by rw [e0']; exact gc_in (by omega) (by decide), nm_r (e' := ga_o cnt κ (ga_A a b c) b_ops 1) (by rw [e0', gc_cl (by omega)]; rfl) ?_⟩
    refine pk_lt 2 κ (fun h => S312 _ ?_) (fun h => S312 _ ?_)
    · unfold ga_v
      by_cases e3 : κ = 3
      · rw [if_pos (by omega)]
        unfold ga_k
        rw [if_neg (by omega), if_neg (by omega)]
        rfl
      · rw [if_neg (by omega), if_pos (by omega)]; rfl
    · unfold ga_v
      rw [if_neg (by omega), if_neg (by omega)]
  refine ⟨gc_in (by omega) (by decide), nm_r (e' := upd b_kinds cnt (nI κ)) (by rw [gc_cl (by omega)]) ⟨gc_in (by omega) (by decide), nm_r (e' := upd b_parent cnt (-1)) (by rw [gc_cl (by omega)]) ?_⟩⟩
  have K : gc_pc κ ≠ 0 → ga_v κ (ga_A a b c) 0 = ga_k κ a := fun h => by unfold ga_v; rw [if_pos (by omega)]; rfl
  refine pk_eq κ 1 (fun e => br_c (fun z => S291 _ ?_) (fun z => S291 _ ?_)) (fun e1 => pk_eq κ 8 (fun e => br_c (fun z => S291 _ ?_) (fun z => S291 _ ?_)) (fun e8 => S291 _ ?_))
  · rw [K (by omega)]; unfold ga_k; rw [if_pos e, if_pos z]
  · rw [K (by omega)]; unfold ga_k; rw [if_pos e, if_neg z]
  · rw [K (by omega)]; unfold ga_k; rw [if_neg e1, if_pos e, if_pos z]
  · rw [K (by omega)]; unfold ga_k; rw [if_neg e1, if_pos e, if_neg z]
  · by_cases hp0 : gc_pc κ = 0
    · unfold ga_v
      rw [if_neg (by omega), if_pos (by omega)]
      rfl
    · rw [K hp0]; unfold ga_k; rw [if_neg e1, if_neg e8]
theorem gy_add {post : Int32 → SY → Prop} {cnt mn : Nat} {hp : Nat → Int32} {p0 p1 p2 p3 : Int32} (hmn : mn ≤ 48) (hc : cnt ≤ mn) (hph : ∀ n, n < cnt → (hp n = 0 ↔ ¬ 0 ≤ b_parent n)) (h0 : (¬ ∃ κ, ga_ok cnt mn hp p0 p1 p2 p3 κ) → post (-9999) (nI mn, g_fuel, nI cnt, g_state, g_wrongKind, g_wrongNode, g_program, g_used, g_blamed, g_resType, g_vTag, g_vVal, g_vLay, g_todo, g_todoEnv, g_closures, g_bindings, g_layers, g_depth, b_kinds, b_ops, b_parent, b_types, b_cNode, b_cEnv, b_bTag, b_bVal, b_bLay, b_bNext, b_lSource, b_lTarget, b_lLabel, b_lInner, b_frNode, b_frEnv, b_frPhase, b_frVal, b_frLay))
    (h1 : ∀ κ, ga_ok cnt mn hp p0 p1 p2 p3 κ → ∀ par' : Nat → Int32, ga_U cnt κ (ga_A p1 p2 p3) (nI cnt) (-1) 3 b_parent par' → post (nI cnt) (nI mn, g_fuel, nI (cnt + 1), g_state, g_wrongKind, g_wrongNode, g_program, g_used, g_blamed, g_resType, g_vTag, g_vVal, g_vLay, g_todo, g_todoEnv, g_closures, g_bindings, g_layers, g_depth, upd b_kinds cnt (nI κ), ga_o cnt κ (ga_A p1 p2 p3) b_ops 3, par', b_types, b_cNode, b_cEnv, b_bTag, b_bVal, b_bLay, b_bNext, b_lSource, b_lTarget, b_lLabel, b_lInner, b_frNode, b_frEnv, b_frPhase, b_frVal, b_frLay)) :
    wpY_add post (nI mn, g_fuel, nI cnt, g_state, g_wrongKind, g_wrongNode, g_program, g_used, g_blamed, g_resType, g_vTag, g_vVal, g_vLay, g_todo, g_todoEnv, g_closures, g_bindings, g_layers, g_depth, b_kinds, b_ops, b_parent, b_types, b_cNode, b_cEnv, b_bTag, b_bVal, b_bLay, b_bNext, b_lSource, b_lTarget, b_lLabel, b_lInner, b_frNode, b_frEnv, b_frPhase, b_frVal, b_frLay) p0 p1 p2 p3 := by
  refine br_c (fun z => h0 (fun ⟨κ, k1, k2, _⟩ => ?_)) (fun z => br_c (fun z8 => h0 (fun ⟨κ, k1, k2, _⟩ => ?_)) (fun z8 => ?_))
  · rw [k2] at z; exact gc_nneg κ (by omega) z
  · rw [k2] at z8
    exact nI_nlt (a := 8) (b := κ) k1 (by decide) z8
  · obtain ⟨κ, hκ, rfl⟩ := nI_of2 (M := 8) (n := 8) (by decide) z (Int32.not_lt.mp z8)
    have T := gc_tab hκ
    have uq : ∀ κ', ga_ok cnt mn hp (nI κ) p1 p2 p3 κ' → κ' = κ := fun κ' h => (gc_inj h.2.1 (by omega) (by have := h.1; omega)).symm
    have npf : ¬ ga_pf κ p1 p2 → post (-9999) (nI mn, g_fuel, nI cnt, g_state, g_wrongKind, g_wrongNode, g_program, g_used, g_blamed, g_resType, g_vTag, g_vVal, g_vLay, g_todo, g_todoEnv, g_closures, g_bindings, g_layers, g_depth, b_kinds, b_ops, b_parent, b_types, b_cNode, b_cEnv, b_bTag, b_bVal, b_bLay, b_bNext, b_lSource, b_lTarget, b_lLabel, b_lInner, b_frNode, b_frEnv, b_frPhase, b_frVal, b_frLay) := fun hn => h0 (fun ⟨κ', h⟩ => by have e := uq κ' h; subst e; exact hn h.2.2.2.1)
    have ncf : ¬ ga_cf cnt hp κ (ga_A p1 p2 p3) (gc_pc κ + gc_nc κ) → post (-9999) (nI mn, g_fuel, nI cnt, g_state, g_wrongKind, g_wrongNode, g_program, g_used, g_blamed, g_resType, g_vTag, g_vVal, g_vLay, g_todo, g_todoEnv, g_closures, g_bindings, g_layers, g_depth, b_kinds, b_ops, b_parent, b_types, b_cNode, b_cEnv, b_bTag, b_bVal, b_bLay, b_bNext, b_lSource, b_lTarget, b_lLabel, b_lInner, b_frNode, b_frEnv, b_frPhase, b_frVal, b_frLay) := fun hn => h0 (fun ⟨κ', h⟩ => by have e := uq κ' h; subst e; exact hn h.2.2.2.2)
    refine pk_lt cnt mn (fun hlt => ?_) (fun hge => h0 (fun ⟨κ', h⟩ => by have := h.2.2.1; omega))
    -- the children
    have P109 : ga_pf κ p1 p2 → wY_add_109 post (nI κ) p1 p2 p3 (nI mn) g_fuel (nI cnt) g_state g_wrongKind g_wrongNode g_program g_used g_blamed g_resType g_vTag g_vVal g_vLay g_todo g_todoEnv g_closures g_bindings g_layers g_depth b_kinds b_ops b_parent b_types b_cNode b_cEnv b_bTag b_bVal b_bLay b_bNext b_lSource b_lTarget b_lLabel b_lInner b_frNode b_frEnv b_frPhase b_frVal b_frLay := by
      intro hpf
      have F : ∀ w, w ≤ 2 → ∀ Q : Int32 → Prop, (∀ f : Int32, (f = 0 ↔ ¬ (gc_pc κ ≤ w ∧ w < gc_pc κ + gc_nc κ)) → Q f) → wpY_isNode Q (nI mn, g_fuel, nI cnt, g_state, g_wrongKind, g_wrongNode, g_program, g_used, g_blamed, g_resType, g_vTag, g_vVal, g_vLay, g_todo, g_todoEnv, g_closures, g_bindings, g_layers, g_depth, b_kinds, b_ops, b_parent, b_types, b_cNode, b_cEnv, b_bTag, b_bVal, b_bLay, b_bNext, b_lSource, b_lTarget, b_lLabel, b_lInner, b_frNode, b_frEnv, b_frPhase, b_frVal, b_frLay) (nI κ) (nI w) := by
        intro w hw Q hQ
        exact gy_isNode hκ hw (fun a b => hQ 1 ⟨fun h => absurd h (by decide), fun h => absurd ⟨a, b⟩ h⟩) (fun h => hQ 0 ⟨fun _ => h, fun _ => rfl⟩)
      unfold wY_add_109
      refine F 0 (by decide) _ (fun f0 e0 => ?_)
      refine F 1 (by decide) _ (fun f1 e1 => ?_)
      refine F 2 (by decide) _ (fun f2 e2 => ?_)
      have S208 : (∀ w, gc_pc κ ≤ w → w < gc_pc κ + gc_nc κ → ga_fr cnt hp (ga_A p1 p2 p3 w)) → (¬ f0 = 0 → ¬ f1 = 0 → ¬ p1 = p2) → (¬ f0 = 0 → ¬ f2 = 0 → ¬ p1 = p3) → wY_add_208 post (nI κ) p1 p2 p3 f0 f1 f2 (nI mn) g_fuel (nI cnt) g_state g_wrongKind g_wrongNode g_program g_used g_blamed g_resType g_vTag g_vVal g_vLay g_todo g_todoEnv g_closures g_bindings g_layers g_depth b_kinds b_ops b_parent b_types b_cNode b_cEnv b_bTag b_bVal b_bLay b_bNext b_lSource b_lTarget b_lLabel b_lInner b_frNode b_frEnv b_frPhase b_frVal b_frLay := by
        intro hfr h01 h02
        have S : (¬ f1 = 0 → ¬ f2 = 0 → ¬ p2 = p3) → wY_add_228 post (nI κ) p1 p2 p3 f0 f1 f2 (nI mn) g_fuel (nI cnt) g_state g_wrongKind g_wrongNode g_program g_used g_blamed g_resType g_vTag g_vVal g_vLay g_todo g_todoEnv g_closures g_bindings g_layers g_depth b_kinds b_ops b_parent b_types b_cNode b_cEnv b_bTag b_bVal b_bLay b_bNext b_lSource b_lTarget b_lLabel b_lInner b_frNode b_frEnv b_frPhase b_frVal b_frLay := by
          intro h12
          have hcf : ga_cf cnt hp κ (ga_A p1 p2 p3) (gc_pc κ + gc_nc κ) := by
            intro w w1 w2
            refine ⟨hfr w w1 w2, fun w' w3 w4 e => ?_⟩
            have hw : w ≤ 2 := by omega
            by_cases ew : w = 1
            · subst ew
              obtain rfl : w' = 0 := by omega
              exact h01 (fun z => (e0.mp z) ⟨w3, by omega⟩) (fun z => (e1.mp z) ⟨w1, w2⟩) e.symm
            · obtain rfl : w = 2 := by omega
              by_cases ew' : w' = 0
              · subst ew'
                exact h02 (fun z => (e0.mp z) ⟨w3, by omega⟩) (fun z => (e2.mp z) ⟨w1, w2⟩) e.symm
              · obtain rfl : w' = 1 := by omega
                exact h12 (fun z => (e1.mp z) ⟨w3, by omega⟩) (fun z => (e2.mp z) ⟨w1, w2⟩) e.symm
          exact gy_228 (by omega) hκ hcf e0 e1 e2 (fun par' hU => h1 κ ⟨hκ, rfl, hlt, hpf, hcf⟩ par' hU)
        refine br_c (fun z => S (fun q => absurd z q)) (fun z => br_c (fun z2 => S (fun _ q => absurd z2 q)) (fun z2 => br_c (fun z3 => ncf (fun hcf => ?_)) (fun z3 => S (fun _ _ => z3))))
        have c1 : gc_pc κ ≤ 1 ∧ 1 < gc_pc κ + gc_nc κ := Classical.byContradiction (fun q => z (e1.mpr q))
        have c2 : gc_pc κ ≤ 2 ∧ 2 < gc_pc κ + gc_nc κ := Classical.byContradiction (fun q => z2 (e2.mpr q))
        exact (hcf 2 c2.1 c2.2).2 1 c1.1 (by decide) z3.symm
      have S192 : (∀ w, gc_pc κ ≤ w → w < gc_pc κ + gc_nc κ → ga_fr cnt hp (ga_A p1 p2 p3 w)) → (¬ f0 = 0 → ¬ f1 = 0 → ¬ p1 = p2) → wY_add_192 post (nI κ) p1 p2 p3 f0 f1 f2 (nI mn) g_fuel (nI cnt) g_state g_wrongKind g_wrongNode g_program g_used g_blamed g_resType g_vTag g_vVal g_vLay g_todo g_todoEnv g_closures g_bindings g_layers g_depth b_kinds b_ops b_parent b_types b_cNode b_cEnv b_bTag b_bVal b_bLay b_bNext b_lSource b_lTarget b_lLabel b_lInner b_frNode b_frEnv b_frPhase b_frVal b_frLay := by
        intro hfr h01
        refine br_c (fun z => S208 hfr h01 (fun q => absurd z q)) (fun z => br_c (fun z2 => S208 hfr h01 (fun _ q => absurd z2 q)) (fun z2 => br_c (fun z3 => ncf (fun hcf => ?_)) (fun z3 => S208 hfr h01 (fun _ _ => z3))))
        have c1 : gc_pc κ ≤ 0 ∧ 0 < gc_pc κ + gc_nc κ := Classical.byContradiction (fun q => z (e0.mpr q))
        have c2 : gc_pc κ ≤ 2 ∧ 2 < gc_pc κ + gc_nc κ := Classical.byContradiction (fun q => z2 (e2.mpr q))
        exact (hcf 2 c2.1 c2.2).2 0 c1.1 (by decide) z3.symm
      have S177 : (∀ w, gc_pc κ ≤ w → w < gc_pc κ + gc_nc κ → ga_fr cnt hp (ga_A p1 p2 p3 w)) → wY_add_177 post (nI κ) p1 p2 p3 f0 f1 f2 (nI mn) g_fuel (nI cnt) g_state g_wrongKind g_wrongNode g_program g_used g_blamed g_resType g_vTag g_vVal g_vLay g_todo g_todoEnv g_closures g_bindings g_layers g_depth b_kinds b_ops b_parent b_types b_cNode b_cEnv b_bTag b_bVal b_bLay b_bNext b_lSource b_lTarget b_lLabel b_lInner b_frNode b_frEnv b_frPhase b_frVal b_frLay := by
        intro hfr
        refine br_c (fun z => S192 hfr (fun q => absurd z q)) (fun z => br_c (fun z2 => S192 hfr (fun _ q => absurd z2 q)) (fun z2 => br_c (fun z3 => ncf (fun hcf => ?_)) (fun z3 => S192 hfr (fun _ _ => z3))))
        have c1 : gc_pc κ ≤ 0 ∧ 0 < gc_pc κ + gc_nc κ := Classical.byContradiction (fun q => z (e0.mpr q))
        have c2 : gc_pc κ ≤ 1 ∧ 1 < gc_pc κ + gc_nc κ := Classical.byContradiction (fun q => z2 (e1.mpr q))
        exact (hcf 1 c2.1 c2.2).2 0 c1.1 (by decide) z3.symm
      have S159 : (¬ f0 = 0 → ga_fr cnt hp p1) → (¬ f1 = 0 → ga_fr cnt hp p2) → wY_add_159 post (nI κ) p1 p2 p3 f0 f1 f2 (nI mn) g_fuel (nI cnt) g_state g_wrongKind g_wrongNode g_program g_used g_blamed g_resType g_vTag g_vVal g_vLay g_todo g_todoEnv g_closures g_bindings g_layers g_depth b_kinds b_ops b_parent b_types b_cNode b_cEnv b_bTag b_bVal b_bLay b_bNext b_lSource b_lTarget b_lLabel b_lInner b_frNode b_frEnv b_frPhase b_frVal b_frLay := by
        intro g0 g1
        have S : (¬ f2 = 0 → ga_fr cnt hp p3) → wY_add_177 post (nI κ) p1 p2 p3 f0 f1 f2 (nI mn) g_fuel (nI cnt) g_state g_wrongKind g_wrongNode g_program g_used g_blamed g_resType g_vTag g_vVal g_vLay g_todo g_todoEnv g_closures g_bindings g_layers g_depth b_kinds b_ops b_parent b_types b_cNode b_cEnv b_bTag b_bVal b_bLay b_bNext b_lSource b_lTarget b_lLabel b_lInner b_frNode b_frEnv b_frPhase b_frVal b_frLay := by
          intro g2
          refine S177 (fun w w1 w2 => ?_)
          obtain rfl | rfl | rfl : w = 0 ∨ w = 1 ∨ w = 2 := by omega
          · exact g0 (fun z => (e0.mp z) ⟨w1, w2⟩)
          · exact g1 (fun z => (e1.mp z) ⟨w1, w2⟩)
          · exact g2 (fun z => (e2.mp z) ⟨w1, w2⟩)
        refine br_c (fun z => S (fun q => absurd z q)) (fun z => gy_free (by omega) hph (fun hf => br_f (by decide) (S (fun _ => hf))) (fun hf => br_t rfl (ncf (fun hcf => hf ?_))))
        have c2 : gc_pc κ ≤ 2 ∧ 2 < gc_pc κ + gc_nc κ := Classical.byContradiction (fun q => z (e2.mpr q))
        exact (hcf 2 c2.1 c2.2).1
      have S146 : (¬ f0 = 0 → ga_fr cnt hp p1) → wY_add_146 post (nI κ) p1 p2 p3 f0 f1 f2 (nI mn) g_fuel (nI cnt) g_state g_wrongKind g_wrongNode g_program g_used g_blamed g_resType g_vTag g_vVal g_vLay g_todo g_todoEnv g_closures g_bindings g_layers g_depth b_kinds b_ops b_parent b_types b_cNode b_cEnv b_bTag b_bVal b_bLay b_bNext b_lSource b_lTarget b_lLabel b_lInner b_frNode b_frEnv b_frPhase b_frVal b_frLay := by
        intro g0
        refine br_c (fun z => S159 g0 (fun q => absurd z q)) (fun z => gy_free (by omega) hph (fun hf => br_f (by decide) (S159 g0 (fun _ => hf))) (fun hf => br_t rfl (ncf (fun hcf => hf ?_))))
        have c2 : gc_pc κ ≤ 1 ∧ 1 < gc_pc κ + gc_nc κ := Classical.byContradiction (fun q => z (e1.mpr q))
        exact (hcf 1 c2.1 c2.2).1
      refine br_c (fun z => S146 (fun q => absurd z q)) (fun z => gy_free (by omega) hph (fun hf => br_f (by decide) (S146 (fun _ => hf))) (fun hf => br_t rfl (ncf (fun hcf => hf ?_))))
      have c2 : gc_pc κ ≤ 0 ∧ 0 < gc_pc κ + gc_nc κ := Classical.byContradiction (fun q => z (e0.mpr q))
      exact (hcf 0 c2.1 c2.2).1
    -- the plain operands
    have P89 : (κ ≠ 8 → ga_pf κ p1 p2) → (κ = 8 → (¬ p1 < 0 ∧ ¬ 19 < p1) → ga_pf κ p1 p2) → wY_add_89 post (nI κ) p1 p2 p3 (nI mn) g_fuel (nI cnt) g_state g_wrongKind g_wrongNode g_program g_used g_blamed g_resType g_vTag g_vVal g_vLay g_todo g_todoEnv g_closures g_bindings g_layers g_depth b_kinds b_ops b_parent b_types b_cNode b_cEnv b_bTag b_bVal b_bLay b_bNext b_lSource b_lTarget b_lLabel b_lInner b_frNode b_frEnv b_frPhase b_frVal b_frLay := by
      intro g1 g2
      refine pk_eq κ 8 (fun e => br_c (fun z => npf (fun h => (h.2.2.2 e).1 z)) (fun z => br_c (fun z2 => P109 (g2 e ⟨z, Int32.not_lt.mpr z2⟩)) (fun z2 => npf (fun h => z2 (Int32.not_lt.mp (h.2.2.2 e).2))))) (fun e => P109 (g1 e))
    have P71 : (κ ≠ 5 → κ ≠ 8 → ga_pf κ p1 p2) → wY_add_71 post (nI κ) p1 p2 p3 (nI mn) g_fuel (nI cnt) g_state g_wrongKind g_wrongNode g_program g_used g_blamed g_resType g_vTag g_vVal g_vLay g_todo g_todoEnv g_closures g_bindings g_layers g_depth b_kinds b_ops b_parent b_types b_cNode b_cEnv b_bTag b_bVal b_bLay b_bNext b_lSource b_lTarget b_lLabel b_lInner b_frNode b_frEnv b_frPhase b_frVal b_frLay := by
      intro g1
      refine pk_eq κ 5 (fun e => br_c (fun z => npf (fun h => (h.2.2.1 e).1 z)) (fun z => br_c (fun z2 => P89 (fun _ => ⟨fun e => by omega, fun e => by omega, fun _ => ⟨z, Int32.not_lt.mpr z2⟩, fun e => by omega⟩) (fun e => by omega)) (fun z2 => npf (fun h => z2 (Int32.not_lt.mp (h.2.2.1 e).2))))) (fun e => P89 (fun e8 => g1 e e8) (fun e8 h => ⟨fun e => by omega, fun e => by omega, fun e => by omega, fun _ => h⟩))
    have P44 : (κ ≠ 3 → κ ≠ 5 → κ ≠ 8 → ga_pf κ p1 p2) → wY_add_44 post (nI κ) p1 p2 p3 (nI mn) g_fuel (nI cnt) g_state g_wrongKind g_wrongNode g_program g_used g_blamed g_resType g_vTag g_vVal g_vLay g_todo g_todoEnv g_closures g_bindings g_layers g_depth b_kinds b_ops b_parent b_types b_cNode b_cEnv b_bTag b_bVal b_bLay b_bNext b_lSource b_lTarget b_lLabel b_lInner b_frNode b_frEnv b_frPhase b_frVal b_frLay := by
      intro g1
      refine pk_eq κ 3 (fun e => br_c (fun z => npf (fun h => (h.2.1 e).1 z)) (fun z => br_c (fun z2 => npf (fun h => (h.2.1 e).2.1 z2)) (fun z2 => br_c (fun z3 => npf (fun h => (h.2.1 e).2.2.1 z3)) (fun z3 => br_c (fun z4 => P71 (fun _ _ => ⟨fun e => by omega, fun _ => ⟨z, z2, z3, Int32.not_lt.mpr z4⟩, fun e => by omega, fun e => by omega⟩)) (fun z4 => npf (fun h => z4 (Int32.not_lt.mp (h.2.1 e).2.2.2))))))) (fun e => P71 (fun e5 e8 => g1 e e5 e8))
    refine pk_eq κ 2 (fun e => br_c (fun z => npf (fun h => (h.1 e).1 z)) (fun z => br_c (fun z2 => P44 (fun _ _ _ => ⟨fun _ => ⟨z, Int32.not_lt.mpr z2⟩, fun e => by omega, fun e => by omega, fun e => by omega⟩)) (fun z2 => npf (fun h => z2 (Int32.not_lt.mp (h.1 e).2))))) (fun e => P44 (fun e3 e5 e8 => ⟨fun e => by omega, fun e => by omega, fun e => by omega, fun e => by omega⟩))
end
end
section
theorem ga_o_lo {cnt κ : Nat} {A O : Nat → Int32} {j : Nat} (h : j < 3 * cnt) : ∀ i, ga_o cnt κ A O i j = O j := by
  intro i
  induction i with
  | zero => rfl
  | succ i ih => show upd (ga_o cnt κ A O i) (3 * cnt + i) (ga_v κ A i) j = O j; rw [pk_un (by omega)]; exact ih
theorem ga_o_hi {cnt κ : Nat} {A O : Nat → Int32} : ga_o cnt κ A O 3 (3 * cnt) = ga_v κ A 0 ∧ ga_o cnt κ A O 3 (3 * cnt + 1) = ga_v κ A 1 ∧ ga_o cnt κ A O 3 (3 * cnt + 2) = ga_v κ A 2 := by
  refine ⟨?_, ?_, ?_⟩
  · show upd (upd (upd O (3 * cnt + 0) _) (3 * cnt + 1) _) (3 * cnt + 2) _ (3 * cnt) = _
    rw [pk_un (by omega), pk_un (by omega)]
    exact pk_us
  · show upd (upd (upd O (3 * cnt + 0) _) (3 * cnt + 1) _) (3 * cnt + 2) _ (3 * cnt + 1) = _
    rw [pk_un (by omega)]
    exact pk_us
  · exact pk_us
theorem ga_o_i {cnt κ : Nat} {A O : Nat → Int32} {i : Nat} (hi : i < 3) : ga_o cnt κ A O 3 (3 * cnt + i) = ga_v κ A i := by
  obtain rfl | rfl | rfl : i = 0 ∨ i = 1 ∨ i = 2 := by omega
  · exact ga_o_hi.1
  · exact ga_o_hi.2.1
  · exact ga_o_hi.2.2
theorem ga_rng {x : Int32} (M : Int32) {n : Nat} (hM : M.toInt = n) (h0 : ¬ x < 0) (h1 : ¬ M < x) : ∃ j, j ≤ n ∧ x = nI j := nI_of2 hM h0 (Int32.not_lt.mp h1)
theorem ga_plain {cnt mn κ : Nat} {hp O : Nat → Int32} {p0 p1 p2 p3 : Int32} (h : ga_ok cnt mn hp p0 p1 p2 p3 κ) : gr_plain (ga_o cnt κ (ga_A p1 p2 p3) O 3) κ cnt := by
  obtain ⟨hκ, _, _, hpf, _⟩ := h
  have T := gc_tab hκ
  obtain ⟨f2, f3, f5, f8⟩ := hpf
  obtain ⟨o0, o1, _⟩ := ga_o_hi (cnt := cnt) (κ := κ) (A := ga_A p1 p2 p3) (O := O)
  have K0 : gc_pc κ ≠ 0 → ga_o cnt κ (ga_A p1 p2 p3) O 3 (3 * cnt) = ga_k κ p1 := fun h => by rw [o0]; unfold ga_v; rw [if_pos (by omega)]; rfl
  refine ⟨fun e => ?_, fun e => ?_, fun e => ?_, fun e => ?_, fun e => ?_⟩
  · rw [K0 (by omega)]
    unfold ga_k
    rw [if_pos e]
    by_cases z : p1 = 0
    · rw [if_pos z]; exact Or.inl rfl
    · rw [if_neg z]; exact Or.inr rfl
  · rw [K0 (by omega)]
    unfold ga_k
    rw [if_neg (by omega), if_neg (by omega)]
    obtain ⟨j, j1, j2⟩ := ga_rng 15 (n := 15) (by decide) (f2 e).1 (f2 e).2
    exact ⟨j, by omega, j2⟩
  · have K1 : ga_o cnt κ (ga_A p1 p2 p3) O 3 (3 * cnt + 1) = p2 := by
      rw [o1]
      unfold ga_v
      rw [if_pos (by omega)]
      unfold ga_k
      rw [if_neg (by omega), if_neg (by omega)]
      rfl
    rw [K0 (by omega), K1]
    unfold ga_k
    rw [if_neg (by omega), if_neg (by omega)]
    obtain ⟨g1, g2, g3, g4⟩ := f3 e
    obtain ⟨j, j1, j2⟩ := ga_rng 3 (n := 3) (by decide) g1 g2
    obtain ⟨i, i1, i2⟩ := ga_rng 3 (n := 3) (by decide) g3 g4
    exact ⟨⟨j, by omega, j2⟩, ⟨i, by omega, i2⟩⟩
  · rw [K0 (by omega)]
    unfold ga_k
    rw [if_neg (by omega), if_neg (by omega)]
    exact ga_rng 4 (n := 4) (by decide) (f5 e).1 (f5 e).2
  · rw [K0 (by omega)]
    unfold ga_k
    rw [if_neg (by omega), if_pos e]
    by_cases z : p1 = 4
    · rw [if_pos z]; exact gc_T_i 3 (by decide) (by decide)
    · rw [if_neg z]
      obtain ⟨j, j1, j2⟩ := ga_rng 19 (n := 19) (by decide) (f8 e).1 (f8 e).2
      refine ⟨j, by omega, fun e4 => z ?_, j2⟩
      rw [j2, e4]
      rfl
theorem ga_TR {cnt mn κ : Nat} {K O par hp par' hp' : Nat → Int32} {p0 p1 p2 p3 : Int32} (hmn : mn ≤ 48) (hTR : gr_TR cnt K O par hp) (hok : ga_ok cnt mn hp p0 p1 p2 p3 κ) (hU : ga_U cnt κ (ga_A p1 p2 p3) 1 0 3 hp hp') (hU' : ga_U cnt κ (ga_A p1 p2 p3) (nI cnt) (-1) 3 par par') :
    gr_TR (cnt + 1) (upd K cnt (nI κ)) (ga_o cnt κ (ga_A p1 p2 p3) O 3) par' hp' := by
  obtain ⟨hκ, _, hlt, _, hcf⟩ := id hok
  have T := gc_tab hκ
  obtain ⟨u1, u2, u3⟩ := hU
  obtain ⟨v1, v2, v3⟩ := hU'
  have hnw : ∀ c, c < cnt → hp c = 1 → ¬ ga_w κ (ga_A p1 p2 p3) 3 c := by
    intro c hc h1 ⟨w, w1, w2, w3, w4⟩
    obtain ⟨⟨q, q1, q2, q3⟩, _⟩ := hcf w w1 w3
    have : q = c := gc_inj (q2.symm.trans w4) (by omega) (by omega)
    rw [this, h1] at q3
    exact absurd q3 (by decide)
  have hv : ∀ w, w < gc_nc κ → ga_o cnt κ (ga_A p1 p2 p3) O 3 (3 * cnt + gc_pc κ + w) = ga_A p1 p2 p3 (gc_pc κ + w) := by
    intro w hw
    rw [show 3 * cnt + gc_pc κ + w = 3 * cnt + (gc_pc κ + w) by omega, ga_o_i (by omega)]
    unfold ga_v
    rw [if_neg (by omega), if_pos (by omega)]
  intro n hn
  by_cases e : n = cnt
  · subst e
    refine ⟨⟨κ, pk_us, hκ, fun w hw => ?_, fun w w' h1 h2 => ?_, ga_plain hok⟩, Or.inl ⟨v3, u3⟩⟩
    · obtain ⟨⟨q, q1, q2, q3⟩, _⟩ := hcf (gc_pc κ + w) (by omega) (by omega)
      rw [hv w hw]
      exact ⟨q, q2, q1, v1 q q1 ⟨gc_pc κ + w, by omega, by omega, by omega, q2⟩⟩
    · rw [hv w (by omega), hv w' h2]
      exact fun e => (hcf (gc_pc κ + w') (by omega) (by omega)).2 (gc_pc κ + w) (by omega) (by omega) e.symm
  · obtain ⟨⟨κn, k1, k2, k3, k4, k5⟩, kp⟩ := hTR n (by omega)
    have Tn := gc_tab k2
    refine ⟨⟨κn, (pk_un e).trans k1, k2, fun w hw => ?_, fun w w' h1 h2 => ?_, ?_⟩, ?_⟩
    · obtain ⟨c, c1, c2, c3⟩ := k3 w hw
      refine ⟨c, by rw [ga_o_lo (by omega)]; exact c1, c2, ?_⟩
      have hpc : hp c = 1 := by
        obtain ⟨_, hh⟩ := hTR c (by omega)
        rcases hh with ⟨h1, _⟩ | ⟨h1, _⟩
        · rw [c3] at h1; exact absurd h1 (gc_nm1 n (by omega))
        · exact h1
      rw [v2 c (by omega) (hnw c (by omega) hpc)]
      exact c3
    · rw [ga_o_lo (by omega), ga_o_lo (by omega)]
      exact k4 w w' h1 h2
    · have e0 : ga_o cnt κ (ga_A p1 p2 p3) O 3 (3 * n) = O (3 * n) := ga_o_lo (by omega) 3
      have e1 : ga_o cnt κ (ga_A p1 p2 p3) O 3 (3 * n + 1) = O (3 * n + 1) := ga_o_lo (by omega) 3
      obtain ⟨q1, q2, q3, q5, q8⟩ := k5
      refine ⟨?_, ?_, ?_, ?_, ?_⟩
      · rw [e0]; exact q1
      · rw [e0]; exact q2
      · rw [e0, e1]; exact q3
      · rw [e0]; exact q5
      · rw [e0]; exact q8
    · by_cases hw : ga_w κ (ga_A p1 p2 p3) 3 n
      · obtain ⟨w, w1, w2, w3, w4⟩ := id hw
        refine Or.inr ⟨u1 n (by omega) hw, cnt, κ, w - gc_pc κ, by omega, by omega, v1 n (by omega) hw, pk_us, hκ, by omega, ?_⟩
        rw [hv _ (by omega), show gc_pc κ + (w - gc_pc κ) = w by omega]
        exact w4
      · rw [u2 n (by omega) hw, v2 n (by omega) hw]
        rcases kp with h | ⟨h, p, κp, w, r1, r2, r3, r4, r5, r6, r7⟩
        · exact Or.inl h
        · have Tp := gc_tab r5
          exact Or.inr ⟨h, p, κp, w, r1, by omega, r3, (pk_un (by omega)).trans r4, r5, r6, by rw [ga_o_lo (by omega)]; exact r7⟩
-- a program's facts don't see a new node
section
variable {K O ty ip : Nat → Int32} {G : Nat → List Int32} {nt st sc lb : Nat → Int32} {comp cnt cnt' : Nat} {K' O' : Nat → Int32}
theorem gr_N_O {n : Nat} (h : gr_N K O ty ip G nt st sc lb comp cnt n) (hc : cnt ≤ cnt') (eK : K' n = K n) (eO : ∀ j, 3 * n ≤ j → j < 3 * n + 3 → O' j = O j) : gr_N K' O' ty ip G nt st sc lb comp cnt' n := by
  obtain ⟨h1, κ, h2, h3, h4, h5, h6, h7, h8⟩ := h
  have T := gc_tab h3
  have e0 : O' (3 * n) = O (3 * n) := eO _ (by omega) (by omega)
  have e1 : O' (3 * n + 1) = O (3 * n + 1) := eO _ (by omega) (by omega)
  have ech : ∀ w, w < gc_nc κ → gr_ch O' κ n w = gr_ch O κ n w := fun w hw => by unfold gr_ch; rw [eO _ (by omega) (by omega)]
  have eext : ∀ w L, gr_ext O' ty κ n w L = gr_ext O ty κ n w L := fun w L => by unfold gr_ext; rw [e0, e1]
  have et : ∀ k, 1 ≤ k → k ≤ gc_ns κ → gr_t O' ty κ n k = gr_t O ty κ n k := fun k k1 k2 => by unfold gr_t gc_tg; rw [ech (k - 1) (by omega), e0, e1]
  refine ⟨by omega, κ, eK.trans h2, h3, h4, h5, fun w hw => ?_, fun k k1 k2 => ?_, ?_⟩
  · obtain ⟨c, c1, c2, c3, c4, c5⟩ := h6 w hw
    exact ⟨c, (eO _ (by omega) (by omega)).trans c1, c2, c3, c4, by rw [eext]; exact c5⟩
  · obtain ⟨s1, s2, s3, id, s4, s5, s6⟩ := h7 k k1 k2
    refine ⟨by rw [et k k1 k2]; exact s1, by rw [et k k1 k2]; exact s2, by rw [et k k1 k2, ech (k - 1) (by omega)]; exact s3, id, s4, s5, fun j hj => (s6 j hj).trans ?_⟩
    unfold gr_sv
    rw [et k k1 k2, ech (k - 1) (by omega)]
  · obtain ⟨r0, r1, r2, r3, r4, r5, r7, r8⟩ := h8
    refine ⟨r0, ?_, ?_, ?_, fun e => ?_, ?_, fun e => ?_, ?_⟩
    · rw [e0]; exact r1
    · rw [e0]; exact r2
    · rw [e0, e1]; exact r3
    · subst e
      rw [ech 0 (by decide)]
      exact r4 rfl
    · rw [e0]; exact r5
    · subst e
      rw [ech 1 (by decide)]
      exact r7 rfl
    · rw [e0]; exact r8
theorem gr_CK_O (h : gr_CK K O ty ip G nt st sc lb comp cnt) (hc : cnt ≤ cnt') (eK : ∀ n, n < cnt → K' n = K n) (eO : ∀ j, j < 3 * cnt → O' j = O j) : gr_CK K' O' ty ip G nt st sc lb comp cnt' := by
  intro n hn
  rcases h n hn with h | ⟨h1, h2⟩
  · exact Or.inl h
  · have := h2.1
    exact Or.inr ⟨h1, gr_N_O h2 hc (eK n this) (fun j j1 j2 => eO j (by omega))⟩
theorem gr_VY_O {nc : Nat} {cm : Nat → Nat} {nl : Nat} {lw : Nat → Nat → Int32} {g : Nat} {data lay T : Int32} {w : Nat → Int32} (h : gr_VY O nc cm nl lw g data lay T w) (e : ∀ q, q < nc → O' (3 * cm q) = O (3 * cm q) ∧ O' (3 * cm q + 1) = O (3 * cm q + 1)) : gr_VY O' nc cm nl lw g data lay T w := by
  obtain ⟨a, b, c, d⟩ := h
  refine ⟨a, b, c, fun e3 => ?_⟩
  obtain ⟨q, d1, d2, d3, d4⟩ := d e3
  refine ⟨q, d1, d2, d3, ?_⟩
  rw [(e q d3).1, (e q d3).2]
  exact d4
theorem gr_TB_O {cc nb : Nat} {eT : Nat → List Int32} {nc : Nat} {cm : Nat → Nat} {nl : Nat} {lw : Nat → Nat → Int32} {cNx cT cD cC xn xe bN bT bV bL cN cE lS lT lL lI : Nat → Int32} (h : gr_TB K O ip G lb cc nb eT nc cm nl lw cNx cT cD cC xn xe bN bT bV bL cN cE lS lT lL lI)
    (eK : ∀ q, q < nc → K' (cm q) = K (cm q)) (e : ∀ q, q < nc → O' (3 * cm q) = O (3 * cm q) ∧ O' (3 * cm q + 1) = O (3 * cm q + 1)) : gr_TB K' O' ip G lb cc nb eT nc cm nl lw cNx cT cD cC xn xe bN bT bV bL cN cE lS lT lL lI := by
  obtain ⟨a, b, c⟩ := h
  refine ⟨a, fun i hi => ?_, fun q hq => ?_⟩
  · obtain ⟨T, g', g, w, e1, e2, e3, e4, e5, e6, e7⟩ := b i hi
    exact ⟨T, g', g, w, e1, e2, e3, e4, e5, gr_VY_O e6 e, e7⟩
  · obtain ⟨c1, c2, c3, c4, c5, c6⟩ := c q hq
    exact ⟨c1, c2, c3, c4, (eK q hq).trans c5, c6⟩
end
section
variable {f_maxNodes f_maxFuel f_nodeCount f_outcome f_programRoot f_faultKind f_faultNode f_walkTop f_contextDepth f_coercionCount f_compiledCount f_cellCount f_closureCount f_top f_running f_atNode f_atEnv f_valueTag f_valueData f_valueCoercion f_typeOfResult f_fuelSpent f_blamedLabel : Int32} {a_kinds a_operands a_hasParent a_inProgram a_nodeType a_siteTargets a_siteCoercions a_walkNode a_walkStep a_contextType a_labels a_draft a_cellNext a_cellTag a_cellData a_cellCoercion a_closureNode a_closureEnv a_frameNode a_frameStage a_frameEnv a_framePending a_frameData a_frameCoercion : Nat → Int32} {g_capacity g_fuel g_count g_state g_wrongKind g_wrongNode g_program g_used g_blamed g_resType g_vTag g_vVal g_vLay g_todo g_todoEnv g_closures g_bindings g_layers g_depth : Int32} {b_kinds b_ops b_parent b_types b_cNode b_cEnv b_bTag b_bVal b_bLay b_bNext b_lSource b_lTarget b_lLabel b_lInner b_frNode b_frEnv b_frPhase b_frVal b_frLay : Nat → Int32}
variable {mn mf cnt : Nat}
theorem gr_add (h : gr_R (nI mn, f_maxFuel, nI cnt, f_outcome, f_programRoot, f_faultKind, f_faultNode, f_walkTop, f_contextDepth, f_coercionCount, f_compiledCount, f_cellCount, f_closureCount, f_top, f_running, f_atNode, f_atEnv, f_valueTag, f_valueData, f_valueCoercion, f_typeOfResult, f_fuelSpent, f_blamedLabel, a_kinds, a_operands, a_hasParent, a_inProgram, a_nodeType, a_siteTargets, a_siteCoercions, a_walkNode, a_walkStep, a_contextType, a_labels, a_draft, a_cellNext, a_cellTag, a_cellData, a_cellCoercion, a_closureNode, a_closureEnv, a_frameNode, a_frameStage, a_frameEnv, a_framePending, a_frameData, a_frameCoercion) (nI mn, g_fuel, nI cnt, g_state, g_wrongKind, g_wrongNode, g_program, g_used, g_blamed, g_resType, g_vTag, g_vVal, g_vLay, g_todo, g_todoEnv, g_closures, g_bindings, g_layers, g_depth, a_kinds, a_operands, b_parent, b_types, b_cNode, b_cEnv, b_bTag, b_bVal, b_bLay, b_bNext, b_lSource, b_lTarget, b_lLabel, b_lInner, b_frNode, b_frEnv, b_frPhase, b_frVal, b_frLay)) (hB : gr_B mn mf cnt (nI mn) f_maxFuel (nI cnt) (nI mn) g_fuel (nI cnt) a_kinds a_operands a_hasParent a_kinds a_operands b_parent) {R : SX → SY → Prop} (hR : ∀ u v, gr_R u v → R u v) (p0 p1 p2 p3 : Int32) :
    wpX_add (fun r u' => wpY_add (fun r' v' => r' = r ∧ R u' v') (nI mn, g_fuel, nI cnt, g_state, g_wrongKind, g_wrongNode, g_program, g_used, g_blamed, g_resType, g_vTag, g_vVal, g_vLay, g_todo, g_todoEnv, g_closures, g_bindings, g_layers, g_depth, a_kinds, a_operands, b_parent, b_types, b_cNode, b_cEnv, b_bTag, b_bVal, b_bLay, b_bNext, b_lSource, b_lTarget, b_lLabel, b_lInner, b_frNode, b_frEnv, b_frPhase, b_frVal, b_frLay) p0 p1 p2 p3) (nI mn, f_maxFuel, nI cnt, f_outcome, f_programRoot, f_faultKind, f_faultNode, f_walkTop, f_contextDepth, f_coercionCount, f_compiledCount, f_cellCount, f_closureCount, f_top, f_running, f_atNode, f_atEnv, f_valueTag, f_valueData, f_valueCoercion, f_typeOfResult, f_fuelSpent, f_blamedLabel, a_kinds, a_operands, a_hasParent, a_inProgram, a_nodeType, a_siteTargets, a_siteCoercions, a_walkNode, a_walkStep, a_contextType, a_labels, a_draft, a_cellNext, a_cellTag, a_cellData, a_cellCoercion, a_closureNode, a_closureEnv, a_frameNode, a_frameStage, a_frameEnv, a_framePending, a_frameData, a_frameCoercion) p0 p1 p2 p3 := by
  obtain ⟨b1, b2, b3, b4, b5, b6, b7, b8, b9, b10, b11, b12, hTR⟩ := id hB
  have hph : ∀ n, n < cnt → (a_hasParent n = 0 ↔ ¬ 0 ≤ b_parent n) := by
    intro n hn
    obtain ⟨_, hh⟩ := hTR n hn
    rcases hh with ⟨h1, h2⟩ | ⟨h1, p, κ, w, h2, h3, h4, _⟩
    · rw [h1, h2]; exact ⟨fun _ => by decide, fun _ => rfl⟩
    · rw [h1, h4]
      exact ⟨fun h => absurd h (by decide), fun h => absurd (gc_pos p (by omega)) h⟩
  refine gx_add b1 b4 (fun hno => ?_) (fun κ hok hp' hU => ?_)
  · refine gy_add b1 b4 hph (fun _ => ⟨rfl, hR _ _ h⟩) (fun κ hok par' hU' => absurd ⟨κ, hok⟩ hno)
  · refine gy_add b1 b4 hph (fun hno => absurd ⟨κ, hok⟩ hno) (fun κ' hok' par' hU' => ?_)
    have hlt := hok.2.2.1
    have hκ := hok.1
    obtain rfl : κ' = κ := gc_inj (hok'.2.1.symm.trans hok.2.1) (by have := hok'.1; omega) (by omega)
    refine ⟨rfl, hR _ _ ?_⟩
    obtain ⟨mn', mf', cnt', sp, hB', hz, ho, hs, hf, hu, hst⟩ := h
    obtain ⟨c1, c2, c3, c4, c5, c6, c7, c8, c9, c10, c11, c12, _⟩ := id hB'
    obtain rfl : mn' = mn := (gc_inj c5 (by omega) (by omega)).symm
    obtain rfl : cnt' = cnt := (gc_inj c7 (by omega) (by omega)).symm
    refine ⟨mn', mf', cnt' + 1, sp, ⟨c1, c2, c3, by omega, rfl, c6, rfl, rfl, c9, rfl, rfl, rfl, ga_TR b1 hTR hok hU hU'⟩, hz, ho, hs, hf, hu, ?_⟩
    rcases hst with h | h | ⟨root, comp, G, ⟨p1', p2', p3', p4', p5', p6', p7', p8', hCK⟩, hd⟩
    · exact Or.inl h
    · exact Or.inr (Or.inl h)
    · have eK : ∀ n, n < cnt' → upd a_kinds cnt' (nI κ') n = a_kinds n := fun n hn => pk_un (by omega)
      have eO : ∀ j, j < 3 * cnt' → ga_o cnt' κ' (ga_A p1 p2 p3) a_operands 3 j = a_operands j := fun j hj => ga_o_lo hj 3
      refine Or.inr (Or.inr ⟨root, comp, G, ⟨p1', p2', p3', p4', p5', p6', p7', p8', gr_CK_O hCK (Nat.le_succ _) eK eO⟩, ?_⟩)
      rcases hd with h | h | h | ⟨h, cc, nb, eT, nc, cm, nl, lw, g, w, d1, d2, d3, d4, d5, d6, d7, d8, d9, d10, d11, d12, d13, d14, d15, d16, d17, d18, d19⟩
      · exact Or.inl h
      · exact Or.inr (Or.inl h)
      · exact Or.inr (Or.inr (Or.inl h))
      · have hcm : ∀ q, q < nc → cm q < cnt' := by
          intro q hq
          obtain ⟨_, _, t3, t4, _⟩ := d14.2.2 q hq
          exact (gr_CK_N hCK t3 t4).1
        have eO' : ∀ q, q < nc → ga_o cnt' κ' (ga_A p1 p2 p3) a_operands 3 (3 * cm q) = a_operands (3 * cm q) ∧ ga_o cnt' κ' (ga_A p1 p2 p3) a_operands 3 (3 * cm q + 1) = a_operands (3 * cm q + 1) := fun q hq => ⟨eO _ (by have := hcm q hq; omega), eO _ (by have := hcm q hq; omega)⟩
        exact Or.inr (Or.inr (Or.inr ⟨h, cc, nb, eT, nc, cm, nl, lw, g, w, d1, d2, d3, d4, d5, d6, d7, d8, d9, d10, d11, d12, d13, gr_TB_O d14 (fun q hq => eK _ (hcm q hq)) eO', d15, d16, d17, gr_VY_O d18 eO', d19⟩))
end
end
section
section
variable {f_maxNodes f_maxFuel f_nodeCount f_outcome f_programRoot f_faultKind f_faultNode f_walkTop f_contextDepth f_coercionCount f_compiledCount f_cellCount f_closureCount f_top f_running f_atNode f_atEnv f_valueTag f_valueData f_valueCoercion f_typeOfResult f_fuelSpent f_blamedLabel : Int32} {a_kinds a_operands a_hasParent a_inProgram a_nodeType a_siteTargets a_siteCoercions a_walkNode a_walkStep a_contextType a_labels a_draft a_cellNext a_cellTag a_cellData a_cellCoercion a_closureNode a_closureEnv a_frameNode a_frameStage a_frameEnv a_framePending a_frameData a_frameCoercion : Nat → Int32} {g_capacity g_fuel g_count g_state g_wrongKind g_wrongNode g_program g_used g_blamed g_resType g_vTag g_vVal g_vLay g_todo g_todoEnv g_closures g_bindings g_layers g_depth : Int32} {b_kinds b_ops b_parent b_types b_cNode b_cEnv b_bTag b_bVal b_bLay b_bNext b_lSource b_lTarget b_lLabel b_lInner b_frNode b_frEnv b_frPhase b_frVal b_frLay : Nat → Int32}
theorem gr_R_1 (h : gr_R (f_maxNodes, f_maxFuel, f_nodeCount, f_outcome, f_programRoot, f_faultKind, f_faultNode, f_walkTop, f_contextDepth, f_coercionCount, f_compiledCount, f_cellCount, f_closureCount, f_top, f_running, f_atNode, f_atEnv, f_valueTag, f_valueData, f_valueCoercion, f_typeOfResult, f_fuelSpent, f_blamedLabel, a_kinds, a_operands, a_hasParent, a_inProgram, a_nodeType, a_siteTargets, a_siteCoercions, a_walkNode, a_walkStep, a_contextType, a_labels, a_draft, a_cellNext, a_cellTag, a_cellData, a_cellCoercion, a_closureNode, a_closureEnv, a_frameNode, a_frameStage, a_frameEnv, a_framePending, a_frameData, a_frameCoercion) (g_capacity, g_fuel, g_count, g_state, g_wrongKind, g_wrongNode, g_program, g_used, g_blamed, g_resType, g_vTag, g_vVal, g_vLay, g_todo, g_todoEnv, g_closures, g_bindings, g_layers, g_depth, b_kinds, b_ops, b_parent, b_types, b_cNode, b_cEnv, b_bTag, b_bVal, b_bLay, b_bNext, b_lSource, b_lTarget, b_lLabel, b_lInner, b_frNode, b_frEnv, b_frPhase, b_frVal, b_frLay)) (e : g_state = 1) : f_faultKind = g_wrongKind ∧ f_faultNode = g_wrongNode := by
  obtain ⟨mn, mf, cnt, sp, hB, hz, ho, hs, hf, hu, hst⟩ := h
  rcases hst with h | h | ⟨_, _, _, _, h | h | h | h⟩
  · rw [e] at h; exact absurd h (by decide)
  · exact h.2
  · rw [e] at h; exact absurd h (by decide)
  · rw [e] at h; exact absurd h.1 (by decide)
  · rw [e] at h; exact absurd h (by decide)
  · rw [e] at h; exact absurd h.1 (by decide)
theorem gr_R_4 (h : gr_R (f_maxNodes, f_maxFuel, f_nodeCount, f_outcome, f_programRoot, f_faultKind, f_faultNode, f_walkTop, f_contextDepth, f_coercionCount, f_compiledCount, f_cellCount, f_closureCount, f_top, f_running, f_atNode, f_atEnv, f_valueTag, f_valueData, f_valueCoercion, f_typeOfResult, f_fuelSpent, f_blamedLabel, a_kinds, a_operands, a_hasParent, a_inProgram, a_nodeType, a_siteTargets, a_siteCoercions, a_walkNode, a_walkStep, a_contextType, a_labels, a_draft, a_cellNext, a_cellTag, a_cellData, a_cellCoercion, a_closureNode, a_closureEnv, a_frameNode, a_frameStage, a_frameEnv, a_framePending, a_frameData, a_frameCoercion) (g_capacity, g_fuel, g_count, g_state, g_wrongKind, g_wrongNode, g_program, g_used, g_blamed, g_resType, g_vTag, g_vVal, g_vLay, g_todo, g_todoEnv, g_closures, g_bindings, g_layers, g_depth, b_kinds, b_ops, b_parent, b_types, b_cNode, b_cEnv, b_bTag, b_bVal, b_bLay, b_bNext, b_lSource, b_lTarget, b_lLabel, b_lInner, b_frNode, b_frEnv, b_frPhase, b_frVal, b_frLay)) (e : g_state = 4) : f_blamedLabel = g_blamed := by
  obtain ⟨mn, mf, cnt, sp, hB, hz, ho, hs, hf, hu, hst⟩ := h
  rcases hst with h | h | ⟨_, _, _, _, h | h | h | h⟩
  · rw [e] at h; exact absurd h (by decide)
  · rw [e] at h; exact absurd h.1 (by decide)
  · rw [e] at h; exact absurd h (by decide)
  · exact h.2
  · rw [e] at h; exact absurd h (by decide)
  · rw [e] at h; exact absurd h.1 (by decide)
theorem gr_R_P (h : gr_R (f_maxNodes, f_maxFuel, f_nodeCount, f_outcome, f_programRoot, f_faultKind, f_faultNode, f_walkTop, f_contextDepth, f_coercionCount, f_compiledCount, f_cellCount, f_closureCount, f_top, f_running, f_atNode, f_atEnv, f_valueTag, f_valueData, f_valueCoercion, f_typeOfResult, f_fuelSpent, f_blamedLabel, a_kinds, a_operands, a_hasParent, a_inProgram, a_nodeType, a_siteTargets, a_siteCoercions, a_walkNode, a_walkStep, a_contextType, a_labels, a_draft, a_cellNext, a_cellTag, a_cellData, a_cellCoercion, a_closureNode, a_closureEnv, a_frameNode, a_frameStage, a_frameEnv, a_framePending, a_frameData, a_frameCoercion) (g_capacity, g_fuel, g_count, g_state, g_wrongKind, g_wrongNode, g_program, g_used, g_blamed, g_resType, g_vTag, g_vVal, g_vLay, g_todo, g_todoEnv, g_closures, g_bindings, g_layers, g_depth, b_kinds, b_ops, b_parent, b_types, b_cNode, b_cEnv, b_bTag, b_bVal, b_bLay, b_bNext, b_lSource, b_lTarget, b_lLabel, b_lInner, b_frNode, b_frEnv, b_frPhase, b_frVal, b_frLay)) (e : ¬ g_state < 2) : ∃ (mn mf cnt root comp : Nat) (G : Nat → List Int32), gr_B mn mf cnt f_maxNodes f_maxFuel f_nodeCount g_capacity g_fuel g_count a_kinds a_operands a_hasParent b_kinds b_ops b_parent ∧ gr_P root comp cnt G f_programRoot g_program f_compiledCount a_kinds a_operands b_types a_inProgram a_nodeType a_siteTargets a_siteCoercions a_labels ∧ f_outcome = g_state := by
  obtain ⟨mn, mf, cnt, sp, hB, hz, ho, hs, hf, hu, hst⟩ := h
  rcases hst with h | h | ⟨root, comp, G, hP, _⟩
  · rw [h] at e; exact absurd (by decide) e
  · rw [h.1] at e; exact absurd (by decide) e
  · exact ⟨mn, mf, cnt, root, comp, G, hB, hP, ho⟩
theorem gr_R_D (h : gr_R (f_maxNodes, f_maxFuel, f_nodeCount, f_outcome, f_programRoot, f_faultKind, f_faultNode, f_walkTop, f_contextDepth, f_coercionCount, f_compiledCount, f_cellCount, f_closureCount, f_top, f_running, f_atNode, f_atEnv, f_valueTag, f_valueData, f_valueCoercion, f_typeOfResult, f_fuelSpent, f_blamedLabel, a_kinds, a_operands, a_hasParent, a_inProgram, a_nodeType, a_siteTargets, a_siteCoercions, a_walkNode, a_walkStep, a_contextType, a_labels, a_draft, a_cellNext, a_cellTag, a_cellData, a_cellCoercion, a_closureNode, a_closureEnv, a_frameNode, a_frameStage, a_frameEnv, a_framePending, a_frameData, a_frameCoercion) (g_capacity, g_fuel, g_count, g_state, g_wrongKind, g_wrongNode, g_program, g_used, g_blamed, g_resType, g_vTag, g_vVal, g_vLay, g_todo, g_todoEnv, g_closures, g_bindings, g_layers, g_depth, b_kinds, b_ops, b_parent, b_types, b_cNode, b_cEnv, b_bTag, b_bVal, b_bLay, b_bNext, b_lSource, b_lTarget, b_lLabel, b_lInner, b_frNode, b_frEnv, b_frPhase, b_frVal, b_frLay)) (e : g_state = 3) : ∃ (mn mf cnt root comp sp : Nat) (G : Nat → List Int32), gr_B mn mf cnt f_maxNodes f_maxFuel f_nodeCount g_capacity g_fuel g_count a_kinds a_operands a_hasParent b_kinds b_ops b_parent ∧ gr_P root comp cnt G f_programRoot g_program f_compiledCount a_kinds a_operands b_types a_inProgram a_nodeType a_siteTargets a_siteCoercions a_labels ∧ gr_Dn comp sp G f_coercionCount f_cellCount f_closureCount f_valueTag f_valueData f_valueCoercion f_typeOfResult g_resType g_vTag g_vVal g_vLay g_closures g_bindings g_layers a_kinds a_operands a_inProgram a_labels a_cellNext a_cellTag a_cellData a_cellCoercion a_closureNode a_closureEnv b_bNext b_bTag b_bVal b_bLay b_cNode b_cEnv b_lSource b_lTarget b_lLabel b_lInner ∧ sp ≤ mf ∧ (∀ k, k < 9 → a_labels k = 0) ∧ f_fuelSpent = nI sp ∧ g_used = nI sp := by
  obtain ⟨mn, mf, cnt, sp, hB, hz, ho, hs, hf, hu, hst⟩ := h
  rcases hst with h | h | ⟨root, comp, G, hP, h | h | h | h⟩
  · rw [e] at h; exact absurd h (by decide)
  · rw [e] at h; exact absurd h.1 (by decide)
  · rw [e] at h; exact absurd h (by decide)
  · rw [e] at h; exact absurd h.1 (by decide)
  · rw [e] at h; exact absurd h (by decide)
  · exact ⟨mn, mf, cnt, root, comp, sp, G, hB, hP, h.2, hs, hz, hf, hu⟩
theorem gr_R_o (h : gr_R (f_maxNodes, f_maxFuel, f_nodeCount, f_outcome, f_programRoot, f_faultKind, f_faultNode, f_walkTop, f_contextDepth, f_coercionCount, f_compiledCount, f_cellCount, f_closureCount, f_top, f_running, f_atNode, f_atEnv, f_valueTag, f_valueData, f_valueCoercion, f_typeOfResult, f_fuelSpent, f_blamedLabel, a_kinds, a_operands, a_hasParent, a_inProgram, a_nodeType, a_siteTargets, a_siteCoercions, a_walkNode, a_walkStep, a_contextType, a_labels, a_draft, a_cellNext, a_cellTag, a_cellData, a_cellCoercion, a_closureNode, a_closureEnv, a_frameNode, a_frameStage, a_frameEnv, a_framePending, a_frameData, a_frameCoercion) (g_capacity, g_fuel, g_count, g_state, g_wrongKind, g_wrongNode, g_program, g_used, g_blamed, g_resType, g_vTag, g_vVal, g_vLay, g_todo, g_todoEnv, g_closures, g_bindings, g_layers, g_depth, b_kinds, b_ops, b_parent, b_types, b_cNode, b_cEnv, b_bTag, b_bVal, b_bLay, b_bNext, b_lSource, b_lTarget, b_lLabel, b_lInner, b_frNode, b_frEnv, b_frPhase, b_frVal, b_frLay)) : f_outcome = g_state := (gr_R_out h).symm
-- sites
def gr_vs (cnt : Nat) (K ip : Nat → Int32) (p : Int32) (n κ k : Nat) : Prop := p = nI (4 * n + k) ∧ n < cnt ∧ ip n = 1 ∧ K n = nI κ ∧ κ ≤ 8 ∧ 1 ≤ k ∧ k ≤ gc_ns κ
theorem gx_isProg {post : Int32 → Prop} {cnt n : Nat} (hc : cnt ≤ 48) (ho : ¬ f_outcome < 2) (hb : ∀ n, n < 48 → a_inProgram n = 0 ∨ a_inProgram n = 1) (hn : n < 2147483648) (h1 : n < cnt → a_inProgram n = 1 → post 1) (h0 : ¬ (n < cnt ∧ a_inProgram n = 1) → post 0) : wpX_isProgramNode post (f_maxNodes, f_maxFuel, nI cnt, f_outcome, f_programRoot, f_faultKind, f_faultNode, f_walkTop, f_contextDepth, f_coercionCount, f_compiledCount, f_cellCount, f_closureCount, f_top, f_running, f_atNode, f_atEnv, f_valueTag, f_valueData, f_valueCoercion, f_typeOfResult, f_fuelSpent, f_blamedLabel, a_kinds, a_operands, a_hasParent, a_inProgram, a_nodeType, a_siteTargets, a_siteCoercions, a_walkNode, a_walkStep, a_contextType, a_labels, a_draft, a_cellNext, a_cellTag, a_cellData, a_cellCoercion, a_closureNode, a_closureEnv, a_frameNode, a_frameStage, a_frameEnv, a_framePending, a_frameData, a_frameCoercion) (nI n) := by
  refine br_f ho (gx_isNode hc (fun m hm e => br_f (by decide) ?_) (fun h => br_t rfl (h0 (fun q => ?_))))
  · obtain rfl : n = m := gc_inj e hn (by omega)
    refine ⟨gc_in (by omega) (by decide), ?_⟩
    rw [gc_cl (by omega)]
    rcases hb n (by omega) with z | z
    · exact br_t z (h0 (fun q => by rw [z] at q; exact absurd q.2 (by decide)))
    · exact br_f (by rw [z]; decide) (h1 hm z)
  · rcases h with h | h
    · exact gc_nneg n hn h
    · have := (nI_leI (a := cnt) (b := n) (by omega) (by omega)).mp h
      omega
theorem gx_siteEx {post : Int32 → Prop} {cnt : Nat} {p : Int32} (hc : cnt ≤ 48) (ho : ¬ f_outcome < 2) (hb : ∀ n, n < 48 → a_inProgram n = 0 ∨ a_inProgram n = 1) (hk : ∀ n, n < cnt → ∃ κ, a_kinds n = nI κ ∧ κ ≤ 8)
    (h1 : ∀ n κ k, gr_vs cnt a_kinds a_inProgram p n κ k → post 1) (h0 : (∀ n κ k, ¬ gr_vs cnt a_kinds a_inProgram p n κ k) → post 0) : wpX_siteExists post (f_maxNodes, f_maxFuel, nI cnt, f_outcome, f_programRoot, f_faultKind, f_faultNode, f_walkTop, f_contextDepth, f_coercionCount, f_compiledCount, f_cellCount, f_closureCount, f_top, f_running, f_atNode, f_atEnv, f_valueTag, f_valueData, f_valueCoercion, f_typeOfResult, f_fuelSpent, f_blamedLabel, a_kinds, a_operands, a_hasParent, a_inProgram, a_nodeType, a_siteTargets, a_siteCoercions, a_walkNode, a_walkStep, a_contextType, a_labels, a_draft, a_cellNext, a_cellTag, a_cellData, a_cellCoercion, a_closureNode, a_closureEnv, a_frameNode, a_frameStage, a_frameEnv, a_framePending, a_frameData, a_frameCoercion) p := by
  refine br_c (fun z => ?_) (fun z => h0 (fun n κ k ⟨e, e1, _, _, e8, e2, e9⟩ => z ?_))
  · have hp0 : ¬ p < 0 := fun q => by
      have : (1 : Int32) < 0 := Int32.lt_of_le_of_lt z q
      exact absurd this (by decide)
    obtain ⟨j, hj, rfl⟩ := nI_of hp0
    have hj1 : 1 ≤ j := (nI_leI (a := 1) (b := j) (by decide) (by omega)).mp z
    have ed : nI j / 4 = nI (j / 4) := by rw [show (4 : Int32) = nI 4 from rfl, pk_div (by omega) (by decide) (by decide)]
    have er : nI j - nI j / 4 * 4 = nI (j % 4) := by rw [show (4 : Int32) = nI 4 from rfl, pk_rem (by omega) (by decide) (by decide)]
    have uq : ∀ n κ k, gr_vs cnt a_kinds a_inProgram (nI j) n κ k → n = j / 4 ∧ k = j % 4 := by
      intro n κ k ⟨e, e1, _, _, e3, e4, e5⟩
      have T := gc_tab e3
      have : j = 4 * n + k := gc_inj e (by omega) (by omega)
      omega
    refine ⟨by decide, nm_r ed ⟨by decide, nm_r er (pk_eq (j % 4) 0 (fun e => h0 (fun n κ k h => ?_)) (fun e => ?_))⟩⟩
    · have := (uq n κ k h).2
      have := h.2.2.2.2.2.1
      omega
    · refine gx_isProg hc ho hb (by omega) (fun g1 g2 => br_f (by decide) ⟨gc_in (by omega) (by decide), ?_⟩) (fun g => br_t rfl (h0 (fun n κ k h => ?_)))
      · obtain ⟨κ, k1, k2⟩ := hk (j / 4) g1
        have eK : a_kinds (nI (j / 4)).toNatClampNeg = nI κ := by rw [gc_cl (by omega)]; exact k1
        rw [eK]
        have T := gc_tab k2
        refine gx_ns k2 (pk_lt (gc_ns κ) (j % 4) (fun hlt => h0 (fun n κ' k h => ?_)) (fun hge => h1 (j / 4) κ (j % 4) ⟨congrArg nI (by omega), g1, g2, k1, k2, by omega, hge⟩))
        obtain ⟨u1, u2⟩ := uq n κ' k h
        obtain ⟨_, _, _, hK', hκ', _, hns⟩ := h
        subst u1 u2
        obtain rfl : κ' = κ := gc_inj (hK'.symm.trans k1) (by omega) (by omega)
        omega
      · obtain ⟨u1, u2⟩ := uq n κ k h
        rw [← u1] at g
        exact g ⟨h.2.1, h.2.2.1⟩
  · rw [e]
    have T := gc_tab e8
    exact nI_le (a := 1) (by omega) (by omega)
end
section
variable {g_capacity g_fuel g_count g_state g_wrongKind g_wrongNode g_program g_used g_blamed g_resType g_vTag g_vVal g_vLay g_todo g_todoEnv g_closures g_bindings g_layers g_depth : Int32} {b_kinds b_ops b_parent b_types b_cNode b_cEnv b_bTag b_bVal b_bLay b_bNext b_lSource b_lTarget b_lLabel b_lInner b_frNode b_frEnv b_frPhase b_frVal b_frLay : Nat → Int32}
theorem gy_srcR {post : Int32 → Prop} {cnt : Nat} {ip : Nat → Int32} {p : Int32} (hc : cnt ≤ 48) (ho : ¬ g_state < 2) (hb : ∀ n, n < 48 → (ip n = 0 ∧ b_types n = -1) ∨ ip n = 1) (hk : ∀ n, n < cnt → ∃ κ, b_kinds n = nI κ ∧ κ ≤ 8)
    (hno : ∀ n κ k, ¬ gr_vs cnt b_kinds ip p n κ k) (H : post (-9999)) : wpY_siteSource post (g_capacity, g_fuel, nI cnt, g_state, g_wrongKind, g_wrongNode, g_program, g_used, g_blamed, g_resType, g_vTag, g_vVal, g_vLay, g_todo, g_todoEnv, g_closures, g_bindings, g_layers, g_depth, b_kinds, b_ops, b_parent, b_types, b_cNode, b_cEnv, b_bTag, b_bVal, b_bLay, b_bNext, b_lSource, b_lTarget, b_lLabel, b_lInner, b_frNode, b_frEnv, b_frPhase, b_frVal, b_frLay) p := by
  refine br_f ho (br_c (fun z => ?_) (fun z => H))
  have hp0 : ¬ p < 0 := fun q => by
    have : (1 : Int32) < 0 := Int32.lt_of_le_of_lt z q
    exact absurd this (by decide)
  obtain ⟨j, hj, rfl⟩ := nI_of hp0
  have hj1 : 1 ≤ j := (nI_leI (a := 1) (b := j) (by decide) (by omega)).mp z
  have ed : nI j / 4 = nI (j / 4) := by rw [show (4 : Int32) = nI 4 from rfl, pk_div (by omega) (by decide) (by decide)]
  have er : nI j - nI j / 4 * 4 = nI (j % 4) := by rw [show (4 : Int32) = nI 4 from rfl, pk_rem (by omega) (by decide) (by decide)]
  refine ⟨by decide, nm_r ed (pk_le cnt (j / 4) (fun _ => H) (fun hlt => ⟨gc_in (by omega) (by decide), ?_⟩))⟩
  rw [gc_cl (by omega)]
  refine br_c (fun z2 => ⟨by decide, ?_⟩) (fun _ => H)
  rw [er]
  have hip : ip (j / 4) = 1 := by
    rcases hb (j / 4) (by omega) with ⟨_, h⟩ | h
    · rw [h] at z2; exact absurd z2 (by decide)
    · exact h
  obtain ⟨κ, k1, k2⟩ := hk (j / 4) hlt
  refine gy_siteChild (by omega) k1 k2 (by omega) (fun a b => absurd ⟨congrArg nI (by omega), hlt, hip, k1, k2, a, b⟩ (hno (j / 4) κ (j % 4))) (fun _ => br_f (by decide) H)
end
end
section
def ga_cl (lo hi p : Int32) : Int32 := if lo ≤ p then (if p ≤ hi then p else hi) else lo
theorem ga_cl_r {lo hi p : Int32} {a b : Nat} (hl : lo = nI a) (hh : hi = nI b) (hab : a ≤ b) (hb : b < 1000) : ∃ n, a ≤ n ∧ n ≤ b ∧ ga_cl lo hi p = nI n := by
  subst hl hh
  unfold ga_cl
  by_cases z : nI a ≤ p
  · rw [if_pos z]
    by_cases z2 : p ≤ nI b
    · rw [if_pos z2]
      have hp0 : ¬ p < 0 := fun q => gc_nneg a (by omega) (Int32.lt_of_le_of_lt z q)
      obtain ⟨j, hj, rfl⟩ := nI_of hp0
      exact ⟨j, (nI_leI (by omega) (by omega)).mp z, (nI_leI (by omega) (by omega)).mp z2, rfl⟩
    · rw [if_neg z2]; exact ⟨b, hab, Nat.le_refl _, rfl⟩
  · rw [if_neg z]; exact ⟨a, Nat.le_refl _, hab, rfl⟩
section
variable {f_maxNodes f_maxFuel f_nodeCount f_outcome f_programRoot f_faultKind f_faultNode f_walkTop f_contextDepth f_coercionCount f_compiledCount f_cellCount f_closureCount f_top f_running f_atNode f_atEnv f_valueTag f_valueData f_valueCoercion f_typeOfResult f_fuelSpent f_blamedLabel : Int32} {a_kinds a_operands a_hasParent a_inProgram a_nodeType a_siteTargets a_siteCoercions a_walkNode a_walkStep a_contextType a_labels a_draft a_cellNext a_cellTag a_cellData a_cellCoercion a_closureNode a_closureEnv a_frameNode a_frameStage a_frameEnv a_framePending a_frameData a_frameCoercion : Nat → Int32} {g_capacity g_fuel g_count g_state g_wrongKind g_wrongNode g_program g_used g_blamed g_resType g_vTag g_vVal g_vLay g_todo g_todoEnv g_closures g_bindings g_layers g_depth : Int32} {b_kinds b_ops b_parent b_types b_cNode b_cEnv b_bTag b_bVal b_bLay b_bNext b_lSource b_lTarget b_lLabel b_lInner b_frNode b_frEnv b_frPhase b_frVal b_frLay : Nat → Int32}
theorem gx_clamp {post : Int32 → Prop} {lo hi p : Int32} (H : post (ga_cl lo hi p)) : wpX_clamp post (f_maxNodes, f_maxFuel, f_nodeCount, f_outcome, f_programRoot, f_faultKind, f_faultNode, f_walkTop, f_contextDepth, f_coercionCount, f_compiledCount, f_cellCount, f_closureCount, f_top, f_running, f_atNode, f_atEnv, f_valueTag, f_valueData, f_valueCoercion, f_typeOfResult, f_fuelSpent, f_blamedLabel, a_kinds, a_operands, a_hasParent, a_inProgram, a_nodeType, a_siteTargets, a_siteCoercions, a_walkNode, a_walkStep, a_contextType, a_labels, a_draft, a_cellNext, a_cellTag, a_cellData, a_cellCoercion, a_closureNode, a_closureEnv, a_frameNode, a_frameStage, a_frameEnv, a_framePending, a_frameData, a_frameCoercion) p lo hi := by
  unfold ga_cl at H
  refine br_c (fun z => br_c (fun z2 => ?_) (fun z2 => ?_)) (fun z => ?_)
  · rw [if_pos z, if_pos z2] at H; exact H
  · rw [if_pos z, if_neg z2] at H; exact H
  · rw [if_neg z] at H; exact H
theorem gx_clear_l {post : SX → Prop} (H : ∀ (hp' ip' : Nat → Int32), (∀ x, x < 48 → ip' x = 0) → post (f_maxNodes, f_maxFuel, f_nodeCount, 0, 0, 0, 0, f_walkTop, 0, 1, 1, 1, 0, f_top, 0, f_atNode, f_atEnv, f_valueTag, f_valueData, f_valueCoercion, f_typeOfResult, 0, 0, a_kinds, a_operands, hp', ip', a_nodeType, a_siteTargets, a_siteCoercions, a_walkNode, a_walkStep, a_contextType, a_labels, a_draft, a_cellNext, a_cellTag, a_cellData, a_cellCoercion, a_closureNode, a_closureEnv, a_frameNode, a_frameStage, a_frameEnv, a_framePending, a_frameData, a_frameCoercion)) :
    ∀ m i, i + m = 48 → ∀ (hp' : Nat → Int32) n, m < n → wX_clear_7 post f_maxNodes f_maxFuel f_nodeCount f_outcome f_programRoot f_faultKind f_faultNode f_walkTop f_contextDepth f_coercionCount f_compiledCount f_cellCount f_closureCount f_top f_running f_atNode f_atEnv f_valueTag f_valueData f_valueCoercion f_typeOfResult f_fuelSpent f_blamedLabel n (nI i) a_kinds a_operands hp' a_inProgram a_nodeType a_siteTargets a_siteCoercions a_walkNode a_walkStep a_contextType a_labels a_draft a_cellNext a_cellTag a_cellData a_cellCoercion a_closureNode a_closureEnv a_frameNode a_frameStage a_frameEnv a_framePending a_frameData a_frameCoercion := by
  intro m
  induction m with
  | zero =>
    intro i hi hp' n hn
    obtain ⟨n, rfl⟩ : ∃ q, n = q + 1 := ⟨n - 1, by omega⟩
    exact pk_le 48 i (fun _ => gx_forget (fun ip' hip => H hp' ip' hip)) (fun h => by omega)
  | succ m ih =>
    intro i hi hp' n hn
    obtain ⟨n, rfl⟩ : ∃ q, n = q + 1 := ⟨n - 1, by omega⟩
    exact pk_le 48 i (fun h => by omega) (fun _ => ⟨gc_in (by omega) (by decide), nm_e (nm_r (nI_1 i) (ih (i + 1) (by omega) _ n (by omega)))⟩)
end
/-- the relation: gr_R, whatever the turn -/
def i_Rel (k : Nat) (u : SX) (v : SY) : Prop := gr_R u v
theorem i_up {k : Nat} {u : SX} {v : SY} (h : i_Rel k u v) : i_Rel (k + 5) u v := h
theorem i_vc0 (k0 : Int32) (k1 : Int32) : wpX_init (fun u => wpY_init (fun v => i_Rel 2 u v) k0 k1) k0 k1 := by
  obtain ⟨mn, m1, m2, em⟩ := ga_cl_r (lo := 8) (hi := 48) (p := k0) (a := 8) (b := 48) rfl rfl (by decide) (by decide)
  obtain ⟨mf, f1, f2, ef⟩ := ga_cl_r (lo := 16) (hi := 128) (p := k1) (a := 16) (b := 128) rfl rfl (by decide) (by decide)
  unfold wpX_init
  refine gx_clamp ?_
  refine gx_clamp ?_
  rw [em, ef]
  refine gx_forget (fun ip' hip => ?_)
  have Rl : ∀ z0 x2 : Int32, z0 = nI mn → x2 = nI mf → gr_R (nI mn, nI mf, 0, 0, 0, 0, 0, 0, 0, 1, 1, 1, 0, 0, 0, 0, 0, 0, 0, 0, 0, 0, 0, (fun _ => 0), (fun _ => 0), (fun _ => 0), ip', (fun _ => 0), (fun _ => 0), (fun _ => 0), (fun _ => 0), (fun _ => 0), (fun _ => 0), (fun _ => 0), (fun _ => 0), (fun _ => 0), (fun _ => 0), (fun _ => 0), (fun _ => 0), (fun _ => 0), (fun _ => 0), (fun _ => 0), (fun _ => 0), (fun _ => 0), (fun _ => 0), (fun _ => 0), (fun _ => 0))
      (z0, x2, 0, 0, 0, 0, 0, 0, 0, 0, 0, 0, 0, 0, 0, 0, 0, 0, 0, (fun _ => 0), (fun _ => 0), (fun _ => 0), (fun _ => 0), (fun _ => 0), (fun _ => 0), (fun _ => 0), (fun _ => 0), (fun _ => 0), (fun _ => 0), (fun _ => 0), (fun _ => 0), (fun _ => 0), (fun _ => 0), (fun _ => 0), (fun _ => 0), (fun _ => 0), (fun _ => 0), (fun _ => 0)) := by
    intro z0 x2 e1 e2
    subst e1 e2
    exact ⟨mn, mf, 0, 0, ⟨by omega, by omega, by omega, by omega, rfl, rfl, rfl, rfl, rfl, rfl, rfl, rfl, fun n hn => absurd hn (Nat.not_lt_zero n)⟩, fun _ _ => rfl, rfl, by omega, rfl, rfl, Or.inl rfl⟩
  unfold ga_cl at em ef
  refine br_c (fun z => br_c (fun z2 => ?_) (fun z2 => ?_)) (fun z => ?_)
  · rw [if_pos z, if_pos z2] at em
    refine br_c (fun y => br_c (fun y2 => ?_) (fun y2 => ?_)) (fun y => ?_)
    · rw [if_pos y, if_pos y2] at ef; exact Rl _ _ em ef
    · rw [if_pos y, if_neg y2] at ef; exact Rl _ _ em ef
    · rw [if_neg y] at ef; exact Rl _ _ em ef
  · rw [if_pos z, if_neg z2] at em
    refine br_c (fun y => br_c (fun y2 => ?_) (fun y2 => ?_)) (fun y => ?_)
    · rw [if_pos y, if_pos y2] at ef; exact Rl _ _ em ef
    · rw [if_pos y, if_neg y2] at ef; exact Rl _ _ em ef
    · rw [if_neg y] at ef; exact Rl _ _ em ef
  · rw [if_neg z] at em
    refine br_c (fun y => br_c (fun y2 => ?_) (fun y2 => ?_)) (fun y => ?_)
    · rw [if_pos y, if_pos y2] at ef; exact Rl _ _ em ef
    · rw [if_pos y, if_neg y2] at ef; exact Rl _ _ em ef
    · rw [if_neg y] at ef; exact Rl _ _ em ef
theorem i_vc_add {k : Nat} {u : SX} {v : SY} (I : i_Rel k u v) (hk : k + 5 ≤ 2562) (v1 : Int32) (v2 : Int32) (v3 : Int32) (v4 : Int32) : wpX_add (fun r u' => wpY_add (fun r' v' => r' = r ∧ i_Rel (k + 5) u' v') v v1 v2 v3 v4) u v1 v2 v3 v4 := by
  obtain ⟨f_maxNodes, f_maxFuel, f_nodeCount, f_outcome, f_programRoot, f_faultKind, f_faultNode, f_walkTop, f_contextDepth, f_coercionCount, f_compiledCount, f_cellCount, f_closureCount, f_top, f_running, f_atNode, f_atEnv, f_valueTag, f_valueData, f_valueCoercion, f_typeOfResult, f_fuelSpent, f_blamedLabel, a_kinds, a_operands, a_hasParent, a_inProgram, a_nodeType, a_siteTargets, a_siteCoercions, a_walkNode, a_walkStep, a_contextType, a_labels, a_draft, a_cellNext, a_cellTag, a_cellData, a_cellCoercion, a_closureNode, a_closureEnv, a_frameNode, a_frameStage, a_frameEnv, a_framePending, a_frameData, a_frameCoercion⟩ := u
  obtain ⟨g_capacity, g_fuel, g_count, g_state, g_wrongKind, g_wrongNode, g_program, g_used, g_blamed, g_resType, g_vTag, g_vVal, g_vLay, g_todo, g_todoEnv, g_closures, g_bindings, g_layers, g_depth, b_kinds, b_ops, b_parent, b_types, b_cNode, b_cEnv, b_bTag, b_bVal, b_bLay, b_bNext, b_lSource, b_lTarget, b_lLabel, b_lInner, b_frNode, b_frEnv, b_frPhase, b_frVal, b_frLay⟩ := v
  have I' : gr_R (f_maxNodes, f_maxFuel, f_nodeCount, f_outcome, f_programRoot, f_faultKind, f_faultNode, f_walkTop, f_contextDepth, f_coercionCount, f_compiledCount, f_cellCount, f_closureCount, f_top, f_running, f_atNode, f_atEnv, f_valueTag, f_valueData, f_valueCoercion, f_typeOfResult, f_fuelSpent, f_blamedLabel, a_kinds, a_operands, a_hasParent, a_inProgram, a_nodeType, a_siteTargets, a_siteCoercions, a_walkNode, a_walkStep, a_contextType, a_labels, a_draft, a_cellNext, a_cellTag, a_cellData, a_cellCoercion, a_closureNode, a_closureEnv, a_frameNode, a_frameStage, a_frameEnv, a_framePending, a_frameData, a_frameCoercion) (g_capacity, g_fuel, g_count, g_state, g_wrongKind, g_wrongNode, g_program, g_used, g_blamed, g_resType, g_vTag, g_vVal, g_vLay, g_todo, g_todoEnv, g_closures, g_bindings, g_layers, g_depth, b_kinds, b_ops, b_parent, b_types, b_cNode, b_cEnv, b_bTag, b_bVal, b_bLay, b_bNext, b_lSource, b_lTarget, b_lLabel, b_lInner, b_frNode, b_frEnv, b_frPhase, b_frVal, b_frLay) := I
  obtain ⟨mn, mf, cnt, sp, hB, _⟩ := id I'
  obtain ⟨b1, b2, b3, b4, b5, b6, b7, b8, b9, b10, b11, b12, hTR⟩ := id hB
  subst b5 b7 b8 b10 b11 b12
  exact gr_add I' hB (fun _ _ h => h) v1 v2 v3 v4
theorem i_vc_clear {k : Nat} {u : SX} {v : SY} (I : i_Rel k u v) (hk : k + 5 ≤ 2562) : wpX_clear (fun u' => wpY_clear (fun v' => i_Rel (k + 5) u' v') v) u := by
  obtain ⟨f_maxNodes, f_maxFuel, f_nodeCount, f_outcome, f_programRoot, f_faultKind, f_faultNode, f_walkTop, f_contextDepth, f_coercionCount, f_compiledCount, f_cellCount, f_closureCount, f_top, f_running, f_atNode, f_atEnv, f_valueTag, f_valueData, f_valueCoercion, f_typeOfResult, f_fuelSpent, f_blamedLabel, a_kinds, a_operands, a_hasParent, a_inProgram, a_nodeType, a_siteTargets, a_siteCoercions, a_walkNode, a_walkStep, a_contextType, a_labels, a_draft, a_cellNext, a_cellTag, a_cellData, a_cellCoercion, a_closureNode, a_closureEnv, a_frameNode, a_frameStage, a_frameEnv, a_framePending, a_frameData, a_frameCoercion⟩ := u
  obtain ⟨g_capacity, g_fuel, g_count, g_state, g_wrongKind, g_wrongNode, g_program, g_used, g_blamed, g_resType, g_vTag, g_vVal, g_vLay, g_todo, g_todoEnv, g_closures, g_bindings, g_layers, g_depth, b_kinds, b_ops, b_parent, b_types, b_cNode, b_cEnv, b_bTag, b_bVal, b_bLay, b_bNext, b_lSource, b_lTarget, b_lLabel, b_lInner, b_frNode, b_frEnv, b_frPhase, b_frVal, b_frLay⟩ := v
  have I' : gr_R (f_maxNodes, f_maxFuel, f_nodeCount, f_outcome, f_programRoot, f_faultKind, f_faultNode, f_walkTop, f_contextDepth, f_coercionCount, f_compiledCount, f_cellCount, f_closureCount, f_top, f_running, f_atNode, f_atEnv, f_valueTag, f_valueData, f_valueCoercion, f_typeOfResult, f_fuelSpent, f_blamedLabel, a_kinds, a_operands, a_hasParent, a_inProgram, a_nodeType, a_siteTargets, a_siteCoercions, a_walkNode, a_walkStep, a_contextType, a_labels, a_draft, a_cellNext, a_cellTag, a_cellData, a_cellCoercion, a_closureNode, a_closureEnv, a_frameNode, a_frameStage, a_frameEnv, a_framePending, a_frameData, a_frameCoercion) (g_capacity, g_fuel, g_count, g_state, g_wrongKind, g_wrongNode, g_program, g_used, g_blamed, g_resType, g_vTag, g_vVal, g_vLay, g_todo, g_todoEnv, g_closures, g_bindings, g_layers, g_depth, b_kinds, b_ops, b_parent, b_types, b_cNode, b_cEnv, b_bTag, b_bVal, b_bLay, b_bNext, b_lSource, b_lTarget, b_lLabel, b_lInner, b_frNode, b_frEnv, b_frPhase, b_frVal, b_frLay) := I
  obtain ⟨mn, mf, cnt, sp, hB, hz, _⟩ := id I'
  obtain ⟨b1, b2, b3, b4, b5, b6, b7, b8, b9, b10, b11, b12, hTR⟩ := id hB
  refine ⟨49, gx_clear_l (fun hp' ip' hip => ?_) 48 0 rfl a_hasParent 49 (by decide)⟩
  exact ⟨mn, mf, 0, 0, ⟨b1, b2, b3, by omega, b5, b6, rfl, b8, b9, rfl, b11, b12, fun n hn => absurd hn (Nat.not_lt_zero n)⟩, hz, rfl, by omega, rfl, rfl, Or.inl rfl⟩
theorem i_vc_size {k : Nat} {u : SX} {v : SY} (I : i_Rel k u v) (hk : k + 5 ≤ 2562) : wpX_size (fun r => wpY_size (fun r' => r' = r ∧ i_Rel (k + 5) u v) v) u := by
  obtain ⟨f_maxNodes, f_maxFuel, f_nodeCount, f_outcome, f_programRoot, f_faultKind, f_faultNode, f_walkTop, f_contextDepth, f_coercionCount, f_compiledCount, f_cellCount, f_closureCount, f_top, f_running, f_atNode, f_atEnv, f_valueTag, f_valueData, f_valueCoercion, f_typeOfResult, f_fuelSpent, f_blamedLabel, a_kinds, a_operands, a_hasParent, a_inProgram, a_nodeType, a_siteTargets, a_siteCoercions, a_walkNode, a_walkStep, a_contextType, a_labels, a_draft, a_cellNext, a_cellTag, a_cellData, a_cellCoercion, a_closureNode, a_closureEnv, a_frameNode, a_frameStage, a_frameEnv, a_framePending, a_frameData, a_frameCoercion⟩ := u
  obtain ⟨g_capacity, g_fuel, g_count, g_state, g_wrongKind, g_wrongNode, g_program, g_used, g_blamed, g_resType, g_vTag, g_vVal, g_vLay, g_todo, g_todoEnv, g_closures, g_bindings, g_layers, g_depth, b_kinds, b_ops, b_parent, b_types, b_cNode, b_cEnv, b_bTag, b_bVal, b_bLay, b_bNext, b_lSource, b_lTarget, b_lLabel, b_lInner, b_frNode, b_frEnv, b_frPhase, b_frVal, b_frLay⟩ := v
  have I' : gr_R (f_maxNodes, f_maxFuel, f_nodeCount, f_outcome, f_programRoot, f_faultKind, f_faultNode, f_walkTop, f_contextDepth, f_coercionCount, f_compiledCount, f_cellCount, f_closureCount, f_top, f_running, f_atNode, f_atEnv, f_valueTag, f_valueData, f_valueCoercion, f_typeOfResult, f_fuelSpent, f_blamedLabel, a_kinds, a_operands, a_hasParent, a_inProgram, a_nodeType, a_siteTargets, a_siteCoercions, a_walkNode, a_walkStep, a_contextType, a_labels, a_draft, a_cellNext, a_cellTag, a_cellData, a_cellCoercion, a_closureNode, a_closureEnv, a_frameNode, a_frameStage, a_frameEnv, a_framePending, a_frameData, a_frameCoercion) (g_capacity, g_fuel, g_count, g_state, g_wrongKind, g_wrongNode, g_program, g_used, g_blamed, g_resType, g_vTag, g_vVal, g_vLay, g_todo, g_todoEnv, g_closures, g_bindings, g_layers, g_depth, b_kinds, b_ops, b_parent, b_types, b_cNode, b_cEnv, b_bTag, b_bVal, b_bLay, b_bNext, b_lSource, b_lTarget, b_lLabel, b_lInner, b_frNode, b_frEnv, b_frPhase, b_frVal, b_frLay) := I
  obtain ⟨mn, mf, cnt, sp, hB, _⟩ := id I'
  obtain ⟨b1, b2, b3, b4, b5, b6, b7, b8, b9, b10, b11, b12, hTR⟩ := id hB
  exact ⟨b10.trans b7.symm, I⟩
theorem i_vc_kind {k : Nat} {u : SX} {v : SY} (I : i_Rel k u v) (hk : k + 5 ≤ 2562) (v1 : Int32) : wpX_kind (fun r => wpY_kind (fun r' => r' = r ∧ i_Rel (k + 5) u v) v v1) u v1 := by
  obtain ⟨f_maxNodes, f_maxFuel, f_nodeCount, f_outcome, f_programRoot, f_faultKind, f_faultNode, f_walkTop, f_contextDepth, f_coercionCount, f_compiledCount, f_cellCount, f_closureCount, f_top, f_running, f_atNode, f_atEnv, f_valueTag, f_valueData, f_valueCoercion, f_typeOfResult, f_fuelSpent, f_blamedLabel, a_kinds, a_operands, a_hasParent, a_inProgram, a_nodeType, a_siteTargets, a_siteCoercions, a_walkNode, a_walkStep, a_contextType, a_labels, a_draft, a_cellNext, a_cellTag, a_cellData, a_cellCoercion, a_closureNode, a_closureEnv, a_frameNode, a_frameStage, a_frameEnv, a_framePending, a_frameData, a_frameCoercion⟩ := u
  obtain ⟨g_capacity, g_fuel, g_count, g_state, g_wrongKind, g_wrongNode, g_program, g_used, g_blamed, g_resType, g_vTag, g_vVal, g_vLay, g_todo, g_todoEnv, g_closures, g_bindings, g_layers, g_depth, b_kinds, b_ops, b_parent, b_types, b_cNode, b_cEnv, b_bTag, b_bVal, b_bLay, b_bNext, b_lSource, b_lTarget, b_lLabel, b_lInner, b_frNode, b_frEnv, b_frPhase, b_frVal, b_frLay⟩ := v
  have I' : gr_R (f_maxNodes, f_maxFuel, f_nodeCount, f_outcome, f_programRoot, f_faultKind, f_faultNode, f_walkTop, f_contextDepth, f_coercionCount, f_compiledCount, f_cellCount, f_closureCount, f_top, f_running, f_atNode, f_atEnv, f_valueTag, f_valueData, f_valueCoercion, f_typeOfResult, f_fuelSpent, f_blamedLabel, a_kinds, a_operands, a_hasParent, a_inProgram, a_nodeType, a_siteTargets, a_siteCoercions, a_walkNode, a_walkStep, a_contextType, a_labels, a_draft, a_cellNext, a_cellTag, a_cellData, a_cellCoercion, a_closureNode, a_closureEnv, a_frameNode, a_frameStage, a_frameEnv, a_framePending, a_frameData, a_frameCoercion) (g_capacity, g_fuel, g_count, g_state, g_wrongKind, g_wrongNode, g_program, g_used, g_blamed, g_resType, g_vTag, g_vVal, g_vLay, g_todo, g_todoEnv, g_closures, g_bindings, g_layers, g_depth, b_kinds, b_ops, b_parent, b_types, b_cNode, b_cEnv, b_bTag, b_bVal, b_bLay, b_bNext, b_lSource, b_lTarget, b_lLabel, b_lInner, b_frNode, b_frEnv, b_frPhase, b_frVal, b_frLay) := I
  obtain ⟨mn, mf, cnt, sp, hB, _⟩ := id I'
  obtain ⟨b1, b2, b3, b4, b5, b6, b7, b8, b9, b10, b11, b12, hTR⟩ := id hB
  subst b7 b10 b11
  unfold wpX_kind
  refine gx_isNode (by omega) (fun n hn e => br_f (by decide) ?_) (fun h => br_t rfl ?_)
  · subst e
    exact ⟨gc_in (by omega) (by decide), br_f (gc_nneg n (by omega)) (pk_lt n cnt (fun _ => ⟨gc_in (by omega) (by decide), rfl, I⟩) (fun h => by omega))⟩
  · refine br_c (fun _ => ⟨rfl, I⟩) (fun z => br_c (fun hlt => ?_) (fun _ => ⟨rfl, I⟩))
    rcases h with h | h
    · exact absurd h z
    · exact (Int32.lt_irrefl (Int32.lt_of_lt_of_le hlt h)).elim
theorem i_vc_operand {k : Nat} {u : SX} {v : SY} (I : i_Rel k u v) (hk : k + 5 ≤ 2562) (v1 : Int32) (v2 : Int32) : wpX_operand (fun r => wpY_operand (fun r' => r' = r ∧ i_Rel (k + 5) u v) v v1 v2) u v1 v2 := by
  obtain ⟨f_maxNodes, f_maxFuel, f_nodeCount, f_outcome, f_programRoot, f_faultKind, f_faultNode, f_walkTop, f_contextDepth, f_coercionCount, f_compiledCount, f_cellCount, f_closureCount, f_top, f_running, f_atNode, f_atEnv, f_valueTag, f_valueData, f_valueCoercion, f_typeOfResult, f_fuelSpent, f_blamedLabel, a_kinds, a_operands, a_hasParent, a_inProgram, a_nodeType, a_siteTargets, a_siteCoercions, a_walkNode, a_walkStep, a_contextType, a_labels, a_draft, a_cellNext, a_cellTag, a_cellData, a_cellCoercion, a_closureNode, a_closureEnv, a_frameNode, a_frameStage, a_frameEnv, a_framePending, a_frameData, a_frameCoercion⟩ := u
  obtain ⟨g_capacity, g_fuel, g_count, g_state, g_wrongKind, g_wrongNode, g_program, g_used, g_blamed, g_resType, g_vTag, g_vVal, g_vLay, g_todo, g_todoEnv, g_closures, g_bindings, g_layers, g_depth, b_kinds, b_ops, b_parent, b_types, b_cNode, b_cEnv, b_bTag, b_bVal, b_bLay, b_bNext, b_lSource, b_lTarget, b_lLabel, b_lInner, b_frNode, b_frEnv, b_frPhase, b_frVal, b_frLay⟩ := v
  have I' : gr_R (f_maxNodes, f_maxFuel, f_nodeCount, f_outcome, f_programRoot, f_faultKind, f_faultNode, f_walkTop, f_contextDepth, f_coercionCount, f_compiledCount, f_cellCount, f_closureCount, f_top, f_running, f_atNode, f_atEnv, f_valueTag, f_valueData, f_valueCoercion, f_typeOfResult, f_fuelSpent, f_blamedLabel, a_kinds, a_operands, a_hasParent, a_inProgram, a_nodeType, a_siteTargets, a_siteCoercions, a_walkNode, a_walkStep, a_contextType, a_labels, a_draft, a_cellNext, a_cellTag, a_cellData, a_cellCoercion, a_closureNode, a_closureEnv, a_frameNode, a_frameStage, a_frameEnv, a_framePending, a_frameData, a_frameCoercion) (g_capacity, g_fuel, g_count, g_state, g_wrongKind, g_wrongNode, g_program, g_used, g_blamed, g_resType, g_vTag, g_vVal, g_vLay, g_todo, g_todoEnv, g_closures, g_bindings, g_layers, g_depth, b_kinds, b_ops, b_parent, b_types, b_cNode, b_cEnv, b_bTag, b_bVal, b_bLay, b_bNext, b_lSource, b_lTarget, b_lLabel, b_lInner, b_frNode, b_frEnv, b_frPhase, b_frVal, b_frLay) := I
  obtain ⟨mn, mf, cnt, sp, hB, _⟩ := id I'
  obtain ⟨b1, b2, b3, b4, b5, b6, b7, b8, b9, b10, b11, b12, hTR⟩ := id hB
  subst b7 b10 b12
  unfold wpX_operand
  refine gx_isNode (by omega) (fun n hn e => br_f (by decide) ?_) (fun h => br_t rfl ?_)
  · subst e
    have N : ∀ (A B : Prop), B → ((nI n < 0 → A) ∧ (¬ nI n < 0 → (nI cnt ≤ nI n → A) ∧ (¬ nI cnt ≤ nI n → B))) := fun A B hb => br_f (gc_nneg n (by omega)) (pk_le cnt n (fun h => by omega) (fun _ => hb))
    refine br_c (fun z => N _ _ (br_t z ⟨rfl, I⟩)) (fun z => br_c (fun z2 => ?_) (fun z2 => N _ _ (br_f z (br_f z2 ⟨rfl, I⟩))))
    obtain ⟨j, hj, rfl⟩ := nI_of2 (M := 2) (n := 2) (by decide) z z2
    have e : 3 * nI n + nI j = nI (3 * n + j) := by rw [gc_3, nI_add]
    have hin : vp_in (3 * nI n + nI j) 144 := by rw [e]; exact gc_in (by omega) (by decide)
    exact ⟨hin, N _ _ (br_f z (br_t z2 ⟨hin, rfl, I⟩))⟩
  · refine br_c (fun _ => ⟨rfl, I⟩) (fun z => br_c (fun _ => ⟨rfl, I⟩) (fun hlt => ?_))
    rcases h with h | h
    · exact absurd h z
    · exact absurd h hlt
theorem i_vc_check {k : Nat} {u : SX} {v : SY} (I : i_Rel k u v) (hk : k + 5 ≤ 2562) (v1 : Int32) : wpX_check (fun r u' => wpY_check (fun r' v' => r' = r ∧ i_Rel (k + 5) u' v') v v1) u v1 := by
  obtain ⟨f_maxNodes, f_maxFuel, f_nodeCount, f_outcome, f_programRoot, f_faultKind, f_faultNode, f_walkTop, f_contextDepth, f_coercionCount, f_compiledCount, f_cellCount, f_closureCount, f_top, f_running, f_atNode, f_atEnv, f_valueTag, f_valueData, f_valueCoercion, f_typeOfResult, f_fuelSpent, f_blamedLabel, a_kinds, a_operands, a_hasParent, a_inProgram, a_nodeType, a_siteTargets, a_siteCoercions, a_walkNode, a_walkStep, a_contextType, a_labels, a_draft, a_cellNext, a_cellTag, a_cellData, a_cellCoercion, a_closureNode, a_closureEnv, a_frameNode, a_frameStage, a_frameEnv, a_framePending, a_frameData, a_frameCoercion⟩ := u
  obtain ⟨g_capacity, g_fuel, g_count, g_state, g_wrongKind, g_wrongNode, g_program, g_used, g_blamed, g_resType, g_vTag, g_vVal, g_vLay, g_todo, g_todoEnv, g_closures, g_bindings, g_layers, g_depth, b_kinds, b_ops, b_parent, b_types, b_cNode, b_cEnv, b_bTag, b_bVal, b_bLay, b_bNext, b_lSource, b_lTarget, b_lLabel, b_lInner, b_frNode, b_frEnv, b_frPhase, b_frVal, b_frLay⟩ := v
  have I' : gr_R (f_maxNodes, f_maxFuel, f_nodeCount, f_outcome, f_programRoot, f_faultKind, f_faultNode, f_walkTop, f_contextDepth, f_coercionCount, f_compiledCount, f_cellCount, f_closureCount, f_top, f_running, f_atNode, f_atEnv, f_valueTag, f_valueData, f_valueCoercion, f_typeOfResult, f_fuelSpent, f_blamedLabel, a_kinds, a_operands, a_hasParent, a_inProgram, a_nodeType, a_siteTargets, a_siteCoercions, a_walkNode, a_walkStep, a_contextType, a_labels, a_draft, a_cellNext, a_cellTag, a_cellData, a_cellCoercion, a_closureNode, a_closureEnv, a_frameNode, a_frameStage, a_frameEnv, a_framePending, a_frameData, a_frameCoercion) (g_capacity, g_fuel, g_count, g_state, g_wrongKind, g_wrongNode, g_program, g_used, g_blamed, g_resType, g_vTag, g_vVal, g_vLay, g_todo, g_todoEnv, g_closures, g_bindings, g_layers, g_depth, b_kinds, b_ops, b_parent, b_types, b_cNode, b_cEnv, b_bTag, b_bVal, b_bLay, b_bNext, b_lSource, b_lTarget, b_lLabel, b_lInner, b_frNode, b_frEnv, b_frPhase, b_frVal, b_frLay) := I
  obtain ⟨mn, mf, cnt, sp, hB, hz, _⟩ := id I'
  obtain ⟨b1, b2, b3, b4, b5, b6, b7, b8, b9, b10, b11, b12, hTR⟩ := id hB
  subst b7 b10 b11 b12
  exact gr_check hB hz (fun _ _ h => h) I' v1
theorem i_vc_errorKind {k : Nat} {u : SX} {v : SY} (I : i_Rel k u v) (hk : k + 5 ≤ 2562) : wpX_errorKind (fun r => wpY_errorKind (fun r' => r' = r ∧ i_Rel (k + 5) u v) v) u := by
  obtain ⟨f_maxNodes, f_maxFuel, f_nodeCount, f_outcome, f_programRoot, f_faultKind, f_faultNode, f_walkTop, f_contextDepth, f_coercionCount, f_compiledCount, f_cellCount, f_closureCount, f_top, f_running, f_atNode, f_atEnv, f_valueTag, f_valueData, f_valueCoercion, f_typeOfResult, f_fuelSpent, f_blamedLabel, a_kinds, a_operands, a_hasParent, a_inProgram, a_nodeType, a_siteTargets, a_siteCoercions, a_walkNode, a_walkStep, a_contextType, a_labels, a_draft, a_cellNext, a_cellTag, a_cellData, a_cellCoercion, a_closureNode, a_closureEnv, a_frameNode, a_frameStage, a_frameEnv, a_framePending, a_frameData, a_frameCoercion⟩ := u
  obtain ⟨g_capacity, g_fuel, g_count, g_state, g_wrongKind, g_wrongNode, g_program, g_used, g_blamed, g_resType, g_vTag, g_vVal, g_vLay, g_todo, g_todoEnv, g_closures, g_bindings, g_layers, g_depth, b_kinds, b_ops, b_parent, b_types, b_cNode, b_cEnv, b_bTag, b_bVal, b_bLay, b_bNext, b_lSource, b_lTarget, b_lLabel, b_lInner, b_frNode, b_frEnv, b_frPhase, b_frVal, b_frLay⟩ := v
  have I' : gr_R (f_maxNodes, f_maxFuel, f_nodeCount, f_outcome, f_programRoot, f_faultKind, f_faultNode, f_walkTop, f_contextDepth, f_coercionCount, f_compiledCount, f_cellCount, f_closureCount, f_top, f_running, f_atNode, f_atEnv, f_valueTag, f_valueData, f_valueCoercion, f_typeOfResult, f_fuelSpent, f_blamedLabel, a_kinds, a_operands, a_hasParent, a_inProgram, a_nodeType, a_siteTargets, a_siteCoercions, a_walkNode, a_walkStep, a_contextType, a_labels, a_draft, a_cellNext, a_cellTag, a_cellData, a_cellCoercion, a_closureNode, a_closureEnv, a_frameNode, a_frameStage, a_frameEnv, a_framePending, a_frameData, a_frameCoercion) (g_capacity, g_fuel, g_count, g_state, g_wrongKind, g_wrongNode, g_program, g_used, g_blamed, g_resType, g_vTag, g_vVal, g_vLay, g_todo, g_todoEnv, g_closures, g_bindings, g_layers, g_depth, b_kinds, b_ops, b_parent, b_types, b_cNode, b_cEnv, b_bTag, b_bVal, b_bLay, b_bNext, b_lSource, b_lTarget, b_lLabel, b_lInner, b_frNode, b_frEnv, b_frPhase, b_frVal, b_frLay) := I
  have ho := gr_R_o I'
  subst ho
  exact br_c (fun z => br_t z ⟨(gr_R_1 I' z).1.symm, I⟩) (fun z => br_f z ⟨rfl, I⟩)
theorem i_vc_errorNode {k : Nat} {u : SX} {v : SY} (I : i_Rel k u v) (hk : k + 5 ≤ 2562) : wpX_errorNode (fun r => wpY_errorNode (fun r' => r' = r ∧ i_Rel (k + 5) u v) v) u := by
  obtain ⟨f_maxNodes, f_maxFuel, f_nodeCount, f_outcome, f_programRoot, f_faultKind, f_faultNode, f_walkTop, f_contextDepth, f_coercionCount, f_compiledCount, f_cellCount, f_closureCount, f_top, f_running, f_atNode, f_atEnv, f_valueTag, f_valueData, f_valueCoercion, f_typeOfResult, f_fuelSpent, f_blamedLabel, a_kinds, a_operands, a_hasParent, a_inProgram, a_nodeType, a_siteTargets, a_siteCoercions, a_walkNode, a_walkStep, a_contextType, a_labels, a_draft, a_cellNext, a_cellTag, a_cellData, a_cellCoercion, a_closureNode, a_closureEnv, a_frameNode, a_frameStage, a_frameEnv, a_framePending, a_frameData, a_frameCoercion⟩ := u
  obtain ⟨g_capacity, g_fuel, g_count, g_state, g_wrongKind, g_wrongNode, g_program, g_used, g_blamed, g_resType, g_vTag, g_vVal, g_vLay, g_todo, g_todoEnv, g_closures, g_bindings, g_layers, g_depth, b_kinds, b_ops, b_parent, b_types, b_cNode, b_cEnv, b_bTag, b_bVal, b_bLay, b_bNext, b_lSource, b_lTarget, b_lLabel, b_lInner, b_frNode, b_frEnv, b_frPhase, b_frVal, b_frLay⟩ := v
  have I' : gr_R (f_maxNodes, f_maxFuel, f_nodeCount, f_outcome, f_programRoot, f_faultKind, f_faultNode, f_walkTop, f_contextDepth, f_coercionCount, f_compiledCount, f_cellCount, f_closureCount, f_top, f_running, f_atNode, f_atEnv, f_valueTag, f_valueData, f_valueCoercion, f_typeOfResult, f_fuelSpent, f_blamedLabel, a_kinds, a_operands, a_hasParent, a_inProgram, a_nodeType, a_siteTargets, a_siteCoercions, a_walkNode, a_walkStep, a_contextType, a_labels, a_draft, a_cellNext, a_cellTag, a_cellData, a_cellCoercion, a_closureNode, a_closureEnv, a_frameNode, a_frameStage, a_frameEnv, a_framePending, a_frameData, a_frameCoercion) (g_capacity, g_fuel, g_count, g_state, g_wrongKind, g_wrongNode, g_program, g_used, g_blamed, g_resType, g_vTag, g_vVal, g_vLay, g_todo, g_todoEnv, g_closures, g_bindings, g_layers, g_depth, b_kinds, b_ops, b_parent, b_types, b_cNode, b_cEnv, b_bTag, b_bVal, b_bLay, b_bNext, b_lSource, b_lTarget, b_lLabel, b_lInner, b_frNode, b_frEnv, b_frPhase, b_frVal, b_frLay) := I
  have ho := gr_R_o I'
  subst ho
  exact br_c (fun z => br_t z ⟨(gr_R_1 I' z).2.symm, I⟩) (fun z => br_f z ⟨rfl, I⟩)
theorem i_vc_typeOf {k : Nat} {u : SX} {v : SY} (I : i_Rel k u v) (hk : k + 5 ≤ 2562) (v1 : Int32) : wpX_typeOf (fun r => wpY_typeOf (fun r' => r' = r ∧ i_Rel (k + 5) u v) v v1) u v1 := by
  obtain ⟨f_maxNodes, f_maxFuel, f_nodeCount, f_outcome, f_programRoot, f_faultKind, f_faultNode, f_walkTop, f_contextDepth, f_coercionCount, f_compiledCount, f_cellCount, f_closureCount, f_top, f_running, f_atNode, f_atEnv, f_valueTag, f_valueData, f_valueCoercion, f_typeOfResult, f_fuelSpent, f_blamedLabel, a_kinds, a_operands, a_hasParent, a_inProgram, a_nodeType, a_siteTargets, a_siteCoercions, a_walkNode, a_walkStep, a_contextType, a_labels, a_draft, a_cellNext, a_cellTag, a_cellData, a_cellCoercion, a_closureNode, a_closureEnv, a_frameNode, a_frameStage, a_frameEnv, a_framePending, a_frameData, a_frameCoercion⟩ := u
  obtain ⟨g_capacity, g_fuel, g_count, g_state, g_wrongKind, g_wrongNode, g_program, g_used, g_blamed, g_resType, g_vTag, g_vVal, g_vLay, g_todo, g_todoEnv, g_closures, g_bindings, g_layers, g_depth, b_kinds, b_ops, b_parent, b_types, b_cNode, b_cEnv, b_bTag, b_bVal, b_bLay, b_bNext, b_lSource, b_lTarget, b_lLabel, b_lInner, b_frNode, b_frEnv, b_frPhase, b_frVal, b_frLay⟩ := v
  have I' : gr_R (f_maxNodes, f_maxFuel, f_nodeCount, f_outcome, f_programRoot, f_faultKind, f_faultNode, f_walkTop, f_contextDepth, f_coercionCount, f_compiledCount, f_cellCount, f_closureCount, f_top, f_running, f_atNode, f_atEnv, f_valueTag, f_valueData, f_valueCoercion, f_typeOfResult, f_fuelSpent, f_blamedLabel, a_kinds, a_operands, a_hasParent, a_inProgram, a_nodeType, a_siteTargets, a_siteCoercions, a_walkNode, a_walkStep, a_contextType, a_labels, a_draft, a_cellNext, a_cellTag, a_cellData, a_cellCoercion, a_closureNode, a_closureEnv, a_frameNode, a_frameStage, a_frameEnv, a_framePending, a_frameData, a_frameCoercion) (g_capacity, g_fuel, g_count, g_state, g_wrongKind, g_wrongNode, g_program, g_used, g_blamed, g_resType, g_vTag, g_vVal, g_vLay, g_todo, g_todoEnv, g_closures, g_bindings, g_layers, g_depth, b_kinds, b_ops, b_parent, b_types, b_cNode, b_cEnv, b_bTag, b_bVal, b_bLay, b_bNext, b_lSource, b_lTarget, b_lLabel, b_lInner, b_frNode, b_frEnv, b_frPhase, b_frVal, b_frLay) := I
  have ho := gr_R_o I'
  subst ho
  unfold wpX_typeOf
  by_cases hs : f_outcome < 2
  · exact br_t hs (br_t rfl (br_t hs ⟨rfl, I⟩))
  · obtain ⟨mn, mf, cnt, root, comp, G, hB, ⟨_, _, _, _, _, _, _, _, hCK⟩, _⟩ := gr_R_P I' hs
    obtain ⟨b1, b2, b3, b4, b5, b6, b7, b8, b9, b10, b11, b12, hTR⟩ := id hB
    subst b7 b10
    refine br_f hs (gx_isNode (by omega) (fun n hn e => br_f (by decide) ?_) (fun h => br_t rfl (br_t rfl ?_)))
    · subst e
      have hi : vp_in (nI n) 48 := gc_in (by omega) (by decide)
      have N : ∀ (A B : Prop), B → ((nI n < 0 → A) ∧ (¬ nI n < 0 → (nI cnt ≤ nI n → A) ∧ (¬ nI cnt ≤ nI n → B))) := fun A B hb => br_f (gc_nneg n (by omega)) (pk_le cnt n (fun h => by omega) (fun _ => hb))
      have ei : a_inProgram (nI n).toNatClampNeg = a_inProgram n := by rw [gc_cl (by omega)]
      have et : b_types (nI n).toNatClampNeg = b_types n := by rw [gc_cl (by omega)]
      have en : a_nodeType (nI n).toNatClampNeg = a_nodeType n := by rw [gc_cl (by omega)]
      refine ⟨hi, ?_⟩
      rcases hCK n (by omega) with ⟨h1, h2⟩ | ⟨h1, h2⟩
      · refine br_t (ei.trans h1) (br_t rfl (br_f hs (N _ _ ⟨hi, br_f (by rw [et, h2]; decide) ⟨rfl, I⟩⟩)))
      · obtain ⟨_, κ, _, _, h4, h5, _⟩ := h2
        refine br_f (by rw [ei, h1]; decide) (br_f (by decide) ⟨hi, br_f hs (N _ _ ⟨hi, br_t (by rw [et]; exact gc_T_pos h4) ⟨hi, by rw [et, en, h5], I⟩⟩)⟩)
    · refine br_f hs (br_c (fun _ => ⟨rfl, I⟩) (fun z => br_c (fun _ => ⟨rfl, I⟩) (fun hlt => ?_)))
      rcases h with h | h
      · exact absurd h z
      · exact absurd h hlt
theorem gr_CK_b {K O ty ip : Nat → Int32} {G : Nat → List Int32} {nt st sc lb : Nat → Int32} {comp cnt : Nat} (h : gr_CK K O ty ip G nt st sc lb comp cnt) : (∀ n, n < 48 → ip n = 0 ∨ ip n = 1) ∧ (∀ n, n < 48 → (ip n = 0 ∧ ty n = -1) ∨ ip n = 1) :=
  ⟨fun n hn => (h n hn).elim (fun q => Or.inl q.1) (fun q => Or.inr q.1), fun n hn => (h n hn).elim (fun q => Or.inl q) (fun q => Or.inr q.1)⟩
theorem gr_TR_k {cnt : Nat} {K O par hp : Nat → Int32} (h : gr_TR cnt K O par hp) : ∀ n, n < cnt → ∃ κ, K n = nI κ ∧ κ ≤ 8 := by
  intro n hn
  obtain ⟨⟨κ, k1, k2, _⟩, _⟩ := h n hn
  exact ⟨κ, k1, k2⟩
theorem i_vc_siteSource {k : Nat} {u : SX} {v : SY} (I : i_Rel k u v) (hk : k + 5 ≤ 2562) (v1 : Int32) : wpX_siteSource (fun r => wpY_siteSource (fun r' => r' = r ∧ i_Rel (k + 5) u v) v v1) u v1 := by
  obtain ⟨f_maxNodes, f_maxFuel, f_nodeCount, f_outcome, f_programRoot, f_faultKind, f_faultNode, f_walkTop, f_contextDepth, f_coercionCount, f_compiledCount, f_cellCount, f_closureCount, f_top, f_running, f_atNode, f_atEnv, f_valueTag, f_valueData, f_valueCoercion, f_typeOfResult, f_fuelSpent, f_blamedLabel, a_kinds, a_operands, a_hasParent, a_inProgram, a_nodeType, a_siteTargets, a_siteCoercions, a_walkNode, a_walkStep, a_contextType, a_labels, a_draft, a_cellNext, a_cellTag, a_cellData, a_cellCoercion, a_closureNode, a_closureEnv, a_frameNode, a_frameStage, a_frameEnv, a_framePending, a_frameData, a_frameCoercion⟩ := u
  obtain ⟨g_capacity, g_fuel, g_count, g_state, g_wrongKind, g_wrongNode, g_program, g_used, g_blamed, g_resType, g_vTag, g_vVal, g_vLay, g_todo, g_todoEnv, g_closures, g_bindings, g_layers, g_depth, b_kinds, b_ops, b_parent, b_types, b_cNode, b_cEnv, b_bTag, b_bVal, b_bLay, b_bNext, b_lSource, b_lTarget, b_lLabel, b_lInner, b_frNode, b_frEnv, b_frPhase, b_frVal, b_frLay⟩ := v
  have I' : gr_R (f_maxNodes, f_maxFuel, f_nodeCount, f_outcome, f_programRoot, f_faultKind, f_faultNode, f_walkTop, f_contextDepth, f_coercionCount, f_compiledCount, f_cellCount, f_closureCount, f_top, f_running, f_atNode, f_atEnv, f_valueTag, f_valueData, f_valueCoercion, f_typeOfResult, f_fuelSpent, f_blamedLabel, a_kinds, a_operands, a_hasParent, a_inProgram, a_nodeType, a_siteTargets, a_siteCoercions, a_walkNode, a_walkStep, a_contextType, a_labels, a_draft, a_cellNext, a_cellTag, a_cellData, a_cellCoercion, a_closureNode, a_closureEnv, a_frameNode, a_frameStage, a_frameEnv, a_framePending, a_frameData, a_frameCoercion) (g_capacity, g_fuel, g_count, g_state, g_wrongKind, g_wrongNode, g_program, g_used, g_blamed, g_resType, g_vTag, g_vVal, g_vLay, g_todo, g_todoEnv, g_closures, g_bindings, g_layers, g_depth, b_kinds, b_ops, b_parent, b_types, b_cNode, b_cEnv, b_bTag, b_bVal, b_bLay, b_bNext, b_lSource, b_lTarget, b_lLabel, b_lInner, b_frNode, b_frEnv, b_frPhase, b_frVal, b_frLay) := I
  have ho := gr_R_o I'
  subst ho
  unfold wpX_siteSource
  by_cases hs : f_outcome < 2
  · refine br_c (fun z => ⟨by decide, nm_e ⟨by decide, nm_e (br_c (fun _ => ?_) (fun _ => br_t hs ?_))⟩⟩) (fun z => ?_)
    · exact br_t rfl (br_t hs ⟨rfl, I⟩)
    · exact br_t rfl (br_t rfl (br_t hs ⟨rfl, I⟩))
    · exact br_t rfl (br_t hs ⟨rfl, I⟩)
  · obtain ⟨mn, mf, cnt, root, comp, G, hB, ⟨_, _, _, _, _, _, _, _, hCK⟩, _⟩ := gr_R_P I' hs
    obtain ⟨b1, b2, b3, b4, b5, b6, b7, b8, b9, b10, b11, b12, hTR⟩ := id hB
    subst b7 b10 b11 b12
    obtain ⟨q1, q2⟩ := gr_CK_b hCK
    refine gx_siteEx (by omega) hs q1 (gr_TR_k hTR) (fun n κ k' hv => br_f (by decide) ?_) (fun hno => br_t rfl (gy_srcR (by omega) hs q2 (gr_TR_k hTR) hno ⟨rfl, I⟩))
    obtain ⟨e, hn, hi, hK, hκ, k1, k2⟩ := hv
    subst e
    have T := gc_tab hκ
    have ed := gc_lab_d (n := n) (k := k') (by omega) (by omega)
    have er := gc_lab_r (n := n) (k := k') (by omega) (by omega)
    obtain ⟨n1, n2, n3, n4, n5, n6⟩ := gr_N_kind (by omega) (gr_CK_N hCK (by omega) hi) hK hκ
    obtain ⟨c1, c2, c3, c4, c5⟩ := n4 (k' - 1) (by omega)
    obtain ⟨_, _, _, _, _, m5, _⟩ := gr_CK_N hCK (by omega) c3
    refine ⟨by decide, nm_r er ⟨by decide, ?_⟩⟩
    rw [ed, gc_s1 k1]
    refine gx_childType (by omega) hK hκ (by omega) c2 (by omega) ?_
    exact gy_src hs hn (by omega) (gc_T_pos n2) hK hκ k1 k2 c2 (by omega) ⟨m5.symm, I⟩
theorem i_vc_siteTarget {k : Nat} {u : SX} {v : SY} (I : i_Rel k u v) (hk : k + 5 ≤ 2562) (v1 : Int32) : wpX_siteTarget (fun r => wpY_siteTarget (fun r' => r' = r ∧ i_Rel (k + 5) u v) v v1) u v1 := by
  obtain ⟨f_maxNodes, f_maxFuel, f_nodeCount, f_outcome, f_programRoot, f_faultKind, f_faultNode, f_walkTop, f_contextDepth, f_coercionCount, f_compiledCount, f_cellCount, f_closureCount, f_top, f_running, f_atNode, f_atEnv, f_valueTag, f_valueData, f_valueCoercion, f_typeOfResult, f_fuelSpent, f_blamedLabel, a_kinds, a_operands, a_hasParent, a_inProgram, a_nodeType, a_siteTargets, a_siteCoercions, a_walkNode, a_walkStep, a_contextType, a_labels, a_draft, a_cellNext, a_cellTag, a_cellData, a_cellCoercion, a_closureNode, a_closureEnv, a_frameNode, a_frameStage, a_frameEnv, a_framePending, a_frameData, a_frameCoercion⟩ := u
  obtain ⟨g_capacity, g_fuel, g_count, g_state, g_wrongKind, g_wrongNode, g_program, g_used, g_blamed, g_resType, g_vTag, g_vVal, g_vLay, g_todo, g_todoEnv, g_closures, g_bindings, g_layers, g_depth, b_kinds, b_ops, b_parent, b_types, b_cNode, b_cEnv, b_bTag, b_bVal, b_bLay, b_bNext, b_lSource, b_lTarget, b_lLabel, b_lInner, b_frNode, b_frEnv, b_frPhase, b_frVal, b_frLay⟩ := v
  have I' : gr_R (f_maxNodes, f_maxFuel, f_nodeCount, f_outcome, f_programRoot, f_faultKind, f_faultNode, f_walkTop, f_contextDepth, f_coercionCount, f_compiledCount, f_cellCount, f_closureCount, f_top, f_running, f_atNode, f_atEnv, f_valueTag, f_valueData, f_valueCoercion, f_typeOfResult, f_fuelSpent, f_blamedLabel, a_kinds, a_operands, a_hasParent, a_inProgram, a_nodeType, a_siteTargets, a_siteCoercions, a_walkNode, a_walkStep, a_contextType, a_labels, a_draft, a_cellNext, a_cellTag, a_cellData, a_cellCoercion, a_closureNode, a_closureEnv, a_frameNode, a_frameStage, a_frameEnv, a_framePending, a_frameData, a_frameCoercion) (g_capacity, g_fuel, g_count, g_state, g_wrongKind, g_wrongNode, g_program, g_used, g_blamed, g_resType, g_vTag, g_vVal, g_vLay, g_todo, g_todoEnv, g_closures, g_bindings, g_layers, g_depth, b_kinds, b_ops, b_parent, b_types, b_cNode, b_cEnv, b_bTag, b_bVal, b_bLay, b_bNext, b_lSource, b_lTarget, b_lLabel, b_lInner, b_frNode, b_frEnv, b_frPhase, b_frVal, b_frLay) := I
  have ho := gr_R_o I'
  subst ho
  unfold wpX_siteTarget
  by_cases hs : f_outcome < 2
  · refine br_c (fun z => ⟨by decide, nm_e ⟨by decide, nm_e (br_c (fun _ => ?_) (fun _ => br_t hs ?_))⟩⟩) (fun z => ?_)
    · refine br_t rfl ?_
      unfold wpY_siteTarget
      exact br_t hs (br_t rfl ⟨rfl, I⟩)
    · refine br_t rfl (br_t rfl ?_)
      unfold wpY_siteTarget
      exact br_t hs (br_t rfl ⟨rfl, I⟩)
    · refine br_t rfl ?_
      unfold wpY_siteTarget
      exact br_t hs (br_t rfl ⟨rfl, I⟩)
  · obtain ⟨mn, mf, cnt, root, comp, G, hB, ⟨_, _, _, _, _, _, _, _, hCK⟩, _⟩ := gr_R_P I' hs
    obtain ⟨b1, b2, b3, b4, b5, b6, b7, b8, b9, b10, b11, b12, hTR⟩ := id hB
    subst b7 b10 b11 b12
    obtain ⟨q1, q2⟩ := gr_CK_b hCK
    refine gx_siteEx (by omega) hs q1 (gr_TR_k hTR) (fun n κ k' hv => br_f (by decide) ?_) (fun hno => br_t rfl ?_)
    · obtain ⟨e, hn, hi, hK, hκ, k1, k2⟩ := hv
      subst e
      have T := gc_tab hκ
      have ed := gc_lab_d (n := n) (k := k') (by omega) (by omega)
      have er := gc_lab_r (n := n) (k := k') (by omega) (by omega)
      obtain ⟨n1, n2, n3, n4, n5, n6⟩ := gr_N_kind (by omega) (gr_CK_N hCK (by omega) hi) hK hκ
      obtain ⟨c1, c2, c3, c4, c5⟩ := n4 (k' - 1) (by omega)
      obtain ⟨s1, _⟩ := n5 k' k1 k2
      have ei : 3 * (nI (4 * n + k') / 4) + (nI (4 * n + k') - nI (4 * n + k') / 4 * 4) - 1 = nI (3 * n + (k' - 1)) := by
        rw [er, ed, gc_3, nI_add, gc_s1 (by omega)]
        exact congrArg nI (by omega)
      refine ⟨by decide, by decide, ?_⟩
      rw [ei, gc_cl (by omega)]
      refine ⟨gc_in (by omega) (by decide), ?_⟩
      refine gy_tgt hs hn (by omega) (gc_T_pos n2) hK hκ k1 k2 c2 (by omega) c4 (fun e => ?_) ⟨s1.symm, I⟩
      subst e
      obtain ⟨d1, d2, _⟩ := n4 0 (by decide)
      exact ⟨_, Nat.lt_trans d1 (show n < 48 by omega), d2⟩
    · unfold wpY_siteTarget
      exact gy_srcR (by omega) hs q2 (gr_TR_k hTR) hno (br_t rfl ⟨rfl, I⟩)
end
section
theorem i_vc_run {k : Nat} {u : SX} {v : SY} (I : i_Rel k u v) (hk : k + 5 ≤ 2562) : wpX_run (fun r u' => wpY_run (fun r' v' => r' = r ∧ i_Rel (k + 5) u' v') v) u := by
  obtain ⟨f_maxNodes, f_maxFuel, f_nodeCount, f_outcome, f_programRoot, f_faultKind, f_faultNode, f_walkTop, f_contextDepth, f_coercionCount, f_compiledCount, f_cellCount, f_closureCount, f_top, f_running, f_atNode, f_atEnv, f_valueTag, f_valueData, f_valueCoercion, f_typeOfResult, f_fuelSpent, f_blamedLabel, a_kinds, a_operands, a_hasParent, a_inProgram, a_nodeType, a_siteTargets, a_siteCoercions, a_walkNode, a_walkStep, a_contextType, a_labels, a_draft, a_cellNext, a_cellTag, a_cellData, a_cellCoercion, a_closureNode, a_closureEnv, a_frameNode, a_frameStage, a_frameEnv, a_framePending, a_frameData, a_frameCoercion⟩ := u
  obtain ⟨g_capacity, g_fuel, g_count, g_state, g_wrongKind, g_wrongNode, g_program, g_used, g_blamed, g_resType, g_vTag, g_vVal, g_vLay, g_todo, g_todoEnv, g_closures, g_bindings, g_layers, g_depth, b_kinds, b_ops, b_parent, b_types, b_cNode, b_cEnv, b_bTag, b_bVal, b_bLay, b_bNext, b_lSource, b_lTarget, b_lLabel, b_lInner, b_frNode, b_frEnv, b_frPhase, b_frVal, b_frLay⟩ := v
  have I' : gr_R (f_maxNodes, f_maxFuel, f_nodeCount, f_outcome, f_programRoot, f_faultKind, f_faultNode, f_walkTop, f_contextDepth, f_coercionCount, f_compiledCount, f_cellCount, f_closureCount, f_top, f_running, f_atNode, f_atEnv, f_valueTag, f_valueData, f_valueCoercion, f_typeOfResult, f_fuelSpent, f_blamedLabel, a_kinds, a_operands, a_hasParent, a_inProgram, a_nodeType, a_siteTargets, a_siteCoercions, a_walkNode, a_walkStep, a_contextType, a_labels, a_draft, a_cellNext, a_cellTag, a_cellData, a_cellCoercion, a_closureNode, a_closureEnv, a_frameNode, a_frameStage, a_frameEnv, a_framePending, a_frameData, a_frameCoercion) (g_capacity, g_fuel, g_count, g_state, g_wrongKind, g_wrongNode, g_program, g_used, g_blamed, g_resType, g_vTag, g_vVal, g_vLay, g_todo, g_todoEnv, g_closures, g_bindings, g_layers, g_depth, b_kinds, b_ops, b_parent, b_types, b_cNode, b_cEnv, b_bTag, b_bVal, b_bLay, b_bNext, b_lSource, b_lTarget, b_lLabel, b_lInner, b_frNode, b_frEnv, b_frPhase, b_frVal, b_frLay) := I
  have ho := gr_R_o I'
  subst ho
  by_cases hs : f_outcome < 2
  · have hn : ¬ 2 ≤ f_outcome := fun z => Int32.lt_irrefl (Int32.lt_of_lt_of_le hs z)
    exact br_f hn (br_f hn ⟨rfl, I⟩)
  · obtain ⟨mn, mf, cnt, sp, _, hz, _⟩ := id I'
    obtain ⟨mn, mf, cnt, root, comp, G, hB, hP, _⟩ := gr_R_P I' hs
    obtain ⟨b1, b2, b3, b4, b5, b6, b7, b8, b9, b10, b11, b12, hTR⟩ := id hB
    obtain ⟨p1, p2, p3, p4, p5, p6, _⟩ := id hP
    subst b6 b9 b10 b11 b12 p4 p5 p6
    exact gr_run hB hP hz (Int32.not_lt.mp hs) (Int32.not_lt.mp hs) (fun _ _ h => h)
theorem i_vc_apply {k : Nat} {u : SX} {v : SY} (I : i_Rel k u v) (hk : k + 5 ≤ 2562) (v1 : Int32) (v2 : Int32) : wpX_apply (fun r u' => wpY_apply (fun r' v' => r' = r ∧ i_Rel (k + 5) u' v') v v1 v2) u v1 v2 := by
  obtain ⟨f_maxNodes, f_maxFuel, f_nodeCount, f_outcome, f_programRoot, f_faultKind, f_faultNode, f_walkTop, f_contextDepth, f_coercionCount, f_compiledCount, f_cellCount, f_closureCount, f_top, f_running, f_atNode, f_atEnv, f_valueTag, f_valueData, f_valueCoercion, f_typeOfResult, f_fuelSpent, f_blamedLabel, a_kinds, a_operands, a_hasParent, a_inProgram, a_nodeType, a_siteTargets, a_siteCoercions, a_walkNode, a_walkStep, a_contextType, a_labels, a_draft, a_cellNext, a_cellTag, a_cellData, a_cellCoercion, a_closureNode, a_closureEnv, a_frameNode, a_frameStage, a_frameEnv, a_framePending, a_frameData, a_frameCoercion⟩ := u
  obtain ⟨g_capacity, g_fuel, g_count, g_state, g_wrongKind, g_wrongNode, g_program, g_used, g_blamed, g_resType, g_vTag, g_vVal, g_vLay, g_todo, g_todoEnv, g_closures, g_bindings, g_layers, g_depth, b_kinds, b_ops, b_parent, b_types, b_cNode, b_cEnv, b_bTag, b_bVal, b_bLay, b_bNext, b_lSource, b_lTarget, b_lLabel, b_lInner, b_frNode, b_frEnv, b_frPhase, b_frVal, b_frLay⟩ := v
  have I' : gr_R (f_maxNodes, f_maxFuel, f_nodeCount, f_outcome, f_programRoot, f_faultKind, f_faultNode, f_walkTop, f_contextDepth, f_coercionCount, f_compiledCount, f_cellCount, f_closureCount, f_top, f_running, f_atNode, f_atEnv, f_valueTag, f_valueData, f_valueCoercion, f_typeOfResult, f_fuelSpent, f_blamedLabel, a_kinds, a_operands, a_hasParent, a_inProgram, a_nodeType, a_siteTargets, a_siteCoercions, a_walkNode, a_walkStep, a_contextType, a_labels, a_draft, a_cellNext, a_cellTag, a_cellData, a_cellCoercion, a_closureNode, a_closureEnv, a_frameNode, a_frameStage, a_frameEnv, a_framePending, a_frameData, a_frameCoercion) (g_capacity, g_fuel, g_count, g_state, g_wrongKind, g_wrongNode, g_program, g_used, g_blamed, g_resType, g_vTag, g_vVal, g_vLay, g_todo, g_todoEnv, g_closures, g_bindings, g_layers, g_depth, b_kinds, b_ops, b_parent, b_types, b_cNode, b_cEnv, b_bTag, b_bVal, b_bLay, b_bNext, b_lSource, b_lTarget, b_lLabel, b_lInner, b_frNode, b_frEnv, b_frPhase, b_frVal, b_frLay) := I
  have ho := gr_R_o I'
  subst ho
  refine br_c (fun h3 => ?_) (fun h3 => br_f h3 ⟨rfl, I⟩)
  obtain ⟨mn, mf, cnt, root, comp, sp, G, hB, hP, ⟨cc, nb, eT, nc, cm, nl, lw, g, w, d1, d2, d3, d4, d5, d6, d7, d8, d9, d10, d11, d12, d13, d14, d15, d16, d17, d18, d19⟩, hs, hz, hf, hu⟩ := gr_R_D I' h3
  obtain ⟨b1, b2, b3, b4, b5, b6, b7, b8, b9, b10, b11, b12, hTR⟩ := id hB
  have hg := d18.1
  by_cases g3 : g = 3
  · subst g3
    obtain ⟨q, e1, e2, e3⟩ := d18.2.2.2 rfl
    obtain ⟨c, c1, c2, c3⟩ := d19 rfl
    subst d1 d4 d5 d6 d7 d8 d12 d15 d16 b6 b9 b10 b11 b12 hf hu h3 c1
    subst e1
    subst d17
    refine br_t rfl ?_
    have R5 : gr_R (f_maxNodes, nI mf, f_nodeCount, 5, f_programRoot, f_faultKind, f_faultNode, f_walkTop, f_contextDepth, nI cc, f_compiledCount, nI (nb + 1), nI nc, f_top, 0, f_atNode, f_atEnv, nI 3, nI q, nI c, g_resType, nI sp, f_blamedLabel, b_kinds, b_ops, a_hasParent, a_inProgram, a_nodeType, a_siteTargets, a_siteCoercions, a_walkNode, a_walkStep, a_contextType, a_labels, a_draft, a_cellNext, a_cellTag, a_cellData, a_cellCoercion, a_closureNode, a_closureEnv, a_frameNode, a_frameStage, a_frameEnv, a_framePending, a_frameData, a_frameCoercion) (g_capacity, nI mf, nI cnt, 5, g_wrongKind, g_wrongNode, g_program, nI sp, g_blamed, g_resType, nI 3, nI q, g_vLay, g_todo, g_todoEnv, nI nc, nI nb, nI nl, g_depth, b_kinds, b_ops, b_parent, b_types, b_cNode, b_cEnv, b_bTag, b_bVal, b_bLay, b_bNext, b_lSource, b_lTarget, b_lLabel, b_lInner, b_frNode, b_frEnv, b_frPhase, b_frVal, b_frLay) := gr_R5 hB hP hz (fun _ _ => rfl) hs
    have A : ∀ g0, 1 ≤ g0 → g0 ≤ 2 → wX_apply_34 (fun r u' => wpY_apply (fun r' v' => r' = r ∧ i_Rel (k + 5) u' v') (g_capacity, nI mf, nI cnt, 3, g_wrongKind, g_wrongNode, g_program, nI sp, g_blamed, g_resType, nI 3, nI q, g_vLay, g_todo, g_todoEnv, nI nc, nI nb, nI nl, g_depth, b_kinds, b_ops, b_parent, b_types, b_cNode, b_cEnv, b_bTag, b_bVal, b_bLay, b_bNext, b_lSource, b_lTarget, b_lLabel, b_lInner, b_frNode, b_frEnv, b_frPhase, b_frVal, b_frLay) (nI g0) v2) (nI g0) v2 f_maxNodes (nI mf) f_nodeCount 3 f_programRoot f_faultKind f_faultNode f_walkTop f_contextDepth (nI cc) f_compiledCount (nI (nb + 1)) (nI nc) f_top f_running f_atNode f_atEnv (nI 3) (nI q) (nI c) g_resType (nI sp) f_blamedLabel b_kinds b_ops a_hasParent a_inProgram a_nodeType a_siteTargets a_siteCoercions a_walkNode a_walkStep a_contextType a_labels a_draft a_cellNext a_cellTag a_cellData a_cellCoercion a_closureNode a_closureEnv a_frameNode a_frameStage a_frameEnv a_framePending a_frameData a_frameCoercion := by
      intro g0 g1 g2
      by_cases hlt : sp < mf
      · exact gr_apply hB hP hz hlt d2 d3 d9 d10 d11 d13 d14 e2 e3 c2 c3 (fun _ _ h => h) ⟨g1, g2⟩
      · have e : sp = mf := by omega
        unfold wX_apply_34
        refine gx_dom ?_
        refine gx_cod ?_
        refine pk_lt sp mf (fun h => absurd h hlt) (fun _ => gx_st ?_)
        refine br_t rfl (br_t rfl (pk_eq g0 1 (fun _ => br_t (by rw [e]) ⟨rfl, R5⟩) (fun _ => pk_eq g0 2 (fun _ => br_t (by rw [e]) ⟨rfl, R5⟩) (fun h => by omega))))
    refine br_c (fun z => ?_) (fun z => br_c (fun z2 => ?_) (fun z2 => ?_))
    · subst z; exact A 1 (by decide) (by decide)
    · subst z2; exact A 2 (by decide) (by decide)
    · exact br_t rfl (br_t rfl (br_f z (br_f z2 ⟨rfl, I⟩)))
  · have n3 : ¬ f_valueTag = 3 := by rw [d15]; exact gc_ne (b := 3) g3 (by omega) (by decide)
    have n3' : ¬ g_vTag = 3 := by rw [d16]; exact gc_ne (b := 3) g3 (by omega) (by decide)
    exact br_f n3 (br_t h3 (br_f n3' ⟨rfl, I⟩))
theorem i_vc_outcome {k : Nat} {u : SX} {v : SY} (I : i_Rel k u v) (hk : k + 5 ≤ 2562) : wpX_outcome (fun r => wpY_outcome (fun r' => r' = r ∧ i_Rel (k + 5) u v) v) u := by
  obtain ⟨f_maxNodes, f_maxFuel, f_nodeCount, f_outcome, f_programRoot, f_faultKind, f_faultNode, f_walkTop, f_contextDepth, f_coercionCount, f_compiledCount, f_cellCount, f_closureCount, f_top, f_running, f_atNode, f_atEnv, f_valueTag, f_valueData, f_valueCoercion, f_typeOfResult, f_fuelSpent, f_blamedLabel, a_kinds, a_operands, a_hasParent, a_inProgram, a_nodeType, a_siteTargets, a_siteCoercions, a_walkNode, a_walkStep, a_contextType, a_labels, a_draft, a_cellNext, a_cellTag, a_cellData, a_cellCoercion, a_closureNode, a_closureEnv, a_frameNode, a_frameStage, a_frameEnv, a_framePending, a_frameData, a_frameCoercion⟩ := u
  obtain ⟨g_capacity, g_fuel, g_count, g_state, g_wrongKind, g_wrongNode, g_program, g_used, g_blamed, g_resType, g_vTag, g_vVal, g_vLay, g_todo, g_todoEnv, g_closures, g_bindings, g_layers, g_depth, b_kinds, b_ops, b_parent, b_types, b_cNode, b_cEnv, b_bTag, b_bVal, b_bLay, b_bNext, b_lSource, b_lTarget, b_lLabel, b_lInner, b_frNode, b_frEnv, b_frPhase, b_frVal, b_frLay⟩ := v
  have I' : gr_R (f_maxNodes, f_maxFuel, f_nodeCount, f_outcome, f_programRoot, f_faultKind, f_faultNode, f_walkTop, f_contextDepth, f_coercionCount, f_compiledCount, f_cellCount, f_closureCount, f_top, f_running, f_atNode, f_atEnv, f_valueTag, f_valueData, f_valueCoercion, f_typeOfResult, f_fuelSpent, f_blamedLabel, a_kinds, a_operands, a_hasParent, a_inProgram, a_nodeType, a_siteTargets, a_siteCoercions, a_walkNode, a_walkStep, a_contextType, a_labels, a_draft, a_cellNext, a_cellTag, a_cellData, a_cellCoercion, a_closureNode, a_closureEnv, a_frameNode, a_frameStage, a_frameEnv, a_framePending, a_frameData, a_frameCoercion) (g_capacity, g_fuel, g_count, g_state, g_wrongKind, g_wrongNode, g_program, g_used, g_blamed, g_resType, g_vTag, g_vVal, g_vLay, g_todo, g_todoEnv, g_closures, g_bindings, g_layers, g_depth, b_kinds, b_ops, b_parent, b_types, b_cNode, b_cEnv, b_bTag, b_bVal, b_bLay, b_bNext, b_lSource, b_lTarget, b_lLabel, b_lInner, b_frNode, b_frEnv, b_frPhase, b_frVal, b_frLay) := I
  exact ⟨gr_R_out I', I⟩
theorem i_vc_spent {k : Nat} {u : SX} {v : SY} (I : i_Rel k u v) (hk : k + 5 ≤ 2562) : wpX_spent (fun r => wpY_spent (fun r' => r' = r ∧ i_Rel (k + 5) u v) v) u := by
  obtain ⟨f_maxNodes, f_maxFuel, f_nodeCount, f_outcome, f_programRoot, f_faultKind, f_faultNode, f_walkTop, f_contextDepth, f_coercionCount, f_compiledCount, f_cellCount, f_closureCount, f_top, f_running, f_atNode, f_atEnv, f_valueTag, f_valueData, f_valueCoercion, f_typeOfResult, f_fuelSpent, f_blamedLabel, a_kinds, a_operands, a_hasParent, a_inProgram, a_nodeType, a_siteTargets, a_siteCoercions, a_walkNode, a_walkStep, a_contextType, a_labels, a_draft, a_cellNext, a_cellTag, a_cellData, a_cellCoercion, a_closureNode, a_closureEnv, a_frameNode, a_frameStage, a_frameEnv, a_framePending, a_frameData, a_frameCoercion⟩ := u
  obtain ⟨g_capacity, g_fuel, g_count, g_state, g_wrongKind, g_wrongNode, g_program, g_used, g_blamed, g_resType, g_vTag, g_vVal, g_vLay, g_todo, g_todoEnv, g_closures, g_bindings, g_layers, g_depth, b_kinds, b_ops, b_parent, b_types, b_cNode, b_cEnv, b_bTag, b_bVal, b_bLay, b_bNext, b_lSource, b_lTarget, b_lLabel, b_lInner, b_frNode, b_frEnv, b_frPhase, b_frVal, b_frLay⟩ := v
  have I' : gr_R (f_maxNodes, f_maxFuel, f_nodeCount, f_outcome, f_programRoot, f_faultKind, f_faultNode, f_walkTop, f_contextDepth, f_coercionCount, f_compiledCount, f_cellCount, f_closureCount, f_top, f_running, f_atNode, f_atEnv, f_valueTag, f_valueData, f_valueCoercion, f_typeOfResult, f_fuelSpent, f_blamedLabel, a_kinds, a_operands, a_hasParent, a_inProgram, a_nodeType, a_siteTargets, a_siteCoercions, a_walkNode, a_walkStep, a_contextType, a_labels, a_draft, a_cellNext, a_cellTag, a_cellData, a_cellCoercion, a_closureNode, a_closureEnv, a_frameNode, a_frameStage, a_frameEnv, a_framePending, a_frameData, a_frameCoercion) (g_capacity, g_fuel, g_count, g_state, g_wrongKind, g_wrongNode, g_program, g_used, g_blamed, g_resType, g_vTag, g_vVal, g_vLay, g_todo, g_todoEnv, g_closures, g_bindings, g_layers, g_depth, b_kinds, b_ops, b_parent, b_types, b_cNode, b_cEnv, b_bTag, b_bVal, b_bLay, b_bNext, b_lSource, b_lTarget, b_lLabel, b_lInner, b_frNode, b_frEnv, b_frPhase, b_frVal, b_frLay) := I
  obtain ⟨mn, mf, cnt, sp, _, _, _, _, hf, hu, _⟩ := id I'
  exact ⟨hu.trans hf.symm, I⟩
theorem gr_Dv {comp sp : Nat} {G : Nat → List Int32} {f_coercionCount f_cellCount f_closureCount f_valueTag f_valueData f_valueCoercion f_typeOfResult g_resType g_vTag g_vVal g_vLay g_closures g_bindings g_layers : Int32}
    {a_kinds a_operands a_inProgram a_labels a_cellNext a_cellTag a_cellData a_cellCoercion a_closureNode a_closureEnv b_bNext b_bTag b_bVal b_bLay b_cNode b_cEnv b_lSource b_lTarget b_lLabel b_lInner : Nat → Int32} (h : gr_Dn comp sp G f_coercionCount f_cellCount f_closureCount f_valueTag f_valueData f_valueCoercion f_typeOfResult g_resType g_vTag g_vVal g_vLay g_closures g_bindings g_layers a_kinds a_operands a_inProgram a_labels a_cellNext a_cellTag a_cellData a_cellCoercion a_closureNode a_closureEnv b_bNext b_bTag b_bVal b_bLay b_cNode b_cEnv b_lSource b_lTarget b_lLabel b_lInner) :
    f_valueTag = g_vTag ∧ f_valueData = g_vVal ∧ g_resType = f_typeOfResult ∧ (f_valueTag = 3 → ∃ q, q < sp ∧ g_vVal = nI q ∧ ∃ m, m < 48 ∧ a_inProgram m = 1 ∧ a_kinds m = 3 ∧ a_closureNode q = nI m ∧ b_cNode q = nI m) := by
  obtain ⟨cc, nb, eT, nc, cm, nl, lw, g, w, d1, d2, d3, d4, d5, d6, d7, d8, d9, d10, d11, d12, d13, d14, d15, d16, d17, d18, d19⟩ := h
  refine ⟨d15.trans d16.symm, d17, d12, fun e => ?_⟩
  have hg := d18.1
  have g3 : g = 3 := gc_inj (b := 3) (d15.symm.trans e) (by omega) (by decide)
  obtain ⟨q, e1, e2, e3, e4⟩ := d18.2.2.2 g3
  obtain ⟨t1, t2, t3, t4, t5, t6⟩ := d14.2.2 q e3
  exact ⟨q, by omega, e1, cm q, t3, t4, t5, t2, t1⟩
theorem i_vc_resultTag {k : Nat} {u : SX} {v : SY} (I : i_Rel k u v) (hk : k + 5 ≤ 2562) : wpX_resultTag (fun r => wpY_resultTag (fun r' => r' = r ∧ i_Rel (k + 5) u v) v) u := by
  obtain ⟨f_maxNodes, f_maxFuel, f_nodeCount, f_outcome, f_programRoot, f_faultKind, f_faultNode, f_walkTop, f_contextDepth, f_coercionCount, f_compiledCount, f_cellCount, f_closureCount, f_top, f_running, f_atNode, f_atEnv, f_valueTag, f_valueData, f_valueCoercion, f_typeOfResult, f_fuelSpent, f_blamedLabel, a_kinds, a_operands, a_hasParent, a_inProgram, a_nodeType, a_siteTargets, a_siteCoercions, a_walkNode, a_walkStep, a_contextType, a_labels, a_draft, a_cellNext, a_cellTag, a_cellData, a_cellCoercion, a_closureNode, a_closureEnv, a_frameNode, a_frameStage, a_frameEnv, a_framePending, a_frameData, a_frameCoercion⟩ := u
  obtain ⟨g_capacity, g_fuel, g_count, g_state, g_wrongKind, g_wrongNode, g_program, g_used, g_blamed, g_resType, g_vTag, g_vVal, g_vLay, g_todo, g_todoEnv, g_closures, g_bindings, g_layers, g_depth, b_kinds, b_ops, b_parent, b_types, b_cNode, b_cEnv, b_bTag, b_bVal, b_bLay, b_bNext, b_lSource, b_lTarget, b_lLabel, b_lInner, b_frNode, b_frEnv, b_frPhase, b_frVal, b_frLay⟩ := v
  have I' : gr_R (f_maxNodes, f_maxFuel, f_nodeCount, f_outcome, f_programRoot, f_faultKind, f_faultNode, f_walkTop, f_contextDepth, f_coercionCount, f_compiledCount, f_cellCount, f_closureCount, f_top, f_running, f_atNode, f_atEnv, f_valueTag, f_valueData, f_valueCoercion, f_typeOfResult, f_fuelSpent, f_blamedLabel, a_kinds, a_operands, a_hasParent, a_inProgram, a_nodeType, a_siteTargets, a_siteCoercions, a_walkNode, a_walkStep, a_contextType, a_labels, a_draft, a_cellNext, a_cellTag, a_cellData, a_cellCoercion, a_closureNode, a_closureEnv, a_frameNode, a_frameStage, a_frameEnv, a_framePending, a_frameData, a_frameCoercion) (g_capacity, g_fuel, g_count, g_state, g_wrongKind, g_wrongNode, g_program, g_used, g_blamed, g_resType, g_vTag, g_vVal, g_vLay, g_todo, g_todoEnv, g_closures, g_bindings, g_layers, g_depth, b_kinds, b_ops, b_parent, b_types, b_cNode, b_cEnv, b_bTag, b_bVal, b_bLay, b_bNext, b_lSource, b_lTarget, b_lLabel, b_lInner, b_frNode, b_frEnv, b_frPhase, b_frVal, b_frLay) := I
  have ho := gr_R_o I'
  subst ho
  refine br_c (fun z => br_t z ⟨?_, I⟩) (fun z => br_f z ⟨rfl, I⟩)
  obtain ⟨mn, mf, cnt, root, comp, sp, G, hB, hP, hD, _⟩ := gr_R_D I' z
  exact (gr_Dv hD).1.symm
theorem i_vc_resultValue {k : Nat} {u : SX} {v : SY} (I : i_Rel k u v) (hk : k + 5 ≤ 2562) : wpX_resultValue (fun r => wpY_resultValue (fun r' => r' = r ∧ i_Rel (k + 5) u v) v) u := by
  obtain ⟨f_maxNodes, f_maxFuel, f_nodeCount, f_outcome, f_programRoot, f_faultKind, f_faultNode, f_walkTop, f_contextDepth, f_coercionCount, f_compiledCount, f_cellCount, f_closureCount, f_top, f_running, f_atNode, f_atEnv, f_valueTag, f_valueData, f_valueCoercion, f_typeOfResult, f_fuelSpent, f_blamedLabel, a_kinds, a_operands, a_hasParent, a_inProgram, a_nodeType, a_siteTargets, a_siteCoercions, a_walkNode, a_walkStep, a_contextType, a_labels, a_draft, a_cellNext, a_cellTag, a_cellData, a_cellCoercion, a_closureNode, a_closureEnv, a_frameNode, a_frameStage, a_frameEnv, a_framePending, a_frameData, a_frameCoercion⟩ := u
  obtain ⟨g_capacity, g_fuel, g_count, g_state, g_wrongKind, g_wrongNode, g_program, g_used, g_blamed, g_resType, g_vTag, g_vVal, g_vLay, g_todo, g_todoEnv, g_closures, g_bindings, g_layers, g_depth, b_kinds, b_ops, b_parent, b_types, b_cNode, b_cEnv, b_bTag, b_bVal, b_bLay, b_bNext, b_lSource, b_lTarget, b_lLabel, b_lInner, b_frNode, b_frEnv, b_frPhase, b_frVal, b_frLay⟩ := v
  have I' : gr_R (f_maxNodes, f_maxFuel, f_nodeCount, f_outcome, f_programRoot, f_faultKind, f_faultNode, f_walkTop, f_contextDepth, f_coercionCount, f_compiledCount, f_cellCount, f_closureCount, f_top, f_running, f_atNode, f_atEnv, f_valueTag, f_valueData, f_valueCoercion, f_typeOfResult, f_fuelSpent, f_blamedLabel, a_kinds, a_operands, a_hasParent, a_inProgram, a_nodeType, a_siteTargets, a_siteCoercions, a_walkNode, a_walkStep, a_contextType, a_labels, a_draft, a_cellNext, a_cellTag, a_cellData, a_cellCoercion, a_closureNode, a_closureEnv, a_frameNode, a_frameStage, a_frameEnv, a_framePending, a_frameData, a_frameCoercion) (g_capacity, g_fuel, g_count, g_state, g_wrongKind, g_wrongNode, g_program, g_used, g_blamed, g_resType, g_vTag, g_vVal, g_vLay, g_todo, g_todoEnv, g_closures, g_bindings, g_layers, g_depth, b_kinds, b_ops, b_parent, b_types, b_cNode, b_cEnv, b_bTag, b_bVal, b_bLay, b_bNext, b_lSource, b_lTarget, b_lLabel, b_lInner, b_frNode, b_frEnv, b_frPhase, b_frVal, b_frLay) := I
  have ho := gr_R_o I'
  subst ho
  refine br_c (fun z => ?_) (fun z => br_f z ⟨rfl, I⟩)
  obtain ⟨mn, mf, cnt, root, comp, sp, G, hB, hP, hD, hs, _⟩ := gr_R_D I' z
  obtain ⟨e1, e2, e3, e4⟩ := gr_Dv hD
  obtain ⟨b1, b2, b3, _⟩ := id hB
  refine br_c (fun z3 => ?_) (fun z3 => br_t z (br_f (by rw [← e1]; exact z3) ⟨e2.symm, I⟩))
  obtain ⟨q, q1, q2, m, m1, _, _, m2, m3⟩ := e4 z3
  have eX : f_valueData = nI q := e2.trans q2
  refine ⟨by rw [eX]; exact gc_in (by omega) (by decide), br_t z (br_t (by rw [← e1]; exact z3) ⟨by rw [q2]; exact gc_in (by omega) (by decide), ?_, I⟩)⟩
  rw [eX, q2, gc_cl (by omega), m2, m3]
theorem i_vc_resultType {k : Nat} {u : SX} {v : SY} (I : i_Rel k u v) (hk : k + 5 ≤ 2562) : wpX_resultType (fun r => wpY_resultType (fun r' => r' = r ∧ i_Rel (k + 5) u v) v) u := by
  obtain ⟨f_maxNodes, f_maxFuel, f_nodeCount, f_outcome, f_programRoot, f_faultKind, f_faultNode, f_walkTop, f_contextDepth, f_coercionCount, f_compiledCount, f_cellCount, f_closureCount, f_top, f_running, f_atNode, f_atEnv, f_valueTag, f_valueData, f_valueCoercion, f_typeOfResult, f_fuelSpent, f_blamedLabel, a_kinds, a_operands, a_hasParent, a_inProgram, a_nodeType, a_siteTargets, a_siteCoercions, a_walkNode, a_walkStep, a_contextType, a_labels, a_draft, a_cellNext, a_cellTag, a_cellData, a_cellCoercion, a_closureNode, a_closureEnv, a_frameNode, a_frameStage, a_frameEnv, a_framePending, a_frameData, a_frameCoercion⟩ := u
  obtain ⟨g_capacity, g_fuel, g_count, g_state, g_wrongKind, g_wrongNode, g_program, g_used, g_blamed, g_resType, g_vTag, g_vVal, g_vLay, g_todo, g_todoEnv, g_closures, g_bindings, g_layers, g_depth, b_kinds, b_ops, b_parent, b_types, b_cNode, b_cEnv, b_bTag, b_bVal, b_bLay, b_bNext, b_lSource, b_lTarget, b_lLabel, b_lInner, b_frNode, b_frEnv, b_frPhase, b_frVal, b_frLay⟩ := v
  have I' : gr_R (f_maxNodes, f_maxFuel, f_nodeCount, f_outcome, f_programRoot, f_faultKind, f_faultNode, f_walkTop, f_contextDepth, f_coercionCount, f_compiledCount, f_cellCount, f_closureCount, f_top, f_running, f_atNode, f_atEnv, f_valueTag, f_valueData, f_valueCoercion, f_typeOfResult, f_fuelSpent, f_blamedLabel, a_kinds, a_operands, a_hasParent, a_inProgram, a_nodeType, a_siteTargets, a_siteCoercions, a_walkNode, a_walkStep, a_contextType, a_labels, a_draft, a_cellNext, a_cellTag, a_cellData, a_cellCoercion, a_closureNode, a_closureEnv, a_frameNode, a_frameStage, a_frameEnv, a_framePending, a_frameData, a_frameCoercion) (g_capacity, g_fuel, g_count, g_state, g_wrongKind, g_wrongNode, g_program, g_used, g_blamed, g_resType, g_vTag, g_vVal, g_vLay, g_todo, g_todoEnv, g_closures, g_bindings, g_layers, g_depth, b_kinds, b_ops, b_parent, b_types, b_cNode, b_cEnv, b_bTag, b_bVal, b_bLay, b_bNext, b_lSource, b_lTarget, b_lLabel, b_lInner, b_frNode, b_frEnv, b_frPhase, b_frVal, b_frLay) := I
  have ho := gr_R_o I'
  subst ho
  refine br_c (fun z => br_t z ⟨?_, I⟩) (fun z => br_f z ⟨rfl, I⟩)
  obtain ⟨mn, mf, cnt, root, comp, sp, G, hB, hP, hD, _⟩ := gr_R_D I' z
  exact (gr_Dv hD).2.2.1
theorem i_vc_blame {k : Nat} {u : SX} {v : SY} (I : i_Rel k u v) (hk : k + 5 ≤ 2562) : wpX_blame (fun r => wpY_blame (fun r' => r' = r ∧ i_Rel (k + 5) u v) v) u := by
  obtain ⟨f_maxNodes, f_maxFuel, f_nodeCount, f_outcome, f_programRoot, f_faultKind, f_faultNode, f_walkTop, f_contextDepth, f_coercionCount, f_compiledCount, f_cellCount, f_closureCount, f_top, f_running, f_atNode, f_atEnv, f_valueTag, f_valueData, f_valueCoercion, f_typeOfResult, f_fuelSpent, f_blamedLabel, a_kinds, a_operands, a_hasParent, a_inProgram, a_nodeType, a_siteTargets, a_siteCoercions, a_walkNode, a_walkStep, a_contextType, a_labels, a_draft, a_cellNext, a_cellTag, a_cellData, a_cellCoercion, a_closureNode, a_closureEnv, a_frameNode, a_frameStage, a_frameEnv, a_framePending, a_frameData, a_frameCoercion⟩ := u
  obtain ⟨g_capacity, g_fuel, g_count, g_state, g_wrongKind, g_wrongNode, g_program, g_used, g_blamed, g_resType, g_vTag, g_vVal, g_vLay, g_todo, g_todoEnv, g_closures, g_bindings, g_layers, g_depth, b_kinds, b_ops, b_parent, b_types, b_cNode, b_cEnv, b_bTag, b_bVal, b_bLay, b_bNext, b_lSource, b_lTarget, b_lLabel, b_lInner, b_frNode, b_frEnv, b_frPhase, b_frVal, b_frLay⟩ := v
  have I' : gr_R (f_maxNodes, f_maxFuel, f_nodeCount, f_outcome, f_programRoot, f_faultKind, f_faultNode, f_walkTop, f_contextDepth, f_coercionCount, f_compiledCount, f_cellCount, f_closureCount, f_top, f_running, f_atNode, f_atEnv, f_valueTag, f_valueData, f_valueCoercion, f_typeOfResult, f_fuelSpent, f_blamedLabel, a_kinds, a_operands, a_hasParent, a_inProgram, a_nodeType, a_siteTargets, a_siteCoercions, a_walkNode, a_walkStep, a_contextType, a_labels, a_draft, a_cellNext, a_cellTag, a_cellData, a_cellCoercion, a_closureNode, a_closureEnv, a_frameNode, a_frameStage, a_frameEnv, a_framePending, a_frameData, a_frameCoercion) (g_capacity, g_fuel, g_count, g_state, g_wrongKind, g_wrongNode, g_program, g_used, g_blamed, g_resType, g_vTag, g_vVal, g_vLay, g_todo, g_todoEnv, g_closures, g_bindings, g_layers, g_depth, b_kinds, b_ops, b_parent, b_types, b_cNode, b_cEnv, b_bTag, b_bVal, b_bLay, b_bNext, b_lSource, b_lTarget, b_lLabel, b_lInner, b_frNode, b_frEnv, b_frPhase, b_frVal, b_frLay) := I
  have ho := gr_R_o I'
  subst ho
  exact br_c (fun z => br_t z ⟨(gr_R_4 I' z).symm, I⟩) (fun z => br_f z ⟨rfl, I⟩)
theorem i_vc_argumentBlame {k : Nat} {u : SX} {v : SY} (I : i_Rel k u v) (hk : k + 5 ≤ 2562) (v1 : Int32) : wpX_argumentBlame (fun r => wpY_argumentBlame (fun r' => r' = r ∧ i_Rel (k + 5) u v) v v1) u v1 := by
  obtain ⟨f_maxNodes, f_maxFuel, f_nodeCount, f_outcome, f_programRoot, f_faultKind, f_faultNode, f_walkTop, f_contextDepth, f_coercionCount, f_compiledCount, f_cellCount, f_closureCount, f_top, f_running, f_atNode, f_atEnv, f_valueTag, f_valueData, f_valueCoercion, f_typeOfResult, f_fuelSpent, f_blamedLabel, a_kinds, a_operands, a_hasParent, a_inProgram, a_nodeType, a_siteTargets, a_siteCoercions, a_walkNode, a_walkStep, a_contextType, a_labels, a_draft, a_cellNext, a_cellTag, a_cellData, a_cellCoercion, a_closureNode, a_closureEnv, a_frameNode, a_frameStage, a_frameEnv, a_framePending, a_frameData, a_frameCoercion⟩ := u
  obtain ⟨g_capacity, g_fuel, g_count, g_state, g_wrongKind, g_wrongNode, g_program, g_used, g_blamed, g_resType, g_vTag, g_vVal, g_vLay, g_todo, g_todoEnv, g_closures, g_bindings, g_layers, g_depth, b_kinds, b_ops, b_parent, b_types, b_cNode, b_cEnv, b_bTag, b_bVal, b_bLay, b_bNext, b_lSource, b_lTarget, b_lLabel, b_lInner, b_frNode, b_frEnv, b_frPhase, b_frVal, b_frLay⟩ := v
  have I' : gr_R (f_maxNodes, f_maxFuel, f_nodeCount, f_outcome, f_programRoot, f_faultKind, f_faultNode, f_walkTop, f_contextDepth, f_coercionCount, f_compiledCount, f_cellCount, f_closureCount, f_top, f_running, f_atNode, f_atEnv, f_valueTag, f_valueData, f_valueCoercion, f_typeOfResult, f_fuelSpent, f_blamedLabel, a_kinds, a_operands, a_hasParent, a_inProgram, a_nodeType, a_siteTargets, a_siteCoercions, a_walkNode, a_walkStep, a_contextType, a_labels, a_draft, a_cellNext, a_cellTag, a_cellData, a_cellCoercion, a_closureNode, a_closureEnv, a_frameNode, a_frameStage, a_frameEnv, a_framePending, a_frameData, a_frameCoercion) (g_capacity, g_fuel, g_count, g_state, g_wrongKind, g_wrongNode, g_program, g_used, g_blamed, g_resType, g_vTag, g_vVal, g_vLay, g_todo, g_todoEnv, g_closures, g_bindings, g_layers, g_depth, b_kinds, b_ops, b_parent, b_types, b_cNode, b_cEnv, b_bTag, b_bVal, b_bLay, b_bNext, b_lSource, b_lTarget, b_lLabel, b_lInner, b_frNode, b_frEnv, b_frPhase, b_frVal, b_frLay) := I
  have ho := gr_R_o I'
  subst ho
  refine br_c (fun z => ?_) (fun z => br_f z ⟨rfl, I⟩)
  obtain ⟨mn, mf, cnt, root, comp, sp, G, hB, hP, hD, hs, _⟩ := gr_R_D I' z
  obtain ⟨e1, e2, e3, e4⟩ := gr_Dv hD
  obtain ⟨b1, b2, b3, _⟩ := id hB
  obtain ⟨_, _, _, _, _, _, _, p8, _⟩ := id hP
  obtain ⟨cc, nb, eT, nc, cm, nl, lw, g, w, d1, d2, d3, d4, d5, d6, d7, d8, d9, d10, d11, d12, d13, d14, d15, d16, d17, d18, d19⟩ := hD
  refine br_c (fun z3 => ?_) (fun z3 => br_t z (br_f (by rw [← e1]; exact z3) ⟨rfl, I⟩))
  have z3' : g_vTag = 3 := by rw [← e1]; exact z3
  refine br_c (fun y => br_t z (br_t z3' (br_t y ⟨rfl, I⟩))) (fun y => br_c (fun y2 => ?_) (fun y2 => br_t z (br_t z3' (br_f y (br_f y2 ⟨rfl, I⟩)))))
  have hv0 : ¬ v1 < 0 := fun q => y (Int32.lt_trans q (by decide))
  obtain ⟨j, hj, rfl⟩ := nI_of2 (M := 3) (n := 3) (by decide) hv0 y2
  have hj1 : 1 ≤ j := Classical.byContradiction (fun q => y (nI_lt (a := j) (b := 1) (by omega) (by decide)))
  have hg := d18.1
  have g3 : g = 3 := gc_inj (b := 3) (d15.symm.trans z3) (by omega) (by decide)
  obtain ⟨q, q1, q2, q3⟩ := d18.2.2.2 g3
  obtain ⟨c, c1, c2, c3⟩ := d19 g3
  subst d12 c1 d8
  refine gx_dom ?_
  refine gx_fits (fun hft => br_f (by decide) ?_) (fun hft => br_t rfl (br_t z (br_t z3' (br_f y (br_t y2 (gy_dom (gy_fits (fun h => absurd h (by rw [hft]; decide)) (fun _ => br_t rfl ⟨rfl, I⟩))))))))
  have ei : 9 * nI c + 2 + nI j = nI (9 * c + (2 + j)) := by rw [gc_9, gc_p2, nI_add]; exact congrArg nI (by omega)
  refine ⟨by rw [ei]; exact gc_in (by omega) (by decide), ?_⟩
  rw [ei, gc_cl (by omega)]
  refine br_t z (br_t z3' (br_f y (br_t y2 (gy_dom (gy_fits (fun _ => br_f (by decide) (gy_wayIn ⟨hj1, hj⟩ (by omega) d14.1 q2 ⟨?_, I⟩)) (fun h => absurd h (by rw [hft]; decide)))))))
  have := c3 (2 + j) (by omega) (by omega)
  rw [← this]
  rfl
theorem i_vc_resultBlame {k : Nat} {u : SX} {v : SY} (I : i_Rel k u v) (hk : k + 5 ≤ 2562) (v1 : Int32) : wpX_resultBlame (fun r => wpY_resultBlame (fun r' => r' = r ∧ i_Rel (k + 5) u v) v v1) u v1 := by
  obtain ⟨f_maxNodes, f_maxFuel, f_nodeCount, f_outcome, f_programRoot, f_faultKind, f_faultNode, f_walkTop, f_contextDepth, f_coercionCount, f_compiledCount, f_cellCount, f_closureCount, f_top, f_running, f_atNode, f_atEnv, f_valueTag, f_valueData, f_valueCoercion, f_typeOfResult, f_fuelSpent, f_blamedLabel, a_kinds, a_operands, a_hasParent, a_inProgram, a_nodeType, a_siteTargets, a_siteCoercions, a_walkNode, a_walkStep, a_contextType, a_labels, a_draft, a_cellNext, a_cellTag, a_cellData, a_cellCoercion, a_closureNode, a_closureEnv, a_frameNode, a_frameStage, a_frameEnv, a_framePending, a_frameData, a_frameCoercion⟩ := u
  obtain ⟨g_capacity, g_fuel, g_count, g_state, g_wrongKind, g_wrongNode, g_program, g_used, g_blamed, g_resType, g_vTag, g_vVal, g_vLay, g_todo, g_todoEnv, g_closures, g_bindings, g_layers, g_depth, b_kinds, b_ops, b_parent, b_types, b_cNode, b_cEnv, b_bTag, b_bVal, b_bLay, b_bNext, b_lSource, b_lTarget, b_lLabel, b_lInner, b_frNode, b_frEnv, b_frPhase, b_frVal, b_frLay⟩ := v
  have I' : gr_R (f_maxNodes, f_maxFuel, f_nodeCount, f_outcome, f_programRoot, f_faultKind, f_faultNode, f_walkTop, f_contextDepth, f_coercionCount, f_compiledCount, f_cellCount, f_closureCount, f_top, f_running, f_atNode, f_atEnv, f_valueTag, f_valueData, f_valueCoercion, f_typeOfResult, f_fuelSpent, f_blamedLabel, a_kinds, a_operands, a_hasParent, a_inProgram, a_nodeType, a_siteTargets, a_siteCoercions, a_walkNode, a_walkStep, a_contextType, a_labels, a_draft, a_cellNext, a_cellTag, a_cellData, a_cellCoercion, a_closureNode, a_closureEnv, a_frameNode, a_frameStage, a_frameEnv, a_framePending, a_frameData, a_frameCoercion) (g_capacity, g_fuel, g_count, g_state, g_wrongKind, g_wrongNode, g_program, g_used, g_blamed, g_resType, g_vTag, g_vVal, g_vLay, g_todo, g_todoEnv, g_closures, g_bindings, g_layers, g_depth, b_kinds, b_ops, b_parent, b_types, b_cNode, b_cEnv, b_bTag, b_bVal, b_bLay, b_bNext, b_lSource, b_lTarget, b_lLabel, b_lInner, b_frNode, b_frEnv, b_frPhase, b_frVal, b_frLay) := I
  have ho := gr_R_o I'
  subst ho
  refine br_c (fun z => ?_) (fun z => br_f z ⟨rfl, I⟩)
  obtain ⟨mn, mf, cnt, root, comp, sp, G, hB, hP, hD, hs, _⟩ := gr_R_D I' z
  obtain ⟨e1, e2, e3, e4⟩ := gr_Dv hD
  obtain ⟨b1, b2, b3, b4, b5, b6, b7, b8, b9, b10, b11, b12, hTR⟩ := id hB
  obtain ⟨_, _, _, _, _, _, _, p8, _⟩ := id hP
  obtain ⟨cc, nb, eT, nc, cm, nl, lw, g, w, d1, d2, d3, d4, d5, d6, d7, d8, d9, d10, d11, d12, d13, d14, d15, d16, d17, d18, d19⟩ := hD
  refine br_c (fun z3 => ?_) (fun z3 => br_t z (br_f (by rw [← e1]; exact z3) ⟨rfl, I⟩))
  have z3' : g_vTag = 3 := by rw [← e1]; exact z3
  refine br_c (fun y => br_t z (br_t z3' (br_t y ⟨rfl, I⟩))) (fun y => br_c (fun y2 => ?_) (fun y2 => br_t z (br_t z3' (br_f y (br_f y2 ⟨rfl, I⟩)))))
  have hv0 : ¬ v1 < 0 := fun q => y (Int32.lt_trans q (by decide))
  obtain ⟨j, hj, rfl⟩ := nI_of2 (M := 3) (n := 3) (by decide) hv0 y2
  have hj1 : 1 ≤ j := Classical.byContradiction (fun q => y (nI_lt (a := j) (b := 1) (by omega) (by decide)))
  have hg := d18.1
  have g3 : g = 3 := gc_inj (b := 3) (d15.symm.trans z3) (by omega) (by decide)
  obtain ⟨q, q1, q2, q3⟩ := d18.2.2.2 g3
  obtain ⟨c, c1, c2, c3⟩ := d19 g3
  obtain ⟨q', _, r2, m, m1, _, _, m2, m3⟩ := e4 z3
  obtain rfl : q' = q := gc_inj (r2.symm.trans q1) (by omega) (by have := q3.1; omega)
  have hq := q3.1
  subst c1 d8 d17 q1
  have eN : a_closureNode (nI q').toNatClampNeg = nI m := by rw [gc_cl (by omega)]; exact m2
  have eN' : b_cNode (nI q').toNatClampNeg = nI m := by rw [gc_cl (by omega)]; exact m3
  have em : 3 * nI m + 1 = nI (3 * m + 1) := by rw [gc_3, nI_1]
  have ei : 9 * nI c + 5 + nI j = nI (9 * c + (5 + j)) := by rw [gc_9, gc_p5, nI_add]; exact congrArg nI (by omega)
  refine ⟨gc_in (by omega) (by decide), ?_⟩
  rw [eN, em, gc_cl (by omega)]
  refine ⟨gc_in (by omega) (by decide), nm_e ?_⟩
  have Y : ∀ P : Int32 → Prop, (gc_ft (nI j) (a_operands (3 * m + 1)) = true → P (w (5 + j))) → (gc_ft (nI j) (a_operands (3 * m + 1)) = false → P (-9999)) → wpY_resultBlame P (g_capacity, g_fuel, g_count, f_outcome, g_wrongKind, g_wrongNode, g_program, g_used, g_blamed, g_resType, g_vTag, nI q', g_vLay, g_todo, g_todoEnv, g_closures, g_bindings, nI nl, g_depth, b_kinds, b_ops, b_parent, b_types, b_cNode, b_cEnv, b_bTag, b_bVal, b_bLay, b_bNext, b_lSource, b_lTarget, b_lLabel, b_lInner, b_frNode, b_frEnv, b_frPhase, b_frVal, b_frLay) (nI j) := by
    intro P h1 h0
    refine br_t z (br_t z3' (br_f y (br_t y2 ⟨gc_in (by omega) (by decide), ?_⟩)))
    rw [eN', em, gc_cl (by omega), b12]
    refine ⟨gc_in (by omega) (by decide), gy_fits (fun hft => br_f (by decide) (gy_wayOut ⟨hj1, hj⟩ (by omega) d14.1 q2 (h1 hft))) (fun hft => br_t rfl (h0 hft))⟩
  refine gx_fits (fun hft => br_f (by decide) ?_) (fun hft => br_t rfl (Y _ (fun h => absurd h (by rw [hft]; decide)) (fun _ => ⟨rfl, I⟩)))
  refine ⟨by rw [ei]; exact gc_in (by omega) (by decide), ?_⟩
  rw [ei, gc_cl (by omega)]
  exact Y _ (fun _ => ⟨(c3 (5 + j) (by omega) (by omega)).symm, I⟩) (fun h => absurd h (by rw [hft]; decide))
end
