section
/-! part 01: base rows. pk_ rows are of kit/rows (PURE-ROWS) -/
theorem pk_us {f : Nat → Int32} {k : Nat} {x : Int32} : upd f k x k = x := if_pos rfl
theorem pk_un {f : Nat → Int32} {k j : Nat} {x : Int32} (h : j ≠ k) : upd f k x j = f j := if_neg h
theorem pk_sub {a b : Nat} (h : b ≤ a) : nI a - nI b = nI (a - b) := by
  obtain ⟨c, rfl⟩ : ∃ c, a = c + b := ⟨a - b, by omega⟩
  rw [← nI_add, Int32.add_sub_cancel, Nat.add_sub_cancel]
theorem pk_mul (a b : Nat) : nI a * nI b = nI (a * b) := (Int32.ofNat_mul a b).symm
theorem pk_div {a d : Nat} (ha : a < 2 ^ 31) (h0 : 0 < d) (hd : d < 2 ^ 31) : nI a / nI d = nI (a / d) := by
  apply Int32.toInt_inj.mp
  rw [lg_idiv_nonneg (by rw [nI_toInt ha]; omega) (by rw [nI_toInt hd]; omega), nI_toInt ha, nI_toInt hd, nI_toInt (Nat.lt_of_le_of_lt (Nat.div_le_self a d) ha)]
  first | rfl | exact (Int.natCast_ediv _ _).symm
theorem pk_rem {a d : Nat} (ha : a < 2 ^ 31) (h0 : 0 < d) (hd : d < 2 ^ 31) : nI a - nI a / nI d * nI d = nI (a % d) := by
  rw [pk_div ha h0 hd, pk_mul, pk_sub (Nat.div_mul_le_self a d)]
  exact congrArg nI (by have := Nat.div_add_mod' a d; omega)
theorem pk_sub_toInt {a b : Nat} (ha : a < 2 ^ 30) (hb : b < 2 ^ 30) : (nI a - nI b).toInt = (a : Int) - b := by
  rw [Int32.toInt_sub, nI_toInt (by omega), nI_toInt (by omega)]
  exact Int.bmod_eq_of_le (by omega) (by omega)
theorem pk_le {x y : Int32} {A B : Prop} (a b : Nat) (f : a ≤ b → A) (g : b < a → B) (hx : x = nI a := by rfl) (hy : y = nI b := by rfl) (ha : a < 2 ^ 31 := by omega) (hb : b < 2 ^ 31 := by omega) : (x ≤ y → A) ∧ (¬ x ≤ y → B) := by
  subst hx hy
  rw [nI_leI ha hb]
  exact ⟨f, fun z => g (by omega)⟩
theorem pk_lt {x y : Int32} {A B : Prop} (a b : Nat) (f : a < b → A) (g : b ≤ a → B) (hx : x = nI a := by rfl) (hy : y = nI b := by rfl) (ha : a < 2 ^ 31 := by omega) (hb : b < 2 ^ 31 := by omega) : (x < y → A) ∧ (¬ x < y → B) := by
  subst hx hy
  rw [nI_ltI ha hb]
  exact ⟨f, fun z => g (by omega)⟩
theorem pk_eq {x y : Int32} {A B : Prop} (a b : Nat) (f : a = b → A) (g : a ≠ b → B) (hx : x = nI a := by rfl) (hy : y = nI b := by rfl) (ha : a < 2 ^ 31 := by omega) (hb : b < 2 ^ 31 := by omega) : (x = y → A) ∧ (¬ x = y → B) := by
  subst hx hy
  rw [nI_eq ha hb]
  exact ⟨f, g⟩
/-! own rows -/
theorem cn_cl {t : Nat} (h : t < 81) : (nI t).toNatClampNeg = t := nI_clamp (by omega)
theorem cn_in {t : Nat} (h : t < 81) : vp_in (nI t) 81 := vp_in_nI h (by decide)
theorem cn_ti {t : Nat} (h : t < 1000) : (nI t).toInt = (t : Int) := nI_toInt (by omega)
theorem cn_inj {a b : Nat} (ha : a < 1000) (hb : b < 1000) (h : nI a = nI b) : a = b := (nI_eq (by omega) (by omega)).mp h
theorem cn_L0 : (0 : Int32).toInt = 0 := by decide
theorem cn_L1 : (1 : Int32).toInt = 1 := by decide
theorem cn_Lm1 : (-1 : Int32).toInt = -1 := by decide
theorem cn_Lm4 : (-4 : Int32).toInt = -4 := by decide
theorem cn_L9 : (9 : Int32).toInt = 9 := by decide
theorem cn_LF : (100000 : Int32).toInt = 100000 := by decide
theorem cn_LF1 : (100001 : Int32).toInt = 100001 := by decide
theorem cn_LM : (1000000 : Int32).toInt = 1000000 := by decide
theorem cn_m1 : (-1 : Int32) < 0 := by decide
theorem cn_le {x y : Int32} {A B : Prop} (f : x.toInt ≤ y.toInt → A) (g : y.toInt < x.toInt → B) : (x ≤ y → A) ∧ (¬ x ≤ y → B) := by
  rw [Int32.le_iff_toInt_le]
  exact ⟨f, fun h => g (by omega)⟩
theorem cn_lt {x y : Int32} {A B : Prop} (f : x.toInt < y.toInt → A) (g : y.toInt ≤ x.toInt → B) : (x < y → A) ∧ (¬ x < y → B) := by
  rw [Int32.lt_iff_toInt_lt]
  exact ⟨f, fun h => g (by omega)⟩
theorem cn_eq {x y : Int32} {A B : Prop} (f : x.toInt = y.toInt → A) (g : x.toInt ≠ y.toInt → B) : (x = y → A) ∧ (¬ x = y → B) := by
  rw [← Int32.toInt_inj]
  exact ⟨f, g⟩
theorem cn_add {x y : Int32} (h1 : -2147483648 ≤ x.toInt + y.toInt) (h2 : x.toInt + y.toInt < 2147483648) : (x + y).toInt = x.toInt + y.toInt := by
  rw [Int32.toInt_add]
  exact Int.bmod_eq_of_le (by omega) (by omega)
theorem cn_add1 {x : Int32} (h1 : -1000 ≤ x.toInt) (h2 : x.toInt < 1000) : (x + 1).toInt = x.toInt + 1 := by
  have h := cn_add (x := x) (y := 1) (by rw [cn_L1]; omega) (by rw [cn_L1]; omega)
  rw [h, cn_L1]
theorem cn_b0 : vp_nar .boolean 0 = 0 := rfl
theorem cn_b1 : vp_nar .boolean 1 = 1 := rfl
theorem cn_updself (f : Nat → Int32) (k : Nat) (x : Int32) (h : f k = x) : upd f k x = f := by
  funext j
  unfold upd
  by_cases e : j = k
  · rw [if_pos e, e, h]
  · rw [if_neg e]
/-! the four moves -/
def cn_mv (c d : Nat) : Nat := if d = 0 then (if 9 ≤ c then c - 9 else 99) else if d = 1 then (if c % 9 = 8 then 99 else c + 1) else if d = 2 then (if c + 9 < 81 then c + 9 else 99) else (if c % 9 = 0 then 99 else c - 1)
def cn_N (c t : Nat) : Prop := t < 81 ∧ ∃ d, d < 4 ∧ cn_mv c d = t
theorem cn_mv_sym : ∀ c, c < 81 → ∀ d, d < 4 → cn_mv c d < 81 → cn_mv (cn_mv c d) ((d + 2) % 4) = c ∧ cn_mv c d ≠ c := by decide +kernel
theorem cn_N_sym {c t : Nat} (hc : c < 81) (h : cn_N c t) : cn_N t c := by
  obtain ⟨h1, d, hd, rfl⟩ := h
  exact ⟨hc, (d + 2) % 4, by omega, (cn_mv_sym c hc d hd h1).1⟩
theorem cn_N_ne {c t : Nat} (hc : c < 81) (h : cn_N c t) : t ≠ c := by
  obtain ⟨h1, d, hd, rfl⟩ := h
  exact (cn_mv_sym c hc d hd h1).2
theorem cn_moved {post : Int32 → Prop} {u : SX} {c d : Nat} (hc : c < 81) (hd : d < 4) (h1 : cn_mv c d < 81 → post (nI (cn_mv c d))) (h2 : ¬ cn_mv c d < 81 → post (-1)) : wpX_moved post u (nI c) (nI d) := by
  obtain ⟨a1, a2, a3, a4, a5, a6, a7, a8, a9, a10, a11⟩ := u
  unfold wpX_moved
  dsimp only
  refine ⟨by decide, nm_r (e' := nI (c % 9)) (pk_rem (d := 9) (by omega) (by decide) (by decide)) ?_⟩
  refine pk_eq d 0 (fun e => ?_) (fun e0 => ?_)
  · subst e
    refine pk_le 9 c (fun e => ?_) (fun e => ?_)
    · have hm : cn_mv c 0 = c - 9 := by unfold cn_mv; (repeat' split) <;> omega
      rw [hm] at h1
      have q : nI c - 9 = nI (c - 9) := pk_sub (b := 9) e
      rw [q]; exact h1 (by omega)
    · have hm : cn_mv c 0 = 99 := by unfold cn_mv; (repeat' split) <;> omega
      exact h2 (by omega)
  · refine pk_eq d 1 (fun e => ?_) (fun e1 => ?_)
    · subst e
      refine pk_eq (c % 9) 8 (fun e => ?_) (fun e => ?_)
      · have hm : cn_mv c 1 = 99 := by unfold cn_mv; (repeat' split) <;> omega
        exact h2 (by omega)
      · have hm : cn_mv c 1 = c + 1 := by unfold cn_mv; (repeat' split) <;> omega
        rw [hm] at h1
        rw [nI_1 c]; exact h1 (by omega)
    · refine pk_eq d 2 (fun e => ?_) (fun e2 => ?_)
      · subst e
        have q : nI c + 9 = nI (c + 9) := nI_add c 9
        rw [q]
        refine pk_lt (c + 9) 81 (fun e => ?_) (fun e => ?_)
        · have hm : cn_mv c 2 = c + 9 := by unfold cn_mv; (repeat' split) <;> omega
          rw [hm] at h1
          exact h1 (by omega)
        · have hm : cn_mv c 2 = 99 := by unfold cn_mv; (repeat' split) <;> omega
          exact h2 (by omega)
      · refine pk_eq (c % 9) 0 (fun e => ?_) (fun e => ?_)
        · have hm : cn_mv c d = 99 := by unfold cn_mv; (repeat' split) <;> omega
          exact h2 (by omega)
        · have hm : cn_mv c d = c - 1 := by unfold cn_mv; (repeat' split) <;> omega
          rw [hm] at h1
          have q : nI c - 1 = nI (c - 1) := pk_sub (b := 1) (by omega)
          rw [q]; exact h1 (by omega)
theorem cn_nbr {post : Int32 → Prop} {u : SY} {c d : Nat} (hc : c < 81) (hd : d < 4) (h1 : cn_mv c d < 81 → post (nI (cn_mv c d))) (h2 : ¬ cn_mv c d < 81 → post (-4)) : wpY_neighbour post u (nI c) (nI d) := by
  obtain ⟨a1, a2, a3, a4, a5, a6, a7⟩ := u
  unfold wpY_neighbour
  dsimp only
  have er : nI c - nI c / 9 * 9 = nI (c % 9) := pk_rem (d := 9) (by omega) (by decide) (by decide)
  rw [er]
  refine pk_eq d 0 (fun e => ?_) (fun e0 => ?_)
  · subst e
    refine pk_le 9 c (fun e => ?_) (fun e => ?_)
    · have hm : cn_mv c 0 = c - 9 := by unfold cn_mv; (repeat' split) <;> omega
      rw [hm] at h1
      have q : nI c - 9 = nI (c - 9) := pk_sub (b := 9) e
      rw [q]; exact h1 (by omega)
    · have hm : cn_mv c 0 = 99 := by unfold cn_mv; (repeat' split) <;> omega
      exact h2 (by omega)
  · refine pk_eq d 1 (fun e => ⟨by decide, ?_⟩) (fun e1 => ?_)
    · subst e
      refine pk_eq (c % 9) 8 (fun e => ?_) (fun e => ?_)
      · have hm : cn_mv c 1 = 99 := by unfold cn_mv; (repeat' split) <;> omega
        exact h2 (by omega)
      · have hm : cn_mv c 1 = c + 1 := by unfold cn_mv; (repeat' split) <;> omega
        rw [hm] at h1
        rw [nI_1 c]; exact h1 (by omega)
    · refine pk_eq d 2 (fun e => ?_) (fun e2 => ⟨by decide, ?_⟩)
      · subst e
        have q : nI c + 9 = nI (c + 9) := nI_add c 9
        rw [q]
        refine pk_le c 71 (fun e => ?_) (fun e => ?_)
        · have hm : cn_mv c 2 = c + 9 := by unfold cn_mv; (repeat' split) <;> omega
          rw [hm] at h1
          exact h1 (by omega)
        · have hm : cn_mv c 2 = 99 := by unfold cn_mv; (repeat' split) <;> omega
          exact h2 (by omega)
      · refine pk_eq (c % 9) 0 (fun e => ?_) (fun e => ?_)
        · have hm : cn_mv c d = 99 := by unfold cn_mv; (repeat' split) <;> omega
          exact h2 (by omega)
        · have hm : cn_mv c d = c - 1 := by unfold cn_mv; (repeat' split) <;> omega
          rw [hm] at h1
          have q : nI c - 1 = nI (c - 1) := pk_sub (b := 1) (by omega)
          rw [q]; exact h1 (by omega)
/-! the cells around; the distance -/
def cn_ar (c k : Nat) : Nat := if 1 ≤ c % 9 + k % 3 ∧ c % 9 + k % 3 ≤ 9 ∧ 1 ≤ c / 9 + k / 3 ∧ c / 9 + k / 3 ≤ 9 then (c / 9 + k / 3 - 1) * 9 + (c % 9 + k % 3 - 1) else 99
def cn_D (a b : Nat) (n : Int) : Prop := ((a % 9 : Nat) : Int) ≤ ((b % 9 : Nat) : Int) + n ∧ ((b % 9 : Nat) : Int) ≤ ((a % 9 : Nat) : Int) + n ∧ ((a / 9 : Nat) : Int) ≤ ((b / 9 : Nat) : Int) + n ∧ ((b / 9 : Nat) : Int) ≤ ((a / 9 : Nat) : Int) + n
theorem cn_around {post : Int32 → Prop} {u : SX} {c k : Nat} (hc : c < 81) (hk : k < 9) (h1 : cn_ar c k < 81 → post (nI (cn_ar c k))) (h2 : ¬ cn_ar c k < 81 → post (-1)) : wpX_around post u (nI c) (nI k) := by
  obtain ⟨a1, a2, a3, a4, a5, a6, a7, a8, a9, a10, a11⟩ := u
  unfold wpX_around
  dsimp only
  have e1 : nI c - nI c / 9 * 9 = nI (c % 9) := pk_rem (d := 9) (by omega) (by decide) (by decide)
  have e2 : nI k - nI k / 3 * 3 = nI (k % 3) := pk_rem (d := 3) (by omega) (by decide) (by decide)
  have e3 : nI c / 9 = nI (c / 9) := pk_div (d := 9) (by omega) (by decide) (by decide)
  have e4 : nI k / 3 = nI (k / 3) := pk_div (d := 3) (by omega) (by decide) (by decide)
  refine ⟨by decide, by decide, fun x ex => ⟨by decide, by decide, fun y ey => ?_⟩⟩
  rw [e1, e2, nI_add] at ex
  rw [e3, e4, nI_add] at ey
  have hx : x.toInt = ((c % 9 + k % 3 : Nat) : Int) - 1 := by rw [ex]; exact pk_sub_toInt (b := 1) (by omega) (by decide)
  have hy : y.toInt = ((c / 9 + k / 3 : Nat) : Int) - 1 := by rw [ey]; exact pk_sub_toInt (b := 1) (by omega) (by decide)
  refine cn_lt (fun h => ?_) (fun h => ?_)
  · rw [hx, cn_L0] at h
    have hm : cn_ar c k = 99 := by unfold cn_ar; (repeat' split) <;> omega
    exact h2 (by omega)
  rw [hx, cn_L0] at h
  refine cn_le (fun h9 => ?_) (fun h9 => ?_)
  · rw [hx, cn_L9] at h9
    have hm : cn_ar c k = 99 := by unfold cn_ar; (repeat' split) <;> omega
    exact h2 (by omega)
  rw [hx, cn_L9] at h9
  refine cn_lt (fun g => ?_) (fun g => ?_)
  · rw [hy, cn_L0] at g
    have hm : cn_ar c k = 99 := by unfold cn_ar; (repeat' split) <;> omega
    exact h2 (by omega)
  rw [hy, cn_L0] at g
  refine cn_lt (fun g9 => ?_) (fun g9 => ?_)
  · rw [hy, cn_L9] at g9
    have hm : cn_ar c k = (c / 9 + k / 3 - 1) * 9 + (c % 9 + k % 3 - 1) := by unfold cn_ar; (repeat' split) <;> omega
    have ex' : x = nI (c % 9 + k % 3 - 1) := by rw [ex]; exact pk_sub (b := 1) (by omega)
    have ey' : y = nI (c / 9 + k / 3 - 1) := by rw [ey]; exact pk_sub (b := 1) (by omega)
    have q : y * 9 + x = nI (cn_ar c k) := by
      rw [hm, ← nI_add, ← pk_mul, ex', ey']
      rfl
    rw [q]; exact h1 (by omega)
  · rw [hy, cn_L9] at g9
    have hm : cn_ar c k = 99 := by unfold cn_ar; (repeat' split) <;> omega
    exact h2 (by omega)
theorem cn_ar_D {c k : Nat} (hc : c < 81) (hk : k < 9) (h : cn_ar c k < 81) : cn_D c (cn_ar c k) 1 := by
  unfold cn_ar at h ⊢
  unfold cn_D
  by_cases q : 1 ≤ c % 9 + k % 3 ∧ c % 9 + k % 3 ≤ 9 ∧ 1 ≤ c / 9 + k / 3 ∧ c / 9 + k / 3 ≤ 9
  · rw [if_pos q]
    refine ⟨?_, ?_, ?_, ?_⟩ <;> omega
  · rw [if_neg q] at h
    omega
theorem cn_D_ar {c t : Nat} (hc : c < 81) (ht : t < 81) (h : cn_D c t 1) : ∃ k, k < 9 ∧ cn_ar c k = t := by
  unfold cn_D at h
  obtain ⟨h1, h2, h3, h4⟩ := h
  refine ⟨(t % 9 + 1 - c % 9) + 3 * (t / 9 + 1 - c / 9), by omega, ?_⟩
  have e1 : ((t % 9 + 1 - c % 9) + 3 * (t / 9 + 1 - c / 9)) % 3 = t % 9 + 1 - c % 9 := by omega
  have e2 : ((t % 9 + 1 - c % 9) + 3 * (t / 9 + 1 - c / 9)) / 3 = t / 9 + 1 - c / 9 := by omega
  unfold cn_ar
  rw [e1, e2, if_pos (by omega)]
  omega
theorem cn_D_self (a : Nat) : cn_D a a 0 := by unfold cn_D; omega
theorem cn_D_zero {a b : Nat} (h : cn_D a b 0) : a = b := by unfold cn_D at h; omega
theorem cn_D_tri {a b c : Nat} {n : Int} (h : cn_D a b n) (h1 : cn_D a c 1) : cn_D c b (n + 1) := by
  unfold cn_D at h h1 ⊢
  obtain ⟨p1, p2, p3, p4⟩ := h
  obtain ⟨q1, q2, q3, q4⟩ := h1
  refine ⟨?_, ?_, ?_, ?_⟩ <;> omega
theorem cn_D_mono {a b : Nat} {n m : Int} (h : cn_D a b n) (h1 : n ≤ m) : cn_D a b m := by
  unfold cn_D at h ⊢
  obtain ⟨p1, p2, p3, p4⟩ := h
  refine ⟨?_, ?_, ?_, ?_⟩ <;> omega
/-- one coordinate's step towards b -/
def cn_to (a b : Nat) : Nat := if a < b then a + 1 else if b < a then a - 1 else a
theorem cn_D_step {a b : Nat} {n : Int} (ha : a < 81) (hb : b < 81) (h : cn_D a b (n + 1)) (hn : 0 ≤ n) : ∃ c, c < 81 ∧ cn_D c a 1 ∧ cn_D c b n := by
  have ex : cn_to (a % 9) (b % 9) < 9 := by unfold cn_to; (repeat' split) <;> omega
  have ey : cn_to (a / 9) (b / 9) < 9 := by unfold cn_to; (repeat' split) <;> omega
  have e1 : (cn_to (a / 9) (b / 9) * 9 + cn_to (a % 9) (b % 9)) % 9 = cn_to (a % 9) (b % 9) := by omega
  have e2 : (cn_to (a / 9) (b / 9) * 9 + cn_to (a % 9) (b % 9)) / 9 = cn_to (a / 9) (b / 9) := by omega
  refine ⟨cn_to (a / 9) (b / 9) * 9 + cn_to (a % 9) (b % 9), by omega, ?_, ?_⟩
  · unfold cn_D
    rw [e1, e2]
    unfold cn_to
    refine ⟨?_, ?_, ?_, ?_⟩ <;> (repeat' split) <;> omega
  · unfold cn_D at h ⊢
    obtain ⟨p1, p2, p3, p4⟩ := h
    rw [e1, e2]
    unfold cn_to
    refine ⟨?_, ?_, ?_, ?_⟩ <;> (repeat' split) <;> omega
/-! bad, isCell -/
theorem cn_cell (v : Int32) : (∃ c, c < 81 ∧ v = nI c) ∨ ¬ vp_in v 81 := by
  by_cases h : vp_in v 81
  · exact Or.inl (vp_in_of h (by decide))
  · exact Or.inr h
theorem cn_bad1 {post : Int32 → Prop} {u : SX} {v : Int32} (hv : ¬ vp_in v 81) (h : post 1) : wpX_bad post u v := by
  obtain ⟨a1, a2, a3, a4, a5, a6, a7, a8, a9, a10, a11⟩ := u
  rw [vp_in_iff] at hv
  refine cn_lt (fun _ => h) (fun h0 => cn_lt (fun h1 => ?_) (fun _ => h))
  rw [cn_L0] at h0
  have e : (81 : Int32).toInt = 81 := by decide
  rw [e] at h1
  exact absurd ⟨h0, h1⟩ hv
theorem cn_bad0 {post : Int32 → Prop} {u : SX} {c : Nat} (hc : c < 81) (h : post 0) : wpX_bad post u (nI c) := by
  obtain ⟨a1, a2, a3, a4, a5, a6, a7, a8, a9, a10, a11⟩ := u
  exact br_f (nI_pos (by omega)) (br_t (nI_lt (b := 81) hc (by decide)) h)
theorem cn_isC0 {post : Int32 → Prop} {u : SY} {v : Int32} (hv : ¬ vp_in v 81) (h : post 0) : wpY_isCell post u v := by
  obtain ⟨a1, a2, a3, a4, a5, a6, a7⟩ := u
  rw [vp_in_iff] at hv
  refine cn_lt (fun _ => h) (fun h0 => cn_lt (fun _ => h) (fun h1 => ?_))
  rw [cn_L0] at h0
  have e : (80 : Int32).toInt = 80 := by decide
  rw [e] at h1
  exact absurd ⟨h0, show v.toInt < ((81 : Nat) : Int) by omega⟩ hv
theorem cn_isC1 {post : Int32 → Prop} {u : SY} {c : Nat} (hc : c < 81) (h : post 1) : wpY_isCell post u (nI c) := by
  obtain ⟨a1, a2, a3, a4, a5, a6, a7⟩ := u
  exact br_f (nI_pos (by omega)) (br_f (nI_nlt (a := 80) (b := c) (by omega) (by decide)) h)
end
section
/-! part 02: the clearance (passOn, lower, raiseFrom, change, put) -/
def cn_PI (c : Nat) (cl0 ne0 fr0 : Nat → Int32) (k : Nat) (cl ne fr : Nat → Int32) : Prop :=
  (∀ t, (cl t = cl0 t ∧ ne t = ne0 t ∧ fr t = fr0 t) ∨ (t < 81 ∧ cn_D c t 1 ∧ (cl0 c).toInt + 1 < (cl0 t).toInt ∧ (cl t).toInt = (cl0 c).toInt + 1 ∧ ne t = ne0 c ∧ fr t = 1)) ∧
  (∀ j, j < k → cn_ar c j < 81 → (cl (cn_ar c j)).toInt ≤ (cl0 c).toInt + 1)
theorem cn_PI0 {c : Nat} {cl0 ne0 fr0 : Nat → Int32} : cn_PI c cl0 ne0 fr0 0 cl0 ne0 fr0 := ⟨fun t => Or.inl ⟨rfl, rfl, rfl⟩, fun j h => absurd h (Nat.not_lt_zero j)⟩
theorem cn_PI_c {c k : Nat} {cl0 ne0 fr0 cl ne fr : Nat → Int32} (h : cn_PI c cl0 ne0 fr0 k cl ne fr) : cl c = cl0 c ∧ ne c = ne0 c := by
  rcases h.1 c with q | q
  · exact ⟨q.1, q.2.1⟩
  · have := q.2.2.1
    omega
theorem cn_PI_skip {c k : Nat} {cl0 ne0 fr0 cl ne fr : Nat → Int32} (h : cn_PI c cl0 ne0 fr0 k cl ne fr) (hs : cn_ar c k < 81 → (cl (cn_ar c k)).toInt ≤ (cl0 c).toInt + 1) : cn_PI c cl0 ne0 fr0 (k + 1) cl ne fr := by
  refine ⟨h.1, fun j hj hh => ?_⟩
  by_cases e : j = k
  · subst e; exact hs hh
  · exact h.2 j (by omega) hh
theorem cn_PI_put {c k : Nat} {cl0 ne0 fr0 cl ne fr : Nat → Int32} {x : Int32} (h : cn_PI c cl0 ne0 fr0 k cl ne fr) (hc : c < 81) (hk : k < 9) (ht : cn_ar c k < 81) (hg : (cl0 c).toInt + 1 < (cl (cn_ar c k)).toInt) (hx : x.toInt = (cl0 c).toInt + 1) : cn_PI c cl0 ne0 fr0 (k + 1) (upd cl (cn_ar c k) x) (upd ne (cn_ar c k) (ne c)) (upd fr (cn_ar c k) 1) := by
  have hD := cn_ar_D hc hk ht
  have hcc := cn_PI_c h
  obtain ⟨h1, h2⟩ := h
  generalize hT : cn_ar c k = T at *
  refine ⟨fun t => ?_, fun j hj hh => ?_⟩
  · by_cases e : t = T
    · subst e
      right
      rw [pk_us, pk_us, pk_us]
      refine ⟨ht, hD, ?_, hx, hcc.2, rfl⟩
      rcases h1 t with q | q
      · rw [← q.1]; exact hg
      · exact q.2.2.1
    · rw [pk_un e, pk_un e, pk_un e]
      exact h1 t
  · by_cases e : cn_ar c j = T
    · rw [e, pk_us, hx]; omega
    · rw [pk_un e]
      refine h2 j ?_ hh
      have : j ≠ k := fun q => e (by rw [q]; exact hT)
      omega
section
variable {post : SX → Prop} {ra ga ro go : Int32} {bl co kn du : Nat → Int32}
theorem cn_passOn_lp {c : Nat} {cl0 ne0 fr0 : Nat → Int32} (hc : c < 81) (hr : 0 ≤ (cl0 c).toInt ∧ (cl0 c).toInt ≤ 9) (K : ∀ cl ne fr, cn_PI c cl0 ne0 fr0 9 cl ne fr → post (ra, ga, ro, go, bl, cl, ne, fr, co, kn, du)) : ∀ m k cl ne fr, k + m = 9 → cn_PI c cl0 ne0 fr0 k cl ne fr → wX_passOn_2 post (nI c) ra ga ro go (m + 1) (nI k) bl cl ne fr co kn du := by
  intro m
  induction m with
  | zero =>
    intro k cl ne fr hk I
    obtain rfl : k = 9 := by omega
    exact br_t (nI_le (a := 9) (b := 9) (by omega) (by decide)) (K _ _ _ I)
  | succ m ih =>
    intro k cl ne fr hk I
    have hk9 : k < 9 := by omega
    have hcc := cn_PI_c I
    refine br_f (nI_ge (b := 9) hk9 (by decide)) ?_
    refine cn_around hc hk9 (fun ht => ?_) (fun ht => ?_)
    · refine br_f (nI_pos (by omega)) ⟨cn_in ht, cn_in hc, ?_⟩
      rw [cn_cl ht, cn_cl hc]
      have hx : (cl c + 1).toInt = (cl0 c).toInt + 1 := by rw [hcc.1]; exact cn_add1 (by omega) (by omega)
      refine cn_le (fun h => ?_) (fun h => ?_)
      · rw [hx] at h
        exact nm_r (nI_1 k) (ih (k + 1) cl ne fr (by omega) (cn_PI_skip I (fun _ => h)))
      · rw [hx] at h
        exact ⟨cn_in hc, cn_in ht, nm_e ⟨cn_in hc, cn_in ht, nm_e ⟨cn_in ht, nm_e (nm_r (nI_1 k) (ih (k + 1) _ _ _ (by omega) (cn_PI_put I hc hk9 ht h hx)))⟩⟩⟩
    · exact br_t cn_m1 (nm_r (nI_1 k) (ih (k + 1) cl ne fr (by omega) (cn_PI_skip I (fun q => absurd q ht))))
theorem cn_passOn {c : Nat} {cl ne fr : Nat → Int32} (hc : c < 81) (hr : 0 ≤ (cl c).toInt ∧ (cl c).toInt ≤ 9) (K : ∀ cl' ne' fr', cn_PI c cl ne fr 9 cl' ne' fr' → post (ra, ga, ro, go, bl, cl', ne', fr', co, kn, du)) : wpX_passOn post (ra, ga, ro, go, bl, cl, ne, fr, co, kn, du) (nI c) :=
  ⟨10, cn_passOn_lp hc hr K 9 0 cl ne fr rfl cn_PI0⟩
end
/-! the invariants of lower -/
def cn_A (bl cl ne : Nat → Int32) : Prop := ∀ k, k < 81 → (ne k = -1 ∧ (cl k).toInt = 9) ∨ ∃ b, b < 81 ∧ ne k = nI b ∧ bl b ≠ 0 ∧ 0 ≤ (cl k).toInt ∧ (cl k).toInt ≤ 8 ∧ cn_D k b (cl k).toInt
def cn_B (bl cl : Nat → Int32) : Prop := ∀ b, b < 81 → bl b ≠ 0 → (cl b).toInt = 0
def cn_C (cl ne fr : Nat → Int32) : Prop := ∀ c t, c < 81 → t < 81 → cn_D c t 1 → fr c = 0 → 0 ≤ (ne c).toInt → (cl t).toInt ≤ (cl c).toInt + 1
def cn_E (cl ne fr : Nat → Int32) (d p : Nat) : Prop := ∀ k, k < 81 → fr k ≠ 0 → 0 ≤ (ne k).toInt ∧ (d : Int) ≤ (cl k).toInt ∧ (k < p → (d : Int) + 1 ≤ (cl k).toInt)
def cn_Low (bl cl ne fr : Nat → Int32) (d p : Nat) : Prop := cn_A bl cl ne ∧ cn_B bl cl ∧ cn_C cl ne fr ∧ cn_E cl ne fr d p
def cn_Clr (bl cl ne fr : Nat → Int32) : Prop := cn_A bl cl ne ∧ cn_B bl cl ∧ cn_C cl ne fr ∧ ∀ k, k < 81 → fr k = 0
theorem cn_A_rng {bl cl ne : Nat → Int32} (h : cn_A bl cl ne) {k : Nat} (hk : k < 81) : 0 ≤ (cl k).toInt ∧ (cl k).toInt ≤ 9 := by
  rcases h k hk with q | ⟨b, _, _, _, q⟩
  · omega
  · omega
theorem cn_A_ne {bl cl ne : Nat → Int32} (h : cn_A bl cl ne) {k : Nat} (hk : k < 81) (hn : 0 ≤ (ne k).toInt) : ∃ b, b < 81 ∧ ne k = nI b ∧ bl b ≠ 0 ∧ 0 ≤ (cl k).toInt ∧ (cl k).toInt ≤ 8 ∧ cn_D k b (cl k).toInt := by
  rcases h k hk with q | q
  · rw [q.1, cn_Lm1] at hn; omega
  · exact q
/-- one fresh cell has passed on -/
theorem cn_Low_pass {bl cl ne fr cl' ne' fr' : Nat → Int32} {d p : Nat} (hp : p < 81) (h : cn_Low bl cl ne fr d p) (hf : fr p ≠ 0) (hd : (cl p).toInt = (d : Int)) (P : cn_PI p cl ne (upd fr p 0) 9 cl' ne' fr') : cn_Low bl cl' ne' fr' d (p + 1) := by
  obtain ⟨hA, hB, hC, hE⟩ := h
  obtain ⟨P1, P2⟩ := P
  have hnp := (hE p hp hf).1
  obtain ⟨b, hb, en, hbb, q0, q8, hDb⟩ := cn_A_ne hA hp hnp
  have hdec : ∀ t, (cl' t).toInt ≤ (cl t).toInt := by
    intro t
    rcases P1 t with q | q
    · rw [q.1]; omega
    · have := q.2.2.1; have := q.2.2.2.1; omega
  refine ⟨fun k hk => ?_, fun k hk hbk => ?_, fun c t hc ht hD hf0 hn => ?_, fun k hk hfk => ?_⟩
  · rcases P1 k with q | q
    · rw [q.1, q.2.1]; exact hA k hk
    · right
      have hr := cn_A_rng hA hk
      refine ⟨b, hb, by rw [q.2.2.2.2.1]; exact en, hbb, by omega, by omega, ?_⟩
      rw [q.2.2.2.1]
      exact cn_D_tri hDb q.2.1
  · have e := hB k hk hbk
    rcases P1 k with q | q
    · rw [q.1]; exact e
    · omega
  · rcases P1 c with q | q
    · by_cases e : c = p
      · subst e
        obtain ⟨j, hj, ej⟩ := cn_D_ar hc ht hD
        have z := P2 j hj (by rw [ej]; exact ht)
        rw [ej] at z
        rw [q.1]; exact z
      · have f0 : fr c = 0 := by rw [q.2.2, pk_un e] at hf0; exact hf0
        rw [q.2.1] at hn
        have z := hC c t hc ht hD f0 hn
        have := hdec t
        rw [q.1]; omega
    · rw [q.2.2.2.2.2] at hf0
      exact absurd hf0 (by decide)
  · rcases P1 k with q | q
    · by_cases e : k = p
      · subst e
        rw [q.2.2, pk_us] at hfk
        exact absurd rfl hfk
      · rw [q.2.2, pk_un e] at hfk
        have z := hE k hk hfk
        rw [q.1, q.2.1]
        exact ⟨z.1, z.2.1, fun hk1 => z.2.2 (by omega)⟩
    · rw [q.2.2.2.2.1]
      exact ⟨hnp, by omega, fun _ => by omega⟩
theorem cn_Low_skip {bl cl ne fr : Nat → Int32} {d p : Nat} (h : cn_Low bl cl ne fr d p) (hs : fr p = 0 ∨ (cl p).toInt ≠ (d : Int)) : cn_Low bl cl ne fr d (p + 1) := by
  obtain ⟨hA, hB, hC, hE⟩ := h
  refine ⟨hA, hB, hC, fun k hk hf => ?_⟩
  have z := hE k hk hf
  refine ⟨z.1, z.2.1, fun hk1 => ?_⟩
  by_cases e : k = p
  · subst e
    rcases hs with q | q
    · exact absurd q hf
    · have := z.2.1; omega
  · exact z.2.2 (by omega)
theorem cn_Low_next {bl cl ne fr : Nat → Int32} {d : Nat} (h : cn_Low bl cl ne fr d 81) : cn_Low bl cl ne fr (d + 1) 0 := by
  obtain ⟨hA, hB, hC, hE⟩ := h
  refine ⟨hA, hB, hC, fun k hk hf => ?_⟩
  have z := hE k hk hf
  exact ⟨z.1, by have := z.2.2 hk; omega, fun q => absurd q (Nat.not_lt_zero k)⟩
theorem cn_Low_end {bl cl ne fr : Nat → Int32} (h : cn_Low bl cl ne fr 9 0) : cn_Clr bl cl ne fr := by
  obtain ⟨hA, hB, hC, hE⟩ := h
  refine ⟨hA, hB, hC, fun k hk => ?_⟩
  by_cases f : fr k = 0
  · exact f
  · have z := hE k hk f
    obtain ⟨b, _, _, _, _, q8, _⟩ := cn_A_ne hA hk z.1
    have := z.2.1
    omega
section
variable {post : SX → Prop} {ra ga ro go : Int32} {bl co kn du : Nat → Int32}
theorem cn_lower_in {J2 : Int32 → Int32 → Int32 → Int32 → Int32 → (Nat → Int32) → (Nat → Int32) → (Nat → Int32) → (Nat → Int32) → (Nat → Int32) → (Nat → Int32) → (Nat → Int32) → Prop} {d : Nat} (hd : d < 9) (K : ∀ cl ne fr, cn_Low bl cl ne fr (d + 1) 0 → J2 (nI (d + 1)) ra ga ro go bl cl ne fr co kn du) : ∀ m p cl ne fr, p + m = 81 → cn_Low bl cl ne fr d p → wX_lower_10 post J2 (nI d) (m + 1) (nI p) ra ga ro go bl cl ne fr co kn du := by
  intro m
  induction m with
  | zero =>
    intro p cl ne fr hp I
    obtain rfl : p = 81 := by omega
    exact br_t (nI_le (a := 81) (b := 81) (by omega) (by decide)) (nm_r (nI_1 d) (K _ _ _ (cn_Low_next I)))
  | succ m ih =>
    intro p cl ne fr hp I
    have hp1 : p < 81 := by omega
    refine br_f (nI_ge (b := 81) hp1 (by decide)) ⟨cn_in hp1, ?_⟩
    rw [cn_cl hp1]
    refine br_c (fun f0 => nm_r (nI_1 p) (ih (p + 1) cl ne fr (by omega) (cn_Low_skip I (Or.inl f0)))) (fun f0 => ⟨cn_in hp1, ?_⟩)
    refine cn_eq (fun e => ⟨cn_in hp1, nm_e ?_⟩) (fun e => ?_)
    · rw [cn_ti (by omega)] at e
      refine cn_passOn hp1 (cn_A_rng I.1 hp1) (fun cl' ne' fr' P => ?_)
      exact nm_r (nI_1 p) (ih (p + 1) cl' ne' fr' (by omega) (cn_Low_pass hp1 I f0 e P))
    · rw [cn_ti (by omega)] at e
      exact nm_r (nI_1 p) (ih (p + 1) cl ne fr (by omega) (cn_Low_skip I (Or.inr e)))
theorem cn_lower_out (K : ∀ cl ne fr, cn_Clr bl cl ne fr → post (ra, ga, ro, go, bl, cl, ne, fr, co, kn, du)) : ∀ m d cl ne fr, d + m = 9 → cn_Low bl cl ne fr d 0 → wX_lower_2 post (m + 1) (nI d) ra ga ro go bl cl ne fr co kn du := by
  intro m
  induction m with
  | zero =>
    intro d cl ne fr hd I
    obtain rfl : d = 9 := by omega
    exact br_t (nI_le (a := 9) (b := 9) (by omega) (by decide)) (K _ _ _ (cn_Low_end I))
  | succ m ih =>
    intro d cl ne fr hd I
    have hd1 : d < 9 := by omega
    exact br_f (nI_ge (b := 9) hd1 (by decide)) ⟨82, cn_lower_in hd1 (fun cl' ne' fr' I' => ih (d + 1) cl' ne' fr' (by omega) I') 81 0 cl ne fr rfl I⟩
theorem cn_lower {cl ne fr : Nat → Int32} (h : cn_Low bl cl ne fr 0 0) (K : ∀ cl' ne' fr', cn_Clr bl cl' ne' fr' → post (ra, ga, ro, go, bl, cl', ne', fr', co, kn, du)) : wpX_lower post (ra, ga, ro, go, bl, cl, ne, fr, co, kn, du) :=
  ⟨10, cn_lower_out K 9 0 cl ne fr rfl h⟩
end
/-! besideRaised -/
section
variable {post : Int32 → Prop} {ra ga ro go : Int32} {bl cl ne fr co kn du : Nat → Int32}
theorem cn_bes1 {c : Nat} (hc : c < 81) (hp : post 1) : ∀ m k, k + m = 9 → wX_besideRaised_4 post (nI c) ra ga ro go bl cl ne fr co kn du (m + 1) 1 (nI k) := by
  intro m
  induction m with
  | zero =>
    intro k hk
    obtain rfl : k = 9 := by omega
    exact br_t (nI_le (a := 9) (b := 9) (by omega) (by decide)) ⟨rfl, hp⟩
  | succ m ih =>
    intro k hk
    have hk9 : k < 9 := by omega
    refine br_f (nI_ge (b := 9) hk9 (by decide)) ?_
    exact cn_around hc hk9 (fun _ => br_f (by decide) (nm_r (nI_1 k) (ih (k + 1) (by omega)))) (fun _ => br_f (by decide) (nm_r (nI_1 k) (ih (k + 1) (by omega))))
theorem cn_bes0 {c : Nat} (hc : c < 81) (K1 : (∃ t, t < 81 ∧ cn_D c t 1 ∧ (ne t).toInt < 0) → post 1) (K0 : (∀ t, t < 81 → cn_D c t 1 → 0 ≤ (ne t).toInt) → post 0) : ∀ m k, k + m = 9 → (∀ j, j < k → cn_ar c j < 81 → 0 ≤ (ne (cn_ar c j)).toInt) → wX_besideRaised_4 post (nI c) ra ga ro go bl cl ne fr co kn du (m + 1) 0 (nI k) := by
  intro m
  induction m with
  | zero =>
    intro k hk I
    obtain rfl : k = 9 := by omega
    refine br_t (nI_le (a := 9) (b := 9) (by omega) (by decide)) ⟨rfl, K0 (fun t ht hD => ?_)⟩
    obtain ⟨j, hj, ej⟩ := cn_D_ar hc ht hD
    have z := I j hj (by rw [ej]; exact ht)
    rw [ej] at z
    exact z
  | succ m ih =>
    intro k hk I
    have hk9 : k < 9 := by omega
    refine br_f (nI_ge (b := 9) hk9 (by decide)) ?_
    refine cn_around hc hk9 (fun ht => br_t rfl (br_f (nI_pos (by omega)) ⟨cn_in ht, ?_⟩)) (fun ht => br_t rfl (br_t cn_m1 (nm_r (nI_1 k) (ih (k + 1) (by omega) ?_))))
    · rw [cn_cl ht]
      refine cn_le (fun h => ?_) (fun h => ?_)
      · rw [cn_L0] at h
        refine nm_r (nI_1 k) (ih (k + 1) (by omega) (fun j hj hh => ?_))
        by_cases e : j = k
        · subst e; exact h
        · exact I j (by omega) hh
      · rw [cn_L0] at h
        exact nm_r (nI_1 k) (cn_bes1 hc (K1 ⟨_, ht, cn_ar_D hc hk9 ht, h⟩) m (k + 1) (by omega))
    · intro j hj hh
      by_cases e : j = k
      · subst e; exact absurd hh ht
      · exact I j (by omega) hh
theorem cn_beside {c : Nat} (hc : c < 81) (K1 : (∃ t, t < 81 ∧ cn_D c t 1 ∧ (ne t).toInt < 0) → post 1) (K0 : (∀ t, t < 81 → cn_D c t 1 → 0 ≤ (ne t).toInt) → post 0) : wpX_besideRaised post (ra, ga, ro, go, bl, cl, ne, fr, co, kn, du) (nI c) :=
  ⟨10, cn_bes0 hc K1 K0 9 0 rfl (fun j h => absurd h (Nat.not_lt_zero j))⟩
end
/-! raiseFrom -/
def cn_R1 (c : Nat) (cl0 ne0 : Nat → Int32) (k : Nat) (cl ne : Nat → Int32) : Prop := ∀ t, (t < k ∧ ne0 t = nI c ∧ cl t = 9 ∧ ne t = -1) ∨ ((t < k → ne0 t ≠ nI c) ∧ cl t = cl0 t ∧ ne t = ne0 t)
def cn_R2 (ne : Nat → Int32) (k : Nat) (fr : Nat → Int32) : Prop := ∀ t, t < k → (fr t = 1 ∧ 0 ≤ (ne t).toInt) ∨ (fr t = 0 ∧ (0 ≤ (ne t).toInt → ∀ s, s < 81 → cn_D t s 1 → 0 ≤ (ne s).toInt))
theorem cn_R2_put {ne fr : Nat → Int32} {k : Nat} {x : Int32} (h : cn_R2 ne k fr) (hx : (x = 1 ∧ 0 ≤ (ne k).toInt) ∨ (x = 0 ∧ (0 ≤ (ne k).toInt → ∀ s, s < 81 → cn_D k s 1 → 0 ≤ (ne s).toInt))) : cn_R2 ne (k + 1) (upd fr k x) := by
  intro t ht
  by_cases e : t = k
  · subst e
    rw [pk_us]; exact hx
  · rw [pk_un e]; exact h t (by omega)
theorem cn_R1_put {c k : Nat} {cl0 ne0 cl ne : Nat → Int32} (h : cn_R1 c cl0 ne0 k cl ne) (hk : ne k = nI c) : cn_R1 c cl0 ne0 (k + 1) (upd cl k 9) (upd ne k (-1)) := by
  intro t
  by_cases e : t = k
  · subst e
    rw [pk_us, pk_us]
    rcases h t with q | q
    · exact Or.inl ⟨by omega, q.2.1, rfl, rfl⟩
    · exact Or.inl ⟨by omega, by rw [← q.2.2]; exact hk, rfl, rfl⟩
  · rw [pk_un e, pk_un e]
    rcases h t with q | q
    · exact Or.inl ⟨by omega, q.2⟩
    · exact Or.inr ⟨fun z => q.1 (by omega), q.2⟩
theorem cn_R1_skip {c k : Nat} {cl0 ne0 cl ne : Nat → Int32} (h : cn_R1 c cl0 ne0 k cl ne) (hk : ne k ≠ nI c) : cn_R1 c cl0 ne0 (k + 1) cl ne := by
  intro t
  rcases h t with q | q
  · exact Or.inl ⟨by omega, q.2⟩
  · refine Or.inr ⟨fun z => ?_, q.2⟩
    by_cases e : t = k
    · subst e
      rw [← q.2.2]; exact hk
    · exact q.1 (by omega)
section
variable {post : SX → Prop} {ra ga ro go : Int32} {bl co kn du : Nat → Int32}
theorem cn_raise2 {cl ne : Nat → Int32} (K : ∀ fr, cn_R2 ne 81 fr → post (ra, ga, ro, go, bl, cl, ne, fr, co, kn, du)) : ∀ m k fr, k + m = 81 → cn_R2 ne k fr → wX_raiseFrom_41 post ra ga ro go (m + 1) (nI k) bl cl ne fr co kn du := by
  intro m
  induction m with
  | zero =>
    intro k fr hk I
    obtain rfl : k = 81 := by omega
    exact br_t (nI_le (a := 81) (b := 81) (by omega) (by decide)) (K _ I)
  | succ m ih =>
    intro k fr hk I
    have hk1 : k < 81 := by omega
    refine br_f (nI_ge (b := 81) hk1 (by decide)) ⟨cn_in hk1, ?_⟩
    rw [cn_cl hk1]
    refine cn_lt (fun h => ⟨cn_in hk1, nm_e (nm_r (nI_1 k) (ih (k + 1) _ (by omega) (cn_R2_put I (Or.inr ⟨rfl, ?_⟩))))⟩) (fun h => ?_)
    · rw [cn_L0] at h
      intro z; omega
    · rw [cn_L0] at h
      refine cn_beside hk1 (fun E => br_f (by decide) ⟨cn_in hk1, nm_e (nm_r (nI_1 k) (ih (k + 1) _ (by omega) (cn_R2_put I (Or.inl ⟨rfl, h⟩))))⟩) (fun E => br_t rfl ⟨cn_in hk1, nm_e (nm_r (nI_1 k) (ih (k + 1) _ (by omega) (cn_R2_put I (Or.inr ⟨rfl, fun _ => E⟩))))⟩)
theorem cn_raise1 {c : Nat} {cl0 ne0 fr : Nat → Int32} (K : ∀ cl ne fr', cn_R1 c cl0 ne0 81 cl ne → cn_R2 ne 81 fr' → post (ra, ga, ro, go, bl, cl, ne, fr', co, kn, du)) : ∀ m k cl ne, k + m = 81 → cn_R1 c cl0 ne0 k cl ne → wX_raiseFrom_2 post (nI c) ra ga ro go (m + 1) (nI k) bl cl ne fr co kn du := by
  intro m
  induction m with
  | zero =>
    intro k cl ne hk I
    obtain rfl : k = 81 := by omega
    exact br_t (nI_le (a := 81) (b := 81) (by omega) (by decide)) ⟨82, cn_raise2 (fun fr' I2 => K cl ne fr' I I2) 81 0 fr rfl (fun t h => absurd h (Nat.not_lt_zero t))⟩
  | succ m ih =>
    intro k cl ne hk I
    have hk1 : k < 81 := by omega
    refine br_f (nI_ge (b := 81) hk1 (by decide)) ⟨cn_in hk1, ?_⟩
    rw [cn_cl hk1]
    exact br_c (fun h => ⟨cn_in hk1, nm_e ⟨cn_in hk1, nm_e (nm_r (nI_1 k) (ih (k + 1) _ _ (by omega) (cn_R1_put I h)))⟩⟩) (fun h => nm_r (nI_1 k) (ih (k + 1) _ _ (by omega) (cn_R1_skip I h)))
theorem cn_raiseFrom {c : Nat} {cl ne fr : Nat → Int32} (K : ∀ cl' ne' fr', cn_R1 c cl ne 81 cl' ne' → cn_R2 ne' 81 fr' → post (ra, ga, ro, go, bl, cl', ne', fr', co, kn, du)) : wpX_raiseFrom post (ra, ga, ro, go, bl, cl, ne, fr, co, kn, du) (nI c) :=
  ⟨82, cn_raise1 K 81 0 cl ne rfl (fun t => Or.inr ⟨fun h => absurd h (Nat.not_lt_zero t), rfl, rfl⟩)⟩
theorem cn_off {c : Nat} {cl ne fr cl' ne' fr' : Nat → Int32} (hc : c < 81) (h : cn_Clr bl cl ne fr) (H1 : cn_R1 c cl ne 81 cl' ne') (H2 : cn_R2 ne' 81 fr') : cn_Low (upd bl c 0) cl' ne' fr' 0 0 := by
  obtain ⟨hA, hB, hC, hF⟩ := h
  have e9 : (9 : Int32).toInt = 9 := cn_L9
  have hneg : ∀ k, ne' k = -1 → 0 ≤ (ne' k).toInt → False := by
    intro k e z
    rw [e, cn_Lm1] at z
    omega
  have hA' : cn_A (upd bl c 0) cl' ne' := by
    intro k hk
    rcases H1 k with q | q
    · exact Or.inl ⟨q.2.2.2, by rw [q.2.2.1]; exact e9⟩
    · rw [q.2.1, q.2.2]
      rcases hA k hk with z | ⟨b, hb, en, hbb, r⟩
      · exact Or.inl z
      · refine Or.inr ⟨b, hb, en, ?_, r⟩
        have : b ≠ c := fun e => q.1 hk (by rw [en, e])
        rw [pk_un this]; exact hbb
  refine ⟨hA', fun b hb hbb => ?_, fun k t hk ht hD f0 hn => ?_, fun k hk hf => ?_⟩
  · have hbc : b ≠ c := by
      intro e
      rw [e, pk_us] at hbb
      exact hbb rfl
    rw [pk_un hbc] at hbb
    have z := hB b hb hbb
    rcases H1 b with q | q
    · rcases hA b hb with w | ⟨b', hb', en, _, _, _, hD⟩
      · omega
      · rw [q.2.1] at en
        have e : c = b' := cn_inj (by omega) (by omega) en
        rw [z] at hD
        exact absurd ((cn_D_zero hD).trans e.symm) hbc
    · rw [q.2.1]; exact z
  · rcases H2 k hk with w | w
    · rw [w.1] at f0
      exact absurd f0 (by decide)
    · have ht' := w.2 hn t ht hD
      rcases H1 k with q | q
      · exact (hneg k q.2.2.2 hn).elim
      · rcases H1 t with p | p
        · exact (hneg t p.2.2.2 ht').elim
        · rw [q.2.1, p.2.1]
          rw [q.2.2] at hn
          exact hC k t hk ht hD (hF k hk) hn
  · rcases H2 k hk with w | w
    · have r := cn_A_rng hA' hk
      exact ⟨w.2, by omega, fun z => absurd z (Nat.not_lt_zero k)⟩
    · exact absurd w.1 hf
theorem cn_on {c : Nat} {cl ne fr : Nat → Int32} (hc : c < 81) (h : cn_Clr bl cl ne fr) : cn_Low (upd bl c 1) (upd cl c 0) (upd ne c (nI c)) (upd fr c 1) 0 0 := by
  obtain ⟨hA, hB, hC, hF⟩ := h
  have hbl : ∀ b, bl b ≠ 0 → upd bl c 1 b ≠ 0 := by
    intro b hb
    by_cases e : b = c
    · rw [e, pk_us]; decide
    · rw [pk_un e]; exact hb
  refine ⟨fun k hk => ?_, fun b hb hbb => ?_, fun k t hk ht hD f0 hn => ?_, fun k hk hf => ?_⟩
  · by_cases e : k = c
    · subst e
      rw [pk_us, pk_us, cn_L0]
      exact Or.inr ⟨k, hk, rfl, by rw [pk_us]; decide, by omega, by omega, cn_D_self k⟩
    · rw [pk_un e, pk_un e]
      rcases hA k hk with z | ⟨b, hb, en, hbb, r⟩
      · exact Or.inl z
      · exact Or.inr ⟨b, hb, en, hbl b hbb, r⟩
  · by_cases e : b = c
    · rw [e, pk_us]; exact cn_L0
    · rw [pk_un e] at hbb ⊢
      exact hB b hb hbb
  · by_cases e : k = c
    · rw [e, pk_us] at f0
      exact absurd f0 (by decide)
    · rw [pk_un e] at f0 hn ⊢
      by_cases e2 : t = c
      · rw [e2, pk_us, cn_L0]
        have := (cn_A_rng hA hk).1
        omega
      · rw [pk_un e2]
        exact hC k t hk ht hD f0 hn
  · by_cases e : k = c
    · subst e
      rw [pk_us, pk_us, cn_L0, cn_ti (by omega)]
      exact ⟨by omega, by omega, fun z => absurd z (Nat.not_lt_zero k)⟩
    · rw [pk_un e] at hf
      exact absurd (hF k hk) hf
theorem cn_change {c : Nat} {p : Int32} {cl ne fr : Nat → Int32} (hc : c < 81) (hp : p = 0 ∨ p = 1) (h : cn_Clr bl cl ne fr) (K : ∀ cl' ne' fr', cn_Clr (upd bl c p) cl' ne' fr' → post (ra, ga, ro, go, upd bl c p, cl', ne', fr', co, kn, du)) : wpX_change post (ra, ga, ro, go, bl, cl, ne, fr, co, kn, du) (nI c) p := by
  unfold wpX_change
  dsimp only
  rw [cn_cl hc]
  rcases hp with rfl | rfl
  · refine ⟨cn_in hc, nm_e (br_t rfl (cn_raiseFrom (fun cl' ne' fr' H1 H2 => ?_)))⟩
    exact cn_lower (cn_off hc h H1 H2) K
  · refine ⟨cn_in hc, nm_e (br_f (by decide) ⟨cn_in hc, nm_e ⟨cn_in hc, nm_e ⟨cn_in hc, nm_e ?_⟩⟩⟩)⟩
    exact cn_lower (cn_on hc h) K
end
theorem cn_put {post : Int32 → SX → Prop} {ra ga ro go : Int32} {bl cl ne fr co kn du : Nat → Int32} {c : Nat} {p : Int32} (hc : c < 81) (hp : p = 0 ∨ p = 1) (h : cn_Clr bl cl ne fr) (K : ∀ cl' ne' fr', cn_Clr (upd bl c p) cl' ne' fr' → post (if bl c = p then 0 else 1) (ra, ga, ro, go, upd bl c p, cl', ne', fr', co, kn, du)) : wpX_put post (ra, ga, ro, go, bl, cl, ne, fr, co, kn, du) (nI c) p := by
  unfold wpX_put
  dsimp only
  rw [cn_cl hc]
  refine ⟨cn_in hc, br_c (fun e => ?_) (fun e => ?_)⟩
  · rw [if_pos e, cn_updself bl c p e] at K
    exact K cl ne fr h
  · rw [if_neg e] at K
    exact cn_change hc hp h K
/-! what clear says -/
theorem cn_Clr_le {bl cl ne fr : Nat → Int32} (h : cn_Clr bl cl ne fr) : ∀ n : Nat, ∀ k b, k < 81 → b < 81 → bl b ≠ 0 → cn_D k b (n : Int) → (cl k).toInt ≤ (n : Int) := by
  obtain ⟨hA, hB, hC, hF⟩ := h
  intro n
  induction n with
  | zero =>
    intro k b hk hb hbb hD
    have e := cn_D_zero hD
    subst e
    rw [hB k hk hbb]
    omega
  | succ n ih =>
    intro k b hk hb hbb hD
    obtain ⟨c, hc, h1, h2⟩ := cn_D_step hk hb (n := (n : Int)) hD (by omega)
    have z := ih c b hc hb hbb h2
    have r := (cn_A_rng hA hk).2
    rcases hA c hc with q | ⟨b', hb', en, _⟩
    · omega
    · have w := hC c k hc hk h1 (hF c hc) (by rw [en, cn_ti (by omega)]; omega)
      omega
theorem cn_Clr_at {bl cl ne fr : Nat → Int32} (h : cn_Clr bl cl ne fr) {k : Nat} (hk : k < 81) : (cl k).toInt = 9 ∨ ∃ b, b < 81 ∧ bl b ≠ 0 ∧ (cl k).toInt ≤ 8 ∧ cn_D k b (cl k).toInt := by
  rcases h.1 k hk with q | ⟨b, hb, en, hbb, _, q8, hD⟩
  · exact Or.inl q.2
  · exact Or.inr ⟨b, hb, hbb, q8, hD⟩
theorem cn_Clr_pos {bl cl ne fr : Nat → Int32} (h : cn_Clr bl cl ne fr) {k : Nat} (hk : k < 81) (hb : bl k = 0) : 1 ≤ (cl k).toInt ∧ (cl k).toInt ≤ 9 := by
  have r := cn_A_rng h.1 hk
  rcases cn_Clr_at h hk with q | ⟨b, hb', hbb, q8, hD⟩
  · omega
  · by_cases e : (cl k).toInt = 0
    · rw [e] at hD
      rw [← cn_D_zero hD] at hbb
      exact absurd hb hbb
    · omega
end
section
/-! part 03: what a cell's neighbours say (ask, askAround), recost -/
def cn_CoR (co : Nat → Int32) : Prop := ∀ t, t < 81 → (co t).toInt = -1 ∨ (1 ≤ (co t).toInt ∧ (co t).toInt ≤ 28)
def cn_KnR (kn : Nat → Int32) : Prop := ∀ t, t < 81 → 0 ≤ (kn t).toInt ∧ (kn t).toInt ≤ 100000
def cn_Due (g : Nat) (co kn : Nat → Int32) (c : Nat) (v : Int32) : Prop :=
  ((co c).toInt < 0 → v.toInt = 100000) ∧
  (0 ≤ (co c).toInt → c = g → v.toInt = 0) ∧
  (0 ≤ (co c).toInt → c ≠ g → v.toInt ≤ 100000 ∧ (∀ t, cn_N c t → 0 ≤ (co t).toInt → v.toInt ≤ (kn t).toInt + (co t).toInt) ∧ (v.toInt = 100000 ∨ ∃ t, cn_N c t ∧ 0 ≤ (co t).toInt ∧ v.toInt = (kn t).toInt + (co t).toInt))
def cn_DOK (g : Nat) (co kn du : Nat → Int32) : Prop := ∀ c, c < 81 → cn_Due g co kn c (du c)
theorem cn_Due_rng {g : Nat} {co kn : Nat → Int32} {c : Nat} {v : Int32} (hk : cn_KnR kn) (h : cn_Due g co kn c v) : 0 ≤ v.toInt ∧ v.toInt ≤ 100000 := by
  obtain ⟨h1, h2, h3⟩ := h
  by_cases a : (co c).toInt < 0
  · have := h1 a; omega
  · by_cases e : c = g
    · have := h2 (by omega) e; omega
    · obtain ⟨q1, q2, q3⟩ := h3 (by omega) e
      rcases q3 with q | ⟨t, hN, hco, q⟩
      · omega
      · have := hk t hN.1; omega
theorem cn_Due_congr {g : Nat} {co kn co' kn' : Nat → Int32} {c : Nat} {v : Int32} (hc : co' c = co c) (hn : ∀ t, cn_N c t → co' t = co t ∧ kn' t = kn t) (h : cn_Due g co kn c v) : cn_Due g co' kn' c v := by
  obtain ⟨h1, h2, h3⟩ := h
  unfold cn_Due
  rw [hc]
  refine ⟨h1, h2, fun a e => ?_⟩
  obtain ⟨q1, q2, q3⟩ := h3 a e
  refine ⟨q1, fun t hN ht => ?_, ?_⟩
  · have z := hn t hN
    rw [z.1] at ht ⊢
    rw [z.2]
    exact q2 t hN ht
  · rcases q3 with q | ⟨t, hN, ht, q⟩
    · exact Or.inl q
    · have z := hn t hN
      exact Or.inr ⟨t, hN, by rw [z.1]; exact ht, by rw [z.1, z.2]; exact q⟩
theorem cn_Due_goal {g g' : Nat} {co kn : Nat → Int32} {c : Nat} {v : Int32} (h1 : c ≠ g) (h2 : c ≠ g') (h : cn_Due g co kn c v) : cn_Due g' co kn c v :=
  ⟨h.1, fun _ e => absurd e h2, fun a _ => h.2.2 a h1⟩
theorem cn_DOK_upd {g : Nat} {co kn co' kn' du du' : Nat → Int32} {c : Nat} (hc : c < 81) (h : cn_DOK g co kn du) (ha : ∀ t, t ≠ c → co' t = co t ∧ kn' t = kn t) (hc' : cn_Due g co' kn' c (du' c)) (hn : ∀ t, cn_N c t → cn_Due g co' kn' t (du' t)) (hs : ∀ t, t ≠ c → ¬ cn_N c t → du' t = du t) : cn_DOK g co' kn' du' := by
  intro t ht
  by_cases e : t = c
  · rw [e]; exact hc'
  · by_cases N : cn_N c t
    · exact hn t N
    · rw [hs t e N]
      refine cn_Due_congr (ha t e).1 (fun s hs => ha s ?_) (h t ht)
      intro q
      rw [q] at hs
      exact N (cn_N_sym ht hs)
/-! ask -/
def cn_AI (co kn : Nat → Int32) (c d : Nat) (x : Int32) : Prop :=
  x.toInt ≤ 100000 ∧ 0 ≤ x.toInt ∧ (∀ j, j < d → cn_mv c j < 81 → 0 ≤ (co (cn_mv c j)).toInt → x.toInt ≤ (kn (cn_mv c j)).toInt + (co (cn_mv c j)).toInt) ∧ (x.toInt = 100000 ∨ ∃ t, cn_N c t ∧ 0 ≤ (co t).toInt ∧ x.toInt = (kn t).toInt + (co t).toInt)
theorem cn_AI_skip {co kn : Nat → Int32} {c d : Nat} {x : Int32} (h : cn_AI co kn c d x) (hs : cn_mv c d < 81 → 0 ≤ (co (cn_mv c d)).toInt → x.toInt ≤ (kn (cn_mv c d)).toInt + (co (cn_mv c d)).toInt) : cn_AI co kn c (d + 1) x := by
  refine ⟨h.1, h.2.1, fun j hj => ?_, h.2.2.2⟩
  by_cases e : j = d
  · rw [e]; exact hs
  · exact h.2.2.1 j (by omega)
theorem cn_AI_put {co kn : Nat → Int32} {c d : Nat} {x y : Int32} (hd : d < 4) (h : cn_AI co kn c d x) (hm : cn_mv c d < 81) (h0 : 0 ≤ (co (cn_mv c d)).toInt) (hk : 0 ≤ (kn (cn_mv c d)).toInt) (hy : y.toInt = (kn (cn_mv c d)).toInt + (co (cn_mv c d)).toInt) (hl : y.toInt < x.toInt) : cn_AI co kn c (d + 1) y := by
  have h1 := h.1
  refine ⟨by omega, by omega, fun j hj hm' h0' => ?_, Or.inr ⟨cn_mv c d, ⟨hm, d, hd, rfl⟩, h0, hy⟩⟩
  by_cases e : j = d
  · rw [e]; omega
  · have := h.2.2.1 j (by omega) hm' h0'
    omega
theorem cn_AI_end {g : Nat} {co kn : Nat → Int32} {c : Nat} {x : Int32} (h0 : 0 ≤ (co c).toInt) (hg : c ≠ g) (h : cn_AI co kn c 4 x) : cn_Due g co kn c x := by
  refine ⟨fun a => absurd a (by omega), fun _ e => absurd e hg, fun _ _ => ⟨h.1, fun t hN ht => ?_, h.2.2.2⟩⟩
  obtain ⟨h1, d, hd, rfl⟩ := hN
  exact h.2.2.1 d hd h1 ht
section
variable {post : SX → Prop} {ra ga ro : Int32} {g : Nat} {bl cl ne fr co kn du : Nat → Int32}
theorem cn_ask_lp {c : Nat} (hc : c < 81) (hg : g < 81) (hco : cn_CoR co) (hkn : cn_KnR kn) (h0 : 0 ≤ (co c).toInt) (K : ∀ v, cn_Due g co kn c v → post (ra, ga, ro, nI g, bl, cl, ne, fr, co, kn, upd du c v)) : ∀ m d x, d + m = 4 → cn_AI co kn c d x → wX_ask_14 post (nI c) ra ga ro (nI g) bl cl ne fr co kn du (m + 1) x (nI d) := by
  intro m
  induction m with
  | zero =>
    intro d x hd I
    obtain rfl : d = 4 := by omega
    refine br_t (nI_le (a := 4) (b := 4) (by omega) (by decide)) ?_
    rw [cn_cl hc]
    refine pk_eq c g (fun e => ⟨cn_in hc, nm_e (K 0 ?_)⟩) (fun e => ⟨cn_in hc, nm_e (K x (cn_AI_end h0 e I))⟩)
    exact ⟨fun a => absurd a (by omega), fun _ _ => cn_L0, fun _ q => absurd e q⟩
  | succ m ih =>
    intro d x hd I
    have hd4 : d < 4 := by omega
    refine br_f (nI_ge (b := 4) hd4 (by decide)) ?_
    refine cn_moved hc hd4 (fun ht => ?_) (fun ht => ?_)
    · refine br_f (nI_pos (by omega)) ⟨cn_in ht, ?_⟩
      rw [cn_cl ht]
      have hr := hco _ ht
      have hk := hkn _ ht
      have hx : (kn (cn_mv c d) + co (cn_mv c d)).toInt = (kn (cn_mv c d)).toInt + (co (cn_mv c d)).toInt := cn_add (by omega) (by omega)
      refine cn_lt (fun h => ?_) (fun h => ⟨cn_in ht, cn_in ht, ?_⟩)
      · rw [cn_L0] at h
        exact nm_r (nI_1 d) (ih (d + 1) x (by omega) (cn_AI_skip I (fun _ z => absurd z (by omega))))
      · rw [cn_L0] at h
        refine cn_le (fun q => ?_) (fun q => ⟨cn_in ht, cn_in ht, nm_e (nm_r (nI_1 d) (ih (d + 1) _ (by omega) (cn_AI_put hd4 I ht h hk.1 hx q)))⟩)
        rw [hx] at q
        exact nm_r (nI_1 d) (ih (d + 1) x (by omega) (cn_AI_skip I (fun _ _ => q)))
    · exact br_t cn_m1 (nm_r (nI_1 d) (ih (d + 1) x (by omega) (cn_AI_skip I (fun q => absurd q ht))))
theorem cn_ask {c : Nat} (hc : c < 81) (hg : g < 81) (hco : cn_CoR co) (hkn : cn_KnR kn) (K : ∀ v, cn_Due g co kn c v → post (ra, ga, ro, nI g, bl, cl, ne, fr, co, kn, upd du c v)) : wpX_ask post (ra, ga, ro, nI g, bl, cl, ne, fr, co, kn, du) (nI c) := by
  unfold wpX_ask
  dsimp only
  rw [cn_cl hc]
  refine ⟨cn_in hc, cn_lt (fun h => ⟨cn_in hc, nm_e (K 100000 ?_)⟩) (fun h => ?_)⟩
  · rw [cn_L0] at h
    exact ⟨fun _ => cn_LF, fun a => absurd a (by omega), fun a => absurd a (by omega)⟩
  · rw [cn_L0] at h
    exact ⟨5, cn_ask_lp hc hg hco hkn h K 4 0 100000 rfl ⟨by rw [cn_LF]; omega, by rw [cn_LF]; omega, fun j q => absurd q (Nat.not_lt_zero j), Or.inl cn_LF⟩⟩
end
/-! askAround -/
def cn_AA (g : Nat) (co kn : Nat → Int32) (c : Nat) (du0 : Nat → Int32) (d : Nat) (du : Nat → Int32) : Prop :=
  (∀ j, j < d → cn_mv c j < 81 → cn_Due g co kn (cn_mv c j) (du (cn_mv c j))) ∧ (∀ t, ¬ cn_N c t → du t = du0 t)
theorem cn_AA_skip {g : Nat} {co kn du0 du : Nat → Int32} {c d : Nat} (h : cn_AA g co kn c du0 d du) (hs : ¬ cn_mv c d < 81) : cn_AA g co kn c du0 (d + 1) du := by
  refine ⟨fun j hj hm => ?_, h.2⟩
  by_cases e : j = d
  · rw [e] at hm; exact absurd hm hs
  · exact h.1 j (by omega) hm
theorem cn_AA_put {g : Nat} {co kn du0 du : Nat → Int32} {c d : Nat} {v : Int32} (hd : d < 4) (h : cn_AA g co kn c du0 d du) (hm : cn_mv c d < 81) (hv : cn_Due g co kn (cn_mv c d) v) : cn_AA g co kn c du0 (d + 1) (upd du (cn_mv c d) v) := by
  refine ⟨fun j hj hm' => ?_, fun t hN => ?_⟩
  · by_cases e : cn_mv c j = cn_mv c d
    · rw [e, pk_us]; exact hv
    · rw [pk_un e]
      refine h.1 j ?_ hm'
      have : j ≠ d := fun q => e (by rw [q])
      omega
  · have e : t ≠ cn_mv c d := fun q => hN ⟨by rw [q]; exact hm, d, hd, q.symm⟩
    rw [pk_un e]; exact h.2 t hN
section
variable {post : SX → Prop} {ra ga ro : Int32} {g : Nat} {bl cl ne fr co kn : Nat → Int32}
theorem cn_askA_lp {c : Nat} {du0 : Nat → Int32} (hc : c < 81) (hg : g < 81) (hco : cn_CoR co) (hkn : cn_KnR kn) (K : ∀ du', cn_AA g co kn c du0 4 du' → post (ra, ga, ro, nI g, bl, cl, ne, fr, co, kn, du')) : ∀ m d du, d + m = 4 → cn_AA g co kn c du0 d du → wX_askAround_2 post (nI c) (m + 1) (nI d) ra ga ro (nI g) bl cl ne fr co kn du := by
  intro m
  induction m with
  | zero =>
    intro d du hd I
    obtain rfl : d = 4 := by omega
    exact br_t (nI_le (a := 4) (b := 4) (by omega) (by decide)) (K _ I)
  | succ m ih =>
    intro d du hd I
    have hd4 : d < 4 := by omega
    refine br_f (nI_ge (b := 4) hd4 (by decide)) ?_
    refine cn_moved hc hd4 (fun ht => ?_) (fun ht => ?_)
    · refine br_f (nI_pos (by omega)) (cn_ask ht hg hco hkn (fun v hv => ?_))
      exact nm_r (nI_1 d) (ih (d + 1) _ (by omega) (cn_AA_put hd4 I ht hv))
    · exact br_t cn_m1 (nm_r (nI_1 d) (ih (d + 1) _ (by omega) (cn_AA_skip I ht)))
theorem cn_askAround {c : Nat} {du : Nat → Int32} (hc : c < 81) (hg : g < 81) (hco : cn_CoR co) (hkn : cn_KnR kn) (K : ∀ du', (∀ t, cn_N c t → cn_Due g co kn t (du' t)) → (∀ t, ¬ cn_N c t → du' t = du t) → post (ra, ga, ro, nI g, bl, cl, ne, fr, co, kn, du')) : wpX_askAround post (ra, ga, ro, nI g, bl, cl, ne, fr, co, kn, du) (nI c) := by
  refine ⟨5, cn_askA_lp (du0 := du) hc hg hco hkn (fun du' h => K du' (fun t hN => ?_) h.2) 4 0 du rfl ⟨fun j q => absurd q (Nat.not_lt_zero j), fun _ _ => rfl⟩⟩
  obtain ⟨h1, d, hd, rfl⟩ := hN
  exact h.1 d hd h1
end
/-! costs -/
def cn_cv (ra ga x : Int32) : Int32 := if x ≤ ra then 1 + ga * ((ra + 1) - x) else 1
def cn_co (ra ga : Int32) (bl cl : Nat → Int32) (c : Nat) : Int32 := if bl c = 0 then cn_cv ra ga (cl c) else -1
theorem cn_cv_tab : ∀ r, r < 4 → ∀ g, g < 10 → ∀ x, x < 10 → 1 ≤ x → 1 ≤ (cn_cv (nI r) (nI g) (nI x)).toInt ∧ (cn_cv (nI r) (nI g) (nI x)).toInt ≤ 28 := by decide +kernel
theorem cn_of {x : Int32} {n : Nat} (h0 : 0 ≤ x.toInt) (h1 : x.toInt ≤ (n : Int)) (hn : n < 1000) : ∃ j, j ≤ n ∧ x = nI j := by
  obtain ⟨j, hj, e⟩ := nI_of (x := x) (by rw [Int32.lt_iff_toInt_lt, cn_L0]; omega)
  rw [e, nI_toInt hj] at h1
  exact ⟨j, by omega, e⟩
def cn_PR (ra ga : Int32) : Prop := 0 ≤ ra.toInt ∧ ra.toInt ≤ 3 ∧ 0 ≤ ga.toInt ∧ ga.toInt ≤ 9
theorem cn_co_rng {ra ga : Int32} {bl cl ne fr : Nat → Int32} (hp : cn_PR ra ga) (h : cn_Clr bl cl ne fr) : cn_CoR (cn_co ra ga bl cl) := by
  intro t ht
  unfold cn_co
  by_cases e : bl t = 0
  · rw [if_pos e]
    have r := cn_Clr_pos h ht e
    obtain ⟨p1, p2, p3, p4⟩ := hp
    obtain ⟨a, ha, ea⟩ := cn_of (n := 3) p1 p2 (by omega)
    obtain ⟨b, hb, eb⟩ := cn_of (n := 9) p3 p4 (by omega)
    obtain ⟨x, hx, ex⟩ := cn_of (x := cl t) (n := 9) (by omega) r.2 (by omega)
    have r1 := r.1
    rw [ex, cn_ti (by omega)] at r1
    rw [ex, ea, eb]
    exact Or.inr (cn_cv_tab a (by omega) b (by omega) x (by omega) (by omega))
  · rw [if_neg e]
    exact Or.inl cn_Lm1
section
variable {post : SX → Prop} {ra ga ro : Int32} {g : Nat} {bl cl ne fr kn : Nat → Int32}
theorem cn_costOf {post : Int32 → Prop} {go : Int32} {co du : Nat → Int32} {c : Nat} (hc : c < 81) (h : post (cn_co ra ga bl cl c)) : wpX_costOf post (ra, ga, ro, go, bl, cl, ne, fr, co, kn, du) (nI c) := by
  unfold wpX_costOf
  dsimp only
  rw [cn_cl hc]
  unfold cn_co cn_cv at h
  refine ⟨cn_in hc, br_c (fun e => ⟨cn_in hc, br_c (fun q => ⟨cn_in hc, ?_⟩) (fun q => ?_)⟩) (fun e => ?_)⟩
  · rw [if_pos e, if_pos q] at h; exact h
  · rw [if_pos e, if_neg q] at h; exact h
  · rw [if_neg e] at h; exact h
theorem cn_recost_lp (hg : g < 81) (hkn : cn_KnR kn) (hcv : cn_CoR (cn_co ra ga bl cl)) (K : ∀ co' du', (∀ t, t < 81 → co' t = cn_co ra ga bl cl t) → cn_CoR co' → cn_DOK g co' kn du' → post (ra, ga, ro, nI g, bl, cl, ne, fr, co', kn, du')) : ∀ m c co du, c + m = 81 → cn_CoR co → cn_DOK g co kn du → (∀ t, t < c → co t = cn_co ra ga bl cl t) → wX_recost_2 post (m + 1) (nI c) ra ga ro (nI g) bl cl ne fr co kn du := by
  intro m
  induction m with
  | zero =>
    intro c co du hc hco hD I
    obtain rfl : c = 81 := by omega
    exact br_t (nI_le (a := 81) (b := 81) (by omega) (by decide)) (K _ _ I hco hD)
  | succ m ih =>
    intro c co du hc hco hD I
    have hc1 : c < 81 := by omega
    refine br_f (nI_ge (b := 81) hc1 (by decide)) ?_
    refine cn_costOf hc1 ⟨cn_in hc1, ?_⟩
    rw [cn_cl hc1]
    refine br_c (fun e => nm_r (nI_1 c) (ih (c + 1) co du (by omega) hco hD (fun t ht => ?_))) (fun e => ⟨cn_in hc1, nm_e ?_⟩)
    · by_cases q : t = c
      · rw [q]; exact e.symm
      · exact I t (by omega)
    · have hco' : cn_CoR (upd co c (cn_co ra ga bl cl c)) := by
        intro t ht
        by_cases q : t = c
        · rw [q, pk_us]; exact hcv c hc1
        · rw [pk_un q]; exact hco t ht
      refine cn_ask hc1 hg hco' hkn (fun v hv => cn_askAround hc1 hg hco' hkn (fun du' hn hs => ?_))
      refine nm_r (nI_1 c) (ih (c + 1) _ du' (by omega) hco' ?_ (fun t ht => ?_))
      · refine cn_DOK_upd hc1 hD (fun t q => ⟨pk_un q, rfl⟩) ?_ hn (fun t q N => ?_)
        · rw [hs c (fun N => cn_N_ne hc1 N rfl), pk_us]; exact hv
        · rw [hs t N, pk_un q]
      · by_cases q : t = c
        · rw [q, pk_us]
        · rw [pk_un q]; exact I t (by omega)
theorem cn_recost {co du : Nat → Int32} (hg : g < 81) (hkn : cn_KnR kn) (hcv : cn_CoR (cn_co ra ga bl cl)) (hco : cn_CoR co) (hD : cn_DOK g co kn du) (K : ∀ co' du', (∀ t, t < 81 → co' t = cn_co ra ga bl cl t) → cn_CoR co' → cn_DOK g co' kn du' → post (ra, ga, ro, nI g, bl, cl, ne, fr, co', kn, du')) : wpX_recost post (ra, ga, ro, nI g, bl, cl, ne, fr, co, kn, du) :=
  ⟨82, cn_recost_lp hg hkn hcv K 81 0 co du rfl hco hD (fun t h => absurd h (Nat.not_lt_zero t))⟩
end
end
section
/-! part 04: first, settle -/
def cn_FI (kn du : Nat → Int32) (i : Nat) (x1 x2 : Int32) : Prop :=
  (x1 = -1 ∧ x2.toInt = 100001 ∧ ∀ t, t < i → (kn t).toInt = (du t).toInt) ∨
  (∃ c, c < i ∧ x1 = nI c ∧ (kn c).toInt ≠ (du c).toInt ∧ (x2.toInt ≤ (kn c).toInt ∧ x2.toInt ≤ (du c).toInt) ∧ (x2.toInt = (kn c).toInt ∨ x2.toInt = (du c).toInt) ∧ ∀ t, t < i → (kn t).toInt ≠ (du t).toInt → x2.toInt ≤ (kn t).toInt ∧ x2.toInt ≤ (du t).toInt)
def cn_FS (kn du : Nat → Int32) (x1 : Int32) : Prop := ∃ x2, cn_FI kn du 81 x1 x2
theorem cn_FI_skip {kn du : Nat → Int32} {i : Nat} {x1 x2 : Int32} (h : cn_FI kn du i x1 x2) (he : (kn i).toInt = (du i).toInt) : cn_FI kn du (i + 1) x1 x2 := by
  rcases h with ⟨h1, h2, h3⟩ | ⟨c, hc, h1, h2, h3, h4, h5⟩
  · refine Or.inl ⟨h1, h2, fun t ht => ?_⟩
    by_cases e : t = i
    · rw [e]; exact he
    · exact h3 t (by omega)
  · refine Or.inr ⟨c, by omega, h1, h2, h3, h4, fun t ht hn => ?_⟩
    by_cases e : t = i
    · rw [e] at hn; exact absurd he hn
    · exact h5 t (by omega) hn
theorem cn_FI_keep {kn du : Nat → Int32} {i : Nat} {x1 x2 z : Int32} (h : cn_FI kn du i x1 x2) (hz1 : z.toInt ≤ (kn i).toInt) (hz2 : z.toInt ≤ (du i).toInt) (hz3 : z.toInt ≤ 100000) (hl : x2.toInt ≤ z.toInt) : cn_FI kn du (i + 1) x1 x2 := by
  rcases h with ⟨h1, h2, h3⟩ | ⟨c, hc, h1, h2, h3, h4, h5⟩
  · omega
  · refine Or.inr ⟨c, by omega, h1, h2, h3, h4, fun t ht hn => ?_⟩
    by_cases e : t = i
    · rw [e]; omega
    · exact h5 t (by omega) hn
theorem cn_FI_put {kn du : Nat → Int32} {i : Nat} {x1 x2 z : Int32} (h : cn_FI kn du i x1 x2) (hn : (kn i).toInt ≠ (du i).toInt) (hz1 : z.toInt ≤ (kn i).toInt) (hz2 : z.toInt ≤ (du i).toInt) (hz3 : z.toInt = (kn i).toInt ∨ z.toInt = (du i).toInt) (hl : z.toInt < x2.toInt) : cn_FI kn du (i + 1) (nI i) z := by
  refine Or.inr ⟨i, by omega, rfl, hn, ⟨hz1, hz2⟩, hz3, fun t ht hn' => ?_⟩
  by_cases e : t = i
  · rw [e]; omega
  · rcases h with ⟨h1, h2, h3⟩ | ⟨c, hc, h1, h2, h3, h4, h5⟩
    · exact absurd (h3 t (by omega)) hn'
    · have := h5 t (by omega) hn'
      omega
section
variable {post : Int32 → Prop} {ra ga ro go : Int32} {bl cl ne fr co kn du : Nat → Int32}
theorem cn_first43 {J7 : Int32 → Int32 → Int32 → Prop} {i : Nat} {x1 x2 z : Int32} (hi : i < 81) (hz1 : z.toInt ≤ (kn i).toInt) (hz2 : z.toInt ≤ (du i).toInt) (hz3 : z.toInt = (kn i).toInt ∨ z.toInt = (du i).toInt) (hz4 : z.toInt ≤ 100000) (I : cn_FI kn du i x1 x2) (K : ∀ y1 y2, cn_FI kn du (i + 1) y1 y2 → J7 y1 y2 (nI (i + 1))) : wX_first_43 post J7 x1 x2 (nI i) z ra ga ro go bl cl ne fr co kn du := by
  unfold wX_first_43
  rw [cn_cl hi]
  refine ⟨cn_in hi, cn_in hi, cn_eq (fun e => nm_r (nI_1 i) (K _ _ (cn_FI_skip I e))) (fun e => ?_)⟩
  exact cn_le (fun h => nm_r (nI_1 i) (K _ _ (cn_FI_keep I hz1 hz2 hz4 h))) (fun h => nm_r (nI_1 i) (K _ _ (cn_FI_put I e hz1 hz2 hz3 h)))
theorem cn_first_lp (hkn : cn_KnR kn) (hdu : cn_KnR du) (K : ∀ x, cn_FS kn du x → post x) : ∀ m i x1 x2, i + m = 81 → cn_FI kn du i x1 x2 → wX_first_7 post ra ga ro go bl cl ne fr co kn du (m + 1) x1 x2 (nI i) := by
  intro m
  induction m with
  | zero =>
    intro i x1 x2 hi I
    obtain rfl : i = 81 := by omega
    exact br_t (nI_le (a := 81) (b := 81) (by omega) (by decide)) (K _ ⟨x2, I⟩)
  | succ m ih =>
    intro i x1 x2 hi I
    have hi1 : i < 81 := by omega
    have r1 := hkn i hi1
    have r2 := hdu i hi1
    refine br_f (nI_ge (b := 81) hi1 (by decide)) ⟨cn_in hi1, cn_in hi1, ?_⟩
    rw [cn_cl hi1]
    refine cn_le (fun h => ⟨cn_in hi1, ?_⟩) (fun h => ⟨cn_in hi1, ?_⟩)
    · exact cn_first43 hi1 h (by omega) (Or.inr rfl) (by omega) I (fun y1 y2 I' => ih (i + 1) y1 y2 (by omega) I')
    · exact cn_first43 hi1 (by omega) (by omega) (Or.inl rfl) (by omega) I (fun y1 y2 I' => ih (i + 1) y1 y2 (by omega) I')
theorem cn_first (hkn : cn_KnR kn) (hdu : cn_KnR du) (K : ∀ x, cn_FS kn du x → post x) : wpX_first post (ra, ga, ro, go, bl, cl, ne, fr, co, kn, du) :=
  ⟨82, cn_first_lp hkn hdu K 81 0 (-1) 100001 rfl (Or.inl ⟨rfl, cn_LF1, fun t h => absurd h (Nat.not_lt_zero t)⟩)⟩
end
/-! sums -/
def cn_sum (f : Nat → Nat) : Nat → Nat
  | 0 => 0
  | n + 1 => cn_sum f n + f n
theorem cn_sum_le {f h : Nat → Nat} : ∀ n, (∀ t, t < n → f t ≤ h t) → cn_sum f n ≤ cn_sum h n := by
  intro n
  induction n with
  | zero => intro _; exact Nat.le_refl _
  | succ n ih =>
    intro q
    have a := ih (fun t ht => q t (by omega))
    have b := q n (by omega)
    show cn_sum f n + f n ≤ cn_sum h n + h n
    omega
theorem cn_sum_lt {f h : Nat → Nat} {c : Nat} : ∀ n, (∀ t, t < n → f t ≤ h t) → c < n → f c < h c → cn_sum f n < cn_sum h n := by
  intro n
  induction n with
  | zero => intro _ hc; omega
  | succ n ih =>
    intro q hc hl
    show cn_sum f n + f n < cn_sum h n + h n
    have b := q n (by omega)
    by_cases e : c = n
    · have a := cn_sum_le n (fun t ht => q t (by omega))
      rw [e] at hl
      omega
    · have a := ih (fun t ht => q t (by omega)) (by omega) hl
      omega
theorem cn_sum_bd {f : Nat → Nat} {k : Nat} : ∀ n, (∀ t, t < n → f t ≤ k) → cn_sum f n ≤ n * k := by
  intro n
  induction n with
  | zero => intro _; exact Nat.zero_le _
  | succ n ih =>
    intro q
    have a := ih (fun t ht => q t (by omega))
    have b := q n (by omega)
    show cn_sum f n + f n ≤ (n + 1) * k
    rw [Nat.succ_mul]
    omega
theorem cn_sum_at {f : Nat → Nat} {c : Nat} : ∀ n, c < n → f c ≤ cn_sum f n := by
  intro n
  induction n with
  | zero => intro h; omega
  | succ n ih =>
    intro h
    show f c ≤ cn_sum f n + f n
    by_cases e : c = n
    · rw [e]; omega
    · have := ih (by omega); omega
/-! one look at a cell -/
theorem cn_over {g c : Nat} {co kn kn' du du' : Nat → Int32} (hco : cn_CoR co) (hc : c < 81) (h : cn_DOK g co kn du) (h' : cn_DOK g co kn' du') (ha : ∀ t, t ≠ c → kn' t = kn t) (hl : (kn' c).toInt ≤ (kn c).toInt) : ∀ t, t < 81 → (du' t).toInt = (du t).toInt ∨ (cn_N t c ∧ (kn' c).toInt + 1 ≤ (du' t).toInt ∧ (du' t).toInt ≤ (du t).toInt) := by
  intro t ht
  have hle : ∀ s, (kn' s).toInt ≤ (kn s).toInt := by
    intro s
    by_cases e : s = c
    · rw [e]; exact hl
    · rw [ha s e]; omega
  obtain ⟨a1, a2, a3⟩ := h t ht
  obtain ⟨b1, b2, b3⟩ := h' t ht
  by_cases p : (co t).toInt < 0
  · left; rw [a1 p, b1 p]
  by_cases q : t = g
  · left; rw [a2 (by omega) q, b2 (by omega) q]
  obtain ⟨a4, a5, a6⟩ := a3 (by omega) q
  obtain ⟨b4, b5, b6⟩ := b3 (by omega) q
  have hmono : (du' t).toInt ≤ (du t).toInt := by
    rcases a6 with z | ⟨s, hN, hs, z⟩
    · omega
    · have := b5 s hN hs
      have := hle s
      omega
  rcases b6 with z | ⟨s, hN, hs, z⟩
  · left; omega
  · by_cases e : s = c
    · right
      subst e
      have := hco s hc
      exact ⟨hN, by omega, hmono⟩
    · left
      have w := a5 s hN hs
      rw [ha s e] at z
      omega
def cn_SI (g : Nat) (co kn du : Nat → Int32) (k : Int) (ph : Nat → Nat) : Prop :=
  cn_KnR kn ∧ cn_DOK g co kn du ∧ (∀ t, t < 81 → (kn t).toInt ≠ (du t).toInt → k ≤ (kn t).toInt ∧ k ≤ (du t).toInt) ∧ (∀ t, t < 81 → ph t = 0 → (kn t).toInt = (du t).toInt ∧ (kn t).toInt ≤ k) ∧ (∀ t, t < 81 → ph t = 1 → (kn t).toInt = 100000) ∧ (∀ t, ph t ≤ 2)
theorem cn_step_over {g c : Nat} {co kn kn' du du' : Nat → Int32} {k m : Int} {ph : Nat → Nat} (hco : cn_CoR co) (hc : c < 81) (I : cn_SI g co kn du k ph) (hm1 : m ≤ (kn c).toInt) (hm2 : m ≤ (du c).toInt) (hm3 : m = (kn c).toInt ∨ m = (du c).toInt) (hm : ∀ t, t < 81 → (kn t).toInt ≠ (du t).toInt → m ≤ (kn t).toInt ∧ m ≤ (du t).toInt) (hl : (du c).toInt < (kn c).toInt) (h' : cn_DOK g co kn' du') (ha : ∀ t, t ≠ c → kn' t = kn t) (hk' : kn' c = du c) : cn_SI g co kn' du' m (fun t => if t = c then 0 else ph t) := by
  obtain ⟨hR, hD, h1, h2, h3, h4⟩ := I
  have hkm := h1 c hc (by omega)
  have hF := cn_over hco hc hD h' ha (by rw [hk']; omega)
  have em : (kn' c).toInt = m := by rw [hk']; omega
  have hcc : (du' c).toInt = (du c).toInt := by
    rcases hF c hc with q | q
    · exact q
    · exact absurd rfl (cn_N_ne hc q.1)
  refine ⟨fun t ht => ?_, h', fun t ht hn => ?_, fun t ht hp => ?_, fun t ht hp => ?_, fun t => ?_⟩
  · by_cases e : t = c
    · rw [e, hk']; exact cn_Due_rng hR (hD c hc)
    · rw [ha t e]; exact hR t ht
  · by_cases e : t = c
    · rw [e, hk', hcc] at hn
      exact absurd rfl hn
    · rw [ha t e] at hn ⊢
      rcases hF t ht with q | q
      · rw [q] at hn ⊢; exact hm t ht hn
      · by_cases e2 : (kn t).toInt = (du t).toInt
        · omega
        · have := hm t ht e2
          omega
  · by_cases e : t = c
    · rw [e, em, hcc, ← em, hk']; omega
    · dsimp only at hp; rw [if_neg e] at hp
      have z := h2 t ht hp
      rw [ha t e]
      rcases hF t ht with q | q
      · omega
      · omega
  · by_cases e : t = c
    · dsimp only at hp; rw [if_pos e] at hp; omega
    · dsimp only at hp; rw [if_neg e] at hp
      rw [ha t e]; exact h3 t ht hp
  · show (if t = c then 0 else ph t) ≤ 2
    by_cases e : t = c
    · rw [if_pos e]; omega
    · rw [if_neg e]; exact h4 t
theorem cn_step_under {g c : Nat} {co kn kn' du du' : Nat → Int32} {k m : Int} {ph : Nat → Nat} (hco : cn_CoR co) (hc : c < 81) (I : cn_SI g co kn du k ph) (hm1 : m ≤ (kn c).toInt) (hm2 : m ≤ (du c).toInt) (hm3 : m = (kn c).toInt ∨ m = (du c).toInt) (hm : ∀ t, t < 81 → (kn t).toInt ≠ (du t).toInt → m ≤ (kn t).toInt ∧ m ≤ (du t).toInt) (hl : (kn c).toInt < (du c).toInt) (h' : cn_DOK g co kn' du') (ha : ∀ t, t ≠ c → kn' t = kn t) (hk' : (kn' c).toInt = 100000) : cn_SI g co kn' du' m (fun t => if t = c then 1 else ph t) := by
  obtain ⟨hR, hD, h1, h2, h3, h4⟩ := I
  have hkm := h1 c hc (by omega)
  have hRc := hR c hc
  have hF := cn_over hco hc h' hD (fun t e => (ha t e).symm) (by rw [hk']; omega)
  have em : (kn c).toInt = m := by omega
  have hcc : (du c).toInt = (du' c).toInt := by
    rcases hF c hc with q | q
    · exact q
    · exact absurd rfl (cn_N_ne hc q.1)
  refine ⟨fun t ht => ?_, h', fun t ht hn => ?_, fun t ht hp => ?_, fun t ht hp => ?_, fun t => ?_⟩
  · by_cases e : t = c
    · rw [e, hk']; omega
    · rw [ha t e]; exact hR t ht
  · by_cases e : t = c
    · rw [e, hk']; omega
    · rw [ha t e] at hn ⊢
      rcases hF t ht with q | q
      · rw [← q] at hn ⊢; exact hm t ht hn
      · by_cases e2 : (kn t).toInt = (du t).toInt
        · omega
        · have := hm t ht e2
          omega
  · by_cases e : t = c
    · dsimp only at hp; rw [if_pos e] at hp; omega
    · dsimp only at hp; rw [if_neg e] at hp
      have z := h2 t ht hp
      rw [ha t e]
      rcases hF t ht with q | q
      · omega
      · omega
  · by_cases e : t = c
    · rw [e]; exact hk'
    · dsimp only at hp; rw [if_neg e] at hp
      rw [ha t e]; exact h3 t ht hp
  · show (if t = c then 1 else ph t) ≤ 2
    by_cases e : t = c
    · rw [if_pos e]; omega
    · rw [if_neg e]; exact h4 t
theorem cn_ph_lt {ph : Nat → Nat} {c v : Nat} (hc : c < 81) (h : v < ph c) : cn_sum (fun t => if t = c then v else ph t) 81 < cn_sum ph 81 := by
  refine cn_sum_lt (c := c) 81 (fun t _ => ?_) hc ?_
  · by_cases e : t = c
    · rw [if_pos e, e]; omega
    · rw [if_neg e]; exact Nat.le_refl _
  · show (if c = c then v else ph c) < ph c
    rw [if_pos rfl]; exact h
section
variable {post : SX → Prop} {ra ga ro : Int32} {g : Nat} {bl cl ne fr co : Nat → Int32}
theorem cn_KnR_du {kn du : Nat → Int32} (hk : cn_KnR kn) (hD : cn_DOK g co kn du) : cn_KnR du := fun t ht => cn_Due_rng hk (hD t ht)
theorem cn_settle_lp (hg : g < 81) (hco : cn_CoR co) (K : ∀ kn' du', cn_KnR kn' → cn_DOK g co kn' du' → (∀ t, t < 81 → (kn' t).toInt = (du' t).toInt) → post (ra, ga, ro, nI g, bl, cl, ne, fr, co, kn', du')) : ∀ s r x1 kn du k ph, cn_sum ph 81 ≤ s → r + s ≤ 162 → cn_SI g co kn du k ph → cn_FS kn du x1 → wX_settle_7 post (s + 1) x1 (nI r) ra ga ro (nI g) bl cl ne fr co kn du := by
  intro s
  induction s with
  | zero =>
    intro r x1 kn du k ph hs hr I F
    obtain ⟨x2, ⟨rfl, _, hA⟩ | ⟨c, hc, _, hn, _⟩⟩ := F
    · exact br_f (nI_ge (b := 400) (by omega) (by decide)) (br_t cn_m1 (K kn du I.1 I.2.1 hA))
    · have z := cn_sum_at (f := ph) 81 hc
      exact absurd (I.2.2.2.1 c hc (by omega)).1 hn
  | succ s ih =>
    intro r x1 kn du k ph hs hr I F
    have I' := I
    obtain ⟨x2, ⟨rfl, _, hA⟩ | ⟨c, hc, rfl, hn, ⟨hm1, hm2⟩, hm3, hm⟩⟩ := F
    · exact br_f (nI_ge (b := 400) (by omega) (by decide)) (br_t cn_m1 (K kn du I.1 I.2.1 hA))
    · refine br_f (nI_ge (b := 400) (by omega) (by decide)) (br_f (nI_pos (by omega)) ⟨cn_in hc, cn_in hc, ?_⟩)
      rw [cn_cl hc]
      obtain ⟨hR, hD, h1, h2, h3, h4⟩ := I
      have hph0 : ph c ≠ 0 := fun e => hn (h2 c hc e).1
      have hdr := cn_Due_rng hR (hD c hc)
      have hRc := hR c hc
      refine cn_le (fun h => ⟨cn_in hc, nm_e ?_⟩) (fun h => ⟨cn_in hc, cn_in hc, nm_e ?_⟩)
      · have hl : (kn c).toInt < (du c).toInt := by omega
        have ha : ∀ t, t ≠ c → upd kn c 100000 t = kn t := fun t e => pk_un e
        have hk' : cn_KnR (upd kn c 100000) := by
          intro t ht
          by_cases e : t = c
          · rw [e, pk_us, cn_LF]; omega
          · rw [pk_un e]; exact hR t ht
        refine cn_ask hc hg hco hk' (fun v hv => cn_askAround hc hg hco hk' (fun du' hN hs' => ?_))
        have hD' : cn_DOK g co (upd kn c 100000) du' := by
          refine cn_DOK_upd hc hD (fun t q => ⟨rfl, pk_un q⟩) ?_ hN (fun t q N => ?_)
          · rw [hs' c (fun N => cn_N_ne hc N rfl), pk_us]; exact hv
          · rw [hs' t N, pk_un q]
        have hS := cn_step_under hco hc I' hm1 hm2 hm3 hm hl hD' ha (by rw [pk_us]; exact cn_LF)
        have hph1 : ph c ≠ 1 := fun e => by have := h3 c hc e; omega
        have hlt := cn_ph_lt (ph := ph) (v := 1) hc (by omega)
        exact cn_first hk' (cn_KnR_du hk' hD') (fun x F' => nm_r (nI_1 r) (ih (r + 1) x _ du' _ _ (by omega) (by omega) hS F'))
      · have ha : ∀ t, t ≠ c → upd kn c (du c) t = kn t := fun t e => pk_un e
        have hk' : cn_KnR (upd kn c (du c)) := by
          intro t ht
          by_cases e : t = c
          · rw [e, pk_us]; exact hdr
          · rw [pk_un e]; exact hR t ht
        refine cn_askAround hc hg hco hk' (fun du' hN hs' => ?_)
        have hD' : cn_DOK g co (upd kn c (du c)) du' := by
          refine cn_DOK_upd hc hD (fun t q => ⟨rfl, pk_un q⟩) ?_ hN (fun t q N => hs' t N)
          rw [hs' c (fun N => cn_N_ne hc N rfl)]
          exact cn_Due_congr rfl (fun t N => ⟨rfl, pk_un (cn_N_ne hc N)⟩) (hD c hc)
        have hS := cn_step_over hco hc I' hm1 hm2 hm3 hm h hD' ha pk_us
        have hlt := cn_ph_lt (ph := ph) (v := 0) hc (by omega)
        exact cn_first hk' (cn_KnR_du hk' hD') (fun x F' => nm_r (nI_1 r) (ih (r + 1) x _ du' _ _ (by omega) (by omega) hS F'))
theorem cn_settle {kn du : Nat → Int32} (hg : g < 81) (hco : cn_CoR co) (hk : cn_KnR kn) (hD : cn_DOK g co kn du) (K : ∀ kn' du', cn_KnR kn' → cn_DOK g co kn' du' → (∀ t, t < 81 → (kn' t).toInt = (du' t).toInt) → post (ra, ga, ro, nI g, bl, cl, ne, fr, co, kn', du')) : wpX_settle post (ra, ga, ro, nI g, bl, cl, ne, fr, co, kn, du) := by
  have hd := cn_KnR_du hk hD
  refine cn_first hk hd (fun x F => ⟨163, ?_⟩)
  refine cn_settle_lp hg hco K 162 0 x kn du 0 (fun _ => 2) (cn_sum_bd 81 (fun _ _ => Nat.le_refl _)) (by omega) ⟨hk, hD, fun t ht _ => ⟨(hk t ht).1, (hd t ht).1⟩, fun t _ e => ?_, fun t _ e => ?_, fun _ => Nat.le_refl _⟩ F
  · exact absurd (show (2 : Nat) = 0 from e) (by decide)
  · exact absurd (show (2 : Nat) = 1 from e) (by decide)
end
end
section
/-! part 05: the reference's clearance and cost -/
def cn_YI (bl : Nat → Int32) (c i : Nat) (x : Int32) : Prop :=
  0 ≤ x.toInt ∧ x.toInt ≤ 9 ∧ (∀ b, b < i → bl b ≠ 0 → ∀ n : Int, cn_D c b n → x.toInt ≤ n) ∧ (x.toInt = 9 ∨ ∃ b, b < 81 ∧ bl b ≠ 0 ∧ cn_D c b x.toInt)
theorem cn_YI_skip {bl : Nat → Int32} {c i : Nat} {x : Int32} (h : cn_YI bl c i x) (hs : bl i = 0) : cn_YI bl c (i + 1) x := by
  refine ⟨h.1, h.2.1, fun b hb hbb => ?_, h.2.2.2⟩
  by_cases e : b = i
  · rw [e] at hbb; exact absurd hs hbb
  · exact h.2.2.1 b (by omega) hbb
theorem cn_YI_keep {bl : Nat → Int32} {c i : Nat} {x : Int32} {f : Int} (h : cn_YI bl c i x) (hf : ∀ n : Int, cn_D c i n → f ≤ n) (hl : x.toInt ≤ f) : cn_YI bl c (i + 1) x := by
  refine ⟨h.1, h.2.1, fun b hb hbb n hD => ?_, h.2.2.2⟩
  by_cases e : b = i
  · rw [e] at hD
    have := hf n hD
    omega
  · exact h.2.2.1 b (by omega) hbb n hD
theorem cn_YI_put {bl : Nat → Int32} {c i : Nat} {x f : Int32} (h : cn_YI bl c i x) (hi : i < 81) (hb : bl i ≠ 0) (hf0 : 0 ≤ f.toInt) (hf : ∀ n : Int, cn_D c i n → f.toInt ≤ n) (hD : cn_D c i f.toInt) (hl : f.toInt < x.toInt) : cn_YI bl c (i + 1) f := by
  have h1 := h.2.1
  refine ⟨hf0, by omega, fun b hb hbb n hD => ?_, Or.inr ⟨i, hi, hb, hD⟩⟩
  by_cases e : b = i
  · rw [e] at hD; exact hf n hD
  · have := h.2.2.1 b (by omega) hbb n hD
    omega
theorem cn_YI_end {bl cl ne fr : Nat → Int32} {c : Nat} {x : Int32} (hc : c < 81) (h : cn_Clr bl cl ne fr) (I : cn_YI bl c 81 x) : x = cl c := by
  apply Int32.toInt_inj.mp
  obtain ⟨i0, i9, i1, i2⟩ := I
  have r := cn_A_rng h.1 hc
  have a : x.toInt ≤ (cl c).toInt := by
    rcases cn_Clr_at h hc with q | ⟨b, hb, hbb, _, hD⟩
    · omega
    · exact i1 b hb hbb _ hD
  have b : (cl c).toInt ≤ x.toInt := by
    rcases i2 with q | ⟨b, hb, hbb, hD⟩
    · omega
    · have e : x.toInt = ((x.toInt.toNat : Nat) : Int) := by omega
      rw [e] at hD
      have := cn_Clr_le h _ c b hc hb hbb hD
      omega
  omega
/-- a distance by one coordinate -/
def cn_ab (a b : Nat) (x : Int32) : Prop := (a : Int) ≤ (b : Int) + x.toInt ∧ (b : Int) ≤ (a : Int) + x.toInt ∧ (x.toInt = (a : Int) - (b : Int) ∨ x.toInt = (b : Int) - (a : Int))
theorem cn_ab1 {a b : Nat} (ha : a < 9) (hb : b < 9) (h : a ≤ b) : cn_ab a b (nI b - nI a) := by
  have e : (nI b - nI a).toInt = (b : Int) - a := pk_sub_toInt (by omega) (by omega)
  unfold cn_ab
  rw [e]
  omega
theorem cn_ab2 {a b : Nat} (ha : a < 9) (hb : b < 9) (h : b < a) : cn_ab a b (nI a - nI b) := by
  have e : (nI a - nI b).toInt = (a : Int) - b := pk_sub_toInt (by omega) (by omega)
  unfold cn_ab
  rw [e]
  omega
section
variable {post : Int32 → Prop} {J : Int32 → Int32 → Prop} {ro go ra ga : Int32} {bl yc yd : Nat → Int32}
theorem cn_c112 {c i : Nat} {x f : Int32} (I : cn_YI bl c i x) (hi : i < 81) (hb : bl i ≠ 0) (hf0 : 0 ≤ f.toInt) (hf : ∀ n : Int, cn_D c i n → f.toInt ≤ n) (hD : cn_D c i f.toInt) (K : ∀ y, cn_YI bl c (i + 1) y → J y (nI (i + 1))) : wY_clearance_112 post J (nI c) x (nI i) f ro go ra ga bl yc yd :=
  cn_le (fun h => nm_r (nI_1 i) (K x (cn_YI_keep I hf h))) (fun h => nm_r (nI_1 i) (K f (cn_YI_put I hi hb hf0 hf hD h)))
theorem cn_c96 {c i : Nat} {x w z : Int32} (I : cn_YI bl c i x) (hi : i < 81) (hb : bl i ≠ 0) (hw : cn_ab (c % 9) (i % 9) w) (hz : cn_ab (c / 9) (i / 9) z) (K : ∀ y, cn_YI bl c (i + 1) y → J y (nI (i + 1))) : wY_clearance_96 post J (nI c) x (nI i) w z ro go ra ga bl yc yd := by
  obtain ⟨w1, w2, w3⟩ := hw
  obtain ⟨z1, z2, z3⟩ := hz
  refine cn_le (fun h => ?_) (fun h => ?_)
  · refine cn_c112 I hi hb (by omega) (fun n q => ?_) ?_ K
    · obtain ⟨q1, q2, q3, q4⟩ := q
      omega
    · exact ⟨by omega, by omega, by omega, by omega⟩
  · refine cn_c112 I hi hb (by omega) (fun n q => ?_) ?_ K
    · obtain ⟨q1, q2, q3, q4⟩ := q
      omega
    · exact ⟨by omega, by omega, by omega, by omega⟩
theorem cn_c62 {c i : Nat} {x w : Int32} (hc : c < 81) (I : cn_YI bl c i x) (hi : i < 81) (hb : bl i ≠ 0) (hw : cn_ab (c % 9) (i % 9) w) (K : ∀ y, cn_YI bl c (i + 1) y → J y (nI (i + 1))) : wY_clearance_62 post J (nI c) x (nI i) w ro go ra ga bl yc yd := by
  unfold wY_clearance_62
  have e1 : nI c / 9 = nI (c / 9) := pk_div (d := 9) (by omega) (by decide) (by decide)
  have e2 : nI i / 9 = nI (i / 9) := pk_div (d := 9) (by omega) (by decide) (by decide)
  rw [e1, e2]
  refine ⟨by decide, by decide, pk_le (c / 9) (i / 9) (fun h => ⟨by decide, by decide, ?_⟩) (fun h => ⟨by decide, by decide, ?_⟩)⟩
  · exact cn_c96 I hi hb hw (cn_ab1 (by omega) (by omega) h) K
  · exact cn_c96 I hi hb hw (cn_ab2 (by omega) (by omega) h) K
theorem cn_clr_lp {c : Nat} (hc : c < 81) (K : ∀ x, cn_YI bl c 81 x → post x) : ∀ m i x, i + m = 81 → cn_YI bl c i x → wY_clearance_15 post (nI c) ro go ra ga bl yc yd (m + 1) x (nI i) := by
  intro m
  induction m with
  | zero =>
    intro i x hi I
    obtain rfl : i = 81 := by omega
    exact br_t (nI_le (a := 81) (b := 81) (by omega) (by decide)) (K _ I)
  | succ m ih =>
    intro i x hi I
    have hi1 : i < 81 := by omega
    refine br_f (nI_ge (b := 81) hi1 (by decide)) ⟨cn_in hi1, ?_⟩
    have e1 : nI c - nI c / 9 * 9 = nI (c % 9) := pk_rem (d := 9) (by omega) (by decide) (by decide)
    have e2 : nI i - nI i / 9 * 9 = nI (i % 9) := pk_rem (d := 9) (by omega) (by decide) (by decide)
    rw [cn_cl hi1, e1, e2]
    refine br_c (fun z => nm_r (nI_1 i) (ih (i + 1) x (by omega) (cn_YI_skip I z))) (fun z => ⟨by decide, by decide, ?_⟩)
    refine pk_le (c % 9) (i % 9) (fun h => ⟨by decide, by decide, ?_⟩) (fun h => ⟨by decide, by decide, ?_⟩)
    · exact cn_c62 hc I hi1 z (cn_ab1 (by omega) (by omega) h) (fun y Iy => ih (i + 1) y (by omega) Iy)
    · exact cn_c62 hc I hi1 z (cn_ab2 (by omega) (by omega) h) (fun y Iy => ih (i + 1) y (by omega) Iy)
theorem cn_clearance {cl ne fr : Nat → Int32} {c : Nat} (hc : c < 81) (h : cn_Clr bl cl ne fr) (hp : post (cl c)) : wpY_clearance post (ro, go, ra, ga, bl, yc, yd) (nI c) := by
  unfold wpY_clearance
  dsimp only
  refine cn_isC1 hc (br_f (by decide) ⟨82, ?_⟩)
  refine cn_clr_lp hc (fun x I => ?_) 81 0 9 rfl ⟨by rw [cn_L9]; omega, by rw [cn_L9]; omega, fun b q => absurd q (Nat.not_lt_zero b), Or.inl cn_L9⟩
  rw [cn_YI_end hc h I]
  exact hp
end
def cn_yc (ra ga : Int32) (bl cl : Nat → Int32) (c : Nat) : Int32 := if bl c = 0 then cn_cv ra ga (cl c) else -4
theorem cn_cost {post : Int32 → Prop} {ro go ra ga : Int32} {bl yc yd cl ne fr : Nat → Int32} {c : Nat} (hc : c < 81) (h : cn_Clr bl cl ne fr) (hp : post (cn_yc ra ga bl cl c)) : wpY_cost post (ro, go, ra, ga, bl, yc, yd) (nI c) := by
  unfold wpY_cost
  dsimp only
  rw [cn_cl hc]
  unfold cn_yc cn_cv at hp
  refine cn_isC1 hc (br_f (by decide) ⟨cn_in hc, br_c (fun e => cn_clearance hc h (br_c (fun q => ?_) (fun q => ?_))) (fun e => ?_)⟩)
  · rw [if_pos e, if_pos q] at hp; exact hp
  · rw [if_pos e, if_neg q] at hp; exact hp
  · rw [if_neg e] at hp; exact hp
end
section
/-! part 06: the reference's distances against the settled ones -/
def cn_Env (g : Nat) (bl co kn : Nat → Int32) : Prop := cn_CoR co ∧ cn_KnR kn ∧ (∀ t, t < 81 → cn_Due g co kn t (kn t)) ∧ (∀ t, t < 81 → (bl t = 0 ↔ 0 ≤ (co t).toInt))
def cn_rk (kn : Nat → Int32) (t : Nat) : Nat := cn_sum (fun s => if (kn s).toInt < (kn t).toInt then 1 else 0) 81
theorem cn_rk_lt {kn : Nat → Int32} {s t : Nat} (hs : s < 81) (h : (kn s).toInt < (kn t).toInt) : cn_rk kn s < cn_rk kn t := by
  refine cn_sum_lt (c := s) 81 (fun r _ => ?_) hs ?_
  · by_cases e : (kn r).toInt < (kn s).toInt
    · rw [if_pos e, if_pos (by omega)]; exact Nat.le_refl _
    · rw [if_neg e]; exact Nat.zero_le _
  · show (if (kn s).toInt < (kn s).toInt then 1 else 0) < (if (kn s).toInt < (kn t).toInt then 1 else 0)
    rw [if_neg (by omega), if_pos h]
    omega
theorem cn_rk_bd {kn : Nat → Int32} {t : Nat} (ht : t < 81) : cn_rk kn t < 81 := by
  have a : cn_rk kn t < cn_sum (fun _ => 1) 81 := by
    refine cn_sum_lt (c := t) 81 (fun r _ => ?_) ht ?_
    · by_cases e : (kn r).toInt < (kn t).toInt
      · rw [if_pos e]; exact Nat.le_refl _
      · rw [if_neg e]; exact Nat.zero_le _
    · show (if (kn t).toInt < (kn t).toInt then 1 else 0) < 1
      rw [if_neg (by omega)]
      omega
  have b : cn_sum (fun _ => 1) 81 ≤ 81 * 1 := cn_sum_bd 81 (fun _ _ => Nat.le_refl _)
  omega
theorem cn_rk_0 {kn : Nat → Int32} {t : Nat} (hk : cn_KnR kn) (h : (kn t).toInt = 0) : cn_rk kn t = 0 := by
  have a : cn_rk kn t ≤ 81 * 0 := by
    refine cn_sum_bd 81 (fun s hs => ?_)
    have := hk s hs
    rw [if_neg (by omega)]
    exact Nat.le_refl _
  omega
section
variable {g : Nat} {bl co kn : Nat → Int32}
theorem cn_f1 (E : cn_Env g bl co kn) {t : Nat} (ht : t < 81) (h : (kn t).toInt < 100000) : 1 ≤ (co t).toInt ∧ (co t).toInt ≤ 28 ∧ bl t = 0 := by
  have r := E.1 t ht
  have d := (E.2.2.1 t ht).1
  have h0 : ¬ (co t).toInt < 0 := fun q => by have := d q; omega
  exact ⟨by omega, by omega, (E.2.2.2 t ht).mpr (by omega)⟩
theorem cn_f4 (E : cn_Env g bl co kn) {t : Nat} (ht : t < 81) (h : (kn t).toInt < 100000) : (t = g ∧ (kn t).toInt = 0) ∨ ∃ s, cn_N t s ∧ (kn s).toInt < 100000 ∧ 1 ≤ (co s).toInt ∧ (co s).toInt ≤ 28 ∧ (kn t).toInt = (kn s).toInt + (co s).toInt := by
  have f := cn_f1 E ht h
  obtain ⟨_, d2, d3⟩ := E.2.2.1 t ht
  by_cases e : t = g
  · exact Or.inl ⟨e, d2 (by omega) e⟩
  · obtain ⟨_, _, q⟩ := d3 (by omega) e
    rcases q with q | ⟨s, hN, hs, q⟩
    · omega
    · have r := E.1 s hN.1
      exact Or.inr ⟨s, hN, by omega, by omega, by omega, q⟩
theorem cn_f2r (E : cn_Env g bl co kn) : ∀ n t, t < 81 → cn_rk kn t ≤ n → (kn t).toInt < 100000 → (kn t).toInt ≤ 28 * (n : Int) := by
  intro n
  induction n with
  | zero =>
    intro t ht hr h
    rcases cn_f4 E ht h with q | ⟨s, hN, hs, c1, c2, q⟩
    · omega
    · have := cn_rk_lt (kn := kn) (s := s) (t := t) hN.1 (by omega)
      omega
  | succ n ih =>
    intro t ht hr h
    rcases cn_f4 E ht h with q | ⟨s, hN, hs, c1, c2, q⟩
    · omega
    · have a := cn_rk_lt (kn := kn) (s := s) (t := t) hN.1 (by omega)
      have b := ih s hN.1 (by omega) hs
      omega
theorem cn_f2 (E : cn_Env g bl co kn) {t : Nat} (ht : t < 81) (h : (kn t).toInt < 100000) : (kn t).toInt ≤ 2240 := by
  have a := cn_rk_bd (kn := kn) ht
  have b := cn_f2r E 80 t ht (by omega) h
  omega
theorem cn_f3 (E : cn_Env g bl co kn) {t s : Nat} (ht : t < 81) (hb : bl t = 0) (hN : cn_N t s) (h : (kn s).toInt < 100000) : (kn t).toInt ≤ (kn s).toInt + (co s).toInt ∧ (kn t).toInt < 100000 := by
  have f := cn_f1 E hN.1 h
  have m := cn_f2 E hN.1 h
  have k := E.2.1 s hN.1
  have c0 := (E.2.2.2 t ht).mp hb
  obtain ⟨_, d2, d3⟩ := E.2.2.1 t ht
  by_cases e : t = g
  · have := d2 c0 e
    omega
  · have := (d3 c0 e).2.1 s hN (by omega)
    omega
def cn_G (kn : Nat → Int32) (t : Nat) : Int := if (kn t).toInt < 100000 then (kn t).toInt else 1000000
theorem cn_G1 {t : Nat} (h : (kn t).toInt < 100000) : cn_G kn t = (kn t).toInt := if_pos h
theorem cn_G2 {t : Nat} (h : ¬ (kn t).toInt < 100000) : cn_G kn t = 1000000 := if_neg h
/-- the distances lie between the right ones and FAR -/
def cn_YL (kn yd : Nat → Int32) : Prop := ∀ t, t < 81 → cn_G kn t ≤ (yd t).toInt ∧ (yd t).toInt ≤ 1000000
theorem cn_YL_fin {yd : Nat → Int32} (h : cn_YL kn yd) {t : Nat} (ht : t < 81) (hl : (yd t).toInt < 1000000) : (kn t).toInt < 100000 ∧ (kn t).toInt ≤ (yd t).toInt := by
  have a := (h t ht).1
  by_cases e : (kn t).toInt < 100000
  · rw [cn_G1 e] at a; exact ⟨e, a⟩
  · rw [cn_G2 e] at a; omega
/-- relax at cell c, the first d moves seen -/
def cn_RI (kn co : Nat → Int32) (c : Nat) (yd0 : Nat → Int32) (d : Nat) (x : Int32) (yd : Nat → Int32) : Prop :=
  (∀ t, t ≠ c → yd t = yd0 t) ∧ (yd c).toInt ≤ (yd0 c).toInt ∧ cn_G kn c ≤ (yd c).toInt ∧ (∀ j, j < d → cn_mv c j < 81 → (yd0 (cn_mv c j)).toInt < 1000000 → (yd c).toInt ≤ (yd0 (cn_mv c j)).toInt + (co (cn_mv c j)).toInt) ∧ ((x = 0 ∧ yd = yd0) ∨ x = 1)
theorem cn_RI_skip {c d : Nat} {x : Int32} {yd0 yd : Nat → Int32} (h : cn_RI kn co c yd0 d x yd) (hs : cn_mv c d < 81 → (yd0 (cn_mv c d)).toInt < 1000000 → (yd c).toInt ≤ (yd0 (cn_mv c d)).toInt + (co (cn_mv c d)).toInt) : cn_RI kn co c yd0 (d + 1) x yd := by
  obtain ⟨h1, h2, h3, h4, h5⟩ := h
  refine ⟨h1, h2, h3, fun j hj => ?_, h5⟩
  by_cases e : j = d
  · rw [e]; exact hs
  · exact h4 j (by omega)
theorem cn_RI_put {c d : Nat} {x v : Int32} {yd0 yd : Nat → Int32} (h : cn_RI kn co c yd0 d x yd) (hv : v.toInt = (yd0 (cn_mv c d)).toInt + (co (cn_mv c d)).toInt) (hg : cn_G kn c ≤ v.toInt) (hl : v.toInt < (yd c).toInt) : cn_RI kn co c yd0 (d + 1) 1 (upd yd c v) := by
  obtain ⟨h1, h2, h3, h4, h5⟩ := h
  refine ⟨fun t e => by rw [pk_un e]; exact h1 t e, ?_, ?_, fun j hj hm hf => ?_, Or.inr rfl⟩
  · rw [pk_us]; omega
  · rw [pk_us]; exact hg
  · rw [pk_us]
    by_cases e : j = d
    · rw [e]; omega
    · have := h4 j (by omega) hm hf
      omega
end
section
variable {post : Int32 → SY → Prop} {ro go ra ga : Int32} {g : Nat} {bl co kn yc : Nat → Int32}
theorem cn_relax_lp {c : Nat} {yd0 : Nat → Int32} (E : cn_Env g bl co kn) (hc : c < 81) (hb : bl c = 0) (hyc : ∀ t, t < 81 → bl t = 0 → yc t = co t) (hL : cn_YL kn yd0) (K : ∀ x yd, cn_RI kn co c yd0 4 x yd → post x (ro, go, ra, ga, bl, yc, yd)) : ∀ m d x yd, d + m = 4 → cn_RI kn co c yd0 d x yd → wY_relax_4 post (nI c) ro go ra ga (m + 1) x (nI d) bl yc yd := by
  intro m
  induction m with
  | zero =>
    intro d x yd hd I
    obtain rfl : d = 4 := by omega
    refine br_t (nI_le (a := 4) (b := 4) (by omega) (by decide)) ⟨?_, K _ _ I⟩
    rcases I.2.2.2.2 with q | q
    · rw [q.1]; rfl
    · rw [q]; rfl
  | succ m ih =>
    intro d x yd hd I
    have hd4 : d < 4 := by omega
    refine br_f (nI_ge (b := 4) hd4 (by decide)) ?_
    refine cn_nbr hc hd4 (fun ht => ?_) (fun ht => ?_)
    · have hN : cn_N c (cn_mv c d) := ⟨ht, d, hd4, rfl⟩
      have hne := cn_N_ne hc hN
      have ey := I.1 _ hne
      refine br_f (fun e => ?_) ⟨cn_in ht, ?_⟩
      · have := congrArg Int32.toInt e
        rw [cn_ti (by omega), cn_Lm4] at this
        omega
      rw [cn_cl ht, cn_cl hc, ey]
      refine cn_le (fun h => ?_) (fun h => ⟨cn_in ht, cn_in ht, cn_in hc, ?_⟩)
      · rw [cn_LM] at h
        exact nm_r (nI_1 d) (ih (d + 1) x yd (by omega) (cn_RI_skip I (fun _ q => absurd q (by omega))))
      · rw [cn_LM] at h
        have k1 := cn_YL_fin hL ht h
        have f1 := cn_f1 E ht k1.1
        have k0 := E.2.1 _ ht
        rw [hyc _ ht f1.2.2]
        have hx : (yd0 (cn_mv c d) + co (cn_mv c d)).toInt = (yd0 (cn_mv c d)).toInt + (co (cn_mv c d)).toInt := cn_add (by omega) (by omega)
        refine cn_le (fun q => ?_) (fun q => ⟨cn_in ht, cn_in ht, cn_in hc, nm_e ?_⟩)
        · rw [hx] at q
          exact nm_r (nI_1 d) (ih (d + 1) x yd (by omega) (cn_RI_skip I (fun _ _ => q)))
        · have f3 := cn_f3 E hc hb hN k1.1
          refine nm_r (nI_1 d) (ih (d + 1) 1 _ (by omega) (cn_RI_put I hx ?_ q))
          rw [cn_G1 f3.2, hx]
          omega
    · exact br_t rfl (nm_r (nI_1 d) (ih (d + 1) x yd (by omega) (cn_RI_skip I (fun q => absurd q ht))))
theorem cn_relax {c : Nat} {yd : Nat → Int32} (E : cn_Env g bl co kn) (hc : c < 81) (hb : bl c = 0) (hyc : ∀ t, t < 81 → bl t = 0 → yc t = co t) (hL : cn_YL kn yd) (K : ∀ x yd', cn_RI kn co c yd 4 x yd' → post x (ro, go, ra, ga, bl, yc, yd')) : wpY_relax post (ro, go, ra, ga, bl, yc, yd) (nI c) :=
  ⟨5, cn_relax_lp E hc hb hyc hL K 4 0 0 yd rfl ⟨fun _ _ => rfl, Int.le_refl _, (hL c hc).1, fun j q => absurd q (Nat.not_lt_zero j), Or.inl ⟨rfl, rfl⟩⟩⟩
end
/-! the rounds -/
def cn_P (kn yd : Nat → Int32) (r : Nat) : Prop := cn_YL kn yd ∧ ∀ t, t < 81 → (kn t).toInt < 100000 → cn_rk kn t ≤ r → (yd t).toInt ≤ (kn t).toInt
def cn_Done (kn yd : Nat → Int32) : Prop := ∀ t, t < 81 → (yd t).toInt = cn_G kn t
def cn_Fx (bl co yd : Nat → Int32) (i : Nat) : Prop := ∀ t, t < i → bl t = 0 → ∀ s, cn_N t s → (yd s).toInt < 1000000 → (yd t).toInt ≤ (yd s).toInt + (co s).toInt
def cn_Q (bl co kn yd : Nat → Int32) (r i : Nat) (x : Int32) : Prop := cn_P kn yd r ∧ (∀ t, t < i → (kn t).toInt < 100000 → cn_rk kn t ≤ r + 1 → (yd t).toInt ≤ (kn t).toInt) ∧ ((x = 0 ∧ cn_Fx bl co yd i) ∨ x = 1)
section
variable {g : Nat} {bl co kn : Nat → Int32}
theorem cn_P_done {yd : Nat → Int32} (h : cn_P kn yd 81) : cn_Done kn yd := by
  intro t ht
  have a := h.1 t ht
  by_cases e : (kn t).toInt < 100000
  · have b := h.2 t ht e (by have := cn_rk_bd (kn := kn) ht; omega)
    rw [cn_G1 e] at a ⊢
    omega
  · rw [cn_G2 e] at a ⊢
    omega
theorem cn_Fx_r {yd : Nat → Int32} {r : Nat} (E : cn_Env g bl co kn) (h : cn_P kn yd r) (F : cn_Fx bl co yd 81) : ∀ n t, t < 81 → cn_rk kn t ≤ n → (kn t).toInt < 100000 → (yd t).toInt ≤ (kn t).toInt := by
  intro n
  induction n with
  | zero =>
    intro t ht hr hk
    exact h.2 t ht hk (by omega)
  | succ n ih =>
    intro t ht hr hk
    rcases cn_f4 E ht hk with q | ⟨s, hN, hs, c1, c2, q⟩
    · have := cn_rk_0 E.2.1 q.2
      exact h.2 t ht hk (by omega)
    · have a := cn_rk_lt (kn := kn) (s := s) (t := t) hN.1 (by omega)
      have b := ih s hN.1 (by omega) hs
      have c := F t ht (cn_f1 E ht hk).2.2 s hN (by omega)
      omega
theorem cn_Fx_done {yd : Nat → Int32} {r : Nat} (E : cn_Env g bl co kn) (h : cn_P kn yd r) (F : cn_Fx bl co yd 81) : cn_Done kn yd :=
  cn_P_done ⟨h.1, fun t ht hk _ => cn_Fx_r E h F 81 t ht (by have := cn_rk_bd (kn := kn) ht; omega) hk⟩
theorem cn_Q_block {yd : Nat → Int32} {r i : Nat} {x : Int32} (E : cn_Env g bl co kn) (h : cn_Q bl co kn yd r i x) (hi : i < 81) (hb : bl i ≠ 0) : cn_Q bl co kn yd r (i + 1) x := by
  obtain ⟨h1, h2, h3⟩ := h
  refine ⟨h1, fun t ht hk hr => ?_, ?_⟩
  · by_cases e : t = i
    · rw [e] at hk
      exact absurd (cn_f1 E hi hk).2.2 hb
    · exact h2 t (by omega) hk hr
  · rcases h3 with ⟨q, F⟩ | q
    · refine Or.inl ⟨q, fun t ht hbt => ?_⟩
      by_cases e : t = i
      · rw [e] at hbt; exact absurd hbt hb
      · exact F t (by omega) hbt
    · exact Or.inr q
theorem cn_Q_relax {yd yd' : Nat → Int32} {r i : Nat} {x y : Int32} (E : cn_Env g bl co kn) (h : cn_Q bl co kn yd r i x) (hi : i < 81) (R : cn_RI kn co i yd 4 y yd') : cn_Q bl co kn yd' r (i + 1) (if y = 0 then x else 1) := by
  obtain ⟨⟨h1, h2⟩, h3, h4⟩ := h
  obtain ⟨r1, r2, r3, r4, r5⟩ := R
  have hle : ∀ t, (yd' t).toInt ≤ (yd t).toInt := by
    intro t
    by_cases e : t = i
    · rw [e]; exact r2
    · rw [r1 t e]; omega
  have hi4 : ∀ s, cn_N i s → (yd s).toInt < 1000000 → (yd' i).toInt ≤ (yd s).toInt + (co s).toInt := by
    intro s hN hs
    obtain ⟨q1, d, hd, rfl⟩ := hN
    exact r4 d hd q1 hs
  refine ⟨⟨fun t ht => ?_, fun t ht hk hr => ?_⟩, fun t ht hk hr => ?_, ?_⟩
  · have a := h1 t ht
    by_cases e : t = i
    · rw [e] at a ⊢
      exact ⟨r3, by omega⟩
    · rw [r1 t e]; exact a
  · have a := h2 t ht hk hr
    have b := hle t
    omega
  · by_cases e : t = i
    · subst e
      rcases cn_f4 E hi hk with q | ⟨s, hN, hs, c1, c2, q⟩
      · have z := cn_rk_0 E.2.1 q.2
        have a := h2 t hi hk (by omega)
        omega
      · have a := cn_rk_lt (kn := kn) (s := s) (t := t) hN.1 (by omega)
        have b := h2 s hN.1 hs (by omega)
        have c := hi4 s hN (by omega)
        omega
    · have a := h3 t (by omega) hk hr
      have b := hle t
      omega
  · rcases r5 with ⟨q, qe⟩ | q
    · rw [if_pos q]
      rcases h4 with ⟨z, F⟩ | z
      · refine Or.inl ⟨z, fun t ht hbt s hN hs => ?_⟩
        rw [qe] at hs ⊢
        by_cases e : t = i
        · subst e
          have w := hi4 s hN hs
          rw [qe] at w
          exact w
        · exact F t (by omega) hbt s hN hs
      · exact Or.inr z
    · rw [q, if_neg (by decide)]
      exact Or.inr rfl
end
section
variable {post : SY → Prop} {ro go ra ga : Int32} {g : Nat} {bl co kn yc : Nat → Int32}
theorem cn_find72 {J58 : Int32 → Int32 → Int32 → Int32 → Int32 → Int32 → (Nat → Int32) → (Nat → Int32) → (Nat → Int32) → Prop} {r : Nat} (E : cn_Env g bl co kn) (hyc : ∀ t, t < 81 → bl t = 0 → yc t = co t) (K : ∀ x yd, cn_Q bl co kn yd r 81 x → J58 x (nI (r + 1)) ro go ra ga bl yc yd) : ∀ m i x yd, i + m = 81 → cn_Q bl co kn yd r i x → wY_findDistances_72 post J58 (nI r) (m + 1) x (nI i) ro go ra ga bl yc yd := by
  intro m
  induction m with
  | zero =>
    intro i x yd hi I
    obtain rfl : i = 81 := by omega
    exact br_t (nI_le (a := 81) (b := 81) (by omega) (by decide)) (nm_r (nI_1 r) (K _ _ I))
  | succ m ih =>
    intro i x yd hi I
    have hi1 : i < 81 := by omega
    refine br_f (nI_ge (b := 81) hi1 (by decide)) ⟨cn_in hi1, ?_⟩
    rw [cn_cl hi1]
    refine br_c (fun hb => cn_relax E hi1 hb hyc I.1.1 (fun y yd' R => ?_)) (fun hb => nm_r (nI_1 i) (ih (i + 1) x yd (by omega) (cn_Q_block E I hi1 hb)))
    have Q := cn_Q_relax E I hi1 R
    refine br_c (fun e => ?_) (fun e => ?_)
    · rw [if_pos e] at Q
      exact nm_r (nI_1 i) (ih (i + 1) x yd' (by omega) Q)
    · rw [if_neg e] at Q
      exact nm_r (nI_1 i) (ih (i + 1) 1 yd' (by omega) Q)
theorem cn_find58 (E : cn_Env g bl co kn) (hyc : ∀ t, t < 81 → bl t = 0 → yc t = co t) (K : ∀ yd, cn_Done kn yd → post (ro, go, ra, ga, bl, yc, yd)) : ∀ m r x yd, r + m = 81 → cn_P kn yd r → (x = 1 ∨ (x = 0 ∧ cn_Done kn yd)) → wY_findDistances_58 post (m + 1) x (nI r) ro go ra ga bl yc yd := by
  intro m
  induction m with
  | zero =>
    intro r x yd hr I hx
    obtain rfl : r = 81 := by omega
    exact br_t (nI_le (a := 81) (b := 81) (by omega) (by decide)) (K _ (cn_P_done I))
  | succ m ih =>
    intro r x yd hr I hx
    have hr1 : r < 81 := by omega
    refine br_f (nI_ge (b := 81) hr1 (by decide)) ?_
    rcases hx with rfl | ⟨rfl, D⟩
    · refine br_f (by decide) ⟨82, cn_find72 E hyc (fun x' yd' Q => ?_) 81 0 0 yd rfl ⟨I, fun t q => absurd q (Nat.not_lt_zero t), Or.inl ⟨rfl, fun t q => absurd q (Nat.not_lt_zero t)⟩⟩⟩
      obtain ⟨q1, q2, q3⟩ := Q
      refine ih (r + 1) x' yd' (by omega) ⟨q1.1, q2⟩ ?_
      rcases q3 with ⟨e, F⟩ | e
      · exact Or.inr ⟨e, cn_Fx_done E q1 F⟩
      · exact Or.inl e
    · exact br_t rfl (K _ D)
end
/-! the start -/
def cn_y0 (g : Nat) (bl : Nat → Int32) (t : Nat) : Int := if t = g ∧ bl t = 0 then 0 else 1000000
section
variable {post : SY → Prop} {ro ra ga : Int32} {g : Nat} {bl cl ne fr : Nat → Int32}
theorem cn_find2 (hg : g < 81) (h : cn_Clr bl cl ne fr) (K : ∀ yc yd, (∀ t, t < 81 → yc t = cn_yc ra ga bl cl t ∧ (yd t).toInt = cn_y0 g bl t) → ∃ n, wY_findDistances_58 post n 1 0 ro (nI g) ra ga bl yc yd) : ∀ m i yc yd, i + m = 81 → (∀ t, t < i → yc t = cn_yc ra ga bl cl t ∧ (yd t).toInt = cn_y0 g bl t) → wY_findDistances_2 post ro (nI g) ra ga (m + 1) (nI i) bl yc yd := by
  intro m
  induction m with
  | zero =>
    intro i yc yd hi I
    obtain rfl : i = 81 := by omega
    exact br_t (nI_le (a := 81) (b := 81) (by omega) (by decide)) (K _ _ I)
  | succ m ih =>
    intro i yc yd hi I
    have hi1 : i < 81 := by omega
    have hI : ∀ v : Int32, v.toInt = cn_y0 g bl i → ∀ t, t < i + 1 → upd yc i (cn_yc ra ga bl cl i) t = cn_yc ra ga bl cl t ∧ (upd yd i v t).toInt = cn_y0 g bl t := by
      intro v hv t ht
      by_cases e : t = i
      · rw [e, pk_us, pk_us]; exact ⟨rfl, hv⟩
      · rw [pk_un e, pk_un e]; exact I t (by omega)
    refine br_f (nI_ge (b := 81) hi1 (by decide)) (cn_cost hi1 h ⟨cn_in hi1, nm_e ?_⟩)
    rw [cn_cl hi1]
    refine pk_eq i g (fun e => ⟨cn_in hi1, br_c (fun hb => ⟨cn_in hi1, nm_e (nm_r (nI_1 i) (ih (i + 1) _ _ (by omega) (hI 0 ?_)))⟩) (fun hb => ⟨cn_in hi1, nm_e (nm_r (nI_1 i) (ih (i + 1) _ _ (by omega) (hI 1000000 ?_)))⟩)⟩) (fun e => ⟨cn_in hi1, nm_e (nm_r (nI_1 i) (ih (i + 1) _ _ (by omega) (hI 1000000 ?_)))⟩)
    · unfold cn_y0; rw [if_pos ⟨e, hb⟩]; exact cn_L0
    · unfold cn_y0; rw [if_neg (fun q => hb q.2)]; exact cn_LM
    · unfold cn_y0; rw [if_neg (fun q => e q.1)]; exact cn_LM
theorem cn_find {co kn yc yd : Nat → Int32} (hg : g < 81) (h : cn_Clr bl cl ne fr) (E : cn_Env g bl co kn) (hco : ∀ t, t < 81 → co t = cn_co ra ga bl cl t) (K : ∀ yc' yd', (∀ t, t < 81 → bl t = 0 → yc' t = co t) → cn_Done kn yd' → post (ro, nI g, ra, ga, bl, yc', yd')) : wpY_findDistances post (ro, nI g, ra, ga, bl, yc, yd) := by
  refine ⟨82, cn_find2 hg h (fun yc' yd' I => ⟨82, ?_⟩) 81 0 yc yd rfl (fun t q => absurd q (Nat.not_lt_zero t))⟩
  have hyc : ∀ t, t < 81 → bl t = 0 → yc' t = co t := by
    intro t ht hb
    rw [hco t ht, (I t ht).1]
    unfold cn_yc cn_co
    rw [if_pos hb, if_pos hb]
  refine cn_find58 E hyc (fun yd'' D => K yc' yd'' hyc D) 81 0 1 yd' rfl ⟨fun t ht => ?_, fun t ht hk hr => ?_⟩ (Or.inl rfl)
  · rw [(I t ht).2]
    unfold cn_y0
    have k := E.2.1 t ht
    by_cases e : t = g ∧ bl t = 0
    · rw [if_pos e]
      have z := (E.2.2.1 t ht).2.1 ((E.2.2.2 t ht).mp e.2) e.1
      rw [cn_G1 (by omega)]
      omega
    · rw [if_neg e]
      by_cases q : (kn t).toInt < 100000
      · rw [cn_G1 q]; omega
      · rw [cn_G2 q]; omega
  · rcases cn_f4 E ht hk with q | ⟨s, hN, hs, c1, c2, q⟩
    · rw [(I t ht).2]
      unfold cn_y0
      rw [if_pos ⟨q.1, (cn_f1 E ht hk).2.2⟩]
      omega
    · have := cn_rk_lt (kn := kn) (s := s) (t := t) hN.1 (by omega)
      omega
end
end
section
/-! part 07: directions, drive, moves, reached, farthest: one outcome for both sides -/
def cn_st (co kn : Nat → Int32) (c d : Nat) : Prop := cn_mv c d < 81 ∧ 0 ≤ (co (cn_mv c d)).toInt ∧ (kn (cn_mv c d)).toInt + (co (cn_mv c d)).toInt = (kn c).toInt
/-- what findDistances leaves -/
def cn_YR (bl co kn yc yd : Nat → Int32) : Prop := cn_Done kn yd ∧ ∀ t, t < 81 → bl t = 0 → yc t = co t
theorem cn_nm4 {e : Nat} (h : e < 1000) : ¬ nI e = -4 := by
  intro q
  have := congrArg Int32.toInt q
  rw [cn_ti h, cn_Lm4] at this
  omega
theorem cn_m4 : (-4 : Int32) < 0 := by decide
section
variable {ra ga : Int32} {g : Nat} {bl cl ne fr co kn du : Nat → Int32}
theorem cn_Done_fin {yd : Nat → Int32} (D : cn_Done kn yd) {t : Nat} (ht : t < 81) (h : (kn t).toInt < 100000) : yd t = kn t := by
  apply Int32.toInt_inj.mp
  rw [D t ht, cn_G1 h]
theorem cn_Done_far {yd : Nat → Int32} (D : cn_Done kn yd) {t : Nat} (ht : t < 81) (h : ¬ (kn t).toInt < 100000) : yd t = 1000000 := by
  apply Int32.toInt_inj.mp
  rw [D t ht, cn_G2 h, cn_LM]
theorem cn_yl (E : cn_Env g bl co kn) {yd : Nat → Int32} (D : cn_Done kn yd) {c : Nat} (hc : c < 81) (hk : (kn c).toInt < 100000) : ¬ (1000000 : Int32) ≤ yd c := by
  have hm2 := cn_f2 E hc hk
  rw [Int32.le_iff_toInt_le, cn_LM, cn_Done_fin D hc hk]
  omega
theorem cn_dir_lp (E : cn_Env g bl co kn) (hg : g < 81) {c : Nat} (hc : c < 81) (hcg : c ≠ g) (hk : (kn c).toInt < 100000) : ∀ m d, d + m = 4 → ∃ r : Int32, ((r = -4 ∧ ∀ j, d ≤ j → j < 4 → ¬ cn_st co kn c j) ∨ ∃ e, e < 4 ∧ r = nI e ∧ cn_st co kn c e) ∧ (∀ (ro : Int32) (post : Int32 → Prop), post r → wX_nextFrom_24 post (nI c) ra ga ro (nI g) bl cl ne fr co kn du (m + 1) (nI d)) ∧ (∀ yc yd, cn_YR bl co kn yc yd → ∀ (ro : Int32) (post : Int32 → Prop), post r → wY_directionFrom_2 post (nI c) ro (nI g) ra ga bl yc yd (m + 1) (nI d)) := by
  have hgg : ¬ nI c = nI g := fun q => hcg (cn_inj (by omega) (by omega) q)
  have hm2 := cn_f2 E hc hk
  intro m
  induction m with
  | zero =>
    intro d hd
    obtain rfl : d = 4 := by omega
    exact ⟨-4, Or.inl ⟨rfl, fun j h1 h2 => by omega⟩, fun _ _ hp => br_t (nI_le (a := 4) (b := 4) (by omega) (by decide)) hp, fun _ _ _ _ _ hp => br_t (nI_le (a := 4) (b := 4) (by omega) (by decide)) hp⟩
  | succ m ih =>
    intro d hd
    have hd4 : d < 4 := by omega
    have hge := nI_ge (b := 4) hd4 (by decide)
    obtain ⟨r, hr, hX, hY⟩ := ih (d + 1) (by omega)
    by_cases S : cn_st co kn c d
    · obtain ⟨ht, h0, hs⟩ := S
      have hb : bl (cn_mv c d) = 0 := (E.2.2.2 _ ht).mpr h0
      have hr1 := E.1 _ ht
      have hkt := E.2.1 _ ht
      have hl : (kn (cn_mv c d)).toInt < 100000 := by omega
      have e1 : kn (cn_mv c d) + co (cn_mv c d) = kn c := by
        apply Int32.toInt_inj.mp
        rw [cn_add (by omega) (by omega)]
        exact hs
      refine ⟨nI d, Or.inr ⟨d, hd4, rfl, ht, h0, hs⟩, fun ro post hp => br_f hge (cn_moved hc hd4 (fun _ => br_f (nI_pos (by omega)) ⟨cn_in ht, ?_⟩) (fun q => absurd ht q)), fun yc yd Y ro post hp => br_f hge (cn_nbr hc hd4 (fun _ => br_f hgg (br_f (cn_nm4 (by omega)) ⟨cn_in hc, ?_⟩)) (fun q => absurd ht q))⟩
      · rw [cn_cl ht, cn_cl hc]
        exact br_f (by rw [Int32.lt_iff_toInt_lt, cn_L0]; omega) ⟨cn_in ht, cn_in ht, cn_in hc, br_t e1 hp⟩
      · have e2 : yd (cn_mv c d) + yc (cn_mv c d) = yd c := by
          rw [cn_Done_fin Y.1 hc hk, Y.2 _ ht hb, cn_Done_fin Y.1 ht hl]
          exact e1
        rw [cn_cl ht, cn_cl hc]
        exact br_f (cn_yl E Y.1 hc hk) ⟨cn_in ht, br_t hb ⟨cn_in ht, cn_in ht, cn_in hc, br_t e2 hp⟩⟩
    · have hr' : (r = -4 ∧ ∀ j, d ≤ j → j < 4 → ¬ cn_st co kn c j) ∨ ∃ e, e < 4 ∧ r = nI e ∧ cn_st co kn c e := by
        rcases hr with ⟨q, w⟩ | q
        · refine Or.inl ⟨q, fun j h1 h2 => ?_⟩
          by_cases e : j = d
          · rw [e]; exact S
          · exact w j (by omega) h2
        · exact Or.inr q
      by_cases ht : cn_mv c d < 81
      · have hr1 := E.1 _ ht
        have hkt := E.2.1 _ ht
        by_cases h0 : 0 ≤ (co (cn_mv c d)).toInt
        · have hb : bl (cn_mv c d) = 0 := (E.2.2.2 _ ht).mpr h0
          have hs : (kn (cn_mv c d)).toInt + (co (cn_mv c d)).toInt ≠ (kn c).toInt := fun q => S ⟨ht, h0, q⟩
          have e1 : ¬ kn (cn_mv c d) + co (cn_mv c d) = kn c := by
            intro q
            have q' := congrArg Int32.toInt q
            rw [cn_add (by omega) (by omega)] at q'
            exact hs q'
          refine ⟨r, hr', fun ro post hp => br_f hge (cn_moved hc hd4 (fun _ => br_f (nI_pos (by omega)) ⟨cn_in ht, ?_⟩) (fun q => absurd ht q)), fun yc yd Y ro post hp => br_f hge (cn_nbr hc hd4 (fun _ => br_f hgg (br_f (cn_nm4 (by omega)) ⟨cn_in hc, ?_⟩)) (fun q => absurd ht q))⟩
          · rw [cn_cl ht, cn_cl hc]
            exact br_f (by rw [Int32.lt_iff_toInt_lt, cn_L0]; omega) ⟨cn_in ht, cn_in ht, cn_in hc, br_f e1 (nm_r (nI_1 d) (hX ro post hp))⟩
          · have e2 : ¬ yd (cn_mv c d) + yc (cn_mv c d) = yd c := by
              rw [cn_Done_fin Y.1 hc hk, Y.2 _ ht hb]
              by_cases hl : (kn (cn_mv c d)).toInt < 100000
              · rw [cn_Done_fin Y.1 ht hl]; exact e1
              · rw [cn_Done_far Y.1 ht hl]
                intro q
                have q' := congrArg Int32.toInt q
                rw [cn_add (by rw [cn_LM]; omega) (by rw [cn_LM]; omega), cn_LM] at q'
                omega
            rw [cn_cl ht, cn_cl hc]
            exact br_f (cn_yl E Y.1 hc hk) ⟨cn_in ht, br_t hb ⟨cn_in ht, cn_in ht, cn_in hc, br_f e2 (nm_r (nI_1 d) (hY yc yd Y ro post hp))⟩⟩
        · have hb : ¬ bl (cn_mv c d) = 0 := fun q => h0 ((E.2.2.2 _ ht).mp q)
          refine ⟨r, hr', fun ro post hp => br_f hge (cn_moved hc hd4 (fun _ => br_f (nI_pos (by omega)) ⟨cn_in ht, ?_⟩) (fun q => absurd ht q)), fun yc yd Y ro post hp => br_f hge (cn_nbr hc hd4 (fun _ => br_f hgg (br_f (cn_nm4 (by omega)) ⟨cn_in hc, ?_⟩)) (fun q => absurd ht q))⟩
          · rw [cn_cl ht]
            exact br_t (by rw [Int32.lt_iff_toInt_lt, cn_L0]; omega) (nm_r (nI_1 d) (hX ro post hp))
          · rw [cn_cl ht, cn_cl hc]
            exact br_f (cn_yl E Y.1 hc hk) ⟨cn_in ht, br_f hb (nm_r (nI_1 d) (hY yc yd Y ro post hp))⟩
      · exact ⟨r, hr', fun ro post hp => br_f hge (cn_moved hc hd4 (fun q => absurd q ht) (fun _ => br_t cn_m1 (nm_r (nI_1 d) (hX ro post hp)))), fun yc yd Y ro post hp => br_f hge (cn_nbr hc hd4 (fun q => absurd q ht) (fun _ => br_f hgg (br_t rfl (nm_r (nI_1 d) (hY yc yd Y ro post hp)))))⟩
theorem cn_dirY_none {post : Int32 → Prop} {ro : Int32} {yc yd : Nat → Int32} (hg : g < 81) (D : cn_Done kn yd) {c : Nat} (hc : c < 81) (h : c = g ∨ ¬ (kn c).toInt < 100000) (hp : post (-4)) : ∀ m d, d + m = 4 → wY_directionFrom_2 post (nI c) ro (nI g) ra ga bl yc yd (m + 1) (nI d) := by
  intro m
  induction m with
  | zero =>
    intro d hd
    obtain rfl : d = 4 := by omega
    exact br_t (nI_le (a := 4) (b := 4) (by omega) (by decide)) hp
  | succ m ih =>
    intro d hd
    have hd4 : d < 4 := by omega
    have hge := nI_ge (b := 4) hd4 (by decide)
    refine br_f hge ?_
    have I := ih (d + 1) (by omega)
    rcases h with e | h
    · subst e
      exact cn_nbr hc hd4 (fun _ => br_t rfl (nm_r (nI_1 d) I)) (fun _ => br_t rfl (nm_r (nI_1 d) I))
    · have e := cn_Done_far D hc h
      refine cn_nbr hc hd4 (fun ht => br_c (fun _ => nm_r (nI_1 d) I) (fun _ => br_f (cn_nm4 (by omega)) ⟨cn_in hc, ?_⟩)) (fun _ => br_c (fun _ => nm_r (nI_1 d) I) (fun _ => br_t rfl (nm_r (nI_1 d) I)))
      rw [cn_cl hc, e]
      exact br_t (by decide) (nm_r (nI_1 d) I)
/-- d is the direction from c, on both sides -/
def cn_Dir (ra ga : Int32) (g : Nat) (bl cl ne fr co kn du : Nat → Int32) (c : Nat) (d : Int32) : Prop :=
  ((d = -4 ∧ (c = g ∨ ¬ (kn c).toInt < 100000)) ∨ ∃ e, e < 4 ∧ d = nI e ∧ cn_st co kn c e ∧ c ≠ g ∧ (kn c).toInt < 100000) ∧ (∀ (ro : Int32) (post : Int32 → Prop), post d → wpX_nextFrom post (ra, ga, ro, nI g, bl, cl, ne, fr, co, kn, du) (nI c)) ∧ (∀ yc yd, cn_YR bl co kn yc yd → ∀ (ro : Int32) (post : Int32 → Prop), post d → wpY_directionFrom post (ro, nI g, ra, ga, bl, yc, yd) (nI c))
theorem cn_dir (E : cn_Env g bl co kn) (hg : g < 81) {c : Nat} (hc : c < 81) : ∃ d, cn_Dir ra ga g bl cl ne fr co kn du c d := by
  by_cases e : c = g
  · refine ⟨-4, Or.inl ⟨rfl, Or.inl e⟩, fun ro post hp => ?_, fun yc yd Y ro post hp => ⟨5, cn_dirY_none hg Y.1 hc (Or.inl e) hp 4 0 rfl⟩⟩
    rw [e]
    exact br_t rfl hp
  · have hgg : ¬ nI c = nI g := fun q => e (cn_inj (by omega) (by omega) q)
    by_cases hk : (kn c).toInt < 100000
    · obtain ⟨r, hr, hX, hY⟩ := cn_dir_lp (ra := ra) (ga := ga) (cl := cl) (ne := ne) (fr := fr) (du := du) E hg hc e hk 4 0 rfl
      refine ⟨r, ?_, fun ro post hp => br_f hgg ⟨cn_in hc, ?_⟩, fun yc yd Y ro post hp => ⟨5, hY yc yd Y ro post hp⟩⟩
      · rcases hr with ⟨q, w⟩ | ⟨d, hd, q, w⟩
        · exfalso
          rcases cn_f4 E hc hk with z | ⟨s, hN, hs, c1, c2, z⟩
          · exact e z.1
          · obtain ⟨h1, d, hd, rfl⟩ := hN
            exact w d (by omega) hd ⟨h1, by omega, by omega⟩
        · exact Or.inr ⟨d, hd, q, w, e, hk⟩
      · rw [cn_cl hc]
        exact br_t (by rw [Int32.lt_iff_toInt_lt, cn_LF]; exact hk) ⟨5, hX ro post hp⟩
    · refine ⟨-4, Or.inl ⟨rfl, Or.inr hk⟩, fun ro post hp => br_f hgg ⟨cn_in hc, ?_⟩, fun yc yd Y ro post hp => ⟨5, cn_dirY_none hg Y.1 hc (Or.inr hk) hp 4 0 rfl⟩⟩
      rw [cn_cl hc]
      exact br_f (by rw [Int32.lt_iff_toInt_lt, cn_LF]; exact hk) hp
/-! drive -/
theorem cn_driveY {post : Int32 → SY → Prop} {v1 x : Int32} {c : Nat} {yc yd : Nat → Int32} (hY : ∀ (ro : Int32) (post : Int32 → Prop), post (-4) → wpY_directionFrom post (ro, nI g, ra, ga, bl, yc, yd) (nI c)) (hp : post x (nI c, nI g, ra, ga, bl, yc, yd)) : ∀ m i, i + m = 40 → wY_drive_8 post v1 (nI g) ra ga bl yc yd (m + 1) x (nI i) (nI c) := by
  intro m
  induction m with
  | zero =>
    intro i hi
    obtain rfl : i = 40 := by omega
    exact br_t (nI_le (a := 40) (b := 40) (by omega) (by decide)) hp
  | succ m ih =>
    intro i hi
    refine br_f (nI_ge (b := 40) (by omega) (by decide)) (br_c (fun _ => hp) (fun _ => hY _ _ (br_t rfl (nm_r (nI_1 i) (ih (i + 1) (by omega))))))
theorem cn_drive_lp (E : cn_Env g bl co kn) (hg : g < 81) {v1 : Int32} : ∀ m i x c d, i + m = 40 → c < 81 → cn_Dir ra ga g bl cl ne fr co kn du c d → ∃ (r : Int32) (c' : Nat), c' < 81 ∧ (∀ post : Int32 → SX → Prop, post r (ra, ga, nI c', nI g, bl, cl, ne, fr, co, kn, du) → wX_drive_18 post v1 ra ga (nI g) bl cl ne fr co kn du (m + 1) x d (nI i) (nI c)) ∧ (∀ yc yd, cn_YR bl co kn yc yd → ∀ post : Int32 → SY → Prop, post r (nI c', nI g, ra, ga, bl, yc, yd) → wY_drive_8 post v1 (nI g) ra ga bl yc yd (m + 1) x (nI i) (nI c)) := by
  intro m
  induction m with
  | zero =>
    intro i x c d hi hc hd
    obtain rfl : i = 40 := by omega
    have h40 : (40 : Int32) ≤ nI 40 := nI_le (a := 40) (b := 40) (by omega) (by decide)
    exact ⟨x, c, hc, fun post hp => br_c (fun _ => hp) (fun _ => br_t h40 hp), fun _ _ _ post hp => br_t h40 hp⟩
  | succ m ih =>
    intro i x c d hi hc hd
    have h40 : ¬ (40 : Int32) ≤ nI i := nI_ge (b := 40) (by omega) (by decide)
    by_cases hv : v1 ≤ nI i
    · exact ⟨x, c, hc, fun post hp => br_t hv hp, fun _ _ _ post hp => br_f h40 (br_t hv hp)⟩
    · obtain ⟨hs, hX, hY⟩ := hd
      rcases hs with ⟨rfl, _⟩ | ⟨e, he, rfl, S, _, _⟩
      · exact ⟨x, c, hc, fun post hp => br_f hv (br_f h40 (br_t cn_m4 hp)), fun yc yd Y post hp => cn_driveY (hY yc yd Y) hp (m + 1) i (by omega)⟩
      · have ht := S.1
        obtain ⟨d', hd'⟩ := cn_dir (ra := ra) (ga := ga) (cl := cl) (ne := ne) (fr := fr) (du := du) E hg ht
        obtain ⟨r, c', hc', HX, HY⟩ := ih (i + 1) (x + 1) (cn_mv c e) d' (by omega) ht hd'
        refine ⟨r, c', hc', fun post hp => br_f hv (br_f h40 (br_f (nI_pos (by omega)) (cn_moved hc he (fun _ => nm_e ?_) (fun q => absurd ht q)))), fun yc yd Y post hp => br_f h40 (br_f hv (hY yc yd Y _ _ (br_f (cn_nm4 (by omega)) (cn_nbr hc he (fun _ => nm_e (nm_r (nI_1 i) (HY yc yd Y post hp))) (fun q => absurd ht q)))))⟩
        exact hd'.2.1 _ _ (nm_r (nI_1 i) (HX post hp))
/-! moves -/
theorem cn_moves_lp {ro : Int32} (E : cn_Env g bl co kn) (hg : g < 81) : ∀ m i c d, i + m = 81 → c < 81 → (kn c).toInt < 100000 → cn_Dir ra ga g bl cl ne fr co kn du c d → ∃ r : Int32, (∀ post : Int32 → SX → Prop, post r (ra, ga, ro, nI g, bl, cl, ne, fr, co, kn, du) → wX_moves_37 post ra ga ro (nI g) bl cl ne fr co kn du (m + 1) (nI c) (nI i) d (nI i)) ∧ (∀ yc yd, cn_YR bl co kn yc yd → ∀ post : Int32 → SY → Prop, post r (ro, nI g, ra, ga, bl, yc, yd) → wY_moves_28 post ro (nI g) ra ga bl yc yd (m + 1) (nI c) (nI i)) := by
  intro m
  induction m with
  | zero =>
    intro i c d hi hc hk hd
    obtain rfl : i = 81 := by omega
    have h81 : (81 : Int32) ≤ nI 81 := nI_le (a := 81) (b := 81) (by omega) (by decide)
    exact ⟨nI 81, fun post hp => br_t h81 hp, fun _ _ _ post hp => br_t h81 hp⟩
  | succ m ih =>
    intro i c d hi hc hk hd
    have h81 : ¬ (81 : Int32) ≤ nI i := nI_ge (b := 81) (by omega) (by decide)
    obtain ⟨hs, hX, hY⟩ := hd
    rcases hs with ⟨rfl, q⟩ | ⟨e, he, rfl, S, hcg, _⟩
    · have e : c = g := by
        rcases q with q | q
        · exact q
        · exact absurd hk q
      refine ⟨nI i, fun post hp => br_f h81 (br_t cn_m4 hp), fun _ _ _ post hp => br_f h81 (br_t ?_ hp)⟩
      rw [e]
    · have ht := S.1
      have hgg : ¬ nI c = nI g := fun q => hcg (cn_inj (by omega) (by omega) q)
      obtain ⟨d', hd'⟩ := cn_dir (ra := ra) (ga := ga) (cl := cl) (ne := ne) (fr := fr) (du := du) E hg ht
      have hr1 := E.1 _ ht
      have S2 := S.2
      obtain ⟨r, HX, HY⟩ := ih (i + 1) (cn_mv c e) d' (by omega) ht (by omega) hd'
      refine ⟨r, fun post hp => br_f h81 (br_f (nI_pos (by omega)) (cn_moved hc he (fun _ => nm_r (nI_1 i) ?_) (fun q => absurd ht q))), fun yc yd Y post hp => br_f h81 (br_f hgg (hY yc yd Y _ _ (cn_nbr hc he (fun _ => nm_r (nI_1 i) (HY yc yd Y post hp)) (fun q => absurd ht q))))⟩
      exact hd'.2.1 _ _ (nm_r (nI_1 i) (HX post hp))
/-! reached, farthest -/
theorem cn_reached_lp {ro : Int32} : ∀ m i x, i + m = 81 → ∃ r : Int32, (∀ post : Int32 → SX → Prop, post r (ra, ga, ro, nI g, bl, cl, ne, fr, co, kn, du) → wX_reached_8 post ra ga ro (nI g) bl cl ne fr co kn du (m + 1) x (nI i)) ∧ (∀ yc yd, cn_YR bl co kn yc yd → ∀ post : Int32 → SY → Prop, post r (ro, nI g, ra, ga, bl, yc, yd) → wY_reached_8 post ro (nI g) ra ga bl yc yd (m + 1) x (nI i)) := by
  intro m
  induction m with
  | zero =>
    intro i x hi
    obtain rfl : i = 81 := by omega
    have h81 : (81 : Int32) ≤ nI 81 := nI_le (a := 81) (b := 81) (by omega) (by decide)
    exact ⟨x, fun post hp => br_t h81 hp, fun _ _ _ post hp => br_t h81 hp⟩
  | succ m ih =>
    intro i x hi
    have hi1 : i < 81 := by omega
    have h81 : ¬ (81 : Int32) ≤ nI i := nI_ge (b := 81) hi1 (by decide)
    by_cases hk : (kn i).toInt < 100000
    · obtain ⟨r, HX, HY⟩ := ih (i + 1) (x + 1) (by omega)
      refine ⟨r, fun post hp => br_f h81 ⟨cn_in hi1, ?_⟩, fun yc yd Y post hp => br_f h81 ⟨cn_in hi1, ?_⟩⟩
      · rw [cn_cl hi1]
        exact br_f (by rw [Int32.le_iff_toInt_le, cn_LF]; omega) (nm_e (nm_r (nI_1 i) (HX post hp)))
      · rw [cn_cl hi1, cn_Done_fin Y.1 hi1 hk]
        exact br_f (by rw [Int32.le_iff_toInt_le, cn_LM]; omega) (nm_e (nm_r (nI_1 i) (HY yc yd Y post hp)))
    · obtain ⟨r, HX, HY⟩ := ih (i + 1) x (by omega)
      refine ⟨r, fun post hp => br_f h81 ⟨cn_in hi1, ?_⟩, fun yc yd Y post hp => br_f h81 ⟨cn_in hi1, ?_⟩⟩
      · rw [cn_cl hi1]
        exact br_t (by rw [Int32.le_iff_toInt_le, cn_LF]; omega) (nm_r (nI_1 i) (HX post hp))
      · rw [cn_cl hi1, cn_Done_far Y.1 hi1 hk]
        exact br_t (by decide) (nm_r (nI_1 i) (HY yc yd Y post hp))
theorem cn_farthest_lp {ro : Int32} : ∀ m i x, i + m = 81 → ∃ r : Int32, (∀ post : Int32 → SX → Prop, post r (ra, ga, ro, nI g, bl, cl, ne, fr, co, kn, du) → wX_farthest_9 post ra ga ro (nI g) bl cl ne fr co kn du (m + 1) x (nI i)) ∧ (∀ yc yd, cn_YR bl co kn yc yd → ∀ post : Int32 → SY → Prop, post r (ro, nI g, ra, ga, bl, yc, yd) → wY_farthest_9 post ro (nI g) ra ga bl yc yd (m + 1) x (nI i)) := by
  intro m
  induction m with
  | zero =>
    intro i x hi
    obtain rfl : i = 81 := by omega
    have h81 : (81 : Int32) ≤ nI 81 := nI_le (a := 81) (b := 81) (by omega) (by decide)
    exact ⟨x, fun post hp => br_t h81 hp, fun _ _ _ post hp => br_t h81 hp⟩
  | succ m ih =>
    intro i x hi
    have hi1 : i < 81 := by omega
    have h81 : ¬ (81 : Int32) ≤ nI i := nI_ge (b := 81) hi1 (by decide)
    by_cases hk : (kn i).toInt < 100000
    · have a1 : ¬ (100000 : Int32) ≤ kn i := by rw [Int32.le_iff_toInt_le, cn_LF]; omega
      have a2 : ¬ (1000000 : Int32) ≤ kn i := by rw [Int32.le_iff_toInt_le, cn_LM]; omega
      by_cases hx : kn i ≤ x
      · obtain ⟨r, HX, HY⟩ := ih (i + 1) x (by omega)
        refine ⟨r, fun post hp => br_f h81 ⟨cn_in hi1, ?_⟩, fun yc yd Y post hp => br_f h81 ⟨cn_in hi1, ?_⟩⟩
        · rw [cn_cl hi1]
          exact br_f a1 ⟨cn_in hi1, br_t hx (nm_r (nI_1 i) (HX post hp))⟩
        · rw [cn_cl hi1, cn_Done_fin Y.1 hi1 hk]
          exact br_f a2 ⟨cn_in hi1, br_t hx (nm_r (nI_1 i) (HY yc yd Y post hp))⟩
      · obtain ⟨r, HX, HY⟩ := ih (i + 1) (kn i) (by omega)
        refine ⟨r, fun post hp => br_f h81 ⟨cn_in hi1, ?_⟩, fun yc yd Y post hp => br_f h81 ⟨cn_in hi1, ?_⟩⟩
        · rw [cn_cl hi1]
          exact br_f a1 ⟨cn_in hi1, br_f hx ⟨cn_in hi1, nm_e (nm_r (nI_1 i) (HX post hp))⟩⟩
        · rw [cn_cl hi1, cn_Done_fin Y.1 hi1 hk]
          exact br_f a2 ⟨cn_in hi1, br_f hx ⟨cn_in hi1, nm_e (nm_r (nI_1 i) (HY yc yd Y post hp))⟩⟩
    · obtain ⟨r, HX, HY⟩ := ih (i + 1) x (by omega)
      refine ⟨r, fun post hp => br_f h81 ⟨cn_in hi1, ?_⟩, fun yc yd Y post hp => br_f h81 ⟨cn_in hi1, ?_⟩⟩
      · rw [cn_cl hi1]
        exact br_t (by rw [Int32.le_iff_toInt_le, cn_LF]; omega) (nm_r (nI_1 i) (HX post hp))
      · rw [cn_cl hi1, cn_Done_far Y.1 hi1 hk]
        exact br_t (by decide) (nm_r (nI_1 i) (HY yc yd Y post hp))
end
end
section
/-! part 08: wall -/
def cn_wl (c e i : Nat) : Nat := if e = 1 then (if c % 9 + i < 9 then c + i else 99) else (if c / 9 + i < 9 then c + 9 * i else 99)
theorem cn_wl_1 {c i : Nat} (h : c % 9 + i < 9) : cn_wl c 1 i = c + i := by unfold cn_wl; rw [if_pos rfl, if_pos h]
theorem cn_wl_1o {c i : Nat} (h : ¬ c % 9 + i < 9) : cn_wl c 1 i = 99 := by unfold cn_wl; rw [if_pos rfl, if_neg h]
theorem cn_wl_2 {c i : Nat} (h : c / 9 + i < 9) : cn_wl c 2 i = c + 9 * i := by unfold cn_wl; rw [if_neg (by decide), if_pos h]
theorem cn_wl_2o {c i : Nat} (h : ¬ c / 9 + i < 9) : cn_wl c 2 i = 99 := by unfold cn_wl; rw [if_neg (by decide), if_neg h]
theorem cn_wl_0 {c e : Nat} (hc : c < 81) : cn_wl c e 0 = c := by unfold cn_wl; (repeat' split) <;> omega
theorem cn_wl_mv {c e i : Nat} (hc : c < 81) (he : e = 1 ∨ e = 2) (h : cn_wl c e i < 81) : cn_mv (cn_wl c e i) e = cn_wl c e (i + 1) := by
  rcases he with rfl | rfl
  · by_cases p : c % 9 + i < 9
    · rw [cn_wl_1 p]
      by_cases q : c % 9 + (i + 1) < 9
      · rw [cn_wl_1 q]
        unfold cn_mv
        (repeat' split) <;> omega
      · rw [cn_wl_1o q]
        unfold cn_mv
        (repeat' split) <;> omega
    · rw [cn_wl_1o p] at h; omega
  · by_cases p : c / 9 + i < 9
    · rw [cn_wl_2 p]
      by_cases q : c / 9 + (i + 1) < 9
      · rw [cn_wl_2 q]
        unfold cn_mv
        (repeat' split) <;> omega
      · rw [cn_wl_2o q]
        unfold cn_mv
        (repeat' split) <;> omega
    · rw [cn_wl_2o p] at h; omega
theorem cn_wl_out {c e i : Nat} (hc : c < 81) (h : ¬ cn_wl c e i < 81) : ¬ cn_wl c e (i + 1) < 81 := by
  unfold cn_wl at h ⊢
  by_cases q : e = 1
  · rw [if_pos q] at h ⊢
    by_cases p : c % 9 + i < 9
    · rw [if_pos p] at h; omega
    · rw [if_neg (by omega)]; omega
  · rw [if_neg q] at h ⊢
    by_cases p : c / 9 + i < 9
    · rw [if_pos p] at h; omega
    · rw [if_neg (by omega)]; omega
def cn_wb (w : Nat → Nat) (on : Int32) : Nat → Nat → (Nat → Int32) → (Nat → Int32)
  | 0, _, bl => bl
  | m + 1, i, bl => cn_wb w on m (i + 1) (if w i < 81 then upd bl (w i) on else bl)
def cn_wc (w : Nat → Nat) (on : Int32) : Nat → Nat → (Nat → Int32) → Int32 → Int32
  | 0, _, _, x => x
  | m + 1, i, bl, x => cn_wc w on m (i + 1) (if w i < 81 then upd bl (w i) on else bl) (if w i < 81 then x + (if bl (w i) = on then 0 else 1) else x)
theorem cn_wb_in {w : Nat → Nat} {on x : Int32} {m i : Nat} {bl : Nat → Int32} (h : w i < 81) : cn_wb w on (m + 1) i bl = cn_wb w on m (i + 1) (upd bl (w i) on) ∧ cn_wc w on (m + 1) i bl x = cn_wc w on m (i + 1) (upd bl (w i) on) (x + (if bl (w i) = on then 0 else 1)) := by
  constructor
  · show cn_wb w on m (i + 1) (if w i < 81 then upd bl (w i) on else bl) = _
    rw [if_pos h]
  · show cn_wc w on m (i + 1) (if w i < 81 then upd bl (w i) on else bl) (if w i < 81 then x + (if bl (w i) = on then 0 else 1) else x) = _
    rw [if_pos h, if_pos h]
theorem cn_wb_out {w : Nat → Nat} {on x : Int32} {m i : Nat} {bl : Nat → Int32} (h : ¬ w i < 81) : cn_wb w on (m + 1) i bl = cn_wb w on m (i + 1) bl ∧ cn_wc w on (m + 1) i bl x = cn_wc w on m (i + 1) bl x := by
  constructor
  · show cn_wb w on m (i + 1) (if w i < 81 then upd bl (w i) on else bl) = _
    rw [if_neg h]
  · show cn_wc w on m (i + 1) (if w i < 81 then upd bl (w i) on else bl) (if w i < 81 then x + (if bl (w i) = on then 0 else 1) else x) = _
    rw [if_neg h, if_neg h]
theorem cn_wb_idle {c e : Nat} {on x : Int32} {bl : Nat → Int32} (hc : c < 81) : ∀ m i, ¬ cn_wl c e i < 81 → cn_wb (cn_wl c e) on m i bl = bl ∧ cn_wc (cn_wl c e) on m i bl x = x := by
  intro m
  induction m with
  | zero => intro i _; exact ⟨rfl, rfl⟩
  | succ m ih =>
    intro i h
    have a := cn_wb_out (w := cn_wl c e) (on := on) (x := x) (m := m) (bl := bl) h
    rw [a.1, a.2]
    exact ih (i + 1) (cn_wl_out hc h)
/-! the component -/
section
variable {post : Int32 → SX → Prop} {ra ga ro go v2 v3 : Int32} {co kn du : Nat → Int32}
theorem cn_wallX {c e many : Nat} {on : Int32} (hc : c < 81) (hM : many ≤ 9) (he : (v2 = 0 ∧ e = 1) ∨ (¬ v2 = 0 ∧ e = 2)) (hon : (v3 ≤ 0 ∧ on = 0) ∨ (¬ v3 ≤ 0 ∧ on = 1)) : ∀ m i x a bl cl ne fr, i + m = many → cn_Clr bl cl ne fr → ((cn_wl c e i < 81 ∧ a = nI (cn_wl c e i)) ∨ (¬ cn_wl c e i < 81 ∧ a = -1)) → (∀ cl' ne' fr', cn_Clr (cn_wb (cn_wl c e) on m i bl) cl' ne' fr' → wX_wall_102 post (cn_wc (cn_wl c e) on m i bl x) ra ga ro go (cn_wb (cn_wl c e) on m i bl) cl' ne' fr' co kn du) → wX_wall_43 post v2 v3 (nI many) (m + 1) x a (nI i) ra ga ro go bl cl ne fr co kn du := by
  have he' : e = 1 ∨ e = 2 := by
    rcases he with q | q
    · exact Or.inl q.2
    · exact Or.inr q.2
  have hon' : on = 0 ∨ on = 1 := by
    rcases hon with q | q
    · exact Or.inl q.2
    · exact Or.inr q.2
  intro m
  induction m with
  | zero =>
    intro i x a bl cl ne fr hi hC ha K
    obtain rfl : i = many := by omega
    exact br_t (nI_le (Nat.le_refl _) (by omega)) (K cl ne fr hC)
  | succ m ih =>
    intro i x a bl cl ne fr hi hC ha K
    refine br_f (nI_ge (by omega) (by omega)) ?_
    rcases ha with ⟨hw, rfl⟩ | ⟨hw, rfl⟩
    · have W := cn_wb_in (w := cn_wl c e) (on := on) (x := x) (m := m) (bl := bl) hw
      rw [W.1, W.2] at K
      have hmv := cn_wl_mv hc he' hw
      have step : wX_wall_67 post (wX_wall_43 post v2 v3 (nI many) (m + 1)) v2 v3 (nI many) x (nI (cn_wl c e i)) (nI i) on (nI (cn_wl c e i)) ra ga ro go bl cl ne fr co kn du := by
        refine cn_put hw hon' hC (fun cl' ne' fr' hC' => nm_e ?_)
        have fin : ∀ z : Int32, z = nI e → wX_wall_91 post (wX_wall_43 post v2 v3 (nI many) (m + 1)) v2 v3 (nI many) (x + (if bl (cn_wl c e i) = on then 0 else 1)) (nI i) z (nI (cn_wl c e i)) ra ga ro go (upd bl (cn_wl c e i) on) cl' ne' fr' co kn du := by
          intro z hz
          subst hz
          refine cn_moved hw (by omega) (fun ht => nm_r (nI_1 i) (ih (i + 1) _ _ _ _ _ _ (by omega) hC' (Or.inl ?_) K)) (fun ht => nm_r (nI_1 i) (ih (i + 1) _ _ _ _ _ _ (by omega) hC' (Or.inr ?_) K))
          · rw [hmv] at ht ⊢; exact ⟨ht, rfl⟩
          · rw [hmv] at ht; exact ⟨ht, rfl⟩
        rcases he with ⟨q, rfl⟩ | ⟨q, rfl⟩
        · exact br_t q (fin 1 rfl)
        · exact br_f q (fin 2 rfl)
      refine br_f (nI_pos (by omega)) ?_
      rcases hon with ⟨q, rfl⟩ | ⟨q, rfl⟩
      · exact br_t q step
      · exact br_f q step
    · have W := cn_wb_idle (c := c) (e := e) (on := on) (x := x) (bl := bl) hc (m + 1) i hw
      rw [W.1, W.2] at K
      exact br_t cn_m1 (K cl ne fr hC)
end
/-! the reference -/
section
variable {post : Int32 → SY → Prop} {ro go ra ga v2 v3 : Int32} {yc yd : Nat → Int32}
theorem cn_w131 {J : Int32 → Int32 → (Nat → Int32) → (Nat → Int32) → (Nat → Int32) → Prop} {x1 x4 x on : Int32} {i d : Nat} {bl : Nat → Int32} (hd : d < 81) (hon : (v3 ≤ 0 ∧ on = 0) ∨ (¬ v3 ≤ 0 ∧ on = 1)) (K : J (x + (if bl d = on then 0 else 1)) (nI (i + 1)) (upd bl d on) yc yd) : wY_wall_131 post J x1 v2 v3 x4 x (nI i) (nI d) on (bl d) ro go ra ga bl yc yd := by
  unfold wY_wall_131
  rw [cn_cl hd]
  refine br_c (fun e => ?_) (fun e => ?_)
  · rw [if_pos e, Int32.add_zero, cn_updself bl d on e] at K
    exact nm_r (nI_1 i) K
  · rw [if_neg e] at K
    rcases hon with ⟨q, rfl⟩ | ⟨q, rfl⟩
    · exact br_t q ⟨cn_in hd, nm_e (nm_e (nm_r (nI_1 i) K))⟩
    · exact br_f q ⟨cn_in hd, nm_e (nm_e (nm_r (nI_1 i) K))⟩
theorem cn_w108 {J : Int32 → Int32 → (Nat → Int32) → (Nat → Int32) → (Nat → Int32) → Prop} {x1 x4 x on : Int32} {i d : Nat} {bl : Nat → Int32} (hd : d < 81) (hon : (v3 ≤ 0 ∧ on = 0) ∨ (¬ v3 ≤ 0 ∧ on = 1)) (K : J (x + (if bl d = on then 0 else 1)) (nI (i + 1)) (upd bl d on) yc yd) : wY_wall_108 post J x1 v2 v3 x4 x (nI i) 1 (nI d) ro go ra ga bl yc yd := by
  unfold wY_wall_108
  rw [cn_cl hd]
  have hon2 := hon
  rcases hon with ⟨q, rfl⟩ | ⟨q, rfl⟩
  · exact br_f (by decide) ⟨cn_in hd, br_t q (cn_w131 hd hon2 K)⟩
  · exact br_f (by decide) ⟨cn_in hd, br_f q (cn_w131 hd hon2 K)⟩
theorem cn_wallY {c e many : Nat} {on : Int32} (hc : c < 81) (hM : many ≤ 9) (he : (v2 = 0 ∧ e = 1) ∨ (¬ v2 = 0 ∧ e = 2)) (hon : (v3 ≤ 0 ∧ on = 0) ∨ (¬ v3 ≤ 0 ∧ on = 1)) : ∀ m i x bl, i + m = many → post (cn_wc (cn_wl c e) on m i bl x) (ro, go, ra, ga, cn_wb (cn_wl c e) on m i bl, yc, yd) → wY_wall_40 post (nI c) v2 v3 (nI many) ro go ra ga (m + 1) x (nI i) bl yc yd := by
  intro m
  induction m with
  | zero =>
    intro i x bl hi K
    obtain rfl : i = many := by omega
    exact br_t (nI_le (Nat.le_refl _) (by omega)) K
  | succ m ih =>
    intro i x bl hi K
    have e1 : nI c - nI c / 9 * 9 = nI (c % 9) := pk_rem (d := 9) (by omega) (by decide) (by decide)
    have e2 : nI c / 9 = nI (c / 9) := pk_div (d := 9) (by omega) (by decide) (by decide)
    refine br_f (nI_ge (by omega) (by omega)) ?_
    rw [e1, e2, nI_add, nI_add]
    have hin : cn_wl c e i < 81 → wY_wall_108 post (wY_wall_40 post (nI c) v2 v3 (nI many) ro go ra ga (m + 1)) (nI c) v2 v3 (nI many) x (nI i) 1 (nI (cn_wl c e i)) ro go ra ga bl yc yd := by
      intro hw
      have W := cn_wb_in (w := cn_wl c e) (on := on) (x := x) (m := m) (bl := bl) hw
      rw [W.1, W.2] at K
      exact cn_w108 hw hon (ih (i + 1) _ _ (by omega) K)
    have hout : ¬ cn_wl c e i < 81 → ∀ d : Int32, wY_wall_108 post (wY_wall_40 post (nI c) v2 v3 (nI many) ro go ra ga (m + 1)) (nI c) v2 v3 (nI many) x (nI i) 0 d ro go ra ga bl yc yd := by
      intro hw d
      have W := cn_wb_out (w := cn_wl c e) (on := on) (x := x) (m := m) (bl := bl) hw
      rw [W.1, W.2] at K
      exact br_t rfl (nm_r (nI_1 i) (ih (i + 1) _ _ (by omega) K))
    rcases he with ⟨q, rfl⟩ | ⟨q, rfl⟩
    · refine br_t q ⟨by decide, pk_le 9 (c % 9 + i) (fun h => br_t q (hout ?_ _)) (fun h => br_t q ?_)⟩
      · rw [cn_wl_1o (by omega)]; omega
      · have w : cn_wl c 1 i = c + i := cn_wl_1 (by omega)
        rw [nI_add, ← w]
        exact hin (by rw [w]; omega)
    · refine br_f q ⟨by decide, pk_le 9 (c / 9 + i) (fun h => br_f q (hout ?_ _)) (fun h => br_f q ?_)⟩
      · rw [cn_wl_2o (by omega)]; omega
      · have w : cn_wl c 2 i = c + 9 * i := cn_wl_2 (by omega)
        have z : nI c + 9 * nI i = nI (cn_wl c 2 i) := by
          rw [w, ← nI_add, ← pk_mul]
          rfl
        rw [z]
        exact hin (by rw [w]; omega)
end
end
section
/-! part 09: the relation, the constructors, rows for the owed ones -/
def cn_W (ra ga : Int32) (r g : Nat) (bl cl ne fr co kn du : Nat → Int32) : Prop := r < 81 ∧ g < 81 ∧ cn_PR ra ga ∧ cn_Clr bl cl ne fr ∧ (∀ t, t < 81 → co t = cn_co ra ga bl cl t) ∧ cn_KnR kn ∧ cn_DOK g co kn du
/-- the relation at the head of a turn -/
def i_Rel (k : Nat) (u : SX) (v : SY) : Prop := ∃ (ra ga : Int32) (r g : Nat) (bl cl ne fr co kn du yc yd : Nat → Int32), u = (ra, ga, nI r, nI g, bl, cl, ne, fr, co, kn, du) ∧ v = (nI r, nI g, ra, ga, bl, yc, yd) ∧ cn_W ra ga r g bl cl ne fr co kn du
theorem cn_mk {k : Nat} {ra ga : Int32} {r g : Nat} {bl cl ne fr co kn du yc yd : Nat → Int32} (h : cn_W ra ga r g bl cl ne fr co kn du) : i_Rel k (ra, ga, nI r, nI g, bl, cl, ne, fr, co, kn, du) (nI r, nI g, ra, ga, bl, yc, yd) :=
  ⟨ra, ga, r, g, bl, cl, ne, fr, co, kn, du, yc, yd, rfl, rfl, h⟩
theorem i_up {k : Nat} {u : SX} {v : SY} (h : i_Rel k u v) : i_Rel (k + 4) u v := h
theorem cn_W_co {ra ga : Int32} {r g : Nat} {bl cl ne fr co kn du : Nat → Int32} (h : cn_W ra ga r g bl cl ne fr co kn du) : cn_CoR co := by
  obtain ⟨_, _, hp, hC, hco, _, _⟩ := h
  intro t ht
  rw [hco t ht]
  exact cn_co_rng hp hC t ht
/-! the constructors -/
def cn_I0 (i : Nat) (cl ne co kn du : Nat → Int32) : Prop := ∀ t, t < i → cl t = 9 ∧ ne t = -1 ∧ co t = 1 ∧ kn t = 100000 ∧ du t = 100000
theorem cn_init_lp {post : SX → Prop} {ra ga ro : Int32} {bl fr : Nat → Int32} (K : ∀ cl ne co kn du, cn_I0 81 cl ne co kn du → post (ra, ga, ro, nI 80, bl, cl, ne, fr, co, kn, upd du 80 0)) : ∀ m i cl ne co kn du, i + m = 81 → cn_I0 i cl ne co kn du → wX_init_78 post ra ga ro (nI 80) (m + 1) (nI i) bl cl ne fr co kn du := by
  intro m
  induction m with
  | zero =>
    intro i cl ne co kn du hi I
    obtain rfl : i = 81 := by omega
    refine br_t (nI_le (a := 81) (b := 81) (by omega) (by decide)) ⟨cn_in (by omega), nm_e ?_⟩
    rw [cn_cl (t := 80) (by omega)]
    exact K _ _ _ _ _ I
  | succ m ih =>
    intro i cl ne co kn du hi I
    have hi1 : i < 81 := by omega
    refine br_f (nI_ge (b := 81) hi1 (by decide)) ?_
    rw [cn_cl hi1]
    refine ⟨cn_in hi1, nm_e ⟨cn_in hi1, nm_e ⟨cn_in hi1, nm_e ⟨cn_in hi1, nm_e ⟨cn_in hi1, nm_e (nm_r (nI_1 i) (ih (i + 1) _ _ _ _ _ (by omega) (fun t ht => ?_)))⟩⟩⟩⟩⟩
    by_cases e : t = i
    · rw [e, pk_us, pk_us, pk_us, pk_us, pk_us]
      exact ⟨rfl, rfl, rfl, rfl, rfl⟩
    · rw [pk_un e, pk_un e, pk_un e, pk_un e, pk_un e]
      exact I t (by omega)
theorem i_vc0 : wpX_init (fun u => wpY_init (fun v => i_Rel 0 u v)) := by
  refine ⟨82, cn_init_lp (fun cl ne co kn du I => ?_) 81 0 _ _ _ _ _ rfl (fun t h => absurd h (Nat.not_lt_zero t))⟩
  refine cn_mk (k := 0) (r := 0) (g := 80) ⟨by omega, by omega, ⟨by decide, by decide, by decide, by decide⟩, ⟨?_, ?_, ?_, fun _ _ => rfl⟩, fun t ht => ?_, fun t ht => ?_, fun t ht => ?_⟩
  · intro k hk
    exact Or.inl ⟨(I k hk).2.1, by rw [(I k hk).1]; exact cn_L9⟩
  · intro b _ h
    exact absurd rfl h
  · intro c t hc ht _ _ hn
    rw [(I c hc).2.1, cn_Lm1] at hn
    omega
  · rw [(I t ht).2.2.1]
    unfold cn_co cn_cv
    rw [(I t ht).1]
    rw [if_pos (show (fun _ => (0 : Int32)) t = 0 from rfl)]
    decide
  · rw [(I t ht).2.2.2.1, cn_LF]
    omega
  · have c1 : (co t).toInt = 1 := by rw [(I t ht).2.2.1]; exact cn_L1
    refine ⟨fun q => by omega, fun _ e => ?_, fun _ e => ?_⟩
    · rw [e, pk_us]; exact cn_L0
    · rw [pk_un e, (I t ht).2.2.2.2, cn_LF]
      refine ⟨by omega, fun s hN _ => ?_, Or.inl rfl⟩
      rw [(I s hN.1).2.2.2.1, (I s hN.1).2.2.1, cn_LF, cn_L1]
      omega
theorem cn_many {v : Int32} (h1 : ¬ v < -9) (h2 : v ≤ 9) : (0 ≤ v ∧ ∃ n, n ≤ 9 ∧ v = nI n) ∨ (¬ 0 ≤ v ∧ ∃ n, n ≤ 9 ∧ -v = nI n) := by
  have e9 : (-9 : Int32).toInt = -9 := by decide
  rw [Int32.lt_iff_toInt_lt, e9] at h1
  rw [Int32.le_iff_toInt_le, cn_L9] at h2
  by_cases h : 0 ≤ v
  · left
    have h' := h
    rw [Int32.le_iff_toInt_le, cn_L0] at h'
    exact ⟨h, cn_of h' h2 (by omega)⟩
  · right
    have h' := h
    rw [Int32.le_iff_toInt_le, cn_L0] at h'
    have e : (-v).toInt = -v.toInt := by
      rw [Int32.toInt_neg]
      exact Int.bmod_eq_of_le (by omega) (by omega)
    exact ⟨h, cn_of (n := 9) (by omega) (by omega) (by omega)⟩
theorem cn_pos {ra ga : Int32} {bl cl ne fr : Nat → Int32} (hp : cn_PR ra ga) (hC : cn_Clr bl cl ne fr) {c : Nat} (hc : c < 81) (e : bl c = 0) : 0 ≤ (cn_co ra ga bl cl c).toInt := by
  unfold cn_co
  rw [if_pos e]
  have w := cn_Clr_pos hC hc e
  obtain ⟨p1, p2, p3, p4⟩ := hp
  obtain ⟨a, ha, ea⟩ := cn_of (n := 3) p1 p2 (by omega)
  obtain ⟨b, hb, eb⟩ := cn_of (n := 9) p3 p4 (by omega)
  obtain ⟨x, hx, ex⟩ := cn_of (x := cl c) (n := 9) (by omega) w.2 (by omega)
  have w1 := w.1
  rw [ex, cn_ti (by omega)] at w1
  have t := cn_cv_tab a (by omega) b (by omega) x (by omega) (by omega)
  rw [ex, ea, eb]
  omega
theorem cn_toEnv {ra ga : Int32} {r g : Nat} {bl cl ne fr co kn du kn' du' : Nat → Int32} (h : cn_W ra ga r g bl cl ne fr co kn du) (hk : cn_KnR kn') (hD : cn_DOK g co kn' du') (he : ∀ t, t < 81 → (kn' t).toInt = (du' t).toInt) : cn_Env g bl co kn' ∧ cn_W ra ga r g bl cl ne fr co kn' du' := by
  have hcoR := cn_W_co h
  obtain ⟨hr, hg, hp, hC, hco, _, _⟩ := h
  refine ⟨⟨hcoR, hk, fun t ht => ?_, fun t ht => ?_⟩, hr, hg, hp, hC, hco, hk, hD⟩
  · rw [Int32.toInt_inj.mp (he t ht)]
    exact hD t ht
  · rw [hco t ht]
    constructor
    · intro e
      exact cn_pos hp hC ht e
    · intro q
      by_cases e : bl t = 0
      · exact e
      · unfold cn_co at q
        rw [if_neg e, cn_Lm1] at q
        omega
theorem cn_dist {P : Int32 → SX → Prop} {ra ga : Int32} {r g : Nat} {bl cl ne fr co kn du yc yd : Nat → Int32} {c k : Nat} (hc : c < 81) (h : cn_W ra ga r g bl cl ne fr co kn du) (hP : ∀ x kn' du', wpY_distanceFrom (fun r' v' => r' = x ∧ i_Rel k (ra, ga, nI r, nI g, bl, cl, ne, fr, co, kn', du') v') (nI r, nI g, ra, ga, bl, yc, yd) (nI c) → P x (ra, ga, nI r, nI g, bl, cl, ne, fr, co, kn', du')) (kn' du' : Nat → Int32) (hk : cn_KnR kn') (hD : cn_DOK g co kn' du') (he : ∀ t, t < 81 → (kn' t).toInt = (du' t).toInt) : wpX_answer (fun x => P x (ra, ga, nI r, nI g, bl, cl, ne, fr, co, kn', du')) (ra, ga, nI r, nI g, bl, cl, ne, fr, co, kn', du') (kn' c) := by
  obtain ⟨E, hW⟩ := cn_toEnv h hk hD he
  obtain ⟨hr, hg, hp, hC, hco, _, _⟩ := h
  unfold wpX_answer
  dsimp only
  refine cn_lt (fun q => hP _ _ _ ?_) (fun q => hP _ _ _ ?_)
  · rw [cn_LF] at q
    have m := cn_f2 E hc q
    unfold wpY_distanceFrom
    dsimp only
    refine cn_isC1 hc (br_f (by decide) (cn_find hg hC E hco (fun yc' yd' _ D => ?_)))
    dsimp only
    refine ⟨cn_in hc, ?_⟩
    rw [cn_cl hc, cn_Done_fin D hc q]
    refine br_f (fun e => ?_) ⟨cn_in hc, rfl, cn_mk hW⟩
    have e' := congrArg Int32.toInt e
    rw [cn_LM] at e'
    omega
  · rw [cn_LF] at q
    unfold wpY_distanceFrom
    dsimp only
    refine cn_isC1 hc (br_f (by decide) (cn_find hg hC E hco (fun yc' yd' _ D => ?_)))
    dsimp only
    refine ⟨cn_in hc, ?_⟩
    rw [cn_cl hc, cn_Done_far D hc (by omega)]
    exact br_t rfl ⟨rfl, cn_mk hW⟩
theorem cn_nM {x : Int32} (h : x.toInt < 100000) : ¬ x = 1000000 := by
  intro e
  have e' := congrArg Int32.toInt e
  rw [cn_LM] at e'
  omega
end
section
/-! part 10: what is owed -/
theorem i_vc_block {k : Nat} {u : SX} {v : SY} (I : i_Rel k u v) (hk : k + 4 ≤ 2048) (v1 : Int32) (v2 : Int32) : wpX_block (fun r u' => wpY_block (fun r' v' => r' = r ∧ i_Rel (k + 4) u' v') v v1 v2) u v1 v2 := by
  obtain ⟨ra, ga, r, g, bl, cl, ne, fr, co, kn, du, yc, yd, rfl, rfl, h⟩ := I
  have hcoR := cn_W_co h
  have h0 := h
  obtain ⟨hr, hg, hp, hC, hco, hk, hD⟩ := h
  rcases cn_cell v1 with ⟨c, hc, rfl⟩ | hb
  · have key : ∀ (on old : Int32), (on = 0 ∨ on = 1) → (∀ (P : Int32 → SY → Prop), P old (nI r, nI g, ra, ga, upd bl c on, yc, yd) → wpY_block P (nI r, nI g, ra, ga, bl, yc, yd) (nI c) v2) → wX_block_36 (fun z u' => wpY_block (fun r' v' => r' = z ∧ i_Rel (k + 4) u' v') (nI r, nI g, ra, ga, bl, yc, yd) (nI c) v2) old on (nI c) ra ga (nI r) (nI g) bl cl ne fr co kn du := by
      intro on old hon hY
      refine cn_put hc hon hC (fun cl' ne' fr' hC' => cn_recost hg hk (cn_co_rng hp hC') hcoR hD (fun co' du' h1 h2 h3 => hY _ ⟨rfl, cn_mk ⟨hr, hg, hp, hC', h1, hk, h3⟩⟩))
    have hyb : ∀ (P : Int32 → SY → Prop) (on old : Int32), ((v2 = 0 ∧ on = 0) ∨ (¬ v2 = 0 ∧ on = 1)) → P old (nI r, nI g, ra, ga, upd bl c on, yc, yd) → wY_block_24 P (nI c) v2 old (nI r) (nI g) ra ga bl yc yd := by
      intro P on old hon hP
      unfold wY_block_24
      rw [cn_cl hc]
      rcases hon with ⟨q, rfl⟩ | ⟨q, rfl⟩
      · exact br_t q ⟨cn_in hc, nm_e hP⟩
      · exact br_f q ⟨cn_in hc, nm_e hP⟩
    unfold wpX_block
    dsimp only
    rw [cn_cl hc]
    refine cn_bad0 hc (br_t rfl ⟨cn_in hc, br_c (fun e => ?_) (fun e => ?_)⟩)
    · have yy : ∀ on, ((v2 = 0 ∧ on = 0) ∨ (¬ v2 = 0 ∧ on = 1)) → ∀ (P : Int32 → SY → Prop), P 0 (nI r, nI g, ra, ga, upd bl c on, yc, yd) → wpY_block P (nI r, nI g, ra, ga, bl, yc, yd) (nI c) v2 := by
        intro on hon P hP
        unfold wpY_block
        dsimp only
        rw [cn_cl hc]
        exact cn_isC1 hc (br_f (by decide) ⟨cn_in hc, br_t e (hyb P on 0 hon hP)⟩)
      exact br_c (fun q => key 0 0 (Or.inl rfl) (yy 0 (Or.inl ⟨q, rfl⟩))) (fun q => key 1 0 (Or.inr rfl) (yy 1 (Or.inr ⟨q, rfl⟩)))
    · have yy : ∀ on, ((v2 = 0 ∧ on = 0) ∨ (¬ v2 = 0 ∧ on = 1)) → ∀ (P : Int32 → SY → Prop), P 1 (nI r, nI g, ra, ga, upd bl c on, yc, yd) → wpY_block P (nI r, nI g, ra, ga, bl, yc, yd) (nI c) v2 := by
        intro on hon P hP
        unfold wpY_block
        dsimp only
        rw [cn_cl hc]
        exact cn_isC1 hc (br_f (by decide) ⟨cn_in hc, br_f e (hyb P on 1 hon hP)⟩)
      exact br_c (fun q => key 0 1 (Or.inl rfl) (yy 0 (Or.inl ⟨q, rfl⟩))) (fun q => key 1 1 (Or.inr rfl) (yy 1 (Or.inr ⟨q, rfl⟩)))
  · unfold wpX_block
    dsimp only
    exact cn_bad1 hb (br_f (by decide) (by unfold wpY_block; dsimp only; exact cn_isC0 hb (br_t rfl ⟨rfl, cn_mk h0⟩)))
theorem i_vc_wall {k : Nat} {u : SX} {v : SY} (I : i_Rel k u v) (hk : k + 4 ≤ 2048) (v1 : Int32) (v2 : Int32) (v3 : Int32) : wpX_wall (fun r u' => wpY_wall (fun r' v' => r' = r ∧ i_Rel (k + 4) u' v') v v1 v2 v3) u v1 v2 v3 := by
  obtain ⟨ra, ga, r, g, bl, cl, ne, fr, co, kn, du, yc, yd, rfl, rfl, h⟩ := I
  have hcoR := cn_W_co h
  have h0 := h
  obtain ⟨hr, hg, hp, hC, hco, hk, hD⟩ := h
  unfold wpX_wall
  dsimp only
  rcases cn_cell v1 with ⟨c, hc, rfl⟩ | hb
  · refine cn_bad0 hc (br_t rfl (br_c (fun q1 => (by unfold wpY_wall; dsimp only; exact cn_isC1 hc (br_f (by decide) (br_t q1 ⟨rfl, cn_mk h0⟩)))) (fun q1 => br_c (fun q2 => ?_) (fun q2 => (by unfold wpY_wall; dsimp only; exact cn_isC1 hc (br_f (by decide) (br_f q1 (br_f q2 ⟨rfl, cn_mk h0⟩))))))))
    obtain ⟨e, he⟩ : ∃ e : Nat, (v2 = 0 ∧ e = 1) ∨ (¬ v2 = 0 ∧ e = 2) := by
      by_cases q : v2 = 0
      · exact ⟨1, Or.inl ⟨q, rfl⟩⟩
      · exact ⟨2, Or.inr ⟨q, rfl⟩⟩
    obtain ⟨on, hon⟩ : ∃ on : Int32, (v3 ≤ 0 ∧ on = 0) ∨ (¬ v3 ≤ 0 ∧ on = 1) := by
      by_cases q : v3 ≤ 0
      · exact ⟨0, Or.inl ⟨q, rfl⟩⟩
      · exact ⟨1, Or.inr ⟨q, rfl⟩⟩
    have ha : (cn_wl c e 0 < 81 ∧ nI c = nI (cn_wl c e 0)) ∨ (¬ cn_wl c e 0 < 81 ∧ nI c = -1) := by
      rw [cn_wl_0 hc]; exact Or.inl ⟨hc, rfl⟩
    have key : ∀ many, many ≤ 9 → (∀ P : Int32 → SY → Prop, (∃ n, wY_wall_40 P (nI c) v2 v3 (nI many) (nI r) (nI g) ra ga n 0 0 bl yc yd) → wpY_wall P (nI r, nI g, ra, ga, bl, yc, yd) (nI c) v2 v3) → wX_wall_43 (fun z u' => wpY_wall (fun r' v' => r' = z ∧ i_Rel (k + 4) u' v') (nI r, nI g, ra, ga, bl, yc, yd) (nI c) v2 v3) v2 v3 (nI many) (many + 1) 0 (nI c) (nI 0) ra ga (nI r) (nI g) bl cl ne fr co kn du := by
      intro many hM hY
      refine cn_wallX hc hM he hon many 0 0 (nI c) bl cl ne fr (by omega) hC ha (fun cl' ne' fr' hC' => ?_)
      refine cn_recost hg hk (cn_co_rng hp hC') hcoR hD (fun co' du' h1 h2 h3 => hY _ ⟨many + 1, ?_⟩)
      exact cn_wallY hc hM he hon many 0 0 bl (by omega) ⟨rfl, cn_mk ⟨hr, hg, hp, hC', h1, hk, h3⟩⟩
    rcases cn_many q1 q2 with ⟨p0, n, hn, en⟩ | ⟨p0, n, hn, en⟩
    · refine br_t p0 ⟨n + 1, ?_⟩
      have z := key n hn (fun P hP => (by unfold wpY_wall; dsimp only; exact cn_isC1 hc (br_f (by decide) (br_f q1 (br_t q2 (br_t p0 (by rw [← en] at hP; exact hP)))))))
      rw [← en] at z
      exact z
    · refine br_f p0 (nm_r en ⟨n + 1, ?_⟩)
      exact key n hn (fun P hP => (by unfold wpY_wall; dsimp only; exact cn_isC1 hc (br_f (by decide) (br_f q1 (br_t q2 (br_f p0 (nm_r en hP)))))))
  · exact cn_bad1 hb (br_f (by decide) (by unfold wpY_wall; dsimp only; exact cn_isC0 hb (br_t rfl ⟨rfl, cn_mk h0⟩)))
theorem i_vc_tune {k : Nat} {u : SX} {v : SY} (I : i_Rel k u v) (hk : k + 4 ≤ 2048) (v1 : Int32) (v2 : Int32) : wpX_tune (fun r u' => wpY_tune (fun r' v' => r' = r ∧ i_Rel (k + 4) u' v') v v1 v2) u v1 v2 := by
  obtain ⟨ra, ga, r, g, bl, cl, ne, fr, co, kn, du, yc, yd, rfl, rfl, h⟩ := I
  have hcoR := cn_W_co h
  have h0 := h
  obtain ⟨hr, hg, hp, hC, hco, hk, hD⟩ := h
  refine br_c (fun q1 => br_t q1 ⟨rfl, cn_mk h0⟩) (fun q1 => br_c (fun q2 => br_f q1 (br_t q2 ⟨rfl, cn_mk h0⟩)) (fun q2 => br_c (fun q3 => br_f q1 (br_f q2 (br_t q3 ⟨rfl, cn_mk h0⟩))) (fun q3 => br_c (fun q4 => ?_) (fun q4 => br_f q1 (br_f q2 (br_f q3 (br_f q4 ⟨rfl, cn_mk h0⟩)))))))
  have e3 : (3 : Int32).toInt = 3 := by decide
  have p1 := q1
  have p2 := q2
  have p3 := q3
  have p4 := q4
  rw [Int32.lt_iff_toInt_lt, cn_L0] at p1
  rw [Int32.lt_iff_toInt_lt, e3] at p2
  rw [Int32.lt_iff_toInt_lt, cn_L0] at p3
  rw [Int32.le_iff_toInt_le, cn_L9] at p4
  have hp' : cn_PR v1 v2 := ⟨by omega, by omega, by omega, by omega⟩
  refine cn_recost hg hk (cn_co_rng hp' hC) hcoR hD (fun co' du' h1 h2 h3 => br_f q1 (br_f q2 (br_f q3 (br_t q4 ⟨rfl, cn_mk ⟨hr, hg, hp', hC, h1, hk, h3⟩⟩))))
theorem i_vc_place {k : Nat} {u : SX} {v : SY} (I : i_Rel k u v) (hk : k + 4 ≤ 2048) (v1 : Int32) : wpX_place (fun r u' => wpY_place (fun r' v' => r' = r ∧ i_Rel (k + 4) u' v') v v1) u v1 := by
  obtain ⟨ra, ga, r, g, bl, cl, ne, fr, co, kn, du, yc, yd, rfl, rfl, h⟩ := I
  unfold wpX_place wpY_place
  dsimp only
  rcases cn_cell v1 with ⟨c, hc, rfl⟩ | hb
  · exact cn_bad0 hc (br_t rfl (cn_isC1 hc (br_f (by decide) ⟨rfl, cn_mk ⟨hc, h.2⟩⟩)))
  · exact cn_bad1 hb (br_f (by decide) (cn_isC0 hb (br_t rfl ⟨rfl, cn_mk h⟩)))
theorem i_vc_goal {k : Nat} {u : SX} {v : SY} (I : i_Rel k u v) (hk : k + 4 ≤ 2048) (v1 : Int32) : wpX_goal (fun r u' => wpY_goal (fun r' v' => r' = r ∧ i_Rel (k + 4) u' v') v v1) u v1 := by
  obtain ⟨ra, ga, r, g, bl, cl, ne, fr, co, kn, du, yc, yd, rfl, rfl, h⟩ := I
  have hcoR := cn_W_co h
  have h0 := h
  obtain ⟨hr, hg, hp, hC, hco, hk, hD⟩ := h
  unfold wpX_goal wpY_goal
  dsimp only
  rcases cn_cell v1 with ⟨c, hc, rfl⟩ | hb
  · refine cn_bad0 hc (br_t rfl (cn_ask hg hc hcoR hk (fun x hx => cn_ask hc hc hcoR hk (fun y hy => ?_))))
    have hD' : cn_DOK c co kn (upd (upd du g x) c y) := by
      intro t ht
      by_cases e1 : t = c
      · rw [e1, pk_us]; exact hy
      · rw [pk_un e1]
        by_cases e2 : t = g
        · rw [e2, pk_us]; exact hx
        · rw [pk_un e2]
          exact cn_Due_goal e2 e1 (hD t ht)
    exact cn_isC1 hc (br_f (by decide) ⟨rfl, cn_mk ⟨hr, hc, hp, hC, hco, hk, hD'⟩⟩)
  · exact cn_bad1 hb (br_f (by decide) (cn_isC0 hb (br_t rfl ⟨rfl, cn_mk h0⟩)))
theorem i_vc_blocked {k : Nat} {u : SX} {v : SY} (I : i_Rel k u v) (hk : k + 4 ≤ 2048) (v1 : Int32) : wpX_blocked (fun r => wpY_blocked (fun r' => r' = r ∧ i_Rel (k + 4) u v) v v1) u v1 := by
  obtain ⟨ra, ga, r, g, bl, cl, ne, fr, co, kn, du, yc, yd, rfl, rfl, h⟩ := I
  unfold wpX_blocked wpY_blocked
  dsimp only
  rcases cn_cell v1 with ⟨c, hc, rfl⟩ | hb
  · exact cn_bad0 hc (br_t rfl ⟨cn_in hc, br_c (fun e => cn_isC1 hc (br_f (by decide) ⟨cn_in hc, br_t e ⟨rfl, cn_mk h⟩⟩)) (fun e => cn_isC1 hc (br_f (by decide) ⟨cn_in hc, br_f e ⟨rfl, cn_mk h⟩⟩))⟩)
  · exact cn_bad1 hb (br_f (by decide) (cn_isC0 hb (br_t rfl ⟨rfl, cn_mk h⟩)))
theorem i_vc_clearance {k : Nat} {u : SX} {v : SY} (I : i_Rel k u v) (hk : k + 4 ≤ 2048) (v1 : Int32) : wpX_clearance (fun r => wpY_clearance (fun r' => r' = r ∧ i_Rel (k + 4) u v) v v1) u v1 := by
  obtain ⟨ra, ga, r, g, bl, cl, ne, fr, co, kn, du, yc, yd, rfl, rfl, h⟩ := I
  unfold wpX_clearance
  dsimp only
  rcases cn_cell v1 with ⟨c, hc, rfl⟩ | hb
  · refine cn_bad0 hc (br_t rfl ⟨cn_in hc, ?_⟩)
    rw [cn_cl hc]
    exact cn_clearance hc h.2.2.2.1 ⟨rfl, cn_mk h⟩
  · refine cn_bad1 hb (br_f (by decide) ?_)
    unfold wpY_clearance
    dsimp only
    exact cn_isC0 hb (br_t rfl ⟨rfl, cn_mk h⟩)
theorem i_vc_cost {k : Nat} {u : SX} {v : SY} (I : i_Rel k u v) (hk : k + 4 ≤ 2048) (v1 : Int32) : wpX_cost (fun r => wpY_cost (fun r' => r' = r ∧ i_Rel (k + 4) u v) v v1) u v1 := by
  obtain ⟨ra, ga, r, g, bl, cl, ne, fr, co, kn, du, yc, yd, rfl, rfl, h⟩ := I
  unfold wpX_cost
  dsimp only
  rcases cn_cell v1 with ⟨c, hc, rfl⟩ | hb
  · have hc1 := h.2.2.2.2.1 c hc
    refine cn_bad0 hc (br_t rfl ⟨cn_in hc, ?_⟩)
    rw [cn_cl hc, hc1]
    by_cases e : bl c = 0
    · have hpos := cn_pos h.2.2.1 h.2.2.2.1 hc e
      have hy : cn_yc ra ga bl cl c = cn_co ra ga bl cl c := by unfold cn_yc cn_co; rw [if_pos e, if_pos e]
      refine br_t (by rw [Int32.le_iff_toInt_le, cn_L0]; exact hpos) ⟨cn_in hc, cn_cost hc h.2.2.2.1 ?_⟩
      rw [hy]
      exact ⟨rfl, cn_mk h⟩
    · have hn : cn_co ra ga bl cl c = -1 := by unfold cn_co; rw [if_neg e]
      have hy : cn_yc ra ga bl cl c = -4 := by unfold cn_yc; rw [if_neg e]
      refine br_f (by rw [hn]; decide) (cn_cost hc h.2.2.2.1 ?_)
      rw [hy]
      exact ⟨rfl, cn_mk h⟩
  · refine cn_bad1 hb (br_f (by decide) ?_)
    unfold wpY_cost
    dsimp only
    exact cn_isC0 hb (br_t rfl ⟨rfl, cn_mk h⟩)
theorem i_vc_distance {k : Nat} {u : SX} {v : SY} (I : i_Rel k u v) (hk : k + 4 ≤ 2048) : wpX_distance (fun r u' => wpY_distance (fun r' v' => r' = r ∧ i_Rel (k + 4) u' v') v) u := by
  obtain ⟨ra, ga, r, g, bl, cl, ne, fr, co, kn, du, yc, yd, rfl, rfl, h⟩ := I
  have hr := h.1
  unfold wpX_distance
  dsimp only
  refine cn_settle h.2.1 (cn_W_co h) h.2.2.2.2.2.1 h.2.2.2.2.2.2 (fun kn' du' hk' hD' he => ?_)
  dsimp only
  refine ⟨cn_in hr, ?_⟩
  rw [cn_cl hr]
  exact cn_dist (k := k + 4) (yc := yc) (yd := yd) (P := fun x u' => wpY_distance (fun r' v' => r' = x ∧ i_Rel (k + 4) u' v') (nI r, nI g, ra, ga, bl, yc, yd)) hr h (fun _ _ _ q => q) kn' du' hk' hD' he
theorem i_vc_distanceFrom {k : Nat} {u : SX} {v : SY} (I : i_Rel k u v) (hk : k + 4 ≤ 2048) (v1 : Int32) : wpX_distanceFrom (fun r u' => wpY_distanceFrom (fun r' v' => r' = r ∧ i_Rel (k + 4) u' v') v v1) u v1 := by
  obtain ⟨ra, ga, r, g, bl, cl, ne, fr, co, kn, du, yc, yd, rfl, rfl, h⟩ := I
  unfold wpX_distanceFrom
  dsimp only
  rcases cn_cell v1 with ⟨c, hc, rfl⟩ | hb
  · refine cn_bad0 hc (br_t rfl (cn_settle h.2.1 (cn_W_co h) h.2.2.2.2.2.1 h.2.2.2.2.2.2 (fun kn' du' hk' hD' he => ?_)))
    dsimp only
    refine ⟨cn_in hc, ?_⟩
    rw [cn_cl hc]
    exact cn_dist (k := k + 4) (yc := yc) (yd := yd) (P := fun x u' => wpY_distanceFrom (fun r' v' => r' = x ∧ i_Rel (k + 4) u' v') (nI r, nI g, ra, ga, bl, yc, yd) (nI c)) hc h (fun _ _ _ q => q) kn' du' hk' hD' he
  · refine cn_bad1 hb (br_f (by decide) ?_)
    unfold wpY_distanceFrom
    dsimp only
    exact cn_isC0 hb (br_t rfl ⟨rfl, cn_mk h⟩)
theorem i_vc_next {k : Nat} {u : SX} {v : SY} (I : i_Rel k u v) (hk : k + 4 ≤ 2048) : wpX_next (fun r u' => wpY_next (fun r' v' => r' = r ∧ i_Rel (k + 4) u' v') v) u := by
  obtain ⟨ra, ga, r, g, bl, cl, ne, fr, co, kn, du, yc, yd, rfl, rfl, h⟩ := I
  unfold wpX_next
  dsimp only
  refine cn_settle h.2.1 (cn_W_co h) h.2.2.2.2.2.1 h.2.2.2.2.2.2 (fun kn' du' hk' hD' he => ?_)
  obtain ⟨E, hW⟩ := cn_toEnv h hk' hD' he
  obtain ⟨hr, hg, hp, hC, hco, _, _⟩ := h
  dsimp only
  obtain ⟨d, hd⟩ := cn_dir (ra := ra) (ga := ga) (cl := cl) (ne := ne) (fr := fr) (du := du') E hg hr
  refine hd.2.1 _ _ ?_
  unfold wpY_next
  dsimp only
  refine cn_find hg hC E hco (fun yc' yd' hy D => ?_)
  dsimp only
  exact hd.2.2 yc' yd' ⟨D, hy⟩ _ _ ⟨rfl, cn_mk hW⟩
theorem i_vc_drive {k : Nat} {u : SX} {v : SY} (I : i_Rel k u v) (hk : k + 4 ≤ 2048) (v1 : Int32) : wpX_drive (fun r u' => wpY_drive (fun r' v' => r' = r ∧ i_Rel (k + 4) u' v') v v1) u v1 := by
  obtain ⟨ra, ga, r, g, bl, cl, ne, fr, co, kn, du, yc, yd, rfl, rfl, h⟩ := I
  unfold wpX_drive
  dsimp only
  refine cn_settle h.2.1 (cn_W_co h) h.2.2.2.2.2.1 h.2.2.2.2.2.2 (fun kn' du' hk' hD' he => ?_)
  obtain ⟨E, hW⟩ := cn_toEnv h hk' hD' he
  obtain ⟨hr, hg, hp, hC, hco, _, _⟩ := h
  dsimp only
  obtain ⟨d, hd⟩ := cn_dir (ra := ra) (ga := ga) (cl := cl) (ne := ne) (fr := fr) (du := du') E hg hr
  obtain ⟨x, c', hc', HX, HY⟩ := cn_drive_lp (v1 := v1) E hg 40 0 0 r d rfl hr hd
  refine hd.2.1 _ _ ⟨41, HX _ ?_⟩
  unfold wpY_drive
  dsimp only
  refine cn_find hg hC E hco (fun yc' yd' hy D => ?_)
  dsimp only
  exact ⟨41, HY yc' yd' ⟨D, hy⟩ _ ⟨rfl, cn_mk ⟨hc', hW.2⟩⟩⟩
theorem i_vc_where {k : Nat} {u : SX} {v : SY} (I : i_Rel k u v) (hk : k + 4 ≤ 2048) : wpX_where (fun r => wpY_where (fun r' => r' = r ∧ i_Rel (k + 4) u v) v) u := by
  obtain ⟨ra, ga, r, g, bl, cl, ne, fr, co, kn, du, yc, yd, rfl, rfl, h⟩ := I
  exact ⟨rfl, cn_mk h⟩
theorem i_vc_moves {k : Nat} {u : SX} {v : SY} (I : i_Rel k u v) (hk : k + 4 ≤ 2048) : wpX_moves (fun r u' => wpY_moves (fun r' v' => r' = r ∧ i_Rel (k + 4) u' v') v) u := by
  obtain ⟨ra, ga, r, g, bl, cl, ne, fr, co, kn, du, yc, yd, rfl, rfl, h⟩ := I
  unfold wpX_moves
  dsimp only
  refine cn_settle h.2.1 (cn_W_co h) h.2.2.2.2.2.1 h.2.2.2.2.2.2 (fun kn' du' hk' hD' he => ?_)
  obtain ⟨E, hW⟩ := cn_toEnv h hk' hD' he
  obtain ⟨hr, hg, hp, hC, hco, _, _⟩ := h
  dsimp only
  refine ⟨cn_in hr, ?_⟩
  rw [cn_cl hr]
  refine cn_lt (fun q => ?_) (fun q => ?_)
  · rw [cn_LF] at q
    obtain ⟨d, hd⟩ := cn_dir (ra := ra) (ga := ga) (cl := cl) (ne := ne) (fr := fr) (du := du') E hg hr
    obtain ⟨x, HX, HY⟩ := cn_moves_lp (ro := nI r) E hg 81 0 r d rfl hr q hd
    refine hd.2.1 _ _ ⟨82, HX _ ?_⟩
    unfold wpY_moves
    dsimp only
    refine cn_find hg hC E hco (fun yc' yd' hy D => ?_)
    dsimp only
    refine ⟨cn_in hr, ?_⟩
    rw [cn_cl hr, cn_Done_fin D hr q]
    exact br_f (cn_nM q) ⟨82, HY yc' yd' ⟨D, hy⟩ _ ⟨rfl, cn_mk hW⟩⟩
  · rw [cn_LF] at q
    unfold wpY_moves
    dsimp only
    refine cn_find hg hC E hco (fun yc' yd' hy D => ?_)
    dsimp only
    refine ⟨cn_in hr, ?_⟩
    rw [cn_cl hr, cn_Done_far D hr (by omega)]
    exact br_t rfl ⟨rfl, cn_mk hW⟩
theorem i_vc_reached {k : Nat} {u : SX} {v : SY} (I : i_Rel k u v) (hk : k + 4 ≤ 2048) : wpX_reached (fun r u' => wpY_reached (fun r' v' => r' = r ∧ i_Rel (k + 4) u' v') v) u := by
  obtain ⟨ra, ga, r, g, bl, cl, ne, fr, co, kn, du, yc, yd, rfl, rfl, h⟩ := I
  unfold wpX_reached
  dsimp only
  refine cn_settle h.2.1 (cn_W_co h) h.2.2.2.2.2.1 h.2.2.2.2.2.2 (fun kn' du' hk' hD' he => ?_)
  obtain ⟨E, hW⟩ := cn_toEnv h hk' hD' he
  obtain ⟨hr, hg, hp, hC, hco, _, _⟩ := h
  dsimp only
  obtain ⟨x, HX, HY⟩ := cn_reached_lp (ra := ra) (ga := ga) (g := g) (bl := bl) (cl := cl) (ne := ne) (fr := fr) (co := co) (kn := kn') (du := du') (ro := nI r) 81 0 0 rfl
  refine ⟨82, HX _ ?_⟩
  unfold wpY_reached
  dsimp only
  refine cn_find hg hC E hco (fun yc' yd' hy D => ?_)
  dsimp only
  exact ⟨82, HY yc' yd' ⟨D, hy⟩ _ ⟨rfl, cn_mk hW⟩⟩
theorem i_vc_farthest {k : Nat} {u : SX} {v : SY} (I : i_Rel k u v) (hk : k + 4 ≤ 2048) : wpX_farthest (fun r u' => wpY_farthest (fun r' v' => r' = r ∧ i_Rel (k + 4) u' v') v) u := by
  obtain ⟨ra, ga, r, g, bl, cl, ne, fr, co, kn, du, yc, yd, rfl, rfl, h⟩ := I
  unfold wpX_farthest
  dsimp only
  refine cn_settle h.2.1 (cn_W_co h) h.2.2.2.2.2.1 h.2.2.2.2.2.2 (fun kn' du' hk' hD' he => ?_)
  obtain ⟨E, hW⟩ := cn_toEnv h hk' hD' he
  obtain ⟨hr, hg, hp, hC, hco, _, _⟩ := h
  dsimp only
  obtain ⟨x, HX, HY⟩ := cn_farthest_lp (ra := ra) (ga := ga) (g := g) (bl := bl) (cl := cl) (ne := ne) (fr := fr) (co := co) (kn := kn') (du := du') (ro := nI r) 81 0 (-4) rfl
  refine ⟨82, HX _ ?_⟩
  unfold wpY_farthest
  dsimp only
  refine cn_find hg hC E hco (fun yc' yd' hy D => ?_)
  dsimp only
  exact ⟨82, HY yc' yd' ⟨D, hy⟩ _ ⟨rfl, cn_mk hW⟩⟩
end
