section
/-! rows of kit/rows (starting texts): stores, numbers, branches, bits -/
theorem pk_us {f : Nat → Int32} {k : Nat} {x : Int32} : upd f k x k = x := if_pos rfl
theorem pk_un {f : Nat → Int32} {k j : Nat} {x : Int32} (h : j ≠ k) : upd f k x j = f j := if_neg h
theorem pk_sub {a b : Nat} (h : b ≤ a) : nI a - nI b = nI (a - b) := by
  obtain ⟨c, rfl⟩ : ∃ c, a = c + b := ⟨a - b, by omega⟩
  rw [← nI_add, Int32.add_sub_cancel, Nat.add_sub_cancel]
theorem pk_m1 (n : Nat) : nI (n + 1) + (-1) = nI n := by
  rw [← nI_1, Int32.add_assoc, show (1 : Int32) + (-1) = 0 from rfl, Int32.add_zero]
theorem pk_mul (a b : Nat) : nI a * nI b = nI (a * b) := (Int32.ofNat_mul a b).symm
theorem pk_div {a d : Nat} (ha : a < 2 ^ 31) (h0 : 0 < d) (hd : d < 2 ^ 31) : nI a / nI d = nI (a / d) := by
  apply Int32.toInt_inj.mp
  rw [lg_idiv_nonneg (by rw [nI_toInt ha]; omega) (by rw [nI_toInt hd]; omega), nI_toInt ha, nI_toInt hd, nI_toInt (Nat.lt_of_le_of_lt (Nat.div_le_self a d) ha)]
  first | rfl | exact (Int.natCast_ediv _ _).symm
theorem pk_rem {a d : Nat} (ha : a < 2 ^ 31) (h0 : 0 < d) (hd : d < 2 ^ 31) : nI a - nI a / nI d * nI d = nI (a % d) := by
  rw [pk_div ha h0 hd, pk_mul, pk_sub (Nat.div_mul_le_self a d)]
  exact congrArg nI (by have := Nat.div_add_mod' a d; omega)
theorem pk_sub_toInt {a b : Nat} (ha : a < 2 ^ 30) (hb : b < 2 ^ 30) : (nI a - nI b).toInt = (a : Int) - b := by
  rw [Int32.toInt_sub, nI_toInt (by omega), nI_toInt (by omega)]
  exact Int.bmod_eq_of_le (by omega) (by omega)
theorem pk_sneg {a b : Nat} (hb : b < 2 ^ 30) (h : a < b) : nI a - nI b < 0 := by
  rw [Int32.lt_iff_toInt_lt, pk_sub_toInt (by omega) hb, show (0 : Int32).toInt = 0 from by decide]
  omega
theorem pk_ix (x : Int32) {n : Nat} (hn : n < 2 ^ 31) : x < 0 ∨ nI n ≤ x ∨ ∃ j : Nat, j < n ∧ x = nI j := by
  by_cases h : x < 0
  · exact Or.inl h
  · obtain ⟨j, hj, rfl⟩ := nI_of h
    by_cases h2 : j < n
    · exact Or.inr (Or.inr ⟨j, h2, rfl⟩)
    · exact Or.inr (Or.inl (nI_le (by omega) hj))
theorem pk_le {x y : Int32} {A B : Prop} (a b : Nat) (f : a ≤ b → A) (g : b < a → B) (hx : x = nI a := by rfl) (hy : y = nI b := by rfl) (ha : a < 2 ^ 31 := by omega) (hb : b < 2 ^ 31 := by omega) : (x ≤ y → A) ∧ (¬ x ≤ y → B) := by
  subst hx hy
  rw [nI_leI ha hb]
  exact ⟨f, fun z => g (by omega)⟩
theorem pk_lt {x y : Int32} {A B : Prop} (a b : Nat) (f : a < b → A) (g : b ≤ a → B) (hx : x = nI a := by rfl) (hy : y = nI b := by rfl) (ha : a < 2 ^ 31 := by omega) (hb : b < 2 ^ 31 := by omega) : (x < y → A) ∧ (¬ x < y → B) := by
  subst hx hy
  rw [nI_ltI ha hb]
  exact ⟨f, fun z => g (by omega)⟩
theorem pk_eq {x y : Int32} {A B : Prop} (a b : Nat) (f : a = b → A) (g : a ≠ b → B) (hx : x = nI a := by rfl) (hy : y = nI b := by rfl) (ha : a < 2 ^ 31 := by omega) (hb : b < 2 ^ 31 := by omega) : (x = y → A) ∧ (¬ x = y → B) := by
  subst hx hy
  rw [nI_eq ha hb]
  exact ⟨f, g⟩
theorem pk_in {x : Int32} (n N : Nat) (h : n < N) (hx : x = nI n := by rfl) (hN : N < 2 ^ 31 := by omega) : vp_in x N := by
  subst hx
  exact vp_in_nI h hN
theorem pk_cl {x : Int32} (n : Nat) (hx : x = nI n := by rfl) (h : n < 2 ^ 31 := by omega) : x.toNatClampNeg = n := by
  subst hx
  exact nI_clamp h
theorem pk_tn {n : Nat} (h : n < 2 ^ 32) : (nI n).toBitVec.toNat = n := Nat.mod_eq_of_lt h
theorem pk_and (x : Int32) {m : Int32} (k : Nat) (hm : m.toBitVec.toNat = 2 ^ k - 1) : x &&& m = nI (x.toBitVec.toNat % 2 ^ k) := by
  apply Int32.toBitVec_inj.mp
  apply BitVec.eq_of_toNat_eq
  rw [Int32.toBitVec_and, BitVec.toNat_and, hm, Nat.and_two_pow_sub_one_eq_mod]
  show _ = (BitVec.ofNat 32 _).toNat
  rw [BitVec.toNat_ofNat]
  exact (Nat.mod_eq_of_lt (Nat.lt_of_le_of_lt (Nat.mod_le _ _) x.toBitVec.isLt)).symm
theorem pk_andN {n : Nat} (h : n < 2 ^ 32) {m : Int32} (k : Nat) (hm : m.toBitVec.toNat = 2 ^ k - 1) : nI n &&& m = nI (n % 2 ^ k) := by
  rw [pk_and _ k hm, pk_tn h]
theorem pk_andE (x : Int32) {m : Int32} (k : Nat) (hm : m.toBitVec.toNat = 2 ^ k - 1) : ∃ j : Nat, j < 2 ^ k ∧ x &&& m = nI j := ⟨_, Nat.mod_lt _ (Nat.two_pow_pos k), pk_and x k hm⟩
theorem pk_andIn (x : Int32) {m : Int32} (k : Nat) (hm : m.toBitVec.toNat = 2 ^ k - 1) (hk : k ≤ 30) : vp_in (x &&& m) (2 ^ k) := by
  obtain ⟨j, hj, e⟩ := pk_andE x k hm
  rw [e]
  exact vp_in_nI hj (Nat.lt_of_le_of_lt (Nat.pow_le_pow_right (by decide) hk) (by decide))
def bt (x : Int32) (i : Nat) : Bool := x.toBitVec.getLsbD i
theorem b_ext {x y : Int32} (h : ∀ i, i < 32 → bt x i = bt y i) : x = y := Int32.toBitVec_inj.mp (BitVec.eq_of_getLsbD_eq (fun i hi => h i hi))
theorem b_or (x y : Int32) (i : Nat) : bt (x ||| y) i = (bt x i || bt y i) := by unfold bt; rw [Int32.toBitVec_or, BitVec.getLsbD_or]
theorem b_and (x y : Int32) (i : Nat) : bt (x &&& y) i = (bt x i && bt y i) := by unfold bt; rw [Int32.toBitVec_and, BitVec.getLsbD_and]
theorem b_xor (x y : Int32) (i : Nat) : bt (x ^^^ y) i = (bt x i ^^ bt y i) := by unfold bt; rw [Int32.toBitVec_xor, BitVec.getLsbD_xor]
theorem b_big {x : Int32} {i : Nat} (h : 32 ≤ i) : bt x i = false := BitVec.getLsbD_of_ge _ _ h
theorem b_m1 : ∀ i, i < 32 → bt (-1) i = true := by decide +kernel
theorem b_0 (i : Nat) : bt 0 i = false := BitVec.getLsbD_zero
theorem s_l : ∀ n, n < 32 → ((nI n &&& 31).toBitVec.smod 32).toNat = n := by decide +kernel
theorem b_shl (n : Nat) (hn : n < 32) (x : Int32) {i : Nat} (hi : i < 32) : bt (x <<< (nI n &&& 31)) i = (decide (n ≤ i) && bt x (i - n)) := by
  unfold bt
  rw [Int32.toBitVec_shiftLeft]
  show (x.toBitVec <<< ((nI n &&& 31).toBitVec.smod 32).toNat).getLsbD i = _
  rw [s_l n hn, BitVec.getLsbD_shiftLeft]
  rcases Nat.lt_or_ge i n with h | h
  · simp [h, Nat.not_le.mpr h]
  · simp [hi, h, Nat.not_lt.mpr h]
end
section
/-! the table of distances, with any top row: nd_i for wholes, nd_z for a free start -/
def nd_ne (a b : Int32) : Nat := if a = b then 0 else 1
theorem nd_ne_e {a b : Int32} (h : a = b) : nd_ne a b = 0 := if_pos h
theorem nd_ne_n {a b : Int32} (h : ¬ a = b) : nd_ne a b = 1 := if_neg h
theorem nd_ne_c (a b : Int32) : (a = b ∧ nd_ne a b = 0) ∨ (¬ a = b ∧ nd_ne a b = 1) := by
  by_cases h : a = b
  · exact Or.inl ⟨h, nd_ne_e h⟩
  · exact Or.inr ⟨h, nd_ne_n h⟩
theorem nd_ne_le (a b : Int32) : nd_ne a b ≤ 1 := by
  rcases nd_ne_c a b with h | h <;> rw [h.2] <;> decide
theorem nd_ne_z (a b : Int32) : nd_ne a b = 0 ↔ a = b := by
  rcases nd_ne_c a b with h | h
  · exact ⟨fun _ => h.1, fun _ => h.2⟩
  · exact ⟨fun z => by rw [h.2] at z; exact absurd z (by decide), fun z => absurd z h.1⟩
def nd_row (prev : Nat → Nat) (i : Nat) (xi : Int32) (y : Nat → Int32) : Nat → Nat
  | 0 => i + 1
  | j + 1 => min (min (prev (j + 1) + 1) (nd_row prev i xi y j + 1)) (prev j + nd_ne xi (y j))
def nd_D (t : Nat → Nat) (x y : Nat → Int32) : Nat → Nat → Nat
  | 0 => t
  | i + 1 => nd_row (nd_D t x y i) i (x i) y
def nd_i : Nat → Nat := fun j => j
def nd_z : Nat → Nat := fun _ => 0
theorem nd_D_0 (t : Nat → Nat) (x y : Nat → Int32) (j : Nat) : nd_D t x y 0 j = t j := rfl
theorem nd_D_s0 (t : Nat → Nat) (x y : Nat → Int32) (i : Nat) : nd_D t x y (i + 1) 0 = i + 1 := rfl
theorem nd_D_ss (t : Nat → Nat) (x y : Nat → Int32) (i j : Nat) : nd_D t x y (i + 1) (j + 1) = min (min (nd_D t x y i (j + 1) + 1) (nd_D t x y (i + 1) j + 1)) (nd_D t x y i j + nd_ne (x i) (y j)) := rfl
def nd_tk (t : Nat → Nat) : Prop := t 0 = 0 ∧ ∀ j, t j ≤ t (j + 1) + 1 ∧ t (j + 1) ≤ t j + 1
theorem nd_tk_i : nd_tk nd_i := ⟨rfl, fun j => ⟨by show j ≤ j + 1 + 1; omega, Nat.le_refl _⟩⟩
theorem nd_tk_z : nd_tk nd_z := ⟨rfl, fun _ => ⟨Nat.zero_le _, Nat.zero_le _⟩⟩
section
variable {t : Nat → Nat} {x y : Nat → Int32}
theorem nd_D_c0 (h : nd_tk t) : ∀ i, nd_D t x y i 0 = i
  | 0 => h.1
  | _ + 1 => rfl
theorem nd_Vs {i : Nat} (h : nd_tk t) (hA : ∀ j, nd_D t x y i j ≤ nd_D t x y i (j + 1) + 1 ∧ nd_D t x y i (j + 1) ≤ nd_D t x y i j + 1) : ∀ j, nd_D t x y (i + 1) j ≤ nd_D t x y i j + 1 ∧ nd_D t x y i j ≤ nd_D t x y (i + 1) j + 1 := by
  intro j
  induction j with
  | zero => rw [nd_D_c0 h, nd_D_c0 h]; omega
  | succ j ih =>
    have a := hA j
    have r := nd_D_ss t x y i j
    have e := nd_ne_le (x i) (y j)
    omega
theorem nd_A (h : nd_tk t) : ∀ i j, nd_D t x y i j ≤ nd_D t x y i (j + 1) + 1 ∧ nd_D t x y i (j + 1) ≤ nd_D t x y i j + 1 := by
  intro i
  induction i with
  | zero => exact fun j => h.2 j
  | succ i ih =>
    intro j
    have v := nd_Vs h ih j
    have a := ih j
    have r := nd_D_ss t x y i j
    have e := nd_ne_le (x i) (y j)
    omega
theorem nd_V (h : nd_tk t) (i j : Nat) : nd_D t x y (i + 1) j ≤ nd_D t x y i j + 1 ∧ nd_D t x y i j ≤ nd_D t x y (i + 1) j + 1 := nd_Vs h (nd_A h i) j
theorem nd_D_le (h : nd_tk t) (j : Nat) : ∀ i, nd_D t x y i j ≤ i + t j := by
  intro i
  induction i with
  | zero => show t j ≤ 0 + t j; omega
  | succ i ih => have v := nd_V (x := x) (y := y) h i j; omega
end
theorem nd_E_hi (x y : Nat → Int32) (i j : Nat) : nd_D nd_i x y i j ≤ i + j := nd_D_le nd_tk_i j i
theorem nd_S_hi (x y : Nat → Int32) (i j : Nat) : nd_D nd_z x y i j ≤ i := nd_D_le nd_tk_z j i
theorem nd_E_l1 (x y : Nat → Int32) (i : Nat) : ∀ j, i ≤ nd_D nd_i x y i j + j := by
  intro j
  induction j with
  | zero => rw [nd_D_c0 nd_tk_i]; omega
  | succ j ih => have v := nd_A (x := x) (y := y) nd_tk_i i j; omega
theorem nd_E_l2 (x y : Nat → Int32) (j : Nat) : ∀ i, j ≤ nd_D nd_i x y i j + i := by
  intro i
  induction i with
  | zero => exact Nat.le_refl _
  | succ i ih => have v := nd_V (x := x) (y := y) nd_tk_i i j; omega
theorem nd_D_cg {t : Nat → Nat} {x x' y y' : Nat → Int32} : ∀ i j, (∀ k, k < i → x k = x' k) → (∀ k, k < j → y k = y' k) → nd_D t x y i j = nd_D t x' y' i j := by
  intro i
  induction i with
  | zero => intro j _ _; rfl
  | succ i ihi =>
    intro j
    induction j with
    | zero => intro _ _; rfl
    | succ j ihj =>
      intro hx hy
      rw [nd_D_ss, nd_D_ss, ihi (j + 1) (fun k hk => hx k (by omega)) hy, ihj hx (fun k hk => hy k (by omega)), ihi j (fun k hk => hx k (by omega)) (fun k hk => hy k (by omega)), hx i (by omega), hy j (by omega)]
/-! the free start is the least over all parts -/
theorem nd_p1 (x y : Nat → Int32) : ∀ i j f, f ≤ j → nd_D nd_z x y i j ≤ nd_D nd_i x (fun k => y (f + k)) i (j - f) := by
  intro i
  induction i with
  | zero => intro j f _; exact Nat.zero_le _
  | succ i ihi =>
    intro j
    induction j with
    | zero =>
      intro f hf
      have e : 0 - f = 0 := by omega
      rw [e]
      exact Nat.le_refl _
    | succ j ihj =>
      intro f hf
      by_cases e : f = j + 1
      · subst e
        rw [Nat.sub_self, nd_D_s0]
        exact nd_S_hi x y (i + 1) (j + 1)
      · have a := ihi (j + 1) f (by omega)
        have b := ihj f (by omega)
        have c := ihi j f (by omega)
        have e1 : j + 1 - f = j - f + 1 := by omega
        have r := nd_D_ss nd_z x y i j
        have r' := nd_D_ss nd_i x (fun k => y (f + k)) i (j - f)
        have e2 : f + (j - f) = j := by omega
        try dsimp only at r'
        rw [e2] at r'
        rw [e1] at a ⊢
        omega
theorem nd_p2 (x y : Nat → Int32) : ∀ i j, ∃ f, f ≤ j ∧ nd_D nd_i x (fun k => y (f + k)) i (j - f) ≤ nd_D nd_z x y i j := by
  intro i
  induction i with
  | zero => intro j; exact ⟨j, Nat.le_refl _, by rw [Nat.sub_self]; exact Nat.le_refl 0⟩
  | succ i ihi =>
    intro j
    induction j with
    | zero => exact ⟨0, Nat.le_refl _, Nat.le_refl _⟩
    | succ j ihj =>
      obtain ⟨f1, h1, k1⟩ := ihi (j + 1)
      obtain ⟨f2, h2, k2⟩ := ihj
      obtain ⟨f3, h3, k3⟩ := ihi j
      have r := nd_D_ss nd_z x y i j
      by_cases c1 : nd_D nd_z x y (i + 1) (j + 1) = nd_D nd_z x y i (j + 1) + 1
      · refine ⟨f1, h1, ?_⟩
        have v := (nd_V (x := x) (y := fun k => y (f1 + k)) nd_tk_i i (j + 1 - f1)).1
        omega
      · by_cases c2 : nd_D nd_z x y (i + 1) (j + 1) = nd_D nd_z x y (i + 1) j + 1
        · refine ⟨f2, by omega, ?_⟩
          have a := (nd_A (x := x) (y := fun k => y (f2 + k)) nd_tk_i (i + 1) (j - f2)).2
          have e : j + 1 - f2 = j - f2 + 1 := by omega
          rw [e]
          omega
        · refine ⟨f3, by omega, ?_⟩
          have r' := nd_D_ss nd_i x (fun k => y (f3 + k)) i (j - f3)
          have e2 : f3 + (j - f3) = j := by omega
          have e : j + 1 - f3 = j - f3 + 1 := by omega
          try dsimp only at r'
          rw [e2] at r'
          rw [e]
          omega
/-! the least of s 0 .. s n and its first place -/
def nd_bd (s : Nat → Nat) : Nat → Nat
  | 0 => s 0
  | n + 1 => if s (n + 1) < nd_bd s n then s (n + 1) else nd_bd s n
def nd_be (s : Nat → Nat) : Nat → Nat
  | 0 => 0
  | n + 1 => if s (n + 1) < nd_bd s n then n + 1 else nd_be s n
theorem nd_bd_le {s : Nat → Nat} : ∀ n j, j ≤ n → nd_bd s n ≤ s j := by
  intro n
  induction n with
  | zero => intro j hj; have e : j = 0 := by omega
            subst e; exact Nat.le_refl _
  | succ n ih =>
    intro j hj
    show (if s (n + 1) < nd_bd s n then s (n + 1) else nd_bd s n) ≤ s j
    by_cases e : j = n + 1
    · subst e; split <;> omega
    · have := ih j (by omega); split <;> omega
theorem nd_bd_ex {s : Nat → Nat} : ∀ n, ∃ j, j ≤ n ∧ nd_bd s n = s j := by
  intro n
  induction n with
  | zero => exact ⟨0, Nat.le_refl _, rfl⟩
  | succ n ih =>
    obtain ⟨j, hj, e⟩ := ih
    by_cases h : s (n + 1) < nd_bd s n
    · exact ⟨n + 1, Nat.le_refl _, if_pos h⟩
    · exact ⟨j, by omega, (if_neg h).trans e⟩
theorem nd_be_le {s : Nat → Nat} : ∀ n, nd_be s n ≤ n := by
  intro n
  induction n with
  | zero => exact Nat.le_refl _
  | succ n ih =>
    show (if s (n + 1) < nd_bd s n then n + 1 else nd_be s n) ≤ n + 1
    split <;> omega
def nd_lv (s : Nat → Nat) : Nat → Nat
  | 0 => 100
  | n + 1 => nd_bd s n
def nd_ev (s : Nat → Nat) : Nat → Nat
  | 0 => 0
  | n + 1 => nd_be s n
theorem nd_lv_s {s : Nat → Nat} (h : s 0 < 100) : ∀ n, nd_lv s (n + 1) = if s n < nd_lv s n then s n else nd_lv s n
  | 0 => (if_pos h).symm
  | _ + 1 => rfl
theorem nd_ev_s {s : Nat → Nat} (h : s 0 < 100) : ∀ n, nd_ev s (n + 1) = if s n < nd_lv s n then n else nd_ev s n
  | 0 => (if_pos h).symm
  | _ + 1 => rfl
def nd_mn (g : Nat → Nat) (a : Nat) : Nat → Nat
  | 0 => a
  | f + 1 => if g f < nd_mn g a f then g f else nd_mn g a f
theorem nd_mn_le {g : Nat → Nat} {a : Nat} : ∀ n, nd_mn g a n ≤ a ∧ (∀ f, f < n → nd_mn g a n ≤ g f) ∧ (nd_mn g a n = a ∨ ∃ f, f < n ∧ nd_mn g a n = g f) := by
  intro n
  induction n with
  | zero => exact ⟨Nat.le_refl _, fun f hf => absurd hf (by omega), Or.inl rfl⟩
  | succ n ih =>
    obtain ⟨h1, h2, h3⟩ := ih
    by_cases h : g n < nd_mn g a n
    · have e : nd_mn g a (n + 1) = g n := if_pos h
      rw [e]
      refine ⟨by omega, fun f hf => ?_, Or.inr ⟨n, by omega, rfl⟩⟩
      by_cases z : f = n
      · subst z; exact Nat.le_refl _
      · have := h2 f (by omega); omega
    · have e : nd_mn g a (n + 1) = nd_mn g a n := if_neg h
      rw [e]
      refine ⟨h1, fun f hf => ?_, ?_⟩
      · by_cases z : f = n
        · subst z; omega
        · exact h2 f (by omega)
      · rcases h3 with h3 | ⟨f, hf, h3⟩
        · exact Or.inl h3
        · exact Or.inr ⟨f, by omega, h3⟩
/-- the parts that end at t: what is least of a and them -/
theorem nd_mn_part (x y : Nat → Int32) (m t a : Nat) : nd_mn (fun f => nd_D nd_i x (fun k => y (f + k)) m (t - f)) a (t + 1) = if nd_D nd_z x y m t < a then nd_D nd_z x y m t else a := by
  obtain ⟨h1, h2, h3⟩ := nd_mn_le (g := fun f => nd_D nd_i x (fun k => y (f + k)) m (t - f)) (a := a) (t + 1)
  obtain ⟨f, hf, hk⟩ := nd_p2 x y m t
  have h4 := h2 f (by omega)
  try dsimp only at h4
  rcases h3 with h3 | ⟨g, hg, h3⟩
  · rw [h3] at h4 ⊢
    by_cases z : nd_D nd_z x y m t < a
    · omega
    · rw [if_neg z]
  · have h5 := nd_p1 x y m t g (by omega)
    try dsimp only at h3
    by_cases z : nd_D nd_z x y m t < a
    · rw [if_pos z]; omega
    · rw [if_neg z]; omega
end
section
/-! the band of width w along the diagonal -/
def nd_bc (w : Nat) (x : Nat → Int32) (yj : Int32) (j : Nat) (prev : Nat → Nat) : Nat → Nat
  | 0 => if j + w < 0 ∨ 0 + w < j then 100 else prev 0 + 1
  | i + 1 => if j + w < i + 1 ∨ i + 1 + w < j then 100 else min (min (prev (i + 1) + 1) (prev i + nd_ne (x i) yj)) (nd_bc w x yj j prev i + 1)
def nd_B (w : Nat) (x y : Nat → Int32) : Nat → Nat → Nat
  | 0 => fun i => if w < i then 100 else i
  | j + 1 => nd_bc w x (y j) (j + 1) (nd_B w x y j)
section
variable (w : Nat) (x y : Nat → Int32)
theorem nd_B_0 (i : Nat) : nd_B w x y 0 i = if w < i then 100 else i := rfl
theorem nd_B_out (j i : Nat) (h : j + 1 + w < i ∨ i + w < j + 1) : nd_B w x y (j + 1) i = 100 := by
  cases i with
  | zero => exact if_pos h
  | succ i => exact if_pos h
theorem nd_B_in0 (j : Nat) (h : j + 1 ≤ w) : nd_B w x y (j + 1) 0 = nd_B w x y j 0 + 1 := if_neg (by omega)
theorem nd_B_in (j i : Nat) (h1 : i + 1 ≤ j + 1 + w) (h2 : j + 1 ≤ i + 1 + w) : nd_B w x y (j + 1) (i + 1) = min (min (nd_B w x y j (i + 1) + 1) (nd_B w x y j i + nd_ne (x i) (y j))) (nd_B w x y (j + 1) i + 1) := if_neg (by omega)
theorem nd_B_hi : ∀ j i, i ≤ 100 → nd_B w x y j i ≤ 100 + j := by
  intro j
  induction j with
  | zero => intro i hi; rw [nd_B_0]; split <;> omega
  | succ j ih =>
    intro i hi
    by_cases h : j + 1 + w < i ∨ i + w < j + 1
    · rw [nd_B_out w x y j i h]; omega
    · cases i with
      | zero => rw [nd_B_in0 w x y j (by omega)]; have := ih 0 (by omega); omega
      | succ i => rw [nd_B_in w x y j i (by omega) (by omega)]; have := ih (i + 1) hi; omega
theorem nd_B_lo : ∀ j i, i + j ≤ 100 → nd_D nd_i x y i j ≤ nd_B w x y j i := by
  intro j
  induction j with
  | zero => intro i hi; rw [nd_B_0, nd_D_c0 nd_tk_i]; split <;> omega
  | succ j ihj =>
    intro i
    induction i with
    | zero =>
      intro hi
      have a := ihj 0 (by omega)
      have b := nd_D_0 nd_i x y j
      have c : nd_D nd_i x y 0 (j + 1) = j + 1 := rfl
      have d : nd_i j = j := rfl
      by_cases h : j + 1 + w < 0 ∨ 0 + w < j + 1
      · rw [nd_B_out w x y j 0 h]; omega
      · rw [nd_B_in0 w x y j (by omega)]; omega
    | succ i ihi =>
      intro hi
      by_cases h : j + 1 + w < i + 1 ∨ i + 1 + w < j + 1
      · rw [nd_B_out w x y j (i + 1) h]
        have := nd_E_hi x y (i + 1) (j + 1)
        omega
      · rw [nd_B_in w x y j i (by omega) (by omega), nd_D_ss]
        have a := ihj (i + 1) (by omega)
        have b := ihj i (by omega)
        have c := ihi (by omega)
        omega
theorem nd_B_up : ∀ j i, nd_D nd_i x y i j ≤ w → nd_B w x y j i ≤ nd_D nd_i x y i j := by
  intro j
  induction j with
  | zero => intro i; rw [nd_B_0, nd_D_c0 nd_tk_i]; intro hi; split <;> omega
  | succ j ihj =>
    intro i
    induction i with
    | zero =>
      intro hi
      have c : nd_D nd_i x y 0 (j + 1) = j + 1 := rfl
      have b : nd_D nd_i x y 0 j = j := rfl
      have a := ihj 0 (by omega)
      rw [nd_B_in0 w x y j (by omega)]
      omega
    | succ i ihi =>
      intro hi
      have l1 := nd_E_l1 x y (i + 1) (j + 1)
      have l2 := nd_E_l2 x y (j + 1) (i + 1)
      rw [nd_B_in w x y j i (by omega) (by omega)]
      have r := nd_D_ss nd_i x y i j
      have a := ihj (i + 1)
      have b := ihj i
      omega
end
/-- what the band gives is the distance, if the one or the other is at most w -/
theorem nd_B_eq (w : Nat) (x y : Nat → Int32) (i j : Nat) (h : i + j ≤ 100) (hw : nd_B w x y j i ≤ w ∨ nd_D nd_i x y i j ≤ w) : nd_B w x y j i = nd_D nd_i x y i j := by
  have a := nd_B_lo w x y j i h
  have b := nd_B_up w x y j i
  omega
/-! pairs of letters -/
def nd_pc (f : Nat → Int32) (k : Nat) : Nat → Nat
  | 0 => 0
  | n + 1 => nd_pc f k n + if f n = nI (k / 4) ∧ f (n + 1) = nI (k % 4) then 1 else 0
def nd_ct (f : Nat → Int32) (n k : Nat) : Nat := nd_pc f k (n - 1)
def nd_sum (g : Nat → Nat) : Nat → Nat
  | 0 => 0
  | n + 1 => nd_sum g n + g n
def nd_G (x y : Nat → Int32) (i j : Nat) : Nat := nd_sum (fun k => min (nd_ct y j k) (nd_ct x i k)) 16
def nd_L4 (f : Nat → Int32) : Prop := ∀ j, ∃ c, c < 4 ∧ f j = nI c
theorem nd_pc_le (f : Nat → Int32) (k : Nat) : ∀ n, nd_pc f k n ≤ n := by
  intro n
  induction n with
  | zero => exact Nat.le_refl _
  | succ n ih =>
    show nd_pc f k n + (if f n = nI (k / 4) ∧ f (n + 1) = nI (k % 4) then 1 else 0) ≤ n + 1
    split <;> omega
theorem nd_pc_mo (f : Nat → Int32) (k n : Nat) : ∀ d, nd_pc f k n ≤ nd_pc f k (n + d) := by
  intro d
  induction d with
  | zero => exact Nat.le_refl _
  | succ d ih =>
    show nd_pc f k n ≤ nd_pc f k (n + d) + (if f (n + d) = nI (k / 4) ∧ f (n + d + 1) = nI (k % 4) then 1 else 0)
    omega
theorem nd_pc_cg {f g : Nat → Int32} (k : Nat) : ∀ n, (∀ j, j ≤ n → f j = g j) → nd_pc f k n = nd_pc g k n := by
  intro n
  induction n with
  | zero => intro _; rfl
  | succ n ih =>
    intro h
    show nd_pc f k n + _ = nd_pc g k n + _
    rw [ih (fun j hj => h j (by omega)), h n (by omega), h (n + 1) (by omega)]
theorem nd_ct_mo (f : Nat → Int32) (k : Nat) {i j : Nat} (h : i ≤ j) : nd_ct f i k ≤ nd_ct f j k := by
  have e : j - 1 = (i - 1) + (j - 1 - (i - 1)) := by omega
  unfold nd_ct
  rw [e]
  exact nd_pc_mo f k _ _
theorem nd_sum_mo {g h : Nat → Nat} : ∀ n, (∀ k, k < n → g k ≤ h k) → nd_sum g n ≤ nd_sum h n := by
  intro n
  induction n with
  | zero => intro _; exact Nat.le_refl _
  | succ n ih =>
    intro H
    have a := ih (fun k hk => H k (by omega))
    have b := H n (by omega)
    show nd_sum g n + g n ≤ nd_sum h n + h n
    omega
theorem nd_sum_lt {g h : Nat → Nat} {p : Nat} (hp : g p < h p) : ∀ n, p < n → (∀ k, k < n → g k ≤ h k) → nd_sum g n < nd_sum h n := by
  intro n
  induction n with
  | zero => intro h; omega
  | succ n ih =>
    intro hn H
    show nd_sum g n + g n < nd_sum h n + h n
    have b := H n (by omega)
    by_cases e : p = n
    · subst e
      have a := nd_sum_mo p (fun k hk => H k (by omega))
      omega
    · have a := ih (by omega) (fun k hk => H k (by omega))
      omega
theorem nd_sum_le {g : Nat → Nat} {b : Nat} (h : ∀ k, g k ≤ b) : ∀ n, nd_sum g n ≤ n * b := by
  intro n
  induction n with
  | zero => exact Nat.zero_le _
  | succ n ih =>
    have := h n
    show nd_sum g n + g n ≤ (n + 1) * b
    rw [Nat.add_mul]
    omega
theorem nd_G_mo (x y : Nat → Int32) {i i' j j' : Nat} (hi : i ≤ i') (hj : j ≤ j') : nd_G x y i j ≤ nd_G x y i' j' := by
  refine nd_sum_mo 16 (fun k _ => ?_)
  have a := nd_ct_mo x k hi
  have b := nd_ct_mo y k hj
  try dsimp only
  omega
theorem nd_pr {c d : Nat} (hc : c < 4) (hd : d < 4) : (4 * c + d) / 4 = c ∧ (4 * c + d) % 4 = d := by omega
theorem nd_G_pair {x y : Nat → Int32} (hx : nd_L4 x) {i j : Nat} (h1 : x i = y j) (h2 : x (i + 1) = y (j + 1)) : nd_G x y (i + 1) (j + 1) + 1 ≤ nd_G x y (i + 1 + 1) (j + 1 + 1) := by
  obtain ⟨c, hc, ec⟩ := hx i
  obtain ⟨d, hd, ed⟩ := hx (i + 1)
  refine nd_sum_lt (p := 4 * c + d) ?_ 16 (by omega) (fun k _ => ?_)
  · obtain ⟨e1, e2⟩ := nd_pr hc hd
    have a : nd_ct x (i + 1 + 1) (4 * c + d) = nd_ct x (i + 1) (4 * c + d) + 1 := by
      show nd_pc x (4 * c + d) i + _ = nd_pc x (4 * c + d) i + 1
      rw [e1, e2, if_pos ⟨ec, ed⟩]
    have b : nd_ct y (j + 1 + 1) (4 * c + d) = nd_ct y (j + 1) (4 * c + d) + 1 := by
      show nd_pc y (4 * c + d) j + _ = nd_pc y (4 * c + d) j + 1
      rw [e1, e2, if_pos ⟨h1 ▸ ec, h2 ▸ ed⟩]
    try dsimp only
    omega
  · have a := nd_ct_mo x k (Nat.le_succ (i + 1))
    have b := nd_ct_mo y k (Nat.le_succ (j + 1))
    try dsimp only
    simp only [Nat.succ_eq_add_one] at a b
    omega
/-- each error spoils at most two of the query's pairs -/
theorem nd_qg {x y : Nat → Int32} (hx : nd_L4 x) : ∀ i j, i ≤ nd_G x y i j + 2 * nd_D nd_z x y i j ∨ (∃ i' j', i = i' + 1 ∧ j = j' + 1 ∧ x i' = y j' ∧ i ≤ nd_G x y i j + 1 + 2 * nd_D nd_z x y i j) := by
  intro i
  induction i with
  | zero => intro j; exact Or.inl (Nat.zero_le _)
  | succ i ihi =>
    intro j
    induction j with
    | zero => refine Or.inl ?_; rw [nd_D_s0]; omega
    | succ j ihj =>
      have r := nd_D_ss nd_z x y i j
      have g1 := nd_G_mo x y (Nat.le_add_right i 1) (Nat.le_refl (j + 1))
      have g2 := nd_G_mo x y (Nat.le_refl (i + 1)) (Nat.le_add_right j 1)
      have g3 := nd_G_mo x y (Nat.le_add_right i 1) (Nat.le_add_right j 1)
      have k1 : i ≤ nd_G x y i (j + 1) + 1 + 2 * nd_D nd_z x y i (j + 1) := by
        rcases ihi (j + 1) with h | ⟨_, _, _, _, _, h⟩ <;> omega
      have k2 : i + 1 ≤ nd_G x y (i + 1) j + 1 + 2 * nd_D nd_z x y (i + 1) j := by
        rcases ihj with h | ⟨_, _, _, _, _, h⟩ <;> omega
      have k3 : i ≤ nd_G x y i j + 1 + 2 * nd_D nd_z x y i j := by
        rcases ihi j with h | ⟨_, _, _, _, _, h⟩ <;> omega
      rcases nd_ne_c (x i) (y j) with ⟨he, e⟩ | ⟨_, e⟩
      · by_cases c : nd_D nd_z x y (i + 1) (j + 1) = nd_D nd_z x y i j
        · refine Or.inr ⟨i, j, rfl, rfl, he, ?_⟩
          rcases ihi j with h | ⟨i', j', ei, ej, h1, h⟩
          · omega
          · subst ei ej
            have := nd_G_pair hx h1 he
            omega
        · refine Or.inl ?_
          omega
      · refine Or.inl ?_
        omega
theorem nd_qg2 {x y : Nat → Int32} (hx : nd_L4 x) (m n : Nat) : m ≤ nd_G x y m n + 1 + 2 * nd_bd (fun j => nd_D nd_z x y m j) n := by
  obtain ⟨j, hj, e⟩ := nd_bd_ex (s := fun j => nd_D nd_z x y m j) n
  have g := nd_G_mo x y (Nat.le_refl m) hj
  rw [e]
  try dsimp only
  rcases nd_qg (y := y) hx m j with h | ⟨_, _, _, _, _, h⟩ <;> omega
end
section
/-! one step of the column of distances as two words -/
def nd_cy (E U : Int32) (k : Nat) : Bool := BitVec.carry k (E &&& U).toBitVec U.toBitVec false
theorem nd_cy_0 (E U : Int32) : nd_cy E U 0 = false := BitVec.carry_zero
theorem nd_cy_s (E U : Int32) (k : Nat) : nd_cy E U (k + 1) = (bt U k && (bt E k || nd_cy E U k)) := by
  have h : nd_cy E U (k + 1) = Bool.atLeastTwo (bt (E &&& U) k) (bt U k) (nd_cy E U k) := BitVec.carry_succ k _ _ _
  rw [h, b_and]
  generalize nd_cy E U k = c
  cases bt E k <;> cases bt U k <;> cases c <;> rfl
theorem nd_zb (E U : Int32) {k : Nat} (hk : k < 32) : bt ((((E &&& U) + U) ^^^ U) ||| E) k = (bt E k || nd_cy E U k) := by
  have h : bt ((E &&& U) + U) k = (bt (E &&& U) k ^^ (bt U k ^^ nd_cy E U k)) := by
    unfold bt nd_cy
    rw [Int32.toBitVec_add, BitVec.getLsbD_add hk]
  rw [b_or, b_xor, h, b_and]
  generalize nd_cy E U k = c
  cases bt E k <;> cases bt U k <;> cases c <;> rfl
theorem nd_nb (x : Int32) {k : Nat} (hk : k < 32) : bt (x ^^^ (-1)) k = !bt x k := by
  rw [b_xor, b_m1 k hk, Bool.xor_true]
theorem nd_1b : ∀ j, j < 8 → ∀ k, k < 32 → bt ((1 : Int32) <<< (nI j &&& 31)) k = decide (k = j) := by decide +kernel
theorem nd_fb : ∀ m, m < 9 → ∀ k, k < m → bt (((1 : Int32) <<< (nI m &&& 31)) - 1) k = true := by decide +kernel
theorem nd_top (X : Int32) {j : Nat} (hj : j < 8) : (X &&& ((1 : Int32) <<< (nI j &&& 31))) = 0 ↔ bt X j = false := by
  constructor
  · intro h
    have e : bt (X &&& ((1 : Int32) <<< (nI j &&& 31))) j = bt 0 j := by rw [h]
    rw [b_and, nd_1b j hj j (by omega), b_0, decide_eq_true rfl, Bool.and_true] at e
    exact e
  · intro h
    apply b_ext
    intro i hi
    rw [b_and, nd_1b j hj i hi, b_0]
    by_cases e : i = j
    · subst e; rw [h]; rfl
    · rw [decide_eq_false e, Bool.and_false]
theorem nd_sh1 {X : Int32} {p : Nat → Prop} [DecidablePred p] {m : Nat} (hm : m ≤ 16) (h : ∀ k, k < m → bt X k = decide (p (k + 1))) (h0 : ¬ p 0) : ∀ k, k < m → bt (X <<< ((1 : Int32) &&& 31)) k = decide (p k) := by
  intro k hk
  have e : bt (X <<< ((1 : Int32) &&& 31)) k = (decide (1 ≤ k) && bt X (k - 1)) := b_shl 1 (by omega) X (by omega)
  rw [e]
  cases k with
  | zero => rw [decide_eq_false h0]; rfl
  | succ k => rw [show k + 1 - 1 = k from rfl, h k (by omega), decide_eq_true (by omega : 1 ≤ k + 1), Bool.true_and]
def nd_MH (m : Nat) (s s' e : Nat → Nat) (E U D F : Int32) : Prop :=
  m ≤ 16 ∧ s 0 = s' 0 ∧ (∀ k, k < m → s' (k + 1) = min (min (s' k + 1) (s (k + 1) + 1)) (s k + e k)) ∧ (∀ k, e k ≤ 1) ∧
  (∀ k, s (k + 1) ≤ s k + 1 ∧ s k ≤ s (k + 1) + 1) ∧ (∀ k, s k ≤ s' k + 1 ∧ s' k ≤ s k + 1) ∧
  (∀ k, k < m → bt E k = decide (e k = 0)) ∧ (∀ k, k < m → bt U k = decide (s (k + 1) = s k + 1)) ∧ (∀ k, k < m → bt D k = decide (s k = s (k + 1) + 1)) ∧ (∀ k, k < m → bt F k = true)
section
variable {m : Nat} {s s' e : Nat → Nat} {E U D F : Int32}
theorem nd_my_c (H : nd_MH m s s' e E U D F) : ∀ k, k ≤ m → nd_cy E U k = decide (s' k < s k) := by
  obtain ⟨hm, h0, hr, he, hv, hh, hE, hU, hD, hF⟩ := H
  intro k
  induction k with
  | zero => intro _; rw [nd_cy_0, decide_eq_false (by omega)]
  | succ k ih =>
    intro hk
    have r := hr k (by omega)
    have a := he k
    have b := hv k
    have c := hh k
    have d := hh (k + 1)
    rw [nd_cy_s, hU k (by omega), hE k (by omega), ih (by omega), Bool.eq_iff_iff]
    simp only [Bool.and_eq_true, Bool.or_eq_true, decide_eq_true_eq]
    omega
theorem nd_my_R (H : nd_MH m s s' e E U D F) : ∀ k, k < m → bt ((D ||| ((((((E &&& U) + U) ^^^ U) ||| E) ||| U) ^^^ (-1))) &&& F) k = decide (s' (k + 1) = s (k + 1) + 1) := by
  intro k hk
  have hc := nd_my_c H k (by omega)
  obtain ⟨hm, h0, hr, he, hv, hh, hE, hU, hD, hF⟩ := H
  have r := hr k (by omega)
  have a := he k
  have b := hv k
  have c := hh k
  rw [b_and, b_or, nd_nb _ (by omega), b_or, nd_zb E U (by omega), hc, hU k hk, hE k hk, hD k hk, hF k hk, Bool.and_true, Bool.eq_iff_iff]
  simp only [Bool.or_eq_true, Bool.not_eq_true', Bool.or_eq_false_iff, decide_eq_true_eq, decide_eq_false_iff_not]
  omega
theorem nd_my_F (H : nd_MH m s s' e E U D F) : ∀ k, k < m → bt (U &&& ((((E &&& U) + U) ^^^ U) ||| E)) k = decide (s (k + 1) = s' (k + 1) + 1) := by
  intro k hk
  have hc := nd_my_c H k (by omega)
  obtain ⟨hm, h0, hr, he, hv, hh, hE, hU, hD, hF⟩ := H
  have r := hr k (by omega)
  have a := he k
  have b := hv k
  have c := hh k
  have d := hh (k + 1)
  rw [b_and, nd_zb E U (by omega), hc, hU k hk, hE k hk, Bool.eq_iff_iff]
  simp only [Bool.and_eq_true, Bool.or_eq_true, decide_eq_true_eq]
  omega
theorem nd_my_U (H : nd_MH m s s' e E U D F) {R Q : Int32} (hR : ∀ k, k < m → bt R k = decide (s' (k + 1) = s (k + 1) + 1)) (hQ : ∀ k, k < m → bt Q k = decide (s (k + 1) = s' (k + 1) + 1)) : ∀ k, k < m → bt (((Q <<< ((1 : Int32) &&& 31)) ||| (((E ||| D) ||| (R <<< ((1 : Int32) &&& 31))) ^^^ (-1))) &&& F) k = decide (s' (k + 1) = s' k + 1) := by
  intro k hk
  obtain ⟨hm, h0, hr, he, hv, hh, hE, hU, hD, hF⟩ := H
  have r := hr k (by omega)
  have a := he k
  have b := hv k
  have c := hh k
  have d := hh (k + 1)
  have gR := nd_sh1 (p := fun k => s' k = s k + 1) hm hR (by omega) k hk
  have gQ := nd_sh1 (p := fun k => s k = s' k + 1) hm hQ (by omega) k hk
  rw [b_and, b_or, gQ, nd_nb _ (by omega), b_or, gR, b_or, hE k hk, hD k hk, hF k hk, Bool.and_true, Bool.eq_iff_iff]
  simp only [Bool.or_eq_true, Bool.not_eq_true', Bool.or_eq_false_iff, decide_eq_true_eq, decide_eq_false_iff_not]
  omega
theorem nd_my_D (H : nd_MH m s s' e E U D F) {R : Int32} (hR : ∀ k, k < m → bt R k = decide (s' (k + 1) = s (k + 1) + 1)) : ∀ k, k < m → bt (((R <<< ((1 : Int32) &&& 31)) &&& (E ||| D)) &&& F) k = decide (s' k = s' (k + 1) + 1) := by
  intro k hk
  obtain ⟨hm, h0, hr, he, hv, hh, hE, hU, hD, hF⟩ := H
  have r := hr k (by omega)
  have a := he k
  have b := hv k
  have c := hh k
  have d := hh (k + 1)
  have gR := nd_sh1 (p := fun k => s' k = s k + 1) hm hR (by omega) k hk
  rw [b_and, b_and, gR, b_or, hE k hk, hD k hk, hF k hk, Bool.and_true, Bool.eq_iff_iff]
  simp only [Bool.and_eq_true, Bool.or_eq_true, decide_eq_true_eq]
  omega
end
/-! the query against the parts of a document: what a search finds -/
def nd_sf (qu lt : Nat → Int32) (m d j : Nat) : Nat := nd_D nd_z qu (fun k => lt (16 * d + k)) m j
theorem nd_sf_le (qu lt : Nat → Int32) (m d j : Nat) : nd_sf qu lt m d j ≤ m := nd_S_hi _ _ _ _
theorem nd_bd_hi (qu lt : Nat → Int32) (m d n : Nat) : nd_bd (nd_sf qu lt m d) n ≤ m := Nat.le_trans (nd_bd_le n 0 (Nat.zero_le _)) (nd_sf_le qu lt m d 0)
theorem nd_sf_q0 (qu lt : Nat → Int32) (d : Nat) : ∀ n, nd_bd (nd_sf qu lt 0 d) n = 0 ∧ nd_be (nd_sf qu lt 0 d) n = 0 := by
  intro n
  have a : ∀ n, nd_bd (nd_sf qu lt 0 d) n = 0 := fun n => Nat.le_zero.mp (nd_bd_hi qu lt 0 d n)
  refine ⟨a n, ?_⟩
  induction n with
  | zero => rfl
  | succ n ih =>
    show (if nd_sf qu lt 0 d (n + 1) < nd_bd (nd_sf qu lt 0 d) n then n + 1 else nd_be (nd_sf qu lt 0 d) n) = 0
    rw [a n, if_neg (by omega), ih]
theorem nd_sf_MH {qu lt : Nat → Int32} {m d i : Nat} {E U D F : Int32} (hm : m ≤ 16)
    (hE : ∀ k, k < m → bt E k = decide (qu k = lt (16 * d + i)))
    (hU : ∀ k, k < m → bt U k = decide (nd_sf qu lt (k + 1) d i = nd_sf qu lt k d i + 1))
    (hD : ∀ k, k < m → bt D k = decide (nd_sf qu lt k d i = nd_sf qu lt (k + 1) d i + 1)) (hF : ∀ k, k < m → bt F k = true) :
    nd_MH m (fun k => nd_sf qu lt k d i) (fun k => nd_sf qu lt k d (i + 1)) (fun k => nd_ne (qu k) (lt (16 * d + i))) E U D F :=
  ⟨hm, rfl, fun k _ => nd_D_ss nd_z qu (fun k => lt (16 * d + k)) k i, fun _ => nd_ne_le _ _,
    fun k => nd_V nd_tk_z k i, fun k => nd_A nd_tk_z k i,
    fun k hk => (hE k hk).trans (decide_eq_decide.mpr (nd_ne_z _ _).symm), hU, hD, hF⟩
end
section
/-! X's search -/
theorem nd_ix (d i : Nat) : 16 * nI d + nI i = nI (16 * d + i) := by
  rw [show (16 : Int32) = nI 16 from rfl, pk_mul, nI_add]
section
variable {post : SX → Prop} {fq bd be xl yl : Int32} {ln lt pc qu qp mk ax ay co nc : Nat → Int32} {m d N : Nat}
theorem nd_206 {J : Int32 → Int32 → Int32 → Int32 → Int32 → Int32 → Prop} {x1 full top x9 R Q z0 z1 : Int32} {i b e a : Nat} (hz : z1 + z0 = nI a) (ha : a < 1000) (hb : b < 1000)
    (K : J (((Q <<< ((1 : Int32) &&& 31)) ||| ((x9 ||| (R <<< ((1 : Int32) &&& 31))) ^^^ (-1))) &&& full) (((R <<< ((1 : Int32) &&& 31)) &&& x9) &&& full) (nI a) (nI (i + 1)) (nI (if a < b then a else b)) (nI (if a < b then i + 1 else e))) :
    wX_search_206 post J x1 full top (nI i) x9 R Q z0 z1 fq (nI b) (nI e) xl yl ln lt pc qu qp mk ax ay co nc := by
  unfold wX_search_206
  refine nm_r hz (nm_e (nm_e (nm_e (nm_e ?_))))
  refine pk_le b a (fun h => nm_r (nI_1 i) ?_) (fun h => nm_r (nI_1 i) (nm_r (nI_1 i) ?_))
  · rw [if_neg (by omega), if_neg (by omega)] at K; exact K
  · rw [if_pos h, if_pos h] at K; exact K
theorem nd_x107 (hm : m ≤ 8) (h1 : 1 ≤ m) (hd : d < 8) (hN : N ≤ 16) (hln : ln d = nI N) (hlt : nd_L4 lt) {full top : Int32} (hf : ∀ k, k < m → bt full k = true)
    (ht : ∀ X : Int32, (X &&& top) = 0 ↔ bt X (m - 1) = false)
    (hmk : ∀ l, l < 4 → ∀ k, k < m → bt (mk l) k = decide (qu k = nI l))
    (K : post (nI m, nI (nd_bd (nd_sf qu lt m d) N), nI (nd_be (nd_sf qu lt m d) N), xl, yl, ln, lt, pc, qu, qp, mk, ax, ay, co, nc)) :
    ∀ n i U D, N - i < n → i ≤ N → (∀ k, k < m → bt U k = decide (nd_sf qu lt (k + 1) d i = nd_sf qu lt k d i + 1)) → (∀ k, k < m → bt D k = decide (nd_sf qu lt k d i = nd_sf qu lt (k + 1) d i + 1)) →
      wX_search_107 post (nI d) full top (nI m) xl yl ln lt pc qu qp mk ax ay co nc n U D (nI (nd_sf qu lt m d i)) (nI i) (nI (nd_bd (nd_sf qu lt m d) i)) (nI (nd_be (nd_sf qu lt m d) i)) := by
  intro n
  induction n with
  | zero => intro i U D h; omega
  | succ n ih =>
    intro i U D hn hi hU hD
    rw [wX_search_107]
    refine And.intro (pk_in d 8 hd) ?_
    rw [nI_clamp (show d < 2 ^ 31 by omega), hln]
    refine pk_le N i (fun h => ?_) (fun h => ?_)
    · have e : i = N := by omega
      subst e
      exact K
    · obtain ⟨c, hc, ec⟩ := hlt (16 * d + i)
      rw [nd_ix, nI_clamp (show 16 * d + i < 2 ^ 31 by omega), ec, nI_clamp (show c < 2 ^ 31 by omega)]
      refine And.intro (pk_in (16 * d + i) 128 (by omega)) (And.intro (pk_in c 4 hc) ?_)
      refine nm_e (nm_e (nm_e (nm_e (nm_e ?_))))
      have H := nd_sf_MH (qu := qu) (lt := lt) (m := m) (d := d) (i := i) (E := mk c) (F := full) (by omega) (fun k hk => by rw [ec]; exact hmk c hc k hk) hU hD hf
      have hR := nd_my_R H
      have hQ := nd_my_F H
      have hU' := nd_my_U H hR hQ
      have hD' := nd_my_D H hR
      have rR := hR (m - 1) (by omega)
      have rQ := hQ (m - 1) (by omega)
      try dsimp only at rR rQ hU' hD'
      have em : m - 1 + 1 = m := by omega
      rw [em] at rR rQ
      have hs := nd_sf_le qu lt m d (i + 1)
      have hs0 := nd_sf_le qu lt m d i
      have hb := nd_bd_hi qu lt m d i
      have J := ih (i + 1) _ _ (by omega) (by omega) hU' hD'
      have hh := nd_A (x := qu) (y := fun k => lt (16 * d + k)) nd_tk_z m i
      have hh' : nd_sf qu lt m d i ≤ nd_sf qu lt m d (i + 1) + 1 ∧ nd_sf qu lt m d (i + 1) ≤ nd_sf qu lt m d i + 1 := hh
      refine br_c (fun hr => ?_) (fun hr => ?_)
      · rw [ht, rR, decide_eq_false_iff_not] at hr
        refine br_c (fun hq => ?_) (fun hq => ?_)
        · rw [ht, rQ, decide_eq_false_iff_not] at hq
          refine nd_206 (a := nd_sf qu lt m d (i + 1)) ?_ (by omega) (by omega) J
          rw [Int32.add_zero]
          exact congrArg nI (by omega)
        · rw [ht, rQ, decide_eq_false_iff_not, Decidable.not_not] at hq
          refine nd_206 (a := nd_sf qu lt m d (i + 1)) ?_ (by omega) (by omega) J
          rw [hq]
          exact pk_m1 _
      · rw [ht, rR, decide_eq_false_iff_not, Decidable.not_not] at hr
        refine nd_206 (a := nd_sf qu lt m d (i + 1)) ?_ (by omega) (by omega) J
        rw [hr]
        exact nI_1 _
theorem nd_x22 (hm : m ≤ 8) (hd : d < 8) (hN : N ≤ 16) (hln : ln d = nI N) (hlt : nd_L4 lt) (hqu : nd_L4 qu)
    (K : ∀ mk, post (nI m, nI (nd_bd (nd_sf qu lt m d) N), nI (nd_be (nd_sf qu lt m d) N), xl, yl, ln, lt, pc, qu, qp, mk, ax, ay, co, nc)) :
    ∀ n i mk, m - i < n → i ≤ m → (∀ l, l < 4 → ∀ k, k < m → bt (mk l) k = decide (k < i ∧ qu k = nI l)) →
      wX_search_22 post (nI d) (nI m) bd be xl yl n (nI i) ln lt pc qu qp mk ax ay co nc := by
  intro n
  induction n with
  | zero => intro i mk h; omega
  | succ n ih =>
    intro i mk hn hi hmk
    rw [wX_search_22]
    refine pk_le m i (fun h => ?_) (fun h => ?_)
    · refine pk_eq m 0 (fun z => ?_) (fun z => ?_)
      · subst z
        have e := nd_sf_q0 qu lt d N
        have K' := K mk
        rw [e.1, e.2] at K'
        exact K'
      · obtain ⟨p, rfl⟩ : ∃ p, m = p + 1 := ⟨m - 1, by omega⟩
        rw [nI_pred]
        refine nm_e (nm_e ⟨N + 1, ?_⟩)
        have s0 : ∀ k, nd_sf qu lt k d 0 = k := fun k => nd_D_c0 nd_tk_z k
        have W := nd_x107 (post := post) (xl := xl) (yl := yl) (pc := pc) (qp := qp) (ax := ax) (ay := ay) (co := co) (nc := nc) hm (by omega) hd hN hln hlt (nd_fb (p + 1) (by omega)) (fun X => nd_top X (j := p) (by omega))
          (fun l hl k hk => by rw [hmk l hl k hk]; exact decide_eq_decide.mpr ⟨fun z => z.2, fun z => ⟨by omega, z⟩⟩) (K mk) (N + 1) 0 (((1 : Int32) <<< (nI (p + 1) &&& 31)) - 1) 0 (by omega) (by omega)
          (fun k hk => by rw [nd_fb (p + 1) (by omega) k hk, s0, s0, decide_eq_true rfl]) (fun k hk => by rw [b_0, s0, s0, decide_eq_false (by omega)])
        rw [s0] at W
        have e1 : nd_bd (nd_sf qu lt (p + 1) d) 0 = p + 1 := s0 (p + 1)
        have e2 : nd_be (nd_sf qu lt (p + 1) d) 0 = 0 := rfl
        rw [e1, e2] at W
        exact W
    · obtain ⟨c, hc, ec⟩ := hqu i
      rw [nI_clamp (show i < 2 ^ 31 by omega), ec, nI_clamp (show c < 2 ^ 31 by omega)]
      refine And.intro (pk_in i 8 (by omega)) (And.intro (pk_in c 4 hc) (And.intro (pk_in c 4 hc) (nm_e (nm_r (nI_1 i) (ih (i + 1) _ (by omega) (by omega) ?_)))))
      intro l hl k hk
      by_cases e : l = c
      · subst e
        rw [pk_us, b_or, hmk l hl k hk, nd_1b i (by omega) k (by omega), Bool.eq_iff_iff]
        simp only [Bool.or_eq_true, decide_eq_true_eq]
        constructor
        · rintro (⟨h1, h2⟩ | h1)
          · exact ⟨by omega, h2⟩
          · subst h1; exact ⟨by omega, ec⟩
        · rintro ⟨h1, h2⟩
          by_cases z : k = i
          · exact Or.inr z
          · exact Or.inl ⟨by omega, h2⟩
      · rw [pk_un e, hmk l hl k hk]
        apply decide_eq_decide.mpr
        constructor
        · rintro ⟨h1, h2⟩; exact ⟨by omega, h2⟩
        · rintro ⟨h1, h2⟩
          refine ⟨?_, h2⟩
          by_cases z : k = i
          · subst z
            rw [ec, nI_eq (by omega) (by omega)] at h2
            exact absurd h2.symm e
          · omega
theorem nd_x2 (hm : m ≤ 8) (hd : d < 8) (hN : N ≤ 16) (hln : ln d = nI N) (hlt : nd_L4 lt) (hqu : nd_L4 qu)
    (K : ∀ mk, post (nI m, nI (nd_bd (nd_sf qu lt m d) N), nI (nd_be (nd_sf qu lt m d) N), xl, yl, ln, lt, pc, qu, qp, mk, ax, ay, co, nc)) :
    ∀ n i mk, 4 - i < n → i ≤ 4 → (∀ l, l < i → mk l = 0) →
      wX_search_2 post (nI d) (nI m) bd be xl yl n (nI i) ln lt pc qu qp mk ax ay co nc := by
  intro n
  induction n with
  | zero => intro i mk h; omega
  | succ n ih =>
    intro i mk hn hi hz
    rw [wX_search_2]
    refine pk_le 4 i (fun h => ?_) (fun h => ?_)
    · refine ⟨m + 1, nd_x22 hm hd hN hln hlt hqu K (m + 1) 0 mk (by omega) (by omega) ?_⟩
      intro l hl k hk
      rw [hz l (by omega), b_0, decide_eq_false (fun z => by omega)]
    · rw [nI_clamp (show i < 2 ^ 31 by omega)]
      refine And.intro (pk_in i 4 (by omega)) (nm_e (nm_r (nI_1 i) (ih (i + 1) _ (by omega) (by omega) ?_)))
      intro l hl
      by_cases e : l = i
      · subst e; exact pk_us
      · rw [pk_un e]; exact hz l (by omega)
theorem nd_xsearch (hm : m ≤ 8) (hd : d < 8) (hN : N ≤ 16) (hln : ln d = nI N) (hlt : nd_L4 lt) (hqu : nd_L4 qu)
    (K : ∀ mk, post (nI m, nI (nd_bd (nd_sf qu lt m d) N), nI (nd_be (nd_sf qu lt m d) N), xl, yl, ln, lt, pc, qu, qp, mk, ax, ay, co, nc)) : wpX_search post (nI m, bd, be, xl, yl, ln, lt, pc, qu, qp, mk, ax, ay, co, nc) (nI d) := by
  unfold wpX_search
  exact ⟨5, nd_x2 hm hd hN hln hlt hqu K 5 0 mk (by omega) (by omega) (fun l hl => absurd hl (by omega))⟩
end
end
section
/-! X's wholes -/
theorem nd_slt {w i j : Nat} (hw : w < 100000) (hi : i < 100000) (hj : j < 100000) : (nI w < nI i - nI j) ↔ j + w < i := by
  rw [Int32.lt_iff_toInt_lt, pk_sub_toInt (by omega) (by omega), nI_toInt (by omega)]
  omega
theorem nd_sle {w i j : Nat} (hw : w < 100000) (hi : i < 100000) (hj : j < 100000) : (nI j - nI i ≤ nI w) ↔ j ≤ i + w := by
  rw [Int32.le_iff_toInt_le, pk_sub_toInt (by omega) (by omega), nI_toInt (by omega)]
  omega
section
variable {fq bd be xl yl : Int32} {ln lt pc qu qp mk ax ay co nc : Nat → Int32} {a b w i j : Nat}
theorem nd_cell92 {post : Int32 → Prop} {p q r : Nat} (hp : p < 100000) (hq : q < 100000) (hr : r = min p q) (K : post (nI r)) : wX_cell_92 post (nI p) (nI q) fq bd be xl yl ln lt pc qu qp mk ax ay co nc := by
  unfold wX_cell_92
  refine pk_le q p (fun h => ?_) (fun h => ?_)
  · have e : r = q := by omega
    subst e; exact K
  · have e : r = p := by omega
    subst e; exact K
theorem nd_cell63 {post : Int32 → Prop} {p c e v r : Nat} {z0 : Int32} (hz : z0 = nI e) (he : e ≤ 1) (hi : i < 16) (hp : p < 1000) (hc : c < 1000) (hv : v < 1000) (hn : nc i = nI v) (hr : r = min (min p (c + e)) (v + 1)) (K : post (nI r)) : wX_cell_63 post (nI (i + 1)) (nI p) z0 (nI c) fq bd be xl yl ln lt pc qu qp mk ax ay co nc := by
  unfold wX_cell_63
  subst hz
  rw [nI_pred, nI_clamp (show i < 2 ^ 31 by omega), hn]
  refine nm_r (nI_add c e) (And.intro (pk_in i 17 (by omega)) (nm_r (nI_1 v) ?_))
  refine pk_le p (c + e) (fun h => nd_cell92 (r := r) (by omega) (by omega) (by omega) K) (fun h => nd_cell92 (r := r) (by omega) (by omega) (by omega) K)
theorem nd_xcell {post : Int32 → Prop} (ha : a ≤ 16) (hb : b ≤ 16) (hw : w < 10000) (hi : i ≤ a) (hj : j < b)
    (hco : ∀ k, k ≤ a → co k = nI (nd_B w ax ay j k)) (hnc : ∀ k, k < i → nc k = nI (nd_B w ax ay (j + 1) k))
    (K : post (nI (nd_B w ax ay (j + 1) i))) : wpX_cell post (fq, bd, be, xl, yl, ln, lt, pc, qu, qp, mk, ax, ay, co, nc) (nI i) (nI (j + 1)) (nI w) := by
  unfold wpX_cell
  dsimp only
  rw [nd_slt (by omega) (by omega) (by omega), nd_sle (by omega) (by omega) (by omega)]
  refine br_c (fun h => ?_) (fun h => ?_)
  · rw [nd_B_out w ax ay j i (Or.inl h)] at K; exact K
  · refine br_c (fun h2 => ?_) (fun h2 => ?_)
    · rw [nI_clamp (show i < 2 ^ 31 by omega), hco i hi]
      have b1 := nd_B_hi w ax ay j i (by omega)
      refine And.intro (pk_in i 17 (by omega)) (nm_r (nI_1 _) ?_)
      cases i with
      | zero =>
        refine pk_le 0 0 (fun _ => ?_) (fun z => absurd z (by omega))
        rw [nd_B_in0 w ax ay j (by omega)] at K
        exact K
      | succ i =>
        refine pk_le (i + 1) 0 (fun z => absurd z (by omega)) (fun _ => ?_)
        rw [nI_pred, nI_pred, nI_clamp (show i < 2 ^ 31 by omega), nI_clamp (show j < 2 ^ 31 by omega), hco i (by omega)]
        have b2 := nd_B_hi w ax ay j i (by omega)
        have b3 := nd_B_hi w ax ay (j + 1) i (by omega)
        have g := nd_B_in w ax ay j i (by omega) (by omega)
        refine And.intro (pk_in i 17 (by omega)) (And.intro (pk_in i 16 (by omega)) (And.intro (pk_in j 16 (by omega)) ?_))
        refine br_c (fun z => ?_) (fun z => ?_)
        · rw [nd_ne_e z] at g
          exact nd_cell63 (e := 0) rfl (by omega) (by omega) (by omega) (by omega) (by omega) (hnc i (by omega)) g K
        · rw [nd_ne_n z] at g
          exact nd_cell63 (e := 1) rfl (by omega) (by omega) (by omega) (by omega) (by omega) (hnc i (by omega)) g K
    · rw [nd_B_out w ax ay j i (by omega)] at K; exact K
theorem nd_b74 {post : Int32 → SX → Prop} {J : Int32 → (Nat → Int32) → (Nat → Int32) → (Nat → Int32) → (Nat → Int32) → (Nat → Int32) → (Nat → Int32) → (Nat → Int32) → (Nat → Int32) → (Nat → Int32) → (Nat → Int32) → Prop} {x1 : Int32} {g : Nat → Int32}
    (ha : a ≤ 16) (hnc : ∀ k, k ≤ a → nc k = g k) (K : ∀ co, (∀ k, k ≤ a → co k = g k) → J (nI (j + 1)) ln lt pc qu qp mk ax ay co nc) :
    ∀ n i co, a + 1 - i < n → i ≤ a + 1 → (∀ k, k < i → co k = g k) → wX_bandDistance_74 post J x1 (nI j) fq bd be (nI a) yl n (nI i) ln lt pc qu qp mk ax ay co nc := by
  intro n
  induction n with
  | zero => intro i co h; omega
  | succ n ih =>
    intro i co hn hi hco
    rw [wX_bandDistance_74]
    refine pk_lt a i (fun h => nm_r (nI_1 j) (K co (fun k hk => hco k (by omega)))) (fun h => ?_)
    rw [nI_clamp (show i < 2 ^ 31 by omega)]
    refine And.intro (pk_in i 17 (by omega)) (And.intro (pk_in i 17 (by omega)) (nm_e (nm_r (nI_1 i) (ih (i + 1) _ (by omega) (by omega) ?_))))
    intro k hk
    by_cases e : k = i
    · subst e; rw [pk_us]; exact hnc k h
    · rw [pk_un e]; exact hco k (by omega)
theorem nd_b45 {post : Int32 → SX → Prop} {J : Int32 → (Nat → Int32) → (Nat → Int32) → (Nat → Int32) → (Nat → Int32) → (Nat → Int32) → (Nat → Int32) → (Nat → Int32) → (Nat → Int32) → (Nat → Int32) → (Nat → Int32) → Prop}
    (ha : a ≤ 16) (hb : b ≤ 16) (hw : w < 10000) (hj : j < b) (hco : ∀ k, k ≤ a → co k = nI (nd_B w ax ay j k))
    (K : ∀ co nc, (∀ k, k ≤ a → co k = nI (nd_B w ax ay (j + 1) k)) → J (nI (j + 1 + 1)) ln lt pc qu qp mk ax ay co nc) :
    ∀ n i nc, a + 1 - i < n → i ≤ a + 1 → (∀ k, k < i → nc k = nI (nd_B w ax ay (j + 1) k)) → wX_bandDistance_45 post J (nI w) (nI (j + 1)) fq bd be (nI a) (nI b) n (nI i) ln lt pc qu qp mk ax ay co nc := by
  intro n
  induction n with
  | zero => intro i nc h; omega
  | succ n ih =>
    intro i nc hn hi hnc
    rw [wX_bandDistance_45]
    refine pk_lt a i (fun h => ?_) (fun h => ?_)
    · exact ⟨a + 2, nd_b74 (g := fun k => nI (nd_B w ax ay (j + 1) k)) ha (fun k hk => hnc k (by omega)) (fun co hc => K co nc hc) (a + 2) 0 co (by omega) (by omega) (fun k hk => absurd hk (by omega))⟩
    · refine nd_xcell ha hb hw h hj hco hnc ?_
      rw [nI_clamp (show i < 2 ^ 31 by omega)]
      refine And.intro (pk_in i 17 (by omega)) (nm_e (nm_r (nI_1 i) (ih (i + 1) _ (by omega) (by omega) ?_)))
      intro k hk
      by_cases e : k = i
      · subst e; rw [pk_us]
      · rw [pk_un e]; exact hnc k (by omega)
theorem nd_b35 {post : Int32 → SX → Prop} (ha : a ≤ 16) (hb : b ≤ 16) (hw : w < 10000)
    (K : ∀ co nc, post (nI (nd_B w ax ay b a)) (fq, bd, be, nI a, nI b, ln, lt, pc, qu, qp, mk, ax, ay, co, nc)) :
    ∀ n j co nc, b + 1 - j < n → j ≤ b → (∀ k, k ≤ a → co k = nI (nd_B w ax ay j k)) → wX_bandDistance_35 post (nI w) fq bd be (nI a) (nI b) n (nI (j + 1)) ln lt pc qu qp mk ax ay co nc := by
  intro n
  induction n with
  | zero => intro j co nc h; omega
  | succ n ih =>
    intro j co nc hn hj hco
    rw [wX_bandDistance_35]
    refine pk_lt b (j + 1) (fun h => ?_) (fun h => ?_)
    · have e : j = b := by omega
      subst e
      rw [nI_clamp (show a < 2 ^ 31 by omega), hco a (Nat.le_refl _)]
      exact And.intro (pk_in a 17 (by omega)) (K co nc)
    · exact ⟨a + 2, nd_b45 ha hb hw (by omega) hco (fun co nc hc => ih (j + 1) co nc (by omega) (by omega) hc) (a + 2) 0 nc (by omega) (by omega) (fun k hk => absurd hk (by omega))⟩
theorem nd_b2 {post : Int32 → SX → Prop} (ha : a ≤ 16) (hb : b ≤ 16) (hw : w < 10000)
    (K : ∀ co nc, post (nI (nd_B w ax ay b a)) (fq, bd, be, nI a, nI b, ln, lt, pc, qu, qp, mk, ax, ay, co, nc)) :
    ∀ n i co, a + 1 - i < n → i ≤ a + 1 → (∀ k, k < i → co k = nI (nd_B w ax ay 0 k)) → wX_bandDistance_2 post (nI w) fq bd be (nI a) (nI b) n (nI i) ln lt pc qu qp mk ax ay co nc := by
  intro n
  induction n with
  | zero => intro i co h; omega
  | succ n ih =>
    intro i co hn hi hco
    rw [wX_bandDistance_2]
    have S : ∀ v, v = nI (nd_B w ax ay 0 i) → ∀ k, k < i + 1 → upd co i v k = nI (nd_B w ax ay 0 k) := by
      intro v hv k hk
      by_cases e : k = i
      · subst e; rw [pk_us]; exact hv
      · rw [pk_un e]; exact hco k (by omega)
    refine pk_lt a i (fun h => ?_) (fun h => ?_)
    · exact ⟨b + 2, nd_b35 ha hb hw K (b + 2) 0 co nc (by omega) (by omega) (fun k hk => hco k (by omega))⟩
    · rw [nI_clamp (show i < 2 ^ 31 by omega)]
      refine pk_lt w i (fun h2 => ?_) (fun h2 => ?_)
      · exact And.intro (pk_in i 17 (by omega)) (nm_e (nm_r (nI_1 i) (ih (i + 1) _ (by omega) (by omega) (S 100 (by rw [nd_B_0, if_pos h2]; rfl)))))
      · exact And.intro (pk_in i 17 (by omega)) (nm_e (nm_r (nI_1 i) (ih (i + 1) _ (by omega) (by omega) (S (nI i) (by rw [nd_B_0, if_neg (by omega)])))))
theorem nd_xbd {post : Int32 → SX → Prop} (ha : a ≤ 16) (hb : b ≤ 16) (hw : w < 10000)
    (K : ∀ co nc, post (nI (nd_B w ax ay b a)) (fq, bd, be, nI a, nI b, ln, lt, pc, qu, qp, mk, ax, ay, co, nc)) : wpX_bandDistance post (fq, bd, be, nI a, nI b, ln, lt, pc, qu, qp, mk, ax, ay, co, nc) (nI w) := by
  unfold wpX_bandDistance
  exact ⟨a + 2, nd_b2 ha hb hw K (a + 2) 0 co (by omega) (by omega) (fun k hk => absurd hk (by omega))⟩
theorem nd_w45 {post : Int32 → SX → Prop} (ha : a ≤ 16) (hb : b ≤ 16)
    (K : ∀ co nc, post (nI (nd_D nd_i ax ay a b)) (fq, bd, be, nI a, nI b, ln, lt, pc, qu, qp, mk, ax, ay, co, nc)) :
    ∀ n r w co nc, 6 - r < n → r ≤ 6 → w * 2 ^ (6 - r) ≤ 1024 → wX_wholeDistance_45 post n (nI w) (nI r) fq bd be (nI a) (nI b) ln lt pc qu qp mk ax ay co nc := by
  intro n
  induction n with
  | zero => intro r w co nc h; omega
  | succ n ih =>
    intro r w co nc hn hr hw
    rw [wX_wholeDistance_45]
    refine pk_le 6 r (fun h => ?_) (fun h => ?_)
    · refine nd_xbd (w := 32) ha hb (by omega) (fun co nc => ?_)
      have e := nd_B_eq 32 ax ay a b (by omega) (Or.inr (by have := nd_E_hi ax ay a b; omega))
      rw [e]
      exact K co nc
    · have e6 : 6 - r = (6 - (r + 1)) + 1 := by omega
      have hp := Nat.two_pow_pos (6 - (r + 1))
      rw [e6, Nat.pow_succ] at hw
      have hw2 : w * 2 * 2 ^ (6 - (r + 1)) ≤ 1024 := by rw [Nat.mul_assoc, Nat.mul_comm 2]; exact hw
      have hw1 : w * 2 ≤ 1024 := Nat.le_trans (Nat.le_mul_of_pos_right _ hp) hw2
      refine nd_xbd ha hb (by omega) (fun co nc => ?_)
      have b1 := nd_B_hi w ax ay b a (by omega)
      refine pk_lt w (nd_B w ax ay b a) (fun h2 => ?_) (fun h2 => ?_)
      · exact nm_r (pk_mul w 2) (nm_r (nI_1 r) (ih (r + 1) (w * 2) co nc (by omega) (by omega) hw2))
      · rw [nd_B_eq w ax ay a b (by omega) (Or.inl h2)]
        exact K co nc
theorem nd_w32 {post : Int32 → SX → Prop} {z : Nat} (ha : a ≤ 16) (hb : b ≤ 16) (hz : z ≤ 16)
    (K : ∀ co nc, post (nI (nd_D nd_i ax ay a b)) (fq, bd, be, nI a, nI b, ln, lt, pc, qu, qp, mk, ax, ay, co, nc)) : wX_wholeDistance_32 post (nI z) fq bd be (nI a) (nI b) ln lt pc qu qp mk ax ay co nc := by
  unfold wX_wholeDistance_32
  refine pk_le z 0 (fun h => ?_) (fun h => ?_)
  · exact ⟨7, nd_w45 ha hb K 7 0 1 co nc (by omega) (by omega) (by decide)⟩
  · exact ⟨7, nd_w45 ha hb K 7 0 z co nc (by omega) (by omega) (by show z * 64 ≤ 1024; omega)⟩
theorem nd_xwd {post : Int32 → SX → Prop} (ha : a ≤ 16) (hb : b ≤ 16)
    (K : ∀ co nc, post (nI (nd_D nd_i ax ay a b)) (fq, bd, be, nI a, nI b, ln, lt, pc, qu, qp, mk, ax, ay, co, nc)) : wpX_wholeDistance post (fq, bd, be, nI a, nI b, ln, lt, pc, qu, qp, mk, ax, ay, co, nc) := by
  unfold wpX_wholeDistance
  dsimp only
  refine pk_le a b (fun h => ?_) (fun h => ?_)
  · rw [pk_sub h]; exact nd_w32 ha hb (by omega) K
  · rw [pk_sub (by omega)]; exact nd_w32 ha hb (by omega) K
theorem nd_ty2 {post : SX → Prop} {d N : Nat} (hd : d < 8) (hN : N ≤ 16) (hln : ln d = nI N)
    (K : ∀ ay, (∀ k, k < N → ay k = lt (16 * d + k)) → post (fq, bd, be, xl, nI N, ln, lt, pc, qu, qp, mk, ax, ay, co, nc)) :
    ∀ n i ay, N - i < n → i ≤ N → (∀ k, k < i → ay k = lt (16 * d + k)) → wX_takeAsY_2 post (nI d) fq bd be xl yl n (nI i) ln lt pc qu qp mk ax ay co nc := by
  intro n
  induction n with
  | zero => intro i ay h; omega
  | succ n ih =>
    intro i ay hn hi hay
    rw [wX_takeAsY_2]
    refine And.intro (pk_in d 8 hd) ?_
    rw [nI_clamp (show d < 2 ^ 31 by omega), hln]
    refine pk_le N i (fun h => ?_) (fun h => ?_)
    · have e : i = N := by omega
      subst e
      exact And.intro (pk_in d 8 hd) (nm_e (K ay hay))
    · rw [nd_ix, nI_clamp (show 16 * d + i < 2 ^ 31 by omega), nI_clamp (show i < 2 ^ 31 by omega)]
      refine And.intro (pk_in (16 * d + i) 128 (by omega)) (And.intro (pk_in i 16 (by omega)) (nm_e (nm_r (nI_1 i) (ih (i + 1) _ (by omega) (by omega) ?_))))
      intro k hk
      by_cases e : k = i
      · subst e; rw [pk_us]
      · rw [pk_un e]; exact hay k (by omega)
theorem nd_xty {post : SX → Prop} {d N : Nat} (hd : d < 8) (hN : N ≤ 16) (hln : ln d = nI N)
    (K : ∀ ay, (∀ k, k < N → ay k = lt (16 * d + k)) → post (fq, bd, be, xl, nI N, ln, lt, pc, qu, qp, mk, ax, ay, co, nc)) : wpX_takeAsY post (fq, bd, be, xl, yl, ln, lt, pc, qu, qp, mk, ax, ay, co, nc) (nI d) := by
  unfold wpX_takeAsY
  exact ⟨N + 1, nd_ty2 hd hN hln K (N + 1) 0 ay (by omega) (by omega) (fun k hk => absurd hk (by omega))⟩
end
end
section
/-! Y's table, rows and search -/
section
variable {ty lf rt fe : Int32} {lt ln qu le ri ta : Nat → Int32} {a b i j : Nat}
theorem nd_y99 {post : Int32 → Prop} {p q r : Nat} (hp : p < 100000) (hq : q < 100000) (hr : r = min q p) (K : post (nI r)) : wY_cell_99 post (nI p) (nI q) ty lf rt fe lt ln qu le ri ta := by
  unfold wY_cell_99
  refine pk_le q p (fun h => ?_) (fun h => ?_)
  · have e : r = q := by omega
    subst e; exact K
  · have e : r = p := by omega
    subst e; exact K
theorem nd_y84 {post : Int32 → Prop} {p q c e r : Nat} {z0 : Int32} (hz : z0 = nI e) (he : e ≤ 1) (hp : p < 1000) (hq : q < 1000) (hc : c < 1000) (hr : r = min (min p q) (c + e)) (K : post (nI r)) : wY_cell_84 post (nI p) (nI q) z0 (nI c) ty lf rt fe lt ln qu le ri ta := by
  unfold wY_cell_84
  subst hz
  refine nm_r (nI_add c e) ?_
  refine pk_le q p (fun h => nd_y99 (r := r) (by omega) (by omega) (by omega) K) (fun h => nd_y99 (r := r) (by omega) (by omega) (by omega) K)
theorem nd_ix17 (i j : Nat) : 17 * nI i + nI j = nI (17 * i + j) := by
  rw [show (17 : Int32) = nI 17 from rfl, pk_mul, nI_add]
theorem nd_ycell {post : Int32 → Prop} (ha : a ≤ 16) (hb : b ≤ 16) (hi : i ≤ a) (hj : j ≤ b)
    (h1 : ∀ p k, p < i → k ≤ b → ta (17 * p + k) = nI (nd_D nd_i le ri p k)) (h2 : ∀ k, k < j → ta (17 * i + k) = nI (nd_D nd_i le ri i k))
    (K : post (nI (nd_D nd_i le ri i j))) : wpY_cell post (ty, lf, rt, fe, lt, ln, qu, le, ri, ta) (nI i) (nI j) := by
  unfold wpY_cell
  dsimp only
  cases i with
  | zero => exact br_t rfl K
  | succ i =>
    refine br_f (nI_ne0 (by omega) (by omega)) ?_
    cases j with
    | zero => exact br_t rfl K
    | succ j =>
      refine br_f (nI_ne0 (by omega) (by omega)) ?_
      have e1 : nI (17 * i + (j + 1)) - 1 = nI (17 * i + j) := nI_pred (17 * i + j)
      have e2 : nI (17 * (i + 1) + (j + 1)) - 1 = nI (17 * (i + 1) + j) := nI_pred (17 * (i + 1) + j)
      rw [nI_pred, nI_pred, nd_ix17, nd_ix17, e1, e2, nI_clamp (show i < 2 ^ 31 by omega), nI_clamp (show j < 2 ^ 31 by omega), nI_clamp (show 17 * i + (j + 1) < 2 ^ 31 by omega), nI_clamp (show 17 * i + j < 2 ^ 31 by omega), nI_clamp (show 17 * (i + 1) + j < 2 ^ 31 by omega), h1 i (j + 1) (by omega) hj, h1 i j (by omega) (by omega), h2 j (by omega)]
      have b1 := nd_E_hi le ri i (j + 1)
      have b2 := nd_E_hi le ri i j
      have b3 := nd_E_hi le ri (i + 1) j
      have g := nd_D_ss nd_i le ri i j
      refine And.intro (pk_in (17 * i + (j + 1)) 289 (by omega)) (nm_r (nI_1 _) (And.intro (pk_in (17 * (i + 1) + j) 289 (by omega)) (nm_r (nI_1 _) (And.intro (pk_in (17 * i + j) 289 (by omega)) (And.intro (pk_in i 16 (by omega)) (And.intro (pk_in j 16 (by omega)) ?_))))))
      refine br_c (fun z => ?_) (fun z => ?_)
      · rw [nd_ne_e z] at g
        exact nd_y84 (e := 0) rfl (by omega) (by omega) (by omega) (by omega) g K
      · rw [nd_ne_n z] at g
        exact nd_y84 (e := 1) rfl (by omega) (by omega) (by omega) (by omega) g K
theorem nd_y12 {post : Int32 → SY → Prop} {J : Int32 → (Nat → Int32) → (Nat → Int32) → (Nat → Int32) → (Nat → Int32) → (Nat → Int32) → (Nat → Int32) → Prop}
    (ha : a ≤ 16) (hb : b ≤ 16) (hi : i ≤ a) (K : ∀ ta, (∀ p k, p < i + 1 → k ≤ b → ta (17 * p + k) = nI (nd_D nd_i le ri p k)) → J (nI (i + 1)) lt ln qu le ri ta) :
    ∀ n j ta, b + 1 - j < n → j ≤ b + 1 → (∀ p k, p < i → k ≤ b → ta (17 * p + k) = nI (nd_D nd_i le ri p k)) → (∀ k, k < j → ta (17 * i + k) = nI (nd_D nd_i le ri i k)) →
      wY_compared_12 post J (nI i) ty (nI a) (nI b) fe n (nI j) lt ln qu le ri ta := by
  intro n
  induction n with
  | zero => intro j ta h; omega
  | succ n ih =>
    intro j ta hn hj h1 h2
    rw [wY_compared_12]
    refine pk_lt b j (fun h => nm_r (nI_1 i) (K ta (fun p k hp hk => ?_))) (fun h => ?_)
    · by_cases e : p = i
      · subst e; exact h2 k (by omega)
      · exact h1 p k (by omega) hk
    · refine nd_ycell ha hb hi h h1 h2 ?_
      rw [nd_ix17, nI_clamp (show 17 * i + j < 2 ^ 31 by omega)]
      refine And.intro (pk_in (17 * i + j) 289 (by omega)) (nm_e (nm_r (nI_1 j) (ih (j + 1) _ (by omega) (by omega) ?_ ?_)))
      · intro p k hp hk
        rw [pk_un (by omega)]
        exact h1 p k hp hk
      · intro k hk
        by_cases e : k = j
        · subst e; rw [pk_us]
        · rw [pk_un (by omega)]; exact h2 k (by omega)
theorem nd_y2 {post : Int32 → SY → Prop} (ha : a ≤ 16) (hb : b ≤ 16) (K : ∀ ta, post (nI (nd_D nd_i le ri a b)) (ty, nI a, nI b, fe, lt, ln, qu, le, ri, ta)) :
    ∀ n i ta, a + 1 - i < n → i ≤ a + 1 → (∀ p k, p < i → k ≤ b → ta (17 * p + k) = nI (nd_D nd_i le ri p k)) →
      wY_compared_2 post ty (nI a) (nI b) fe n (nI i) lt ln qu le ri ta := by
  intro n
  induction n with
  | zero => intro i ta h; omega
  | succ n ih =>
    intro i ta hn hi h1
    rw [wY_compared_2]
    refine pk_lt a i (fun h => ?_) (fun h => ?_)
    · rw [nd_ix17, nI_clamp (show 17 * a + b < 2 ^ 31 by omega), h1 a b (by omega) (Nat.le_refl _)]
      exact And.intro (pk_in (17 * a + b) 289 (by omega)) (K ta)
    · exact ⟨b + 2, nd_y12 ha hb h (fun ta hc => ih (i + 1) ta (by omega) (by omega) hc) (b + 2) 0 ta (by omega) (by omega) h1 (fun k hk => absurd hk (by omega))⟩
theorem nd_ycmp {post : Int32 → SY → Prop} (ha : a ≤ 16) (hb : b ≤ 16) (K : ∀ ta, post (nI (nd_D nd_i le ri a b)) (ty, nI a, nI b, fe, lt, ln, qu, le, ri, ta)) : wpY_compared post (ty, nI a, nI b, fe, lt, ln, qu, le, ri, ta) := by
  unfold wpY_compared
  exact ⟨a + 2, nd_y2 ha hb K (a + 2) 0 ta (by omega) (by omega) (fun p k hp => absurd hp (by omega))⟩
theorem nd_lq {post : SY → Prop} {m : Nat} (hm : m ≤ 8) (K : ∀ le, (∀ k, k < m → le k = qu k) → post (nI m, lf, rt, fe, lt, ln, qu, le, ri, ta)) :
    ∀ n i le, m - i < n → i ≤ m → (∀ k, k < i → le k = qu k) → wY_layQuery_10 post (nI m) lf rt fe n (nI i) lt ln qu le ri ta := by
  intro n
  induction n with
  | zero => intro i le h; omega
  | succ n ih =>
    intro i le hn hi hle
    rw [wY_layQuery_10]
    refine pk_le m i (fun h => K le (fun k hk => hle k (by omega))) (fun h => ?_)
    rw [nI_clamp (show i < 2 ^ 31 by omega)]
    refine And.intro (pk_in i 8 (by omega)) (And.intro (pk_in i 16 (by omega)) (nm_e (nm_r (nI_1 i) (ih (i + 1) _ (by omega) (by omega) ?_))))
    intro k hk
    by_cases e : k = i
    · subst e; rw [pk_us]
    · rw [pk_un e]; exact hle k (by omega)
theorem nd_ylq {post : SY → Prop} {m : Nat} (hm : m ≤ 8) (K : ∀ le, (∀ k, k < m → le k = qu k) → post (nI m, nI m, rt, fe, lt, ln, qu, le, ri, ta)) : wpY_layQuery post (nI m, lf, rt, fe, lt, ln, qu, le, ri, ta) := by
  unfold wpY_layQuery
  exact ⟨m + 1, nd_lq hm K (m + 1) 0 le (by omega) (by omega) (fun k hk => absurd hk (by omega))⟩
theorem nd_lp {post : SY → Prop} {d f r : Nat} (hd : d < 8) (hr : f + r ≤ 16) (K : ∀ ri, (∀ k, k < r → ri k = lt (16 * d + (f + k))) → post (ty, lf, nI r, fe, lt, ln, qu, le, ri, ta)) :
    ∀ n i ri, r - i < n → i ≤ r → (∀ k, k < i → ri k = lt (16 * d + (f + k))) → wY_layPart_10 post (nI d) (nI f) ty lf (nI r) fe n (nI i) lt ln qu le ri ta := by
  intro n
  induction n with
  | zero => intro i ri h; omega
  | succ n ih =>
    intro i ri hn hi hri
    rw [wY_layPart_10]
    refine pk_le r i (fun h => K ri (fun k hk => hri k (by omega))) (fun h => ?_)
    rw [nd_ix, nI_add, Nat.add_assoc, nI_clamp (show 16 * d + (f + i) < 2 ^ 31 by omega), nI_clamp (show i < 2 ^ 31 by omega)]
    refine And.intro (pk_in (16 * d + (f + i)) 128 (by omega)) (And.intro (pk_in i 16 (by omega)) (nm_e (nm_r (nI_1 i) (ih (i + 1) _ (by omega) (by omega) ?_))))
    intro k hk
    by_cases e : k = i
    · subst e; rw [pk_us]
    · rw [pk_un e]; exact hri k (by omega)
theorem nd_ylp {post : SY → Prop} {d f t : Nat} (hd : d < 8) (ht : t ≤ 16) (hf : f ≤ t) (K : ∀ ri, (∀ k, k < t - f → ri k = lt (16 * d + (f + k))) → post (ty, lf, nI (t - f), fe, lt, ln, qu, le, ri, ta)) : wpY_layPart post (ty, lf, rt, fe, lt, ln, qu, le, ri, ta) (nI d) (nI f) (nI t) := by
  unfold wpY_layPart
  dsimp only
  exact nm_r (pk_sub hf) ⟨t - f + 1, nd_lp hd (by omega) K (t - f + 1) 0 ri (by omega) (by omega) (fun k hk => absurd hk (by omega))⟩
/-- the parts that end at t -/
def nd_g (qu lt : Nat → Int32) (m d t f : Nat) : Nat := nd_D nd_i qu (fun k => lt (16 * d + (f + k))) m (t - f)
theorem nd_g_mn (qu lt : Nat → Int32) (m d t v : Nat) : nd_mn (nd_g qu lt m d t) v (t + 1) = if nd_sf qu lt m d t < v then nd_sf qu lt m d t else v := nd_mn_part qu (fun k => lt (16 * d + k)) m t v
theorem nd_y27 {post : Int32 → SY → Prop} {J : Int32 → Int32 → Int32 → Int32 → Int32 → Int32 → (Nat → Int32) → (Nat → Int32) → (Nat → Int32) → (Nat → Int32) → (Nat → Int32) → (Nat → Int32) → Prop} {m d t v e : Nat}
    (hm : m ≤ 8) (hd : d < 8) (ht : t ≤ 16) (hv : v ≤ 100) (hle : ∀ k, k < m → le k = qu k)
    (K : ∀ rt ri ta, J (nI (nd_mn (nd_g qu lt m d t) v (t + 1))) (nI (t + 1)) (nI m) (nI m) rt (nI (if nd_mn (nd_g qu lt m d t) v (t + 1) < v then t else e)) lt ln qu le ri ta) :
    ∀ n f rt ri ta, t + 1 - f < n → f ≤ t + 1 → wY_search_27 post J (nI d) (nI t) n (nI (nd_mn (nd_g qu lt m d t) v f)) (nI f) (nI m) (nI m) rt (nI (if nd_mn (nd_g qu lt m d t) v f < v then t else e)) lt ln qu le ri ta := by
  intro n
  induction n with
  | zero => intro f rt ri ta h; omega
  | succ n ih =>
    intro f rt ri ta hn hf
    rw [wY_search_27]
    refine pk_lt t f (fun h => ?_) (fun h => ?_)
    · have e1 : f = t + 1 := by omega
      subst e1
      exact nm_r (nI_1 t) (K rt ri ta)
    · refine nd_ylp hd ht h (fun ri hri => ?_)
      refine nd_ycmp (a := m) (b := t - f) (by omega) (by omega) (fun ta => ?_)
      have eg : nd_D nd_i le ri m (t - f) = nd_g qu lt m d t f := nd_D_cg m (t - f) hle hri
      rw [eg]
      have hl := (nd_mn_le (g := nd_g qu lt m d t) (a := v) f).1
      have hg : nd_g qu lt m d t f ≤ m + (t - f) := nd_E_hi _ _ _ _
      have M := ih (f + 1) (nI (t - f)) ri ta (by omega) (by omega)
      refine pk_le (nd_mn (nd_g qu lt m d t) v f) (nd_g qu lt m d t f) (fun h2 => ?_) (fun h2 => ?_)
      · have e1 : nd_mn (nd_g qu lt m d t) v (f + 1) = nd_mn (nd_g qu lt m d t) v f := if_neg (by omega)
        rw [e1] at M
        exact nm_r (nI_1 f) M
      · have e1 : nd_mn (nd_g qu lt m d t) v (f + 1) = nd_g qu lt m d t f := if_pos h2
        rw [e1, if_pos (by omega)] at M
        exact nm_r (nI_1 f) M
theorem nd_y14 {post : Int32 → SY → Prop} {m d N : Nat} (hm : m ≤ 8) (hd : d < 8) (hN : N ≤ 16) (hln : ln d = nI N) (hle : ∀ k, k < m → le k = qu k)
    (K : ∀ rt ri ta, post (nI (nd_bd (nd_sf qu lt m d) N)) (nI m, nI m, rt, nI (nd_be (nd_sf qu lt m d) N), lt, ln, qu, le, ri, ta)) :
    ∀ n t rt ri ta, N + 1 - t < n → t ≤ N + 1 → wY_search_14 post (nI d) n (nI (nd_lv (nd_sf qu lt m d) t)) (nI t) (nI m) (nI m) rt (nI (nd_ev (nd_sf qu lt m d) t)) lt ln qu le ri ta := by
  intro n
  induction n with
  | zero => intro t rt ri ta h; omega
  | succ n ih =>
    intro t rt ri ta hn ht
    rw [wY_search_14]
    refine And.intro (pk_in d 8 hd) ?_
    rw [nI_clamp (show d < 2 ^ 31 by omega), hln]
    refine pk_lt N t (fun h => ?_) (fun h => ?_)
    · have e1 : t = N + 1 := by omega
      subst e1
      exact K rt ri ta
    · have s0 := nd_sf_le qu lt m d 0
      have hv : nd_lv (nd_sf qu lt m d) t ≤ 100 := by
        cases t with
        | zero => exact Nat.le_refl _
        | succ t => have := nd_bd_hi qu lt m d t; show nd_bd _ t ≤ 100; omega
      refine ⟨t + 2, ?_⟩
      have KK : ∀ rt ri ta, wY_search_14 post (nI d) n (nI (nd_mn (nd_g qu lt m d t) (nd_lv (nd_sf qu lt m d) t) (t + 1))) (nI (t + 1)) (nI m) (nI m) rt (nI (if nd_mn (nd_g qu lt m d t) (nd_lv (nd_sf qu lt m d) t) (t + 1) < nd_lv (nd_sf qu lt m d) t then t else nd_ev (nd_sf qu lt m d) t)) lt ln qu le ri ta := by
        intro rt ri ta
        have M := ih (t + 1) rt ri ta (by omega) (by omega)
        have e1 := nd_lv_s (s := nd_sf qu lt m d) (by omega) t
        have e2 := nd_ev_s (s := nd_sf qu lt m d) (by omega) t
        have e3 := nd_g_mn qu lt m d t (nd_lv (nd_sf qu lt m d) t)
        rw [e1, e2] at M
        rw [e3]
        by_cases z : nd_sf qu lt m d t < nd_lv (nd_sf qu lt m d) t
        · rw [if_pos z, if_pos z] at M
          rw [if_pos z, if_pos z]
          exact M
        · rw [if_neg z, if_neg z] at M
          rw [if_neg z, if_neg (Nat.lt_irrefl _)]
          exact M
      have W := nd_y27 (t := t) (lt := lt) (post := post) hm hd (by omega) hv hle KK (t + 2) 0 rt ri ta (by omega) (by omega)
      rw [show nd_mn (nd_g qu lt m d t) (nd_lv (nd_sf qu lt m d) t) 0 = nd_lv (nd_sf qu lt m d) t from rfl, if_neg (Nat.lt_irrefl _)] at W
      exact W
theorem nd_ysearch {post : Int32 → SY → Prop} {m d N : Nat} (hm : m ≤ 8) (hd : d < 8) (hN : N ≤ 16) (hln : ln d = nI N)
    (K : ∀ lf rt le ri ta, post (nI (nd_bd (nd_sf qu lt m d) N)) (nI m, lf, rt, nI (nd_be (nd_sf qu lt m d) N), lt, ln, qu, le, ri, ta)) : wpY_search post (nI m, lf, rt, fe, lt, ln, qu, le, ri, ta) (nI d) := by
  unfold wpY_search
  dsimp only
  refine nd_ylq hm (fun le hle => ?_)
  exact ⟨N + 2, nd_y14 hm hd hN hln hle (fun rt ri ta => K (nI m) rt le ri ta) (N + 2) 0 rt ri ta (by omega) (by omega)⟩
end
end
section
/-! shared pairs, the filter, within, nearest -/
def nd_Inv (m : Nat) (N : Nat → Nat) (ln lt pc qu qp : Nat → Int32) : Prop :=
  m ≤ 8 ∧ (∀ d, d < 8 → N d ≤ 16 ∧ ln d = nI (N d)) ∧ nd_L4 lt ∧ nd_L4 qu ∧
  (∀ d, d < 8 → ∀ k, k < 16 → pc (16 * d + k) = nI (nd_ct (fun j => lt (16 * d + j)) (N d) k)) ∧ (∀ k, k < 16 → qp k = nI (nd_ct qu m k))
def nd_sd (qu lt : Nat → Int32) (m : Nat) (N : Nat → Nat) (d : Nat) : Nat := nd_bd (nd_sf qu lt m d) (N d)
def nd_sh (qu lt : Nat → Int32) (m : Nat) (N : Nat → Nat) (d k : Nat) : Nat := min (nd_ct (fun j => lt (16 * d + j)) (N d) k) (nd_ct qu m k)
theorem nd_ct_le (f : Nat → Int32) (n k : Nat) : nd_ct f n k ≤ n := Nat.le_trans (nd_pc_le f k (n - 1)) (by omega)
theorem nd_sh_s (g : Nat → Nat) (i : Nat) : nd_sum g (i + 1) = nd_sum g i + g i := rfl
theorem nd_sh_le (qu lt : Nat → Int32) (m : Nat) (N : Nat → Nat) (d : Nat) (hm : m ≤ 8) (n : Nat) : nd_sum (nd_sh qu lt m N d) n ≤ n * 8 := by
  refine nd_sum_le (fun k => ?_) n
  have := nd_ct_le qu m k
  unfold nd_sh
  omega
section
variable {fq bd be xl yl : Int32} {ln lt pc qu qp mk ax ay co nc : Nat → Int32} {m d : Nat} {N : Nat → Nat}
theorem nd_sp4 {post : Int32 → Prop} (I : nd_Inv m N ln lt pc qu qp) (hd : d < 8) (K : post (nI (nd_sum (nd_sh qu lt m N d) 16))) :
    ∀ n i, 16 - i < n → i ≤ 16 → wX_sharedPairs_4 post (nI d) fq bd be xl yl ln lt pc qu qp mk ax ay co nc n (nI (nd_sum (nd_sh qu lt m N d) i)) (nI i) := by
  obtain ⟨hm, hN, hlt, hqu, hpc, hqp⟩ := I
  intro n
  induction n with
  | zero => intro i h; omega
  | succ n ih =>
    intro i hn hi
    rw [wX_sharedPairs_4]
    refine pk_le 16 i (fun h => ?_) (fun h => ?_)
    · have e : i = 16 := by omega
      subst e; exact K
    · have c1 := nd_ct_le (fun j => lt (16 * d + j)) (N d) i
      have c2 := nd_ct_le qu m i
      have c3 := (hN d hd).1
      have M := ih (i + 1) (by omega) (by omega)
      rw [nd_sh_s] at M
      rw [nd_ix, nI_clamp (show 16 * d + i < 2 ^ 31 by omega), nI_clamp (show i < 2 ^ 31 by omega), hpc d hd i h, hqp i h]
      refine And.intro (pk_in (16 * d + i) 128 (by omega)) (nm_e (And.intro (pk_in i 16 h) ?_))
      refine pk_le (nd_ct qu m i) (nd_ct (fun j => lt (16 * d + j)) (N d) i) (fun z => ?_) (fun z => ?_)
      · have e : nd_sh qu lt m N d i = nd_ct qu m i := by unfold nd_sh; omega
        rw [e] at M
        exact And.intro (pk_in i 16 h) (nm_r (nI_add _ _) (nm_r (nI_1 i) M))
      · have e : nd_sh qu lt m N d i = nd_ct (fun j => lt (16 * d + j)) (N d) i := by unfold nd_sh; omega
        rw [e] at M
        exact nm_r (nI_add _ _) (nm_r (nI_1 i) M)
theorem nd_xsp {post : Int32 → Prop} (I : nd_Inv m N ln lt pc qu qp) (hd : d < 8) (K : post (nI (nd_sum (nd_sh qu lt m N d) 16))) : wpX_sharedPairs post (fq, bd, be, xl, yl, ln, lt, pc, qu, qp, mk, ax, ay, co, nc) (nI d) := by
  unfold wpX_sharedPairs
  exact ⟨17, nd_sp4 I hd K 17 0 (by omega) (by omega)⟩
theorem nd_xmb {post : Int32 → Prop} {err : Int32} (I : nd_Inv m N ln lt pc qu qp) (hd : d < 8) (K0 : err < nI (nd_sd qu lt m N d) → post 0) (K1 : post 1) : wpX_mayBeWithin post (nI m, bd, be, xl, yl, ln, lt, pc, qu, qp, mk, ax, ay, co, nc) (nI d) err := by
  have hm := I.1
  have hs : nd_sd qu lt m N d ≤ m := nd_bd_hi qu lt m d (N d)
  unfold wpX_mayBeWithin
  dsimp only
  by_cases h0 : 0 ≤ err
  · refine br_t h0 ?_
    obtain ⟨e, he, rfl⟩ := nI_of (x := err) (Int32.not_lt.mpr h0)
    refine pk_lt e m (fun h => ?_) (fun h => K1)
    refine nd_xsp I hd ?_
    have g := nd_sh_le qu lt m N d hm 16
    obtain ⟨p, rfl⟩ : ∃ p, m = p + 1 := ⟨m - 1, by omega⟩
    rw [nI_pred, show (2 : Int32) = nI 2 from rfl, pk_mul, nd_slt (by omega) (by omega) (by omega)]
    refine br_c (fun z => K0 ?_) (fun _ => K1)
    have q : p + 1 ≤ nd_sum (nd_sh qu lt (p + 1) N d) 16 + 1 + 2 * nd_sd qu lt (p + 1) N d := nd_qg2 (x := qu) (y := fun j => lt (16 * d + j)) I.2.2.2.1 (p + 1) (N d)
    exact nI_lt (by omega) (by omega)
  · refine br_f h0 (K0 ?_)
    have a := nI_pos' (n := nd_sd qu lt m N d) (by omega)
    rw [Int32.le_iff_toInt_le] at h0 a
    rw [Int32.lt_iff_toInt_lt]
    omega
end
def nd_wc (err : Int32) (s : Nat → Nat) : Nat → Nat
  | 0 => 0
  | n + 1 => nd_wc err s n + if err < nI (s n) then 0 else 1
section
variable {fq bd be xl yl : Int32} {ln lt pc qu qp mk ax ay co nc : Nat → Int32} {m d : Nat} {N : Nat → Nat} {ty lf rt fe : Int32} {le ri ta : Nat → Int32}
theorem nd_srch {post : SX → Prop} (I : nd_Inv m N ln lt pc qu qp) (hd : d < 8)
    (K : ∀ bd be mk, bd = nI (nd_sd qu lt m N d) → be = nI (nd_be (nd_sf qu lt m d) (N d)) → post (nI m, bd, be, xl, yl, ln, lt, pc, qu, qp, mk, ax, ay, co, nc)) : wpX_search post (nI m, bd, be, xl, yl, ln, lt, pc, qu, qp, mk, ax, ay, co, nc) (nI d) := by
  obtain ⟨hm, hN, hlt, hqu, hpc, hqp⟩ := I
  exact nd_xsearch hm hd (hN d hd).1 (hN d hd).2 hlt hqu (fun mk => K _ _ mk rfl rfl)
theorem nd_ysrch {post : Int32 → SY → Prop} (I : nd_Inv m N ln lt pc qu qp) (hd : d < 8)
    (K : ∀ lf rt le ri ta, post (nI (nd_sd qu lt m N d)) (nI m, lf, rt, nI (nd_be (nd_sf qu lt m d) (N d)), lt, ln, qu, le, ri, ta)) : wpY_search post (nI m, lf, rt, fe, lt, ln, qu, le, ri, ta) (nI d) := by
  obtain ⟨hm, hN, hlt, hqu, hpc, hqp⟩ := I
  exact nd_ysearch hm hd (hN d hd).1 (hN d hd).2 K
theorem nd_xw4 {post : Int32 → SX → Prop} {err : Int32} (I : nd_Inv m N ln lt pc qu qp) (K : ∀ bd be mk, post (nI (nd_wc err (nd_sd qu lt m N) 8)) (nI m, bd, be, xl, yl, ln, lt, pc, qu, qp, mk, ax, ay, co, nc)) :
    ∀ n i bd be mk, 8 - i < n → i ≤ 8 → wX_within_4 post err n (nI (nd_wc err (nd_sd qu lt m N) i)) (nI i) (nI m) bd be xl yl ln lt pc qu qp mk ax ay co nc := by
  intro n
  induction n with
  | zero => intro i bd be mk h; omega
  | succ n ih =>
    intro i bd be mk hn hi
    rw [wX_within_4]
    refine pk_le 8 i (fun h => ?_) (fun h => ?_)
    · have e : i = 8 := by omega
      subst e; exact K bd be mk
    · have M := fun bd be mk => ih (i + 1) bd be mk (by omega) (by omega)
      refine nd_xmb I h (fun z => br_t rfl (nm_r (nI_1 i) ?_)) (br_f (by decide) ?_)
      · have e : nd_wc err (nd_sd qu lt m N) (i + 1) = nd_wc err (nd_sd qu lt m N) i := by
          show _ + _ = _
          rw [if_pos z]; rfl
        rw [e] at M
        exact M bd be mk
      · refine nd_srch I h (fun bd be mk hbd _ => ?_)
        dsimp only
        rw [hbd]
        refine br_c (fun z => nm_e (nm_r (nI_1 i) ?_)) (fun z => nm_r (nI_1 _) (nm_r (nI_1 i) ?_))
        · have e : nd_wc err (nd_sd qu lt m N) (i + 1) = nd_wc err (nd_sd qu lt m N) i := by
            show _ + _ = _
            rw [if_pos z]; rfl
          rw [e] at M
          rw [Int32.add_zero]
          exact M _ _ _
        · have e : nd_wc err (nd_sd qu lt m N) (i + 1) = nd_wc err (nd_sd qu lt m N) i + 1 := by
            show _ + _ = _
            rw [if_neg z]
          rw [e] at M
          exact M _ _ _
theorem nd_yw4 {post : Int32 → SY → Prop} {err : Int32} (I : nd_Inv m N ln lt pc qu qp) (K : ∀ lf rt fe le ri ta, post (nI (nd_wc err (nd_sd qu lt m N) 8)) (nI m, lf, rt, fe, lt, ln, qu, le, ri, ta)) :
    ∀ n i lf rt fe le ri ta, 8 - i < n → i ≤ 8 → wY_within_4 post err n (nI (nd_wc err (nd_sd qu lt m N) i)) (nI i) (nI m) lf rt fe lt ln qu le ri ta := by
  intro n
  induction n with
  | zero => intro i lf rt fe le ri ta h; omega
  | succ n ih =>
    intro i lf rt fe le ri ta hn hi
    rw [wY_within_4]
    refine pk_le 8 i (fun h => ?_) (fun h => ?_)
    · have e : i = 8 := by omega
      subst e; exact K lf rt fe le ri ta
    · have M := fun lf rt fe le ri ta => ih (i + 1) lf rt fe le ri ta (by omega) (by omega)
      refine nd_ysrch I h (fun lf rt le ri ta => ?_)
      dsimp only
      refine br_c (fun z => nm_r (nI_1 i) ?_) (fun z => nm_r (nI_1 _) (nm_r (nI_1 i) ?_))
      · have e : nd_wc err (nd_sd qu lt m N) (i + 1) = nd_wc err (nd_sd qu lt m N) i := by
          show _ + _ = _
          rw [if_pos z]; rfl
        rw [e] at M
        exact M _ _ _ _ _ _
      · have e : nd_wc err (nd_sd qu lt m N) (i + 1) = nd_wc err (nd_sd qu lt m N) i + 1 := by
          show _ + _ = _
          rw [if_neg z]
        rw [e] at M
        exact M _ _ _ _ _ _
theorem nd_sdh (qu lt : Nat → Int32) (m : Nat) (N : Nat → Nat) (d : Nat) : nd_sd qu lt m N d ≤ m := nd_bd_hi qu lt m d (N d)
theorem nd_xn14 {post : Int32 → SX → Prop} (I : nd_Inv m N ln lt pc qu qp) (K : ∀ bd be mk, post (nI (nd_be (nd_sd qu lt m N) 7)) (nI m, bd, be, xl, yl, ln, lt, pc, qu, qp, mk, ax, ay, co, nc)) :
    ∀ n i bd be mk, 7 - i < n → i ≤ 7 → wX_nearest_14 post n (nI (nd_be (nd_sd qu lt m N) i)) (nI (nd_bd (nd_sd qu lt m N) i)) (nI (i + 1)) (nI m) bd be xl yl ln lt pc qu qp mk ax ay co nc := by
  have hm := I.1
  intro n
  induction n with
  | zero => intro i bd be mk h; omega
  | succ n ih =>
    intro i bd be mk hn hi
    rw [wX_nearest_14]
    refine pk_le 8 (i + 1) (fun h => ?_) (fun h => ?_)
    · have e : i = 7 := by omega
      subst e; exact K bd be mk
    · have M := fun bd be mk => ih (i + 1) bd be mk (by omega) (by omega)
      have b1 := nd_bd_le (s := nd_sd qu lt m N) i 0 (by omega)
      have b2 := nd_sdh qu lt m N 0
      have b3 := nd_sdh qu lt m N (i + 1)
      have Mk : ¬ nd_sd qu lt m N (i + 1) < nd_bd (nd_sd qu lt m N) i → ∀ bd be mk, wX_nearest_14 post n (nI (nd_be (nd_sd qu lt m N) i)) (nI (nd_bd (nd_sd qu lt m N) i)) (nI (i + 1 + 1)) (nI m) bd be xl yl ln lt pc qu qp mk ax ay co nc := by
        intro z bd be mk
        have M' := M bd be mk
        have e1 : nd_bd (nd_sd qu lt m N) (i + 1) = nd_bd (nd_sd qu lt m N) i := if_neg z
        have e2 : nd_be (nd_sd qu lt m N) (i + 1) = nd_be (nd_sd qu lt m N) i := if_neg z
        rw [e1, e2] at M'
        exact M'
      refine nd_xmb I h (fun z => br_t rfl (nm_r (nI_1 (i + 1)) (Mk ?_ bd be mk))) (br_f (by decide) ?_)
      · rw [show (1 : Int32) = nI 1 from rfl, Int32.lt_iff_toInt_lt, pk_sub_toInt (by omega) (by omega), nI_toInt (by omega)] at z
        omega
      · refine nd_srch I h (fun bd be mk hbd _ => ?_)
        dsimp only
        rw [hbd]
        refine pk_le (nd_bd (nd_sd qu lt m N) i) (nd_sd qu lt m N (i + 1)) (fun z => nm_r (nI_1 (i + 1)) (Mk (by omega) _ _ _)) (fun z => nm_r (nI_1 (i + 1)) ?_)
        have M' := M (nI (nd_sd qu lt m N (i + 1))) be mk
        have e1 : nd_bd (nd_sd qu lt m N) (i + 1) = nd_sd qu lt m N (i + 1) := if_pos z
        have e2 : nd_be (nd_sd qu lt m N) (i + 1) = i + 1 := if_pos z
        rw [e1, e2] at M'
        exact M'
theorem nd_yn7 {post : Int32 → SY → Prop} (I : nd_Inv m N ln lt pc qu qp) (K : ∀ lf rt fe le ri ta, post (nI (nd_be (nd_sd qu lt m N) 7)) (nI m, lf, rt, fe, lt, ln, qu, le, ri, ta)) :
    ∀ n i lf rt fe le ri ta, 8 - i < n → i ≤ 8 → wY_nearest_7 post n (nI (nd_ev (nd_sd qu lt m N) i)) (nI (nd_lv (nd_sd qu lt m N) i)) (nI i) (nI m) lf rt fe lt ln qu le ri ta := by
  have hm := I.1
  intro n
  induction n with
  | zero => intro i lf rt fe le ri ta h; omega
  | succ n ih =>
    intro i lf rt fe le ri ta hn hi
    rw [wY_nearest_7]
    refine pk_le 8 i (fun h => ?_) (fun h => ?_)
    · have e : i = 8 := by omega
      subst e; exact K lf rt fe le ri ta
    · have M := fun lf rt fe le ri ta => ih (i + 1) lf rt fe le ri ta (by omega) (by omega)
      have s0 := nd_sdh qu lt m N 0
      have s1 := nd_sdh qu lt m N i
      have e1 := nd_lv_s (s := nd_sd qu lt m N) (by omega) i
      have e2 := nd_ev_s (s := nd_sd qu lt m N) (by omega) i
      have hv : nd_lv (nd_sd qu lt m N) i ≤ 100 := by
        cases i with
        | zero => exact Nat.le_refl _
        | succ t => have := nd_bd_le (s := nd_sd qu lt m N) t 0 (by omega); show nd_bd _ t ≤ 100; omega
      refine nd_ysrch I h (fun lf rt le ri ta => ?_)
      dsimp only
      refine pk_le (nd_lv (nd_sd qu lt m N) i) (nd_sd qu lt m N i) (fun z => nm_r (nI_1 i) ?_) (fun z => nm_r (nI_1 i) ?_)
      · have M' := M lf rt (nI (nd_be (nd_sf qu lt m i) (N i))) le ri ta
        rw [e1, e2, if_neg (by omega), if_neg (by omega)] at M'
        exact M'
      · have M' := M lf rt (nI (nd_be (nd_sf qu lt m i) (N i))) le ri ta
        rw [e1, e2, if_pos z, if_pos z] at M'
        exact M'
/-! Y's pairs -/
theorem nd_iq {post : Int32 → Prop} {k : Nat} (hm : m ≤ 8) (K : post (nI (nd_ct qu m k))) :
    ∀ n i, m - i < n → i ≤ m - 1 → wY_inQuery_5 post (nI (k / 4)) (nI (k % 4)) (nI m) lf rt fe lt ln qu le ri ta n (nI (nd_pc qu k i)) (nI i) := by
  intro n
  induction n with
  | zero => intro i h; omega
  | succ n ih =>
    intro i hn hi
    rw [wY_inQuery_5]
    dsimp only
    rw [nI_1 i]
    refine pk_le m (i + 1) (fun h => ?_) (fun h => ?_)
    · have e : i = m - 1 := by omega
      rw [e]; exact K
    · rw [nI_clamp (show i < 2 ^ 31 by omega), nI_clamp (show i + 1 < 2 ^ 31 by omega)]
      have M := ih (i + 1) (by omega) (by omega)
      refine And.intro (pk_in i 8 (by omega)) (br_c (fun z => And.intro (pk_in (i + 1) 8 (by omega)) (br_c (fun z2 => ?_) (fun z2 => ?_))) (fun z => ?_))
      · have e : nd_pc qu k (i + 1) = nd_pc qu k i + 1 := by
          show _ + _ = _
          rw [if_pos ⟨z, z2⟩]
        rw [e] at M
        exact nm_r (nI_1 _) (nm_r rfl M)
      · have e : nd_pc qu k (i + 1) = nd_pc qu k i := by
          show _ + _ = _
          rw [if_neg (fun q => z2 q.2)]; rfl
        rw [e] at M
        exact nm_r rfl M
      · have e : nd_pc qu k (i + 1) = nd_pc qu k i := by
          show _ + _ = _
          rw [if_neg (fun q => z q.1)]; rfl
        rw [e] at M
        exact nm_r rfl M
theorem nd_yiq {post : Int32 → Prop} {k : Nat} (hm : m ≤ 8) (K : post (nI (nd_ct qu m k))) : wpY_inQuery post (nI m, lf, rt, fe, lt, ln, qu, le, ri, ta) (nI (k / 4)) (nI (k % 4)) := by
  unfold wpY_inQuery
  exact ⟨m + 1, nd_iq hm K (m + 1) 0 (by omega) (by omega)⟩
theorem nd_id {post : Int32 → Prop} {k n0 : Nat} (hd : d < 8) (hn0 : n0 ≤ 16) (hln : ln d = nI n0) (K : post (nI (nd_ct (fun j => lt (16 * d + j)) n0 k))) :
    ∀ n i, n0 - i < n → i ≤ n0 - 1 → wY_inDoc_6 post (nI d) (nI (k / 4)) (nI (k % 4)) ty lf rt fe lt ln qu le ri ta n (nI (nd_pc (fun j => lt (16 * d + j)) k i)) (nI i) := by
  intro n
  induction n with
  | zero => intro i h; omega
  | succ n ih =>
    intro i hn hi
    rw [wY_inDoc_6]
    refine And.intro (pk_in d 8 hd) ?_
    rw [nI_1 i, nI_clamp (show d < 2 ^ 31 by omega), hln]
    refine pk_le n0 (i + 1) (fun h => ?_) (fun h => ?_)
    · have e : i = n0 - 1 := by omega
      rw [e]; exact K
    · rw [nd_ix, nI_1 (16 * d + i), nI_clamp (show 16 * d + i < 2 ^ 31 by omega), nI_clamp (show 16 * d + i + 1 < 2 ^ 31 by omega)]
      have M := ih (i + 1) (by omega) (by omega)
      refine And.intro (pk_in (16 * d + i) 128 (by omega)) (br_c (fun z => And.intro (pk_in (16 * d + i + 1) 128 (by omega)) (br_c (fun z2 => ?_) (fun z2 => ?_))) (fun z => ?_))
      · have e : nd_pc (fun j => lt (16 * d + j)) k (i + 1) = nd_pc (fun j => lt (16 * d + j)) k i + 1 := by
          show _ + (if lt (16 * d + i) = nI (k / 4) ∧ lt (16 * d + i + 1) = nI (k % 4) then 1 else 0) = _
          rw [if_pos ⟨z, z2⟩]
        rw [e] at M
        exact nm_r (nI_1 _) (nm_r rfl M)
      · have e : nd_pc (fun j => lt (16 * d + j)) k (i + 1) = nd_pc (fun j => lt (16 * d + j)) k i := by
          show _ + (if lt (16 * d + i) = nI (k / 4) ∧ lt (16 * d + i + 1) = nI (k % 4) then 1 else 0) = _
          rw [if_neg (fun q => z2 q.2)]; rfl
        rw [e] at M
        exact nm_r rfl M
      · have e : nd_pc (fun j => lt (16 * d + j)) k (i + 1) = nd_pc (fun j => lt (16 * d + j)) k i := by
          show _ + (if lt (16 * d + i) = nI (k / 4) ∧ lt (16 * d + i + 1) = nI (k % 4) then 1 else 0) = _
          rw [if_neg (fun q => z q.1)]; rfl
        rw [e] at M
        exact nm_r rfl M
theorem nd_yid {post : Int32 → Prop} {k n0 : Nat} (hd : d < 8) (hn0 : n0 ≤ 16) (hln : ln d = nI n0) (K : post (nI (nd_ct (fun j => lt (16 * d + j)) n0 k))) : wpY_inDoc post (ty, lf, rt, fe, lt, ln, qu, le, ri, ta) (nI d) (nI (k / 4)) (nI (k % 4)) := by
  unfold wpY_inDoc
  exact ⟨n0 + 1, nd_id hd hn0 hln K (n0 + 1) 0 (by omega) (by omega)⟩
theorem nd_yp13 {post : Int32 → Prop} (I : nd_Inv m N ln lt pc qu qp) (hd : d < 8) (K : post (nI (nd_sum (nd_sh qu lt m N d) 16))) :
    ∀ n i, 16 - i < n → i ≤ 16 → wY_pairs_13 post (nI d) (nI m) lf rt fe lt ln qu le ri ta n (nI (nd_sum (nd_sh qu lt m N d) i)) (nI i) := by
  obtain ⟨hm, hN, hlt, hqu, hpc, hqp⟩ := I
  intro n
  induction n with
  | zero => intro i h; omega
  | succ n ih =>
    intro i hn hi
    rw [wY_pairs_13]
    refine pk_le 16 i (fun h => ?_) (fun h => ?_)
    · have e : i = 16 := by omega
      subst e; exact K
    · have c1 := nd_ct_le (fun j => lt (16 * d + j)) (N d) i
      have c2 := nd_ct_le qu m i
      have c3 := (hN d hd).1
      have M := ih (i + 1) (by omega) (by omega)
      rw [nd_sh_s] at M
      have e4 : ¬ (4 : Int32) = 0 := by decide
      have e5 : nI i - nI i / 4 * 4 = nI (i % 4) := pk_rem (d := 4) (by omega) (by omega) (by omega)
      have e6 : nI i / 4 = nI (i / 4) := pk_div (d := 4) (by omega) (by omega) (by omega)
      rw [e5, e6]
      refine And.intro e4 (And.intro e4 (nd_yiq hm (And.intro e4 (And.intro e4 (nd_yid hd (hN d hd).1 (hN d hd).2 ?_)))))
      refine pk_le (nd_ct (fun j => lt (16 * d + j)) (N d) i) (nd_ct qu m i) (fun z => ?_) (fun z => ?_)
      · have e : nd_sh qu lt m N d i = nd_ct (fun j => lt (16 * d + j)) (N d) i := by unfold nd_sh; omega
        rw [e] at M
        exact nm_r (nI_add _ _) (nm_r (nI_1 i) M)
      · have e : nd_sh qu lt m N d i = nd_ct qu m i := by unfold nd_sh; omega
        rw [e] at M
        exact nm_r (nI_add _ _) (nm_r (nI_1 i) M)
end
end
section
/-! the relation's upkeep -/
theorem nd_Inv_0 : nd_Inv 0 (fun _ => 0) (fun _ => 0) (fun _ => 0) (fun _ => 0) (fun _ => 0) (fun _ => 0) :=
  ⟨by omega, fun _ _ => ⟨Nat.zero_le _, rfl⟩, fun _ => ⟨0, by omega, rfl⟩, fun _ => ⟨0, by omega, rfl⟩, fun _ _ _ _ => rfl, fun _ _ => rfl⟩
theorem nd_L4_u {f : Nat → Int32} {p c : Nat} (h : nd_L4 f) (hc : c < 4) : nd_L4 (upd f p (nI c)) := by
  intro j
  by_cases e : j = p
  · subst e; exact ⟨c, hc, pk_us⟩
  · rw [pk_un e]; exact h j
theorem nd_ct_p1 {f f' : Nat → Int32} {p c c' k : Nat} (h : ∀ j, j ≤ p → f' j = f j) (hp : f p = nI c') (hn : f' (p + 1) = nI c) (hc : c < 4) (hc' : c' < 4) (hk : k < 16) : nd_ct f' (p + 1 + 1) k = nd_ct f (p + 1) k + if k = 4 * c' + c then 1 else 0 := by
  have e : nd_pc f' k p = nd_pc f k p := nd_pc_cg k p h
  show nd_pc f' k p + (if f' p = nI (k / 4) ∧ f' (p + 1) = nI (k % 4) then 1 else 0) = nd_pc f k p + _
  rw [e, h p (Nat.le_refl _), hp, hn]
  by_cases z : k = 4 * c' + c
  · have q := nd_pr hc' hc
    subst z
    rw [q.1, q.2, if_pos ⟨rfl, rfl⟩, if_pos rfl]
  · rw [if_neg z, if_neg]
    rintro ⟨a, b⟩
    rw [nI_eq (by omega) (by omega)] at a b
    omega
section
variable {ln lt pc qu qp : Nat → Int32} {m d : Nat} {N : Nat → Nat}
theorem nd_Inv_clear {qp' : Nat → Int32} (I : nd_Inv m N ln lt pc qu qp) (h : ∀ k, k < 16 → qp' k = 0) : nd_Inv 0 N ln lt pc qu qp' := by
  obtain ⟨hm, hN, hlt, hqu, hpc, hqp⟩ := I
  exact ⟨by omega, hN, hlt, hqu, hpc, fun k hk => h k hk⟩
theorem nd_Inv_wipe {pc' : Nat → Int32} (I : nd_Inv m N ln lt pc qu qp) (h1 : ∀ k, k < 16 → pc' (16 * d + k) = 0) (h2 : ∀ p, p < 16 * d ∨ 16 * d + 16 ≤ p → pc' p = pc p) : nd_Inv m (fun i => if i = d then 0 else N i) (upd ln d 0) lt pc' qu qp := by
  obtain ⟨hm, hN, hlt, hqu, hpc, hqp⟩ := I
  refine ⟨hm, fun i hi => ?_, hlt, hqu, fun i hi k hk => ?_, hqp⟩
  · dsimp only
    by_cases e : i = d
    · subst e; rw [if_pos rfl, pk_us]; exact ⟨by omega, rfl⟩
    · rw [if_neg e, pk_un e]; exact hN i hi
  · dsimp only
    by_cases e : i = d
    · subst e; rw [if_pos rfl, h1 k hk]; rfl
    · rw [if_neg e, h2 _ (by omega)]; exact hpc i hi k hk
theorem nd_oth {n i k : Nat} {v : Int32} (hn : n < 16) (hN : N i ≤ 16) (e : ¬ i = d) : nd_ct (fun j => upd lt (16 * d + n) v (16 * i + j)) (N i) k = nd_ct (fun j => lt (16 * i + j)) (N i) k := by
  refine nd_pc_cg k (N i - 1) (fun j hj => ?_)
  by_cases z : N i = 0
  · exact pk_un (by omega)
  · exact pk_un (by omega)
theorem nd_Inv_w0 {c : Nat} (I : nd_Inv m N ln lt pc qu qp) (hd : d < 8) (hc : c < 4) (h0 : N d = 0) : nd_Inv m (fun i => if i = d then 1 else N i) (upd ln d (nI (0 + 1))) (upd lt (16 * d + 0) (nI c)) pc qu qp := by
  obtain ⟨hm, hN, hlt, hqu, hpc, hqp⟩ := I
  refine ⟨hm, fun i hi => ?_, nd_L4_u hlt hc, hqu, fun i hi k hk => ?_, hqp⟩
  · dsimp only
    by_cases e : i = d
    · subst e; rw [if_pos rfl, pk_us]; exact ⟨by omega, rfl⟩
    · rw [if_neg e, pk_un e]; exact hN i hi
  · dsimp only
    by_cases e : i = d
    · subst e
      rw [if_pos rfl, hpc i hi k hk, h0]
      rfl
    · rw [if_neg e, hpc i hi k hk, nd_oth (by omega) (hN i hi).1 e]
theorem nd_Inv_w1 {c c' p : Nat} (I : nd_Inv m N ln lt pc qu qp) (hd : d < 8) (hc : c < 4) (hc' : c' < 4) (hp : N d = p + 1) (hp2 : p + 1 < 16) (hl : lt (16 * d + p) = nI c') :
    nd_Inv m (fun i => if i = d then p + 1 + 1 else N i) (upd ln d (nI (p + 1 + 1))) (upd lt (16 * d + (p + 1)) (nI c)) (upd pc (16 * d + (4 * c' + c)) (pc (16 * d + (4 * c' + c)) + 1)) qu qp := by
  obtain ⟨hm, hN, hlt, hqu, hpc, hqp⟩ := I
  refine ⟨hm, fun i hi => ?_, nd_L4_u hlt hc, hqu, fun i hi k hk => ?_, hqp⟩
  · dsimp only
    by_cases e : i = d
    · subst e; rw [if_pos rfl, pk_us]; exact ⟨by omega, rfl⟩
    · rw [if_neg e, pk_un e]; exact hN i hi
  · dsimp only
    by_cases e : i = d
    · subst e
      rw [if_pos rfl, nd_ct_p1 (f := fun j => lt (16 * i + j)) (f' := fun j => upd lt (16 * i + (p + 1)) (nI c) (16 * i + j)) (c := c) (c' := c') (fun j hj => pk_un (by omega)) hl pk_us hc hc' hk]
      have h := hpc i hi k hk
      rw [hp] at h
      by_cases z : k = 4 * c' + c
      · rw [← z, pk_us, if_pos rfl, h, nI_1]
      · rw [if_neg z, pk_un (by omega), h]; rfl
    · rw [if_neg e, pk_un (by omega), hpc i hi k hk, nd_oth (by omega) (hN i hi).1 e]
theorem nd_Inv_t0 {c : Nat} (I : nd_Inv 0 N ln lt pc qu qp) (hc : c < 4) : nd_Inv (0 + 1) N ln lt pc (upd qu 0 (nI c)) qp := by
  obtain ⟨hm, hN, hlt, hqu, hpc, hqp⟩ := I
  exact ⟨by omega, hN, hlt, nd_L4_u hqu hc, hpc, fun k hk => hqp k hk⟩
theorem nd_Inv_t1 {c c' p : Nat} (I : nd_Inv (p + 1) N ln lt pc qu qp) (hc : c < 4) (hc' : c' < 4) (hp2 : p + 1 < 8) (hl : qu p = nI c') :
    nd_Inv (p + 1 + 1) N ln lt pc (upd qu (p + 1) (nI c)) (upd qp (4 * c' + c) (qp (4 * c' + c) + 1)) := by
  obtain ⟨hm, hN, hlt, hqu, hpc, hqp⟩ := I
  refine ⟨by omega, hN, hlt, nd_L4_u hqu hc, hpc, fun k hk => ?_⟩
  rw [nd_ct_p1 (f := qu) (f' := upd qu (p + 1) (nI c)) (c := c) (c' := c') (fun j hj => pk_un (by omega)) hl pk_us hc hc' hk]
  by_cases z : k = 4 * c' + c
  · rw [← z, pk_us, if_pos rfl, hqp k hk, nI_1]
  · rw [if_neg z, pk_un z, hqp k hk]; rfl
end
/-! which documents there are -/
theorem nd_xd {d : Nat} {P : Int32 → Prop} (hd : d < 8) (h : P 1) : wpX_isDoc P (nI d) := by
  unfold wpX_isDoc
  exact br_f (nI_pos (by omega)) (pk_lt 7 d (fun z => absurd z (by omega)) (fun _ => h))
theorem nd_yd {d : Nat} {P : Int32 → Prop} (hd : d < 8) (h : P 0) : wpY_bad P (nI d) := by
  unfold wpY_bad
  exact br_f (nI_pos (by omega)) (pk_le d 7 (fun _ => h) (fun z => absurd z (by omega)))
theorem nd_doc (v : Int32) : (∃ d, d < 8 ∧ v = nI d) ∨ ((∀ P : Int32 → Prop, P 0 → wpX_isDoc P v) ∧ (∀ P : Int32 → Prop, P 1 → wpY_bad P v)) := by
  rcases pk_ix v (n := 8) (by omega) with h | h | h
  · exact Or.inr ⟨fun P hP => br_t h hP, fun P hP => br_t h hP⟩
  · have e8 : (nI 8).toInt = 8 := nI_toInt (by omega)
    have e7 : (7 : Int32).toInt = 7 := by decide
    have e0 : (0 : Int32).toInt = 0 := by decide
    rw [Int32.le_iff_toInt_le, e8] at h
    have h0 : ¬ v < 0 := by rw [Int32.lt_iff_toInt_lt, e0]; omega
    have h7 : 7 < v := by rw [Int32.lt_iff_toInt_lt, e7]; omega
    have h7' : ¬ v ≤ 7 := by rw [Int32.le_iff_toInt_le, e7]; omega
    exact Or.inr ⟨fun P hP => br_f h0 (br_t h7 hP), fun P hP => br_f h0 (br_f h7' hP)⟩
  · exact Or.inl h
theorem nd_n1 : ¬ (1 : Int32) = 0 := by decide
theorem nd_m3 (v : Int32) : ∃ c, c < 4 ∧ v &&& 3 = nI c := pk_andE v 2 (by decide)
/-! writing, typing, wiping, clearing -/
section
variable {fq bd be xl yl : Int32} {ln lt pc qu qp mk ax ay co nc : Nat → Int32} {m d n c : Nat} {N : Nat → Nat} {ty lf rt fe : Int32} {le ri ta : Nat → Int32} {v : Int32}
theorem nd_w78 {post : Int32 → SX → Prop} (hd : d < 8) (K : post (nI (n + 1)) (fq, bd, be, xl, yl, upd ln d (nI (n + 1)), lt, pc, qu, qp, mk, ax, ay, co, nc)) : wX_write_78 post (nI d) (nI n) fq bd be xl yl ln lt pc qu qp mk ax ay co nc := by
  unfold wX_write_78
  rw [nI_clamp (show d < 2 ^ 31 by omega), nI_1]
  exact And.intro (pk_in d 8 hd) (nm_e K)
theorem nd_xwf {post : Int32 → SX → Prop} (hd : d < 8) (hln : ln d = nI 16) (K : post (-1) (fq, bd, be, xl, yl, ln, lt, pc, qu, qp, mk, ax, ay, co, nc)) : wpX_write post (fq, bd, be, xl, yl, ln, lt, pc, qu, qp, mk, ax, ay, co, nc) (nI d) v := by
  unfold wpX_write
  dsimp only
  refine nd_xd hd (br_f nd_n1 (And.intro (pk_in d 8 hd) ?_))
  rw [nI_clamp (show d < 2 ^ 31 by omega), hln]
  exact pk_lt 16 16 (fun h => absurd h (by omega)) (fun _ => K)
theorem nd_xw0 {post : Int32 → SX → Prop} (hd : d < 8) (hln : ln d = nI 0) (hv : v &&& 3 = nI c)
    (K : post (nI (0 + 1)) (fq, bd, be, xl, yl, upd ln d (nI (0 + 1)), upd lt (16 * d + 0) (nI c), pc, qu, qp, mk, ax, ay, co, nc)) : wpX_write post (fq, bd, be, xl, yl, ln, lt, pc, qu, qp, mk, ax, ay, co, nc) (nI d) v := by
  unfold wpX_write
  dsimp only
  refine nd_xd hd (br_f nd_n1 (And.intro (pk_in d 8 hd) ?_))
  rw [nI_clamp (show d < 2 ^ 31 by omega), hln]
  refine pk_lt 0 16 (fun h => ?_) (fun h => absurd h (by omega))
  refine And.intro (pk_in d 8 hd) (nm_e ?_)
  rw [nd_ix, nI_clamp (show 16 * d + 0 < 2 ^ 31 by omega), hv]
  exact And.intro (pk_in (16 * d + 0) 128 (by omega)) (nm_e (pk_le 0 0 (fun _ => nd_w78 hd K) (fun z => absurd z (by omega))))
theorem nd_xw1 {post : Int32 → SX → Prop} {p c' : Nat} (hd : d < 8) (hp : p + 1 < 16) (hln : ln d = nI (p + 1)) (hv : v &&& 3 = nI c) (hc : c < 4) (hc' : c' < 4) (hl : lt (16 * d + p) = nI c')
    (K : post (nI (p + 1 + 1)) (fq, bd, be, xl, yl, upd ln d (nI (p + 1 + 1)), upd lt (16 * d + (p + 1)) (nI c), upd pc (16 * d + (4 * c' + c)) (pc (16 * d + (4 * c' + c)) + 1), qu, qp, mk, ax, ay, co, nc)) : wpX_write post (fq, bd, be, xl, yl, ln, lt, pc, qu, qp, mk, ax, ay, co, nc) (nI d) v := by
  unfold wpX_write
  dsimp only
  refine nd_xd hd (br_f nd_n1 (And.intro (pk_in d 8 hd) ?_))
  rw [nI_clamp (show d < 2 ^ 31 by omega), hln]
  refine pk_lt (p + 1) 16 (fun h => ?_) (fun h => absurd h (by omega))
  refine And.intro (pk_in d 8 hd) (nm_e ?_)
  have e1 : nI (16 * d + (p + 1)) - 1 = nI (16 * d + p) := nI_pred (16 * d + p)
  have e2 : upd lt (16 * d + (p + 1)) (nI c) (16 * d + p) = nI c' := (pk_un (by omega)).trans hl
  have e3 : 16 * nI d + 4 * nI c' + nI c = nI (16 * d + (4 * c' + c)) := by
    rw [show (4 : Int32) = nI 4 from rfl, pk_mul, nd_ix, nI_add, Nat.add_assoc]
  rw [nd_ix, hv, nI_clamp (show 16 * d + (p + 1) < 2 ^ 31 by omega)]
  refine And.intro (pk_in (16 * d + (p + 1)) 128 (by omega)) (nm_e ?_)
  refine pk_le (p + 1) 0 (fun z => absurd z (by omega)) (fun _ => ?_)
  rw [e1, nI_clamp (show 16 * d + p < 2 ^ 31 by omega), e2, e3, nI_clamp (show 16 * d + (4 * c' + c) < 2 ^ 31 by omega)]
  exact And.intro (pk_in (16 * d + p) 128 (by omega)) (And.intro (pk_in (16 * d + (4 * c' + c)) 128 (by omega)) (And.intro (pk_in (16 * d + (4 * c' + c)) 128 (by omega)) (nm_e (nd_w78 hd K))))
theorem nd_ywf {post : Int32 → SY → Prop} (hd : d < 8) (hln : ln d = nI 16) (K : post (-1) (ty, lf, rt, fe, lt, ln, qu, le, ri, ta)) : wpY_write post (ty, lf, rt, fe, lt, ln, qu, le, ri, ta) (nI d) v := by
  unfold wpY_write
  dsimp only
  refine nd_yd hd (br_t rfl (And.intro (pk_in d 8 hd) ?_))
  rw [nI_clamp (show d < 2 ^ 31 by omega), hln]
  exact pk_eq 16 16 (fun _ => K) (fun h => absurd rfl h)
theorem nd_yw {post : Int32 → SY → Prop} (hd : d < 8) (hn : n < 16) (hln : ln d = nI n) (hv : v &&& 3 = nI c)
    (K : post (nI (n + 1)) (ty, lf, rt, fe, upd lt (16 * d + n) (nI c), upd ln d (nI (n + 1)), qu, le, ri, ta)) : wpY_write post (ty, lf, rt, fe, lt, ln, qu, le, ri, ta) (nI d) v := by
  unfold wpY_write
  dsimp only
  refine nd_yd hd (br_t rfl (And.intro (pk_in d 8 hd) ?_))
  rw [nI_clamp (show d < 2 ^ 31 by omega), hln]
  refine pk_eq n 16 (fun h => absurd h (by omega)) (fun _ => ?_)
  rw [nd_ix, nI_clamp (show 16 * d + n < 2 ^ 31 by omega), hv, nI_1]
  refine And.intro (pk_in d 8 hd) (And.intro (pk_in (16 * d + n) 128 (by omega)) (nm_e (And.intro (pk_in d 8 hd) (And.intro (pk_in d 8 hd) (nm_e (And.intro (pk_in d 8 hd) ?_))))))
  rw [pk_us]
  exact K
theorem nd_wl28 {post : Int32 → SX → Prop} {x2 : Int32} {pc0 : Nat → Int32} (hd : d < 8)
    (K : ∀ pc, (∀ k, k < 16 → pc (16 * d + k) = 0) → (∀ p, p < 16 * d ∨ 16 * d + 16 ≤ p → pc p = pc0 p) → post x2 (fq, bd, be, xl, yl, ln, lt, pc, qu, qp, mk, ax, ay, co, nc)) :
    ∀ n i pc, 16 - i < n → i ≤ 16 → (∀ k, k < i → pc (16 * d + k) = 0) → (∀ p, p < 16 * d ∨ 16 * d + 16 ≤ p → pc p = pc0 p) → wX_wipe_28 post (nI d) x2 fq bd be xl yl n (nI (16 * d + i)) ln lt pc qu qp mk ax ay co nc := by
  intro n
  induction n with
  | zero => intro i pc h; omega
  | succ n ih =>
    intro i pc hn hi h1 h2
    rw [wX_wipe_28]
    refine pk_le (16 * d + 16) (16 * d + i) (fun h => K pc (fun k hk => h1 k (by omega)) h2) (fun h => ?_) (hx := nd_ix d 16)
    rw [nI_clamp (show 16 * d + i < 2 ^ 31 by omega)]
    refine And.intro (pk_in (16 * d + i) 128 (by omega)) (nm_e (nm_r (nI_1 (16 * d + i)) (ih (i + 1) _ (by omega) (by omega) ?_ ?_)))
    · intro k hk
      by_cases e : k = i
      · subst e; exact pk_us
      · rw [pk_un (by omega)]; exact h1 k (by omega)
    · intro p hp
      rw [pk_un (by omega)]; exact h2 p hp
theorem nd_xwipe {post : Int32 → SX → Prop} (hd : d < 8) (hln : ln d = nI n)
    (K : ∀ pc', (∀ k, k < 16 → pc' (16 * d + k) = 0) → (∀ p, p < 16 * d ∨ 16 * d + 16 ≤ p → pc' p = pc p) → post (nI n) (fq, bd, be, xl, yl, upd ln d 0, lt, pc', qu, qp, mk, ax, ay, co, nc)) : wpX_wipe post (fq, bd, be, xl, yl, ln, lt, pc, qu, qp, mk, ax, ay, co, nc) (nI d) := by
  unfold wpX_wipe
  dsimp only
  refine nd_xd hd (br_f nd_n1 (And.intro (pk_in d 8 hd) ?_))
  rw [nI_clamp (show d < 2 ^ 31 by omega), hln]
  refine nm_e (And.intro (pk_in d 8 hd) (nm_e (nm_r (e' := nI (16 * d + 0)) (pk_mul 16 d) ⟨17, ?_⟩)))
  exact nd_wl28 (pc0 := pc) hd K 17 0 pc (by omega) (by omega) (fun k hk => absurd hk (by omega)) (fun _ _ => rfl)
theorem nd_ywipe {post : Int32 → SY → Prop} (hd : d < 8) (hln : ln d = nI n) (K : post (nI n) (ty, lf, rt, fe, lt, upd ln d 0, qu, le, ri, ta)) : wpY_wipe post (ty, lf, rt, fe, lt, ln, qu, le, ri, ta) (nI d) := by
  unfold wpY_wipe
  dsimp only
  refine nd_yd hd (br_t rfl (And.intro (pk_in d 8 hd) ?_))
  rw [nI_clamp (show d < 2 ^ 31 by omega), hln]
  exact nm_e (And.intro (pk_in d 8 hd) (nm_e K))
theorem nd_t56 {post : Int32 → SX → Prop} (K : post (nI (n + 1)) (nI (n + 1), bd, be, xl, yl, ln, lt, pc, qu, qp, mk, ax, ay, co, nc)) : wX_type_56 post (nI n) bd be xl yl ln lt pc qu qp mk ax ay co nc := by
  unfold wX_type_56
  exact nm_r (nI_1 n) K
theorem nd_xtf {post : Int32 → SX → Prop} (K : post (-1) (nI 8, bd, be, xl, yl, ln, lt, pc, qu, qp, mk, ax, ay, co, nc)) : wpX_type post (nI 8, bd, be, xl, yl, ln, lt, pc, qu, qp, mk, ax, ay, co, nc) v := by
  unfold wpX_type
  dsimp only
  exact pk_lt 8 8 (fun h => absurd h (by omega)) (fun _ => K)
theorem nd_xt0 {post : Int32 → SX → Prop} (hv : v &&& 3 = nI c) (K : post (nI (0 + 1)) (nI (0 + 1), bd, be, xl, yl, ln, lt, pc, upd qu 0 (nI c), qp, mk, ax, ay, co, nc)) : wpX_type post (nI 0, bd, be, xl, yl, ln, lt, pc, qu, qp, mk, ax, ay, co, nc) v := by
  unfold wpX_type
  dsimp only
  rw [nI_clamp (show 0 < 2 ^ 31 by omega), hv]
  exact pk_lt 0 8 (fun _ => And.intro (pk_in 0 8 (by omega)) (nm_e (pk_le 0 0 (fun _ => nd_t56 K) (fun z => absurd z (by omega))))) (fun h => absurd h (by omega))
theorem nd_xt1 {post : Int32 → SX → Prop} {p c' : Nat} (hp : p + 1 < 8) (hv : v &&& 3 = nI c) (hc : c < 4) (hc' : c' < 4) (hl : qu p = nI c')
    (K : post (nI (p + 1 + 1)) (nI (p + 1 + 1), bd, be, xl, yl, ln, lt, pc, upd qu (p + 1) (nI c), upd qp (4 * c' + c) (qp (4 * c' + c) + 1), mk, ax, ay, co, nc)) : wpX_type post (nI (p + 1), bd, be, xl, yl, ln, lt, pc, qu, qp, mk, ax, ay, co, nc) v := by
  unfold wpX_type
  dsimp only
  have e2 : upd qu (p + 1) (nI c) p = nI c' := (pk_un (by omega)).trans hl
  have e3 : 4 * nI c' + nI c = nI (4 * c' + c) := by
    rw [show (4 : Int32) = nI 4 from rfl, pk_mul, nI_add]
  refine pk_lt (p + 1) 8 (fun _ => ?_) (fun h => absurd h (by omega))
  rw [nI_clamp (show p + 1 < 2 ^ 31 by omega), hv]
  refine And.intro (pk_in (p + 1) 8 (by omega)) (nm_e (pk_le (p + 1) 0 (fun z => absurd z (by omega)) (fun _ => ?_)))
  rw [nI_pred, nI_clamp (show p < 2 ^ 31 by omega), e2, e3, nI_clamp (show 4 * c' + c < 2 ^ 31 by omega)]
  exact And.intro (pk_in p 8 (by omega)) (And.intro (pk_in (4 * c' + c) 16 (by omega)) (And.intro (pk_in (4 * c' + c) 16 (by omega)) (nm_e (nd_t56 K))))
theorem nd_yt {post : Int32 → SY → Prop} (hn : n < 8) (hv : v &&& 3 = nI c) (K : post (nI (n + 1)) (nI (n + 1), lf, rt, fe, lt, ln, upd qu n (nI c), le, ri, ta)) : wpY_type post (nI n, lf, rt, fe, lt, ln, qu, le, ri, ta) v := by
  unfold wpY_type
  dsimp only
  rw [nI_clamp (show n < 2 ^ 31 by omega), hv]
  exact pk_eq n 8 (fun h => absurd h (by omega)) (fun _ => And.intro (pk_in n 8 hn) (nm_e (nm_r (nI_1 n) K)))
theorem nd_ytf {post : Int32 → SY → Prop} (K : post (-1) (nI 8, lf, rt, fe, lt, ln, qu, le, ri, ta)) : wpY_type post (nI 8, lf, rt, fe, lt, ln, qu, le, ri, ta) v := by
  unfold wpY_type
  dsimp only
  exact pk_eq 8 8 (fun _ => K) (fun h => absurd rfl h)
theorem nd_cl7 {post : SX → Prop} (K : ∀ qp, (∀ k, k < 16 → qp k = 0) → post (fq, bd, be, xl, yl, ln, lt, pc, qu, qp, mk, ax, ay, co, nc)) :
    ∀ n i qp, 16 - i < n → i ≤ 16 → (∀ k, k < i → qp k = 0) → wX_clear_7 post fq bd be xl yl n (nI i) ln lt pc qu qp mk ax ay co nc := by
  intro n
  induction n with
  | zero => intro i qp h; omega
  | succ n ih =>
    intro i qp hn hi h1
    rw [wX_clear_7]
    refine pk_le 16 i (fun h => K qp (fun k hk => h1 k (by omega))) (fun h => ?_)
    rw [nI_clamp (show i < 2 ^ 31 by omega)]
    refine And.intro (pk_in i 16 (by omega)) (nm_e (nm_r (nI_1 i) (ih (i + 1) _ (by omega) (by omega) ?_)))
    intro k hk
    by_cases e : k = i
    · subst e; exact pk_us
    · rw [pk_un e]; exact h1 k (by omega)
theorem nd_xclear {post : SX → Prop} (K : ∀ qp, (∀ k, k < 16 → qp k = 0) → post (0, bd, be, xl, yl, ln, lt, pc, qu, qp, mk, ax, ay, co, nc)) : wpX_clear post (fq, bd, be, xl, yl, ln, lt, pc, qu, qp, mk, ax, ay, co, nc) := by
  unfold wpX_clear
  exact ⟨17, nd_cl7 K 17 0 qp (by omega) (by omega) (fun k hk => absurd hk (by omega))⟩
/-! whole, between -/
theorem nd_wh11 {post : Int32 → SX → Prop} {n0 : Nat} (hm : m ≤ 8) (hd : d < 8) (hN : n0 ≤ 16) (hln : ln d = nI n0)
    (K : ∀ xl yl ax ay co nc, post (nI (nd_D nd_i qu (fun k => lt (16 * d + k)) m n0)) (nI m, bd, be, xl, yl, ln, lt, pc, qu, qp, mk, ax, ay, co, nc)) :
    ∀ n i ax, m - i < n → i ≤ m → (∀ k, k < i → ax k = qu k) → wX_whole_11 post (nI d) (nI m) bd be xl yl n (nI i) ln lt pc qu qp mk ax ay co nc := by
  intro n
  induction n with
  | zero => intro i ax h; omega
  | succ n ih =>
    intro i ax hn hi h1
    rw [wX_whole_11]
    refine pk_le m i (fun h => ?_) (fun h => ?_)
    · refine nd_xty hd hN hln (fun ay hay => ?_)
      dsimp only
      refine nd_xwd (by omega) hN (fun co nc => ?_)
      dsimp only
      rw [nd_D_cg (x' := qu) (y' := fun k => lt (16 * d + k)) m n0 (fun k hk => h1 k (by omega)) hay]
      exact K _ _ _ _ _ _
    · rw [nI_clamp (show i < 2 ^ 31 by omega)]
      refine And.intro (pk_in i 8 (by omega)) (And.intro (pk_in i 16 (by omega)) (nm_e (nm_r (nI_1 i) (ih (i + 1) _ (by omega) (by omega) ?_))))
      intro k hk
      by_cases e : k = i
      · subst e; exact pk_us
      · rw [pk_un e]; exact h1 k (by omega)
theorem nd_xwhole {post : Int32 → SX → Prop} {n0 : Nat} (hm : m ≤ 8) (hd : d < 8) (hN : n0 ≤ 16) (hln : ln d = nI n0)
    (K : ∀ xl yl ax ay co nc, post (nI (nd_D nd_i qu (fun k => lt (16 * d + k)) m n0)) (nI m, bd, be, xl, yl, ln, lt, pc, qu, qp, mk, ax, ay, co, nc)) : wpX_whole post (nI m, bd, be, xl, yl, ln, lt, pc, qu, qp, mk, ax, ay, co, nc) (nI d) := by
  unfold wpX_whole
  dsimp only
  refine nd_xd hd (br_f nd_n1 ⟨m + 1, ?_⟩)
  exact nd_wh11 hm hd hN hln K (m + 1) 0 ax (by omega) (by omega) (fun k hk => absurd hk (by omega))
theorem nd_be18 {post : Int32 → SX → Prop} {n0 a na : Nat} (ha : a < 8) (hna : na ≤ 16) (hla : ln a = nI na) (hd : d < 8) (hN : n0 ≤ 16) (hln : ln d = nI n0)
    (K : ∀ xl yl ax ay co nc, post (nI (nd_D nd_i (fun k => lt (16 * a + k)) (fun k => lt (16 * d + k)) na n0)) (fq, bd, be, xl, yl, ln, lt, pc, qu, qp, mk, ax, ay, co, nc)) :
    ∀ n i ax, na - i < n → i ≤ na → (∀ k, k < i → ax k = lt (16 * a + k)) → wX_between_18 post (nI a) (nI d) fq bd be xl yl n (nI i) ln lt pc qu qp mk ax ay co nc := by
  intro n
  induction n with
  | zero => intro i ax h; omega
  | succ n ih =>
    intro i ax hn hi h1
    rw [wX_between_18]
    refine And.intro (pk_in a 8 ha) ?_
    rw [nI_clamp (show a < 2 ^ 31 by omega), hla]
    refine pk_le na i (fun h => ?_) (fun h => ?_)
    · refine And.intro (pk_in a 8 ha) (nm_e ?_)
      refine nd_xty hd hN hln (fun ay hay => ?_)
      dsimp only
      refine nd_xwd hna hN (fun co nc => ?_)
      dsimp only
      rw [nd_D_cg (x' := fun k => lt (16 * a + k)) (y' := fun k => lt (16 * d + k)) na n0 (fun k hk => h1 k (by omega)) hay]
      exact K _ _ _ _ _ _
    · rw [nd_ix, nI_clamp (show i < 2 ^ 31 by omega), nI_clamp (show 16 * a + i < 2 ^ 31 by omega)]
      refine And.intro (pk_in (16 * a + i) 128 (by omega)) (And.intro (pk_in i 16 (by omega)) (nm_e (nm_r (nI_1 i) (ih (i + 1) _ (by omega) (by omega) ?_))))
      intro k hk
      by_cases e : k = i
      · subst e; exact pk_us
      · rw [pk_un e]; exact h1 k (by omega)
theorem nd_xbetw {post : Int32 → SX → Prop} {n0 a na : Nat} (ha : a < 8) (hna : na ≤ 16) (hla : ln a = nI na) (hd : d < 8) (hN : n0 ≤ 16) (hln : ln d = nI n0)
    (K : ∀ xl yl ax ay co nc, post (nI (nd_D nd_i (fun k => lt (16 * a + k)) (fun k => lt (16 * d + k)) na n0)) (fq, bd, be, xl, yl, ln, lt, pc, qu, qp, mk, ax, ay, co, nc)) : wpX_between post (fq, bd, be, xl, yl, ln, lt, pc, qu, qp, mk, ax, ay, co, nc) (nI a) (nI d) := by
  unfold wpX_between
  dsimp only
  refine nd_xd ha (br_f nd_n1 (nd_xd hd (br_f nd_n1 ⟨na + 1, ?_⟩)))
  exact nd_be18 ha hna hla hd hN hln K (na + 1) 0 ax (by omega) (by omega) (fun k hk => absurd hk (by omega))
theorem nd_ywhole {post : Int32 → SY → Prop} {n0 : Nat} (hm : m ≤ 8) (hd : d < 8) (hN : n0 ≤ 16) (hln : ln d = nI n0)
    (K : ∀ lf rt le ri ta, post (nI (nd_D nd_i qu (fun k => lt (16 * d + k)) m n0)) (nI m, lf, rt, fe, lt, ln, qu, le, ri, ta)) : wpY_whole post (nI m, lf, rt, fe, lt, ln, qu, le, ri, ta) (nI d) := by
  unfold wpY_whole
  dsimp only
  refine nd_yd hd (br_t rfl (nd_ylq hm (fun le hle => ?_)))
  dsimp only
  rw [nI_clamp (show d < 2 ^ 31 by omega), hln]
  refine And.intro (pk_in d 8 hd) (nd_ylp (f := 0) hd hN (by omega) (fun ri hri => ?_))
  dsimp only
  refine nd_ycmp (a := m) (b := n0) (by omega) hN (fun ta => ?_)
  dsimp only
  rw [nd_D_cg (x' := qu) (y' := fun k => lt (16 * d + k)) m n0 hle (fun k hk => by rw [hri k hk, Nat.zero_add])]
  exact K _ _ _ _ _
theorem nd_yb28 {post : Int32 → SY → Prop} {n0 a na : Nat} (ha : a < 8) (hna : na ≤ 16) (hd : d < 8) (hN : n0 ≤ 16) (hln : ln d = nI n0)
    (K : ∀ rt le ri ta, post (nI (nd_D nd_i (fun k => lt (16 * a + k)) (fun k => lt (16 * d + k)) na n0)) (ty, nI na, rt, fe, lt, ln, qu, le, ri, ta)) :
    ∀ n i le, na - i < n → i ≤ na → (∀ k, k < i → le k = lt (16 * a + k)) → wY_between_28 post (nI a) (nI d) ty (nI na) rt fe n (nI i) lt ln qu le ri ta := by
  intro n
  induction n with
  | zero => intro i le h; omega
  | succ n ih =>
    intro i le hn hi h1
    rw [wY_between_28]
    refine pk_le na i (fun h => ?_) (fun h => ?_)
    · rw [nI_clamp (show d < 2 ^ 31 by omega), hln]
      refine And.intro (pk_in d 8 hd) (nd_ylp (f := 0) hd hN (by omega) (fun ri hri => ?_))
      dsimp only
      refine nd_ycmp (a := na) (b := n0) (by omega) hN (fun ta => ?_)
      dsimp only
      rw [nd_D_cg (x' := fun k => lt (16 * a + k)) (y' := fun k => lt (16 * d + k)) na n0 (fun k hk => h1 k (by omega)) (fun k hk => by rw [hri k hk, Nat.zero_add])]
      exact K _ _ _ _
    · rw [nd_ix, nI_clamp (show i < 2 ^ 31 by omega), nI_clamp (show 16 * a + i < 2 ^ 31 by omega)]
      refine And.intro (pk_in (16 * a + i) 128 (by omega)) (And.intro (pk_in i 16 (by omega)) (nm_e (nm_r (nI_1 i) (ih (i + 1) _ (by omega) (by omega) ?_))))
      intro k hk
      by_cases e : k = i
      · subst e; exact pk_us
      · rw [pk_un e]; exact h1 k (by omega)
theorem nd_ybetw {post : Int32 → SY → Prop} {n0 a na : Nat} (ha : a < 8) (hna : na ≤ 16) (hla : ln a = nI na) (hd : d < 8) (hN : n0 ≤ 16) (hln : ln d = nI n0)
    (K : ∀ lf rt le ri ta, post (nI (nd_D nd_i (fun k => lt (16 * a + k)) (fun k => lt (16 * d + k)) na n0)) (ty, lf, rt, fe, lt, ln, qu, le, ri, ta)) : wpY_between post (ty, lf, rt, fe, lt, ln, qu, le, ri, ta) (nI a) (nI d) := by
  unfold wpY_between
  dsimp only
  refine nd_yd ha (br_t rfl (nd_yd hd (br_t rfl (And.intro (pk_in a 8 ha) ?_))))
  rw [nI_clamp (show a < 2 ^ 31 by omega), hla]
  refine nm_e ⟨na + 1, ?_⟩
  exact nd_yb28 ha hna hd hN hln (fun rt le ri ta => K _ rt le ri ta) (na + 1) 0 le (by omega) (by omega) (fun k hk => absurd hk (by omega))
end
end
section
/-! the relation and what is owed -/
def i_Rel (k : Nat) (u : SX) (v : SY) : Prop := match u with
  | (fq, _, _, _, _, ln, lt, pc, qu, qp, _, _, _, _, _) => match v with
    | (ty, _, _, _, lt', ln', qu', _, _, _) => ty = fq ∧ lt' = lt ∧ ln' = ln ∧ qu' = qu ∧ ∃ m N, fq = nI m ∧ nd_Inv m N ln lt pc qu qp
theorem nd_mk {k m : Nat} {N : Nat → Nat} {bd be xl yl : Int32} {ln lt pc qu qp mk ax ay co nc : Nat → Int32} {lf rt fe : Int32} {le ri ta : Nat → Int32} (H : nd_Inv m N ln lt pc qu qp) : i_Rel k (nI m, bd, be, xl, yl, ln, lt, pc, qu, qp, mk, ax, ay, co, nc) (nI m, lf, rt, fe, lt, ln, qu, le, ri, ta) :=
  And.intro rfl (And.intro rfl (And.intro rfl (And.intro rfl (Exists.intro m (Exists.intro N (And.intro rfl H))))))
theorem nd_el {k : Nat} {u : SX} {v : SY} {P : SX → SY → Prop}
    (h : ∀ (m : Nat) (N : Nat → Nat) (bd be xl yl : Int32) (ln lt pc qu qp mk ax ay co nc : Nat → Int32) (lf rt fe : Int32) (le ri ta : Nat → Int32), nd_Inv m N ln lt pc qu qp → P (nI m, bd, be, xl, yl, ln, lt, pc, qu, qp, mk, ax, ay, co, nc) (nI m, lf, rt, fe, lt, ln, qu, le, ri, ta))
    (I : i_Rel k u v) : P u v := by
  obtain ⟨fq, bd, be, xl, yl, ln, lt, pc, qu, qp, mk, ax, ay, co, nc⟩ := u
  obtain ⟨ty, lf, rt, fe, lt', ln', qu', le, ri, ta⟩ := v
  obtain ⟨h1, h2, h3, h4, m, N, h5, H⟩ := I
  subst h1 h2 h3 h4 h5
  exact h m N bd be xl yl _ _ pc _ qp mk ax ay co nc lf rt fe le ri ta H
theorem i_up {k : Nat} {u : SX} {v : SY} (h : i_Rel k u v) : i_Rel (k + 3) u v := h
theorem i_vc0 : wpX_init (fun u => wpY_init (fun v => i_Rel 0 u v)) := by
  unfold wpX_init wpY_init
  exact nd_mk (m := 0) nd_Inv_0
theorem i_vc_write {k : Nat} {u : SX} {v : SY} (I : i_Rel k u v) (hk : k + 3 ≤ 1536) (v1 : Int32) (v2 : Int32) : wpX_write (fun r u' => wpY_write (fun r' v' => r' = r ∧ i_Rel (k + 3) u' v') v v1 v2) u v1 v2 := by
  refine nd_el (P := fun u v => wpX_write (fun r u' => wpY_write (fun r' v' => r' = r ∧ i_Rel (k + 3) u' v') v v1 v2) u v1 v2) ?_ I
  intro m N bd be xl yl ln lt pc qu qp mk ax ay co nc lf rt fe le ri ta H
  rcases nd_doc v1 with ⟨d, hd, rfl⟩ | ⟨hx, hy⟩
  · obtain ⟨c, hc, hv⟩ := nd_m3 v2
    obtain ⟨hN, hln⟩ := H.2.1 d hd
    by_cases h16 : N d = 16
    · rw [h16] at hln
      exact nd_xwf hd hln (nd_ywf hd hln ⟨rfl, nd_mk H⟩)
    · obtain ⟨n, hn⟩ : ∃ n, N d = n := ⟨_, rfl⟩
      rw [hn] at hln hN h16
      cases n with
      | zero => exact nd_xw0 hd hln hv (nd_yw hd (by omega) hln hv ⟨rfl, nd_mk (nd_Inv_w0 H hd hc hn)⟩)
      | succ p =>
        obtain ⟨c', hc', hl⟩ := H.2.2.1 (16 * d + p)
        exact nd_xw1 hd (by omega) hln hv hc hc' hl (nd_yw hd (by omega) hln hv ⟨rfl, nd_mk (nd_Inv_w1 H hd hc hc' hn (by omega) hl)⟩)
  · unfold wpX_write wpY_write
    dsimp only
    exact hx _ (br_t rfl (hy _ (br_f nd_n1 ⟨rfl, nd_mk H⟩)))
theorem i_vc_wipe {k : Nat} {u : SX} {v : SY} (I : i_Rel k u v) (hk : k + 3 ≤ 1536) (v1 : Int32) : wpX_wipe (fun r u' => wpY_wipe (fun r' v' => r' = r ∧ i_Rel (k + 3) u' v') v v1) u v1 := by
  refine nd_el (P := fun u v => wpX_wipe (fun r u' => wpY_wipe (fun r' v' => r' = r ∧ i_Rel (k + 3) u' v') v v1) u v1) ?_ I
  intro m N bd be xl yl ln lt pc qu qp mk ax ay co nc lf rt fe le ri ta H
  rcases nd_doc v1 with ⟨d, hd, rfl⟩ | ⟨hx, hy⟩
  · have hln := (H.2.1 d hd).2
    exact nd_xwipe hd hln (fun pc' h1 h2 => nd_ywipe hd hln ⟨rfl, nd_mk (nd_Inv_wipe H h1 h2)⟩)
  · unfold wpX_wipe wpY_wipe
    dsimp only
    exact hx _ (br_t rfl (hy _ (br_f nd_n1 ⟨rfl, nd_mk H⟩)))
theorem i_vc_type {k : Nat} {u : SX} {v : SY} (I : i_Rel k u v) (hk : k + 3 ≤ 1536) (v1 : Int32) : wpX_type (fun r u' => wpY_type (fun r' v' => r' = r ∧ i_Rel (k + 3) u' v') v v1) u v1 := by
  refine nd_el (P := fun u v => wpX_type (fun r u' => wpY_type (fun r' v' => r' = r ∧ i_Rel (k + 3) u' v') v v1) u v1) ?_ I
  intro m N bd be xl yl ln lt pc qu qp mk ax ay co nc lf rt fe le ri ta H
  obtain ⟨c, hc, hv⟩ := nd_m3 v1
  have hm := H.1
  by_cases h8 : m = 8
  · subst h8
    exact nd_xtf (nd_ytf ⟨rfl, nd_mk H⟩)
  · cases m with
    | zero => exact nd_xt0 hv (nd_yt (by omega) hv ⟨rfl, nd_mk (nd_Inv_t0 H hc)⟩)
    | succ p =>
      obtain ⟨c', hc', hl⟩ := H.2.2.2.1 p
      exact nd_xt1 (by omega) hv hc hc' hl (nd_yt (by omega) hv ⟨rfl, nd_mk (nd_Inv_t1 H hc hc' (by omega) hl)⟩)
theorem i_vc_clear {k : Nat} {u : SX} {v : SY} (I : i_Rel k u v) (hk : k + 3 ≤ 1536) : wpX_clear (fun u' => wpY_clear (fun v' => i_Rel (k + 3) u' v') v) u := by
  refine nd_el (P := fun u v => wpX_clear (fun u' => wpY_clear (fun v' => i_Rel (k + 3) u' v') v) u) ?_ I
  intro m N bd be xl yl ln lt pc qu qp mk ax ay co nc lf rt fe le ri ta H
  refine nd_xclear (fun qp' h => ?_)
  unfold wpY_clear
  dsimp only
  exact nd_mk (m := 0) (nd_Inv_clear H h)
theorem i_vc_distance {k : Nat} {u : SX} {v : SY} (I : i_Rel k u v) (hk : k + 3 ≤ 1536) (v1 : Int32) : wpX_distance (fun r u' => wpY_distance (fun r' v' => r' = r ∧ i_Rel (k + 3) u' v') v v1) u v1 := by
  refine nd_el (P := fun u v => wpX_distance (fun r u' => wpY_distance (fun r' v' => r' = r ∧ i_Rel (k + 3) u' v') v v1) u v1) ?_ I
  intro m N bd be xl yl ln lt pc qu qp mk ax ay co nc lf rt fe le ri ta H
  unfold wpX_distance wpY_distance
  dsimp only
  rcases nd_doc v1 with ⟨d, hd, rfl⟩ | ⟨hx, hy⟩
  · refine nd_xd hd (br_f nd_n1 (nd_srch H hd (fun bd be mk hbd _ => ?_)))
    dsimp only
    refine nd_yd hd (br_t rfl (nd_ysrch H hd (fun lf rt le ri ta => ?_)))
    dsimp only
    exact ⟨hbd.symm, nd_mk H⟩
  · exact hx _ (br_t rfl (hy _ (br_f nd_n1 ⟨rfl, nd_mk H⟩)))
theorem i_vc_end {k : Nat} {u : SX} {v : SY} (I : i_Rel k u v) (hk : k + 3 ≤ 1536) (v1 : Int32) : wpX_end (fun r u' => wpY_end (fun r' v' => r' = r ∧ i_Rel (k + 3) u' v') v v1) u v1 := by
  refine nd_el (P := fun u v => wpX_end (fun r u' => wpY_end (fun r' v' => r' = r ∧ i_Rel (k + 3) u' v') v v1) u v1) ?_ I
  intro m N bd be xl yl ln lt pc qu qp mk ax ay co nc lf rt fe le ri ta H
  unfold wpX_end wpY_end
  dsimp only
  rcases nd_doc v1 with ⟨d, hd, rfl⟩ | ⟨hx, hy⟩
  · refine nd_xd hd (br_f nd_n1 (nd_srch H hd (fun bd be mk _ hbe => ?_)))
    dsimp only
    refine nd_yd hd (br_t rfl (nd_ysrch H hd (fun lf rt le ri ta => ?_)))
    dsimp only
    exact ⟨hbe.symm, nd_mk H⟩
  · exact hx _ (br_t rfl (hy _ (br_f nd_n1 ⟨rfl, nd_mk H⟩)))
theorem i_vc_whole {k : Nat} {u : SX} {v : SY} (I : i_Rel k u v) (hk : k + 3 ≤ 1536) (v1 : Int32) : wpX_whole (fun r u' => wpY_whole (fun r' v' => r' = r ∧ i_Rel (k + 3) u' v') v v1) u v1 := by
  refine nd_el (P := fun u v => wpX_whole (fun r u' => wpY_whole (fun r' v' => r' = r ∧ i_Rel (k + 3) u' v') v v1) u v1) ?_ I
  intro m N bd be xl yl ln lt pc qu qp mk ax ay co nc lf rt fe le ri ta H
  rcases nd_doc v1 with ⟨d, hd, rfl⟩ | ⟨hx, hy⟩
  · obtain ⟨hN, hln⟩ := H.2.1 d hd
    exact nd_xwhole H.1 hd hN hln (fun xl yl ax ay co nc => nd_ywhole H.1 hd hN hln (fun lf rt le ri ta => ⟨rfl, nd_mk H⟩))
  · unfold wpX_whole wpY_whole
    dsimp only
    exact hx _ (br_t rfl (hy _ (br_f nd_n1 ⟨rfl, nd_mk H⟩)))
theorem i_vc_within {k : Nat} {u : SX} {v : SY} (I : i_Rel k u v) (hk : k + 3 ≤ 1536) (v1 : Int32) : wpX_within (fun r u' => wpY_within (fun r' v' => r' = r ∧ i_Rel (k + 3) u' v') v v1) u v1 := by
  refine nd_el (P := fun u v => wpX_within (fun r u' => wpY_within (fun r' v' => r' = r ∧ i_Rel (k + 3) u' v') v v1) u v1) ?_ I
  intro m N bd be xl yl ln lt pc qu qp mk ax ay co nc lf rt fe le ri ta H
  unfold wpX_within wpY_within
  dsimp only
  refine ⟨9, nd_xw4 H (fun bd be mk => ?_) 9 0 bd be mk (by omega) (by omega)⟩
  exact ⟨9, nd_yw4 H (fun lf rt fe le ri ta => ⟨rfl, nd_mk H⟩) 9 0 lf rt fe le ri ta (by omega) (by omega)⟩
theorem i_vc_nearest {k : Nat} {u : SX} {v : SY} (I : i_Rel k u v) (hk : k + 3 ≤ 1536) : wpX_nearest (fun r u' => wpY_nearest (fun r' v' => r' = r ∧ i_Rel (k + 3) u' v') v) u := by
  refine nd_el (P := fun u v => wpX_nearest (fun r u' => wpY_nearest (fun r' v' => r' = r ∧ i_Rel (k + 3) u' v') v) u) ?_ I
  intro m N bd be xl yl ln lt pc qu qp mk ax ay co nc lf rt fe le ri ta H
  unfold wpX_nearest wpY_nearest
  dsimp only
  refine nd_srch (d := 0) H (by omega) (fun bd be mk hbd _ => ?_)
  dsimp only
  subst hbd
  refine ⟨8, nd_xn14 H (fun bd be mk => ?_) 8 0 _ be mk (by omega) (by omega)⟩
  exact ⟨9, nd_yn7 H (fun lf rt fe le ri ta => ⟨rfl, nd_mk H⟩) 9 0 lf rt fe le ri ta (by omega) (by omega)⟩
theorem i_vc_between {k : Nat} {u : SX} {v : SY} (I : i_Rel k u v) (hk : k + 3 ≤ 1536) (v1 : Int32) (v2 : Int32) : wpX_between (fun r u' => wpY_between (fun r' v' => r' = r ∧ i_Rel (k + 3) u' v') v v1 v2) u v1 v2 := by
  refine nd_el (P := fun u v => wpX_between (fun r u' => wpY_between (fun r' v' => r' = r ∧ i_Rel (k + 3) u' v') v v1 v2) u v1 v2) ?_ I
  intro m N bd be xl yl ln lt pc qu qp mk ax ay co nc lf rt fe le ri ta H
  rcases nd_doc v1 with ⟨a, ha, rfl⟩ | ⟨hx, hy⟩
  · rcases nd_doc v2 with ⟨d, hd, rfl⟩ | ⟨hx, hy⟩
    · obtain ⟨hna, hla⟩ := H.2.1 a ha
      obtain ⟨hN, hln⟩ := H.2.1 d hd
      exact nd_xbetw ha hna hla hd hN hln (fun xl yl ax ay co nc => nd_ybetw ha hna hla hd hN hln (fun lf rt le ri ta => ⟨rfl, nd_mk H⟩))
    · unfold wpX_between wpY_between
      dsimp only
      exact nd_xd ha (br_f nd_n1 (hx _ (br_t rfl (nd_yd ha (br_t rfl (hy _ (br_f nd_n1 ⟨rfl, nd_mk H⟩)))))))
  · unfold wpX_between wpY_between
    dsimp only
    exact hx _ (br_t rfl (hy _ (br_f nd_n1 ⟨rfl, nd_mk H⟩)))
theorem i_vc_pairs {k : Nat} {u : SX} {v : SY} (I : i_Rel k u v) (hk : k + 3 ≤ 1536) (v1 : Int32) : wpX_pairs (fun r => wpY_pairs (fun r' => r' = r ∧ i_Rel (k + 3) u v) v v1) u v1 := by
  refine nd_el (P := fun u v => wpX_pairs (fun r => wpY_pairs (fun r' => r' = r ∧ i_Rel (k + 3) u v) v v1) u v1) ?_ I
  intro m N bd be xl yl ln lt pc qu qp mk ax ay co nc lf rt fe le ri ta H
  unfold wpX_pairs wpY_pairs
  dsimp only
  rcases nd_doc v1 with ⟨d, hd, rfl⟩ | ⟨hx, hy⟩
  · refine nd_xd hd (br_f nd_n1 (nd_xsp H hd (nd_yd hd (br_t rfl ⟨17, ?_⟩))))
    exact nd_yp13 H hd ⟨rfl, nd_mk H⟩ 17 0 (by omega) (by omega)
  · exact hx _ (br_t rfl (hy _ (br_f nd_n1 ⟨rfl, nd_mk H⟩)))
end
