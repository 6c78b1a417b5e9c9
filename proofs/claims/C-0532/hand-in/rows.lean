section
theorem pk_us {f : Nat → Int32} {k : Nat} {x : Int32} : upd f k x k = x := if_pos rfl
theorem pk_un {f : Nat → Int32} {k j : Nat} {x : Int32} (h : j ≠ k) : upd f k x j = f j := if_neg h
theorem pk_sub {a b : Nat} (h : b ≤ a) : nI a - nI b = nI (a - b) := by
  obtain ⟨c, rfl⟩ : ∃ c, a = c + b := ⟨a - b, by omega⟩
  rw [← nI_add, Int32.add_sub_cancel, Nat.add_sub_cancel]
theorem pk_m1 (n : Nat) : nI (n + 1) + (-1) = nI n := by
  rw [← nI_1, Int32.add_assoc, show (1 : Int32) + (-1) = 0 from rfl, Int32.add_zero]
theorem pk_mul (a b : Nat) : nI a * nI b = nI (a * b) := (Int32.ofNat_mul a b).symm
theorem pk_div {a d : Nat} (ha : a < 2 ^ 31) (h0 : 0 < d) (hd : d < 2 ^ 31) : nI a / nI d = nI (a / d) := by
  apply Int32.toInt_inj.mp
  rw [lg_idiv_nonneg (by rw [nI_toInt ha]; omega) (by rw [nI_toInt hd]; omega), nI_toInt ha, nI_toInt hd, nI_toInt (Nat.lt_of_le_of_lt (Nat.div_le_self a d) ha)]
  first | rfl | exact (Int.natCast_ediv _ _).symm
theorem pk_sub_toInt {a b : Nat} (ha : a < 2 ^ 30) (hb : b < 2 ^ 30) : (nI a - nI b).toInt = (a : Int) - b := by
  rw [Int32.toInt_sub, nI_toInt (by omega), nI_toInt (by omega)]
  exact Int.bmod_eq_of_le (by omega) (by omega)
theorem pk_le {x y : Int32} {A B : Prop} (a b : Nat) (f : a ≤ b → A) (g : b < a → B) (hx : x = nI a := by rfl) (hy : y = nI b := by rfl) (ha : a < 2 ^ 31 := by omega) (hb : b < 2 ^ 31 := by omega) : (x ≤ y → A) ∧ (¬ x ≤ y → B) := by
  subst hx hy
  rw [nI_leI ha hb]
  exact ⟨f, fun z => g (by omega)⟩
theorem pk_lt {x y : Int32} {A B : Prop} (a b : Nat) (f : a < b → A) (g : b ≤ a → B) (hx : x = nI a := by rfl) (hy : y = nI b := by rfl) (ha : a < 2 ^ 31 := by omega) (hb : b < 2 ^ 31 := by omega) : (x < y → A) ∧ (¬ x < y → B) := by
  subst hx hy
  rw [nI_ltI ha hb]
  exact ⟨f, fun z => g (by omega)⟩
theorem pk_eq {x y : Int32} {A B : Prop} (a b : Nat) (f : a = b → A) (g : a ≠ b → B) (hx : x = nI a := by rfl) (hy : y = nI b := by rfl) (ha : a < 2 ^ 31 := by omega) (hb : b < 2 ^ 31 := by omega) : (x = y → A) ∧ (¬ x = y → B) := by
  subst hx hy
  rw [nI_eq ha hb]
  exact ⟨f, g⟩
theorem pk_in {x : Int32} (n N : Nat) (h : n < N) (hx : x = nI n := by rfl) (hN : N < 2 ^ 31 := by omega) : vp_in x N := by
  subst hx
  exact vp_in_nI h hN
theorem pk_cl {x : Int32} (n : Nat) (hx : x = nI n := by rfl) (h : n < 2 ^ 31 := by omega) : x.toNatClampNeg = n := by
  subst hx
  exact nI_clamp h
theorem pk_tn {n : Nat} (h : n < 2 ^ 32) : (nI n).toBitVec.toNat = n := Nat.mod_eq_of_lt h
theorem pk_and (x : Int32) {m : Int32} (k : Nat) (hm : m.toBitVec.toNat = 2 ^ k - 1) : x &&& m = nI (x.toBitVec.toNat % 2 ^ k) := by
  apply Int32.toBitVec_inj.mp
  apply BitVec.eq_of_toNat_eq
  rw [Int32.toBitVec_and, BitVec.toNat_and, hm, Nat.and_two_pow_sub_one_eq_mod]
  show _ = (BitVec.ofNat 32 _).toNat
  rw [BitVec.toNat_ofNat]
  exact (Nat.mod_eq_of_lt (Nat.lt_of_le_of_lt (Nat.mod_le _ _) x.toBitVec.isLt)).symm
theorem pk_andN {n : Nat} (h : n < 2 ^ 32) {m : Int32} (k : Nat) (hm : m.toBitVec.toNat = 2 ^ k - 1) : nI n &&& m = nI (n % 2 ^ k) := by
  rw [pk_and _ k hm, pk_tn h]
theorem pk_shr (a s : Int32) (k : Nat) (hs : (s.toBitVec.smod 32).toNat = k) : (a >>> s).toInt = a.toInt >>> k := by
  show (a.toBitVec.sshiftRight (s.toBitVec.smod 32).toNat).toInt = _
  rw [hs, BitVec.toInt_sshiftRight]
  rfl
theorem pk_shrN {n : Nat} (h : n < 2 ^ 31) (s : Int32) (k : Nat) (hs : (s.toBitVec.smod 32).toNat = k) : nI n >>> s = nI (n / 2 ^ k) := by
  apply Int32.toInt_inj.mp
  have h2 : n / 2 ^ k ≤ n := Nat.div_le_self _ _
  rw [pk_shr _ _ k hs, nI_toInt h, nI_toInt (by omega), Int.shiftRight_eq_div_pow]
  rfl
end
section
def gi_ar (f : Nat → Nat) : Nat → Int32 := fun i => nI (f i)
def gi_pI (k : Nat) : Int32 := if k = 0 then -1 else nI (k - 1)
def gi_pr (f : Nat → Nat) : Nat → Int32 := fun i => gi_pI (f i)
def gi_up (f : Nat → Nat) (k x : Nat) : Nat → Nat := fun j => if j = k then x else f j
def gi_hs (H : Nat → Bool) (k : Nat) (x : Bool) : Nat → Bool := fun j => if j = k then x else H j
theorem gi_us {f : Nat → Nat} {k x : Nat} : gi_up f k x k = x := if_pos rfl
theorem gi_un {f : Nat → Nat} {k x j : Nat} (h : j ≠ k) : gi_up f k x j = f j := if_neg h
theorem gi_hss {H : Nat → Bool} {k : Nat} {x : Bool} : gi_hs H k x k = x := if_pos rfl
theorem gi_hsn {H : Nat → Bool} {k j : Nat} {x : Bool} (h : j ≠ k) : gi_hs H k x j = H j := if_neg h
theorem gi_ua (f : Nat → Nat) (k x : Nat) : upd (gi_ar f) k (nI x) = gi_ar (gi_up f k x) := by
  funext j
  unfold upd gi_ar gi_up
  by_cases e : j = k
  · rw [if_pos e, if_pos e]
  · rw [if_neg e, if_neg e]
theorem gi_uq (f : Nat → Nat) (k x : Nat) : upd (gi_pr f) k (gi_pI x) = gi_pr (gi_up f k x) := by
  funext j
  unfold upd gi_pr gi_up
  by_cases e : j = k
  · rw [if_pos e, if_pos e]
  · rw [if_neg e, if_neg e]
theorem gi_rd (f : Nat → Nat) {k : Nat} (h : k < 2 ^ 31) : gi_ar f (nI k).toNatClampNeg = nI (f k) := by rw [nI_clamp h]; rfl
theorem gi_rp (f : Nat → Nat) {k : Nat} (h : k < 2 ^ 31) : gi_pr f (nI k).toNatClampNeg = gi_pI (f k) := by rw [nI_clamp h]; rfl
theorem gi_wa (f : Nat → Nat) {k : Nat} (x : Nat) (h : k < 2 ^ 31) : upd (gi_ar f) (nI k).toNatClampNeg (nI x) = gi_ar (gi_up f k x) := by rw [nI_clamp h, gi_ua]
theorem gi_wp (f : Nat → Nat) {k : Nat} (x : Nat) (h : k < 2 ^ 31) : upd (gi_pr f) (nI k).toNatClampNeg (gi_pI x) = gi_pr (gi_up f k x) := by rw [nI_clamp h, gi_uq]
theorem gi_p0 : gi_pI 0 = -1 := if_pos rfl
theorem gi_p1 (m : Nat) : gi_pI (m + 1) = nI m := if_neg (Nat.succ_ne_zero m)
theorem gi_pd (k : Nat) : nI k + (-1) = gi_pI k := by
  cases k with
  | zero => rw [gi_p0, nI_0]; rfl
  | succ k => rw [gi_p1, pk_m1]
theorem gi_16 (c r : Nat) : 16 * nI c + nI r = nI (16 * c + r) := by
  rw [show (16 : Int32) = nI 16 from rfl, pk_mul, nI_add]
theorem gi_64 (c r : Nat) : 64 * nI c + nI r = nI (64 * c + r) := by
  rw [show (64 : Int32) = nI 64 from rfl, pk_mul, nI_add]
theorem gi_m1lt : (-1 : Int32) < 0 := by decide
theorem gi_0m1 : ¬ (0 : Int32) ≤ -1 := by decide
theorem gi_10 : ¬ (1 : Int32) = 0 := by decide
theorem gi_vb0 : vp_nar .boolean 0 = nI 0 := by decide
theorem gi_vb1 : vp_nar .boolean 1 = nI 1 := by decide
theorem gi_S {n d : Nat} (h : d < n) : ∃ m, n = m + 1 := ⟨n - 1, by omega⟩
theorem gi_20 : ¬ (2 : Int32) = 0 := by decide
/-- the middle of two small naturals -/
theorem gi_mid {a b : Nat} (ha : a < 1000) (hb : b < 1000) : (nI a + nI b) / 2 = nI ((a + b) / 2) := by
  rw [nI_add, show (2 : Int32) = nI 2 from rfl, pk_div (by omega) (by omega) (by omega)]
theorem gi_s1 {k : Nat} (h : 0 < k) : nI k - 1 = nI (k - 1) := by
  obtain ⟨j, rfl⟩ : ∃ j, k = j + 1 := ⟨k - 1, by omega⟩
  rw [nI_pred, Nat.add_sub_cancel]
/-- the places of the board -/
def gi_Off (x y : Int32) : Prop := x < 0 ∨ 63 < x ∨ y < 0 ∨ 63 < y
theorem gi_board (x y : Int32) : (∃ a b : Nat, a < 64 ∧ b < 64 ∧ x = nI a ∧ y = nI b) ∨ gi_Off x y := by
  by_cases h1 : x < 0
  · exact Or.inr (Or.inl h1)
  by_cases h2 : 63 < x
  · exact Or.inr (Or.inr (Or.inl h2))
  by_cases h3 : y < 0
  · exact Or.inr (Or.inr (Or.inr (Or.inl h3)))
  by_cases h4 : 63 < y
  · exact Or.inr (Or.inr (Or.inr (Or.inr h4)))
  obtain ⟨a, ha, rfl⟩ := nI_of2 (M := 63) (n := 63) (by decide) h1 (Int32.not_lt.mp h2)
  obtain ⟨b, hb, rfl⟩ := nI_of2 (M := 63) (n := 63) (by decide) h3 (Int32.not_lt.mp h4)
  exact Or.inl ⟨a, b, by omega, by omega, rfl, rfl⟩
theorem gi_offN {a b : Nat} (ha : a < 64) (hb : b < 64) : ¬ gi_Off (nI a) (nI b) := by
  intro h
  rcases h with h | h | h | h
  · exact nI_pos (by omega) h
  · exact nI_nlt (a := 63) (b := a) (by omega) (by decide) h
  · exact nI_pos (by omega) h
  · exact nI_nlt (a := 63) (b := b) (by omega) (by decide) h
end
section
/-- the last border at or below x among the first k -/
def gi_loc (cf : Nat → Nat) (x : Nat) : Nat → Nat
  | 0 => 0
  | k + 1 => if 1 ≤ k ∧ cf k ≤ x then k else gi_loc cf x k
def gi_Bd (C : Nat) (cf : Nat → Nat) : Prop := 1 ≤ C ∧ C ≤ 16 ∧ cf 0 = 0 ∧ cf C = 64 ∧ ∀ k, k < C → cf k < cf (k + 1)
def gi_In (C : Nat) (cf : Nat → Nat) (x c : Nat) : Prop := c < C ∧ cf c ≤ x ∧ x < cf (c + 1)
def gi_od (c0 c : Nat) : Nat := if c ≤ c0 then c else c - 1
theorem gi_Bd_lt {C : Nat} {cf : Nat → Nat} (B : gi_Bd C cf) : ∀ {j i : Nat}, i < j → j ≤ C → cf i < cf j := by
  intro j
  induction j with
  | zero => intro i h; omega
  | succ j ih =>
    intro i h hj
    have a := B.2.2.2.2 j (by omega)
    rcases Nat.lt_or_ge i j with z | z
    · have := ih z (by omega)
      omega
    · have e : i = j := by omega
      subst e
      exact a
theorem gi_Bd_le {C : Nat} {cf : Nat → Nat} (B : gi_Bd C cf) {i j : Nat} (h : i ≤ j) (hj : j ≤ C) : cf i ≤ cf j := by
  rcases Nat.eq_or_lt_of_le h with z | z
  · rw [z]; exact Nat.le_refl _
  · exact Nat.le_of_lt (gi_Bd_lt B z hj)
theorem gi_Bd_64 {C : Nat} {cf : Nat → Nat} (B : gi_Bd C cf) {k : Nat} (h : k ≤ C) : cf k ≤ 64 := by
  have := gi_Bd_le B h (Nat.le_refl _)
  rw [B.2.2.2.1] at this
  exact this
theorem gi_In_uq {C : Nat} {cf : Nat → Nat} (B : gi_Bd C cf) {x c c' : Nat} (h : gi_In C cf x c) (h' : gi_In C cf x c') : c = c' := by
  obtain ⟨a1, a2, a3⟩ := h
  obtain ⟨b1, b2, b3⟩ := h'
  rcases Nat.lt_trichotomy c c' with z | z | z
  · have := gi_Bd_le B (i := c + 1) (j := c') z (by omega)
    omega
  · exact z
  · have := gi_Bd_le B (i := c' + 1) (j := c) z (by omega)
    omega
theorem gi_loc_in {C : Nat} {cf : Nat → Nat} (B : gi_Bd C cf) {x : Nat} (hx : x < 64) : gi_In C cf x (gi_loc cf x C) := by
  have key : ∀ k, 1 ≤ k → gi_loc cf x k < k ∧ cf (gi_loc cf x k) ≤ x ∧ ∀ j, gi_loc cf x k < j → j < k → x < cf j := by
    intro k
    induction k with
    | zero => intro h; omega
    | succ k ih =>
      intro _
      by_cases e : 1 ≤ k ∧ cf k ≤ x
      · rw [show gi_loc cf x (k + 1) = k from if_pos e]
        exact ⟨by omega, e.2, fun j a b => by omega⟩
      · rw [show gi_loc cf x (k + 1) = gi_loc cf x k from if_neg e]
        rcases Nat.eq_zero_or_pos k with z | z
        · subst z
          refine ⟨Nat.zero_lt_one, ?_, fun j a b => by omega⟩
          show cf 0 ≤ x
          rw [B.2.2.1]
          exact Nat.zero_le _
        · obtain ⟨p, q, r⟩ := ih z
          refine ⟨by omega, q, fun j a b => ?_⟩
          rcases Nat.lt_or_ge j k with w | w
          · exact r j a w
          · have ej : j = k := by omega
            subst ej
            omega
  obtain ⟨p, q, r⟩ := key C B.1
  refine ⟨p, q, ?_⟩
  rcases Nat.lt_or_ge (gi_loc cf x C + 1) C with w | w
  · exact r _ (by omega) w
  · rw [show gi_loc cf x C + 1 = C by omega, B.2.2.2.1]
    exact hx
theorem gi_loc_1 (cf : Nat → Nat) (x : Nat) : gi_loc cf x 1 = 0 := if_neg (fun h => absurd h.1 (by decide))
theorem gi_loc_mono {C : Nat} {cf : Nat → Nat} (B : gi_Bd C cf) {x y : Nat} (h : x ≤ y) (hy : y < 64) : gi_loc cf x C ≤ gi_loc cf y C := by
  obtain ⟨a1, a2, a3⟩ := gi_loc_in B (x := x) (by omega)
  obtain ⟨b1, b2, b3⟩ := gi_loc_in B hy
  rcases Nat.lt_or_ge (gi_loc cf y C) (gi_loc cf x C) with z | z
  · have := gi_Bd_le B (i := gi_loc cf y C + 1) (j := gi_loc cf x C) z (by omega)
    omega
  · exact z
/-! a new border -/
theorem gi_cut_Bd {C c0 a : Nat} {cf cf' : Nat → Nat} (B : gi_Bd C cf) (hC : C < 16) (hc : c0 < C) (h1 : cf c0 < a) (h2 : a < cf (c0 + 1))
    (e : ∀ j, j ≤ C + 1 → cf' j = if j ≤ c0 then cf j else if j = c0 + 1 then a else cf (j - 1)) : gi_Bd (C + 1) cf' := by
  have f1 : ∀ j, j ≤ c0 → cf' j = cf j := fun j h => by rw [e j (by omega), if_pos h]
  have f2 : cf' (c0 + 1) = a := by rw [e _ (by omega), if_neg (by omega), if_pos rfl]
  have f3 : ∀ j, c0 + 1 ≤ j → j ≤ C → cf' (j + 1) = cf j := fun j h h' => by
    rw [e _ (by omega), if_neg (by omega), if_neg (by omega), Nat.add_sub_cancel]
  refine ⟨by omega, by omega, ?_, ?_, ?_⟩
  · rw [f1 0 (by omega)]; exact B.2.2.1
  · rw [f3 C (by omega) (by omega)]; exact B.2.2.2.1
  · intro k hk
    rcases Nat.lt_trichotomy k c0 with z | z | z
    · rw [f1 k (by omega), f1 (k + 1) (by omega)]; exact B.2.2.2.2 k (by omega)
    · subst z
      rw [f1 k (by omega), f2]; exact h1
    · rcases Nat.eq_or_lt_of_le z with w | w
      · have w' : k = c0 + 1 := w.symm
        subst w'
        rw [f2, f3 (c0 + 1) (by omega) (by omega)]; exact h2
      · obtain ⟨i, rfl⟩ : ∃ i, k = i + 1 := ⟨k - 1, by omega⟩
        rw [f3 i (by omega) (by omega), f3 (i + 1) (by omega) (by omega)]
        exact B.2.2.2.2 i (by omega)
theorem gi_cut_In {C c0 a x c : Nat} {cf cf' : Nat → Nat} (hc : c0 < C) (h1 : cf c0 < a) (h2 : a < cf (c0 + 1))
    (e : ∀ j, j ≤ C + 1 → cf' j = if j ≤ c0 then cf j else if j = c0 + 1 then a else cf (j - 1)) (h : gi_In (C + 1) cf' x c) : gi_In C cf x (gi_od c0 c) := by
  have f1 : ∀ j, j ≤ c0 → cf' j = cf j := fun j h => by rw [e j (by omega), if_pos h]
  have f2 : cf' (c0 + 1) = a := by rw [e _ (by omega), if_neg (by omega), if_pos rfl]
  have f3 : ∀ j, c0 + 1 ≤ j → j ≤ C → cf' (j + 1) = cf j := fun j h h' => by
    rw [e _ (by omega), if_neg (by omega), if_neg (by omega), Nat.add_sub_cancel]
  obtain ⟨a1, a2, a3⟩ := h
  unfold gi_od
  rcases Nat.lt_trichotomy c c0 with z | z | z
  · rw [if_pos (by omega)]
    rw [f1 c (by omega)] at a2
    rw [f1 (c + 1) (by omega)] at a3
    exact ⟨by omega, a2, a3⟩
  · subst z
    rw [if_pos (by omega)]
    rw [f1 c (by omega)] at a2
    rw [f2] at a3
    exact ⟨by omega, a2, by omega⟩
  · rw [if_neg (by omega)]
    rcases Nat.eq_or_lt_of_le z with w | w
    · have w' : c = c0 + 1 := w.symm
      subst w'
      rw [f2] at a2
      rw [f3 (c0 + 1) (by omega) (by omega)] at a3
      rw [Nat.add_sub_cancel]
      exact ⟨by omega, by omega, a3⟩
    · obtain ⟨i, rfl⟩ : ∃ i, c = i + 1 := ⟨c - 1, by omega⟩
      rw [f3 i (by omega) (by omega)] at a2
      rw [f3 (i + 1) (by omega) (by omega)] at a3
      rw [Nat.add_sub_cancel]
      exact ⟨by omega, a2, a3⟩
theorem gi_cut_loc {C c0 a x : Nat} {cf cf' : Nat → Nat} (B : gi_Bd C cf) (hC : C < 16) (hc : c0 < C) (h1 : cf c0 < a) (h2 : a < cf (c0 + 1))
    (e : ∀ j, j ≤ C + 1 → cf' j = if j ≤ c0 then cf j else if j = c0 + 1 then a else cf (j - 1)) (hx : x < 64) : gi_od c0 (gi_loc cf' x (C + 1)) = gi_loc cf x C :=
  gi_In_uq B (gi_cut_In hc h1 h2 e (gi_loc_in (gi_cut_Bd B hC hc h1 h2 e) hx)) (gi_loc_in B hx)
/-! the buckets tile the cells -/
def gi_Tl (C R : Nat) (bo iu fc lc fr lr : Nat → Nat) : Prop :=
  (∀ c r, c < C → r < R → bo (16 * c + r) < 64 ∧ iu (bo (16 * c + r)) = 1 ∧ fc (bo (16 * c + r)) ≤ c ∧ c ≤ lc (bo (16 * c + r)) ∧ fr (bo (16 * c + r)) ≤ r ∧ r ≤ lr (bo (16 * c + r))) ∧
  (∀ b, b < 64 → iu b = 1 → fc b ≤ lc b ∧ fr b ≤ lr b ∧ ∀ c r, fc b ≤ c → c ≤ lc b → fr b ≤ r → r ≤ lr b → bo (16 * c + r) = b) ∧
  (∀ b, b < 64 → iu b ≤ 1 ∧ fc b < C ∧ lc b < C ∧ fr b < R ∧ lr b < R)
def gi_bf (c0 v : Nat) : Nat := if v ≤ c0 then v else v + 1
def gi_bl (c0 v : Nat) : Nat := if v < c0 then v else v + 1
theorem gi_bf_i (c0 v : Nat) : (v ≤ c0 ∧ gi_bf c0 v = v) ∨ (c0 < v ∧ gi_bf c0 v = v + 1) := by
  unfold gi_bf
  rcases Nat.lt_or_ge c0 v with z | z
  · exact Or.inr ⟨z, if_neg (by omega)⟩
  · exact Or.inl ⟨z, if_pos z⟩
theorem gi_bl_i (c0 v : Nat) : (v < c0 ∧ gi_bl c0 v = v) ∨ (c0 ≤ v ∧ gi_bl c0 v = v + 1) := by
  unfold gi_bl
  rcases Nat.lt_or_ge v c0 with z | z
  · exact Or.inl ⟨z, if_pos z⟩
  · exact Or.inr ⟨z, if_neg (by omega)⟩
theorem gi_od_i (c0 c : Nat) : (c ≤ c0 ∧ gi_od c0 c = c) ∨ (c0 < c ∧ gi_od c0 c = c - 1) := by
  unfold gi_od
  rcases Nat.lt_or_ge c0 c with z | z
  · exact Or.inr ⟨z, if_neg (by omega)⟩
  · exact Or.inl ⟨z, if_pos z⟩
theorem gi_cutC_Tl {C R c0 : Nat} {bo bo' iu fc fc' lc lc' fr lr : Nat → Nat} (T : gi_Tl C R bo iu fc lc fr lr) (hc : c0 < C)
    (eb : ∀ c r, c < C + 1 → r < R → bo' (16 * c + r) = bo (16 * gi_od c0 c + r)) (ef : ∀ b, b < 64 → fc' b = gi_bf c0 (fc b)) (el : ∀ b, b < 64 → lc' b = gi_bl c0 (lc b)) :
    gi_Tl (C + 1) R bo' iu fc' lc' fr lr := by
  obtain ⟨t1, t2, t3⟩ := T
  refine ⟨fun c r h1 h2 => ?_, fun b h1 h2 => ?_, fun b h1 => ?_⟩
  · have o := gi_od_i c0 c
    obtain ⟨p1, p2, p3, p4, p5, p6⟩ := t1 (gi_od c0 c) r (by omega) h2
    rw [eb c r h1 h2]
    refine ⟨p1, p2, ?_, ?_, p5, p6⟩
    · rw [ef _ p1]
      have := gi_bf_i c0 (fc (bo (16 * gi_od c0 c + r)))
      omega
    · rw [el _ p1]
      have := gi_bl_i c0 (lc (bo (16 * gi_od c0 c + r)))
      omega
  · obtain ⟨p1, p2, p3⟩ := t2 b h1 h2
    obtain ⟨q1, q2, q3, q4, q5⟩ := t3 b h1
    rw [ef b h1, el b h1]
    have a := gi_bf_i c0 (fc b)
    have d := gi_bl_i c0 (lc b)
    refine ⟨by omega, p2, fun c r g1 g2 g3 g4 => ?_⟩
    have o := gi_od_i c0 c
    rw [eb c r (by omega) (by omega)]
    exact p3 _ r (by omega) (by omega) g3 g4
  · obtain ⟨q1, q2, q3, q4, q5⟩ := t3 b h1
    rw [ef b h1, el b h1]
    have a := gi_bf_i c0 (fc b)
    have d := gi_bl_i c0 (lc b)
    exact ⟨q1, by omega, by omega, q4, q5⟩
theorem gi_cutR_Tl {C R c0 : Nat} {bo bo' iu fc lc fr fr' lr lr' : Nat → Nat} (T : gi_Tl C R bo iu fc lc fr lr) (hc : c0 < R)
    (eb : ∀ c r, c < C → r < R + 1 → bo' (16 * c + r) = bo (16 * c + gi_od c0 r)) (ef : ∀ b, b < 64 → fr' b = gi_bf c0 (fr b)) (el : ∀ b, b < 64 → lr' b = gi_bl c0 (lr b)) :
    gi_Tl C (R + 1) bo' iu fc lc fr' lr' := by
  obtain ⟨t1, t2, t3⟩ := T
  refine ⟨fun c r h1 h2 => ?_, fun b h1 h2 => ?_, fun b h1 => ?_⟩
  · have o := gi_od_i c0 r
    obtain ⟨p1, p2, p3, p4, p5, p6⟩ := t1 c (gi_od c0 r) h1 (by omega)
    rw [eb c r h1 h2]
    refine ⟨p1, p2, p3, p4, ?_, ?_⟩
    · rw [ef _ p1]
      have := gi_bf_i c0 (fr (bo (16 * c + gi_od c0 r)))
      omega
    · rw [el _ p1]
      have := gi_bl_i c0 (lr (bo (16 * c + gi_od c0 r)))
      omega
  · obtain ⟨p1, p2, p3⟩ := t2 b h1 h2
    obtain ⟨q1, q2, q3, q4, q5⟩ := t3 b h1
    rw [ef b h1, el b h1]
    have a := gi_bf_i c0 (fr b)
    have d := gi_bl_i c0 (lr b)
    refine ⟨p1, by omega, fun c r g1 g2 g3 g4 => ?_⟩
    have o := gi_od_i c0 r
    rw [eb c r (by omega) (by omega)]
    exact p3 c _ g1 g2 (by omega) (by omega)
  · obtain ⟨q1, q2, q3, q4, q5⟩ := t3 b h1
    rw [ef b h1, el b h1]
    have a := gi_bf_i c0 (fr b)
    have d := gi_bl_i c0 (lr b)
    exact ⟨q1, q2, q3, by omega, by omega⟩
end
section
def gi_Cl (C R : Nat) (bo bo' fc lc fr lr : Nat → Nat) (b : Nat) : Prop :=
  ∀ c r, c < C → r < R → ((fc b ≤ c ∧ c ≤ lc b ∧ fr b ≤ r ∧ r ≤ lr b) → bo' (16 * c + r) = b) ∧ (¬ (fc b ≤ c ∧ c ≤ lc b ∧ fr b ≤ r ∧ r ≤ lr b) → bo' (16 * c + r) = bo (16 * c + r))
def gi_Sp (fc lc fr lr fc' lc' fr' lr' : Nat → Nat) (b o : Nat) : Prop :=
  ∃ m, (fc b ≤ m ∧ m < lc b ∧ fc' b = fc b ∧ lc' b = m ∧ fc' o = m + 1 ∧ lc' o = lc b ∧ fr' b = fr b ∧ lr' b = lr b ∧ fr' o = fr b ∧ lr' o = lr b) ∨
    (fr b ≤ m ∧ m < lr b ∧ fr' b = fr b ∧ lr' b = m ∧ fr' o = m + 1 ∧ lr' o = lr b ∧ fc' b = fc b ∧ lc' b = lc b ∧ fc' o = fc b ∧ lc' o = lc b)
theorem gi_div_Tl {C R b o : Nat} {bo bo' iu iu' fc fc' lc lc' fr fr' lr lr' : Nat → Nat} (T : gi_Tl C R bo iu fc lc fr lr) (hb : b < 64) (ub : iu b = 1) (ho : o < 64) (uo : iu o = 0)
    (e1 : iu' o = 1) (e2 : ∀ d, d ≠ o → iu' d = iu d) (ed : ∀ d, d ≠ b → d ≠ o → fc' d = fc d ∧ lc' d = lc d ∧ fr' d = fr d ∧ lr' d = lr d)
    (sp : gi_Sp fc lc fr lr fc' lc' fr' lr' b o) (cl : gi_Cl C R bo bo' fc' lc' fr' lr' o) :
    gi_Tl C R bo' iu' fc' lc' fr' lr' ∧ ∀ c r, c < C → r < R → ((bo' (16 * c + r) = b ∨ bo' (16 * c + r) = o) ↔ bo (16 * c + r) = b) ∧ (bo (16 * c + r) ≠ b → bo' (16 * c + r) = bo (16 * c + r)) := by
  obtain ⟨t1, t2, t3⟩ := T
  have hbo : b ≠ o := fun e => by rw [e, uo] at ub; cases ub
  obtain ⟨m, sp⟩ := sp
  obtain ⟨b1, b2, b3⟩ := t2 b hb ub
  obtain ⟨-, b4, b5, b6, b7⟩ := t3 b hb
  -- the new bucket's cells are the old one's
  have sub : ∀ c r, (fc' o ≤ c ∧ c ≤ lc' o ∧ fr' o ≤ r ∧ r ≤ lr' o) → fc b ≤ c ∧ c ≤ lc b ∧ fr b ≤ r ∧ r ≤ lr b := fun c r h => by omega
  have alt : ∀ c r, (fc b ≤ c ∧ c ≤ lc b ∧ fr b ≤ r ∧ r ≤ lr b) → ¬ (fc' o ≤ c ∧ c ≤ lc' o ∧ fr' o ≤ r ∧ r ≤ lr' o) → fc' b ≤ c ∧ c ≤ lc' b ∧ fr' b ≤ r ∧ r ≤ lr' b := fun c r h g => by omega
  have dis : ∀ c r, (fc' b ≤ c ∧ c ≤ lc' b ∧ fr' b ≤ r ∧ r ≤ lr' b) → (fc b ≤ c ∧ c ≤ lc b ∧ fr b ≤ r ∧ r ≤ lr b) ∧ ¬ (fc' o ≤ c ∧ c ≤ lc' o ∧ fr' o ≤ r ∧ r ≤ lr' o) := fun c r h => by omega
  have ob : fc' o ≤ lc' o ∧ fr' o ≤ lr' o ∧ fc' o < C ∧ lc' o < C ∧ fr' o < R ∧ lr' o < R := by omega
  have bb : fc' b ≤ lc' b ∧ fr' b ≤ lr' b ∧ fc' b < C ∧ lc' b < C ∧ fr' b < R ∧ lr' b < R := by omega
  clear sp
  refine ⟨⟨fun c r h1 h2 => ?_, fun d h1 h2 => ?_, fun d h1 => ?_⟩, fun c r h1 h2 => ?_⟩
  · obtain ⟨p1, p2, p3, p4, p5, p6⟩ := t1 c r h1 h2
    by_cases z : fc' o ≤ c ∧ c ≤ lc' o ∧ fr' o ≤ r ∧ r ≤ lr' o
    · rw [(cl c r h1 h2).1 z]
      exact ⟨ho, e1, z.1, z.2.1, z.2.2.1, z.2.2.2⟩
    · rw [(cl c r h1 h2).2 z]
      have n1 : bo (16 * c + r) ≠ o := fun e => by rw [e, uo] at p2; cases p2
      refine ⟨p1, (e2 _ n1).trans p2, ?_⟩
      by_cases w : bo (16 * c + r) = b
      · rw [w] at p3 p4 p5 p6 ⊢
        exact alt c r ⟨p3, p4, p5, p6⟩ z
      · obtain ⟨q1, q2, q3, q4⟩ := ed _ w n1
        rw [q1, q2, q3, q4]
        exact ⟨p3, p4, p5, p6⟩
  · by_cases w : d = o
    · subst w
      exact ⟨ob.1, ob.2.1, fun c r g1 g2 g3 g4 => (cl c r (by omega) (by omega)).1 ⟨g1, g2, g3, g4⟩⟩
    · by_cases v : d = b
      · subst v
        refine ⟨bb.1, bb.2.1, fun c r g1 g2 g3 g4 => ?_⟩
        obtain ⟨i, n⟩ := dis c r ⟨g1, g2, g3, g4⟩
        rw [(cl c r (by omega) (by omega)).2 n]
        exact b3 c r i.1 i.2.1 i.2.2.1 i.2.2.2
      · rw [e2 d w] at h2
        obtain ⟨q1, q2, q3, q4⟩ := ed d v w
        obtain ⟨p1, p2, p3⟩ := t2 d h1 h2
        obtain ⟨-, a1, a2, a3, a4⟩ := t3 d h1
        rw [q1, q2, q3, q4]
        refine ⟨p1, p2, fun c r g1 g2 g3 g4 => ?_⟩
        have k := p3 c r g1 g2 g3 g4
        have n : ¬ (fc' o ≤ c ∧ c ≤ lc' o ∧ fr' o ≤ r ∧ r ≤ lr' o) := fun i => by
          obtain ⟨i1, i2, i3, i4⟩ := sub c r i
          have := b3 c r i1 i2 i3 i4
          exact v (k.symm.trans this)
        rw [(cl c r (by omega) (by omega)).2 n]
        exact k
  · by_cases w : d = o
    · subst w
      rw [e1]
      exact ⟨Nat.le_refl _, ob.2.2⟩
    · rw [e2 d w]
      by_cases v : d = b
      · subst v
        exact ⟨(t3 d h1).1, bb.2.2⟩
      · obtain ⟨q1, q2, q3, q4⟩ := ed d v w
        rw [q1, q2, q3, q4]
        exact t3 d h1
  · obtain ⟨p1, p2, p3, p4, p5, p6⟩ := t1 c r h1 h2
    have n1 : bo (16 * c + r) ≠ o := fun e => by rw [e, uo] at p2; cases p2
    by_cases z : fc' o ≤ c ∧ c ≤ lc' o ∧ fr' o ≤ r ∧ r ≤ lr' o
    · obtain ⟨i1, i2, i3, i4⟩ := sub c r z
      have k := b3 c r i1 i2 i3 i4
      rw [(cl c r h1 h2).1 z]
      exact ⟨⟨fun _ => k, fun _ => Or.inr rfl⟩, fun n => absurd k n⟩
    · rw [(cl c r h1 h2).2 z]
      exact ⟨⟨fun q => q.elim id (fun q => absurd q n1), Or.inl⟩, fun _ => rfl⟩
def gi_Ft (fc lc fr lr : Nat → Nat) (b o : Nat) : Prop :=
  (fr b = fr o ∧ lr b = lr o ∧ (lc b + 1 = fc o ∨ lc o + 1 = fc b)) ∨ (fc b = fc o ∧ lc b = lc o ∧ (lr b + 1 = fr o ∨ lr o + 1 = fr b))
theorem gi_tak_Tl {C R b o : Nat} {bo bo' iu iu' fc fc' lc lc' fr fr' lr lr' : Nat → Nat} (T : gi_Tl C R bo iu fc lc fr lr) (hb : b < 64) (ub : iu b = 1) (ho : o < 64) (uo : iu o = 1) (hn : o ≠ b)
    (F : gi_Ft fc lc fr lr b o) (e1 : iu' o = 0) (e2 : ∀ d, d ≠ o → iu' d = iu d) (ed : ∀ d, d ≠ b → fc' d = fc d ∧ lc' d = lc d ∧ fr' d = fr d ∧ lr' d = lr d)
    (m1 : (fc b ≤ fc o ∧ fc' b = fc b) ∨ (fc o < fc b ∧ fc' b = fc o)) (m2 : (lc o ≤ lc b ∧ lc' b = lc b) ∨ (lc b < lc o ∧ lc' b = lc o))
    (m3 : (fr b ≤ fr o ∧ fr' b = fr b) ∨ (fr o < fr b ∧ fr' b = fr o)) (m4 : (lr o ≤ lr b ∧ lr' b = lr b) ∨ (lr b < lr o ∧ lr' b = lr o))
    (cl : gi_Cl C R bo bo' fc' lc' fr' lr' b) :
    gi_Tl C R bo' iu' fc' lc' fr' lr' ∧ ∀ c r, c < C → r < R → (bo' (16 * c + r) = b ↔ (bo (16 * c + r) = b ∨ bo (16 * c + r) = o)) ∧ (bo (16 * c + r) ≠ b → bo (16 * c + r) ≠ o → bo' (16 * c + r) = bo (16 * c + r)) := by
  obtain ⟨t1, t2, t3⟩ := T
  obtain ⟨b1, b2, b3⟩ := t2 b hb ub
  obtain ⟨b0, b4, b5, b6, b7⟩ := t3 b hb
  obtain ⟨o1, o2, o3⟩ := t2 o ho uo
  obtain ⟨-, o4, o5, o6, o7⟩ := t3 o ho
  unfold gi_Ft at F
  have sub : ∀ c r, (fc' b ≤ c ∧ c ≤ lc' b ∧ fr' b ≤ r ∧ r ≤ lr' b) → (fc b ≤ c ∧ c ≤ lc b ∧ fr b ≤ r ∧ r ≤ lr b) ∨ (fc o ≤ c ∧ c ≤ lc o ∧ fr o ≤ r ∧ r ≤ lr o) := fun c r h => by omega
  have sb : ∀ c r, (fc b ≤ c ∧ c ≤ lc b ∧ fr b ≤ r ∧ r ≤ lr b) → fc' b ≤ c ∧ c ≤ lc' b ∧ fr' b ≤ r ∧ r ≤ lr' b := fun c r h => by omega
  have so : ∀ c r, (fc o ≤ c ∧ c ≤ lc o ∧ fr o ≤ r ∧ r ≤ lr o) → fc' b ≤ c ∧ c ≤ lc' b ∧ fr' b ≤ r ∧ r ≤ lr' b := fun c r h => by omega
  have bb : fc' b ≤ lc' b ∧ fr' b ≤ lr' b ∧ fc' b < C ∧ lc' b < C ∧ fr' b < R ∧ lr' b < R := by omega
  clear F m1 m2 m3 m4
  have own : ∀ c r, (fc' b ≤ c ∧ c ≤ lc' b ∧ fr' b ≤ r ∧ r ≤ lr' b) → bo (16 * c + r) = b ∨ bo (16 * c + r) = o := fun c r h => by
    rcases sub c r h with i | i
    · exact Or.inl (b3 c r i.1 i.2.1 i.2.2.1 i.2.2.2)
    · exact Or.inr (o3 c r i.1 i.2.1 i.2.2.1 i.2.2.2)
  have nb : ∀ c r, c < C → r < R → ¬ (fc' b ≤ c ∧ c ≤ lc' b ∧ fr' b ≤ r ∧ r ≤ lr' b) → bo (16 * c + r) ≠ b ∧ bo (16 * c + r) ≠ o := fun c r h1 h2 n => by
    obtain ⟨p1, p2, p3, p4, p5, p6⟩ := t1 c r h1 h2
    constructor
    · intro e
      rw [e] at p3 p4 p5 p6
      exact n (sb c r ⟨p3, p4, p5, p6⟩)
    · intro e
      rw [e] at p3 p4 p5 p6
      exact n (so c r ⟨p3, p4, p5, p6⟩)
  refine ⟨⟨fun c r h1 h2 => ?_, fun d h1 h2 => ?_, fun d h1 => ?_⟩, fun c r h1 h2 => ?_⟩
  · obtain ⟨p1, p2, p3, p4, p5, p6⟩ := t1 c r h1 h2
    by_cases z : fc' b ≤ c ∧ c ≤ lc' b ∧ fr' b ≤ r ∧ r ≤ lr' b
    · rw [(cl c r h1 h2).1 z]
      exact ⟨hb, (e2 b (Ne.symm hn)).trans ub, z.1, z.2.1, z.2.2.1, z.2.2.2⟩
    · obtain ⟨n1, n2⟩ := nb c r h1 h2 z
      obtain ⟨q1, q2, q3, q4⟩ := ed _ n1
      rw [(cl c r h1 h2).2 z, e2 _ n2, q1, q2, q3, q4]
      exact ⟨p1, p2, p3, p4, p5, p6⟩
  · have w : d ≠ o := fun e => by rw [e, e1] at h2; cases h2
    rw [e2 d w] at h2
    by_cases v : d = b
    · subst v
      exact ⟨bb.1, bb.2.1, fun c r g1 g2 g3 g4 => (cl c r (by omega) (by omega)).1 ⟨g1, g2, g3, g4⟩⟩
    · obtain ⟨q1, q2, q3, q4⟩ := ed d v
      obtain ⟨p1, p2, p3⟩ := t2 d h1 h2
      obtain ⟨-, a1, a2, a3, a4⟩ := t3 d h1
      rw [q1, q2, q3, q4]
      refine ⟨p1, p2, fun c r g1 g2 g3 g4 => ?_⟩
      have k := p3 c r g1 g2 g3 g4
      have n : ¬ (fc' b ≤ c ∧ c ≤ lc' b ∧ fr' b ≤ r ∧ r ≤ lr' b) := fun i => by
        rcases own c r i with y | y
        · exact v (k.symm.trans y)
        · exact w (k.symm.trans y)
      rw [(cl c r (by omega) (by omega)).2 n]
      exact k
  · by_cases v : d = b
    · subst v
      rw [e2 d (Ne.symm hn)]
      exact ⟨b0, bb.2.2⟩
    · obtain ⟨q1, q2, q3, q4⟩ := ed d v
      obtain ⟨a0, a1, a2, a3, a4⟩ := t3 d h1
      rw [q1, q2, q3, q4]
      refine ⟨?_, a1, a2, a3, a4⟩
      by_cases w : d = o
      · rw [w, e1]; exact Nat.zero_le _
      · rw [e2 d w]; exact a0
  · by_cases z : fc' b ≤ c ∧ c ≤ lc' b ∧ fr' b ≤ r ∧ r ≤ lr' b
    · rw [(cl c r h1 h2).1 z]
      have k := own c r z
      exact ⟨⟨fun _ => k, fun _ => rfl⟩, fun n1 n2 => k.elim (fun e => absurd e n1) (fun e => absurd e n2)⟩
    · obtain ⟨n1, n2⟩ := nb c r h1 h2 z
      rw [(cl c r h1 h2).2 z]
      exact ⟨⟨Or.inl, fun q => q.elim id (fun e => absurd e n2)⟩, fun _ _ => rfl⟩
/-! counting the buckets in use -/
def gi_ct (f : Nat → Nat) : Nat → Nat
  | 0 => 0
  | n + 1 => gi_ct f n + f n
theorem gi_ct_c {f g : Nat → Nat} : ∀ {n : Nat}, (∀ k, k < n → f k = g k) → gi_ct f n = gi_ct g n := by
  intro n
  induction n with
  | zero => intro _; rfl
  | succ n ih =>
    intro h
    show gi_ct f n + f n = gi_ct g n + g n
    rw [ih (fun k hk => h k (by omega)), h n (by omega)]
theorem gi_ct_up {f : Nat → Nat} {k x : Nat} : ∀ {n : Nat}, k < n → gi_ct (gi_up f k x) n + f k = gi_ct f n + x := by
  intro n
  induction n with
  | zero => intro h; omega
  | succ n ih =>
    intro h
    show gi_ct (gi_up f k x) n + gi_up f k x n + f k = gi_ct f n + f n + x
    by_cases e : k = n
    · subst e
      rw [gi_us, gi_ct_c (f := gi_up f k x) (g := f) (n := k) (fun j hj => gi_un (by omega))]
      omega
    · rw [gi_un (f := f) (k := k) (x := x) (j := n) (by omega)]
      have := ih (by omega)
      omega
theorem gi_ct_le {f : Nat → Nat} : ∀ {n : Nat}, (∀ k, k < n → f k ≤ 1) → gi_ct f n ≤ n := by
  intro n
  induction n with
  | zero => intro _; exact Nat.le_refl _
  | succ n ih =>
    intro h
    show gi_ct f n + f n ≤ n + 1
    have a := ih (fun k hk => h k (by omega))
    have b := h n (by omega)
    omega
theorem gi_ct_ex {f : Nat → Nat} : ∀ {n : Nat}, (∀ k, k < n → f k ≤ 1) → gi_ct f n < n → ∃ k, k < n ∧ f k = 0 := by
  intro n
  induction n with
  | zero => intro _ h; omega
  | succ n ih =>
    intro h g
    have g' : gi_ct f n + f n < n + 1 := g
    rcases Nat.eq_zero_or_pos (f n) with z | z
    · exact ⟨n, by omega, z⟩
    · obtain ⟨k, hk, e⟩ := ih (fun k hk => h k (by omega)) (by omega)
      exact ⟨k, by omega, e⟩
end
section
/-- the marks of a list hang together by nx, the first at h (m + 1 for mark m, 0 for the end) -/
def gi_Ch (nx : Nat → Nat) : List Nat → Nat → Prop
  | [], h => h = 0
  | m :: L, h => h = m + 1 ∧ gi_Ch nx L (nx m)
theorem gi_Ch_c {nx nx' : Nat → Nat} : ∀ {L : List Nat} {h : Nat}, (∀ j, j ∈ L → nx' j = nx j) → gi_Ch nx L h → gi_Ch nx' L h := by
  intro L
  induction L with
  | nil => intro h _ c; exact c
  | cons m L ih =>
    intro h e c
    obtain ⟨c1, c2⟩ := c
    refine ⟨c1, ?_⟩
    rw [e m List.mem_cons_self]
    exact ih (fun j hj => e j (List.mem_cons_of_mem _ hj)) c2
theorem gi_Ch_up {nx : Nat → Nat} {a v : Nat} {L : List Nat} {h : Nat} (n : a ∉ L) (c : gi_Ch nx L h) : gi_Ch (gi_up nx a v) L h :=
  gi_Ch_c (fun j hj => gi_un (fun e => n (by rw [← e]; exact hj))) c
theorem gi_Ch_cut {nx : Nat → Nat} {a m : Nat} {L2 : List Nat} : ∀ {L1 : List Nat} {h : Nat}, (L1 ++ a :: m :: L2).Nodup → gi_Ch nx (L1 ++ a :: m :: L2) h → gi_Ch (gi_up nx a (nx m)) (L1 ++ a :: L2) h := by
  intro L1
  induction L1 with
  | nil =>
    intro h n c
    obtain ⟨c1, c2, c3⟩ := c
    have n1 : a ∉ m :: L2 := (List.nodup_cons.mp n).1
    refine ⟨c1, ?_⟩
    rw [gi_us]
    exact gi_Ch_up (fun q => n1 (List.mem_cons_of_mem _ q)) c3
  | cons x L1 ih =>
    intro h n c
    obtain ⟨c1, c2⟩ := c
    obtain ⟨n1, n2⟩ := List.nodup_cons.mp n
    have nx1 : x ≠ a := fun e => n1 (by rw [e]; exact List.mem_append.mpr (Or.inr List.mem_cons_self))
    refine ⟨c1, ?_⟩
    rw [gi_un nx1]
    exact ih n2 c2
theorem gi_len40 {L : List Nat} (n : L.Nodup) (h : ∀ m, m ∈ L → m < 40) : L.length ≤ 40 := by
  have := List.Nodup.length_le_of_subset n (fun m hm => List.mem_range.mpr (h m hm) : L ⊆ List.range 40)
  rw [List.length_range] at this
  exact this
def gi_Bk (iu hd sz nx : Nat → Nat) (H : Nat → Bool) (ow : Nat → Nat) : Prop :=
  ∀ b, b < 64 → iu b = 1 → ∃ L : List Nat, gi_Ch nx L (hd b) ∧ L.Nodup ∧ (∀ m, m ∈ L ↔ (m < 40 ∧ H m = true ∧ ow m = b)) ∧ sz b = L.length
def gi_Fr (kh fh : Nat) (nx : Nat → Nat) (H : Nat → Bool) : Prop :=
  ∃ F : List Nat, gi_Ch nx F fh ∧ F.Nodup ∧ (∀ m, m ∈ F ↔ (m < 40 ∧ H m = false)) ∧ F.length + kh = 40
theorem gi_Bk_push {iu hd sz nx ow : Nat → Nat} {H : Nat → Bool} {b m : Nat} (K : gi_Bk iu hd sz nx H ow) (hm : m < 40) (hH : H m = false) (ho : ow m = b) :
    gi_Bk iu (gi_up hd b (m + 1)) (gi_up sz b (sz b + 1)) (gi_up nx m (hd b)) (gi_hs H m true) ow := by
  intro d h1 ud
  obtain ⟨L, c, n, e, s⟩ := K d h1 ud
  have nm : m ∉ L := fun q => by have := ((e m).mp q).2.1; rw [hH] at this; cases this
  by_cases w : d = b
  · subst w
    refine ⟨m :: L, ⟨gi_us, ?_⟩, List.nodup_cons.mpr ⟨nm, n⟩, fun j => ?_, ?_⟩
    · rw [gi_us]; exact gi_Ch_up nm c
    · by_cases v : j = m
      · subst v
        exact ⟨fun _ => ⟨hm, gi_hss, ho⟩, fun _ => List.mem_cons_self⟩
      · rw [List.mem_cons, gi_hsn v, e j]
        exact ⟨fun q => q.elim (fun z => absurd z v) id, Or.inr⟩
    · rw [gi_us, s]; rfl
  · refine ⟨L, ?_, n, fun j => ?_, ?_⟩
    · rw [gi_un w]; exact gi_Ch_up nm c
    · by_cases v : j = m
      · subst v
        exact ⟨fun q => absurd q nm, fun q => absurd (q.2.2.symm.trans ho) w⟩
      · rw [gi_hsn v]; exact e j
    · rw [gi_un w]; exact s
theorem gi_Bk_c {iu hd sz nx ow ow' : Nat → Nat} {H : Nat → Bool} (K : gi_Bk iu hd sz nx H ow) (h : ∀ m, m < 40 → H m = true → ow' m = ow m) : gi_Bk iu hd sz nx H ow' := by
  intro d h1 ud
  obtain ⟨L, c, n, e, s⟩ := K d h1 ud
  refine ⟨L, c, n, fun j => ?_, s⟩
  rw [e j]
  exact ⟨fun q => ⟨q.1, q.2.1, (h j q.1 q.2.1).trans q.2.2⟩, fun q => ⟨q.1, q.2.1, (h j q.1 q.2.1).symm.trans q.2.2⟩⟩
theorem gi_Bk_nx {iu hd sz nx ow : Nat → Nat} {H : Nat → Bool} {m v : Nat} (K : gi_Bk iu hd sz nx H ow) (hH : H m = false) : gi_Bk iu hd sz (gi_up nx m v) H ow := by
  intro d h1 ud
  obtain ⟨L, c, n, e, s⟩ := K d h1 ud
  have nm : m ∉ L := fun q => by have := ((e m).mp q).2.1; rw [hH] at this; cases this
  exact ⟨L, gi_Ch_up nm c, n, e, s⟩
theorem gi_Fr_nx {kh fh : Nat} {nx : Nat → Nat} {H : Nat → Bool} {m v : Nat} (K : gi_Fr kh fh nx H) (hH : H m = true) : gi_Fr kh fh (gi_up nx m v) H := by
  obtain ⟨F, c, n, e, s⟩ := K
  have nm : m ∉ F := fun q => by have := ((e m).mp q).2; rw [hH] at this; cases this
  exact ⟨F, gi_Ch_up nm c, n, e, s⟩
theorem gi_Fr_pop {kh fh : Nat} {nx : Nat → Nat} {H : Nat → Bool} (K : gi_Fr kh fh nx H) (h : kh < 40) : ∃ m, fh = m + 1 ∧ m < 40 ∧ H m = false ∧ gi_Fr (kh + 1) (nx m) nx (gi_hs H m true) := by
  obtain ⟨F, c, n, e, s⟩ := K
  cases F with
  | nil => simp at s; omega
  | cons m F =>
    obtain ⟨c1, c2⟩ := c
    obtain ⟨n1, n2⟩ := List.nodup_cons.mp n
    obtain ⟨p1, p2⟩ := (e m).mp List.mem_cons_self
    refine ⟨m, c1, p1, p2, F, c2, n2, fun j => ?_, ?_⟩
    · by_cases v : j = m
      · subst v
        rw [gi_hss]
        exact ⟨fun q => absurd q n1, fun q => nomatch q.2⟩
      · rw [gi_hsn v, ← e j, List.mem_cons]
        exact ⟨Or.inr, fun q => q.elim (fun z => absurd z v) id⟩
    · rw [List.length_cons] at s
      omega
theorem gi_Fr_push {kh fh : Nat} {nx nx' : Nat → Nat} {H : Nat → Bool} {m : Nat} (K : gi_Fr kh fh nx H) (hm : m < 40) (hH : H m = true) (e0 : ∀ j, j < 40 → H j = false → nx' j = nx j) :
    gi_Fr (kh - 1) (m + 1) (gi_up nx' m fh) (gi_hs H m false) := by
  obtain ⟨F, c, n, e, s⟩ := K
  have nm : m ∉ F := fun q => by have := ((e m).mp q).2; rw [hH] at this; cases this
  have lt : F.length + 1 ≤ 40 := by
    have := gi_len40 (L := m :: F) (List.nodup_cons.mpr ⟨nm, n⟩) (fun j hj => by
      rcases List.mem_cons.mp hj with z | z
      · omega
      · exact ((e j).mp z).1)
    rw [List.length_cons] at this
    exact this
  refine ⟨m :: F, ⟨rfl, ?_⟩, List.nodup_cons.mpr ⟨nm, n⟩, fun j => ?_, ?_⟩
  · rw [gi_us]
    exact gi_Ch_up nm (gi_Ch_c (fun j hj => e0 j ((e j).mp hj).1 ((e j).mp hj).2) c)
  · by_cases v : j = m
    · subst v
      rw [gi_hss]
      exact ⟨fun _ => ⟨hm, rfl⟩, fun _ => List.mem_cons_self⟩
    · rw [gi_hsn v, ← e j, List.mem_cons]
      exact ⟨fun q => q.elim (fun z => absurd z v) id, Or.inr⟩
  · rw [List.length_cons]
    omega
/-- one mark leaves bucket b -/
theorem gi_Bk_rem {iu hd hd' sz nx nx' ow : Nat → Nat} {H : Nat → Bool} {b m : Nat} {L L' : List Nat} (K : gi_Bk iu hd sz nx H ow) (ho : ow m = b)
    (e : ∀ j, j ∈ L ↔ (j < 40 ∧ H j = true ∧ ow j = b)) (c' : gi_Ch nx' L' (hd' b)) (n' : L'.Nodup) (e' : ∀ j, j ∈ L' ↔ (j ∈ L ∧ j ≠ m)) (s' : sz b - 1 = L'.length)
    (h1 : ∀ d, d ≠ b → hd' d = hd d) (h2 : ∀ j, j ∉ L → nx' j = nx j) : gi_Bk iu hd' (gi_up sz b (sz b - 1)) nx' (gi_hs H m false) ow := by
  intro d hlt ud
  by_cases w : d = b
  · subst w
    refine ⟨L', c', n', fun j => ?_, ?_⟩
    · rw [e', e]
      by_cases v : j = m
      · subst v
        rw [gi_hss]
        exact ⟨fun q => absurd rfl q.2, fun q => nomatch q.2.1⟩
      · rw [gi_hsn v]
        exact ⟨fun q => q.1, fun q => ⟨q, v⟩⟩
    · rw [gi_us]; exact s'
  · obtain ⟨M, c, n, g, s⟩ := K d hlt ud
    refine ⟨M, ?_, n, fun j => ?_, ?_⟩
    · rw [h1 d w]
      refine gi_Ch_c (fun j hj => h2 j (fun q => ?_)) c
      exact w (((g j).mp hj).2.2.symm.trans ((e j).mp q).2.2)
    · by_cases v : j = m
      · subst v
        rw [gi_hss]
        refine ⟨fun q => absurd (((g j).mp q).2.2.symm.trans ho) w, fun q => nomatch q.2.1⟩
      · rw [gi_hsn v]; exact g j
    · rw [gi_un w]; exact s
/-- all held marks but those of a list -/
def gi_mi (H : Nat → Bool) (L : List Nat) : Nat → Bool := fun j => H j && !decide (j ∈ L)
theorem gi_mi_t {H : Nat → Bool} {L : List Nat} {j : Nat} : gi_mi H L j = true ↔ (H j = true ∧ j ∉ L) := by
  unfold gi_mi
  rw [Bool.and_eq_true, Bool.not_eq_true', decide_eq_false_iff_not]
theorem gi_mi_0 (H : Nat → Bool) : gi_mi H [] = H := by
  funext j
  unfold gi_mi
  rw [decide_eq_false (List.not_mem_nil), Bool.not_false, Bool.and_true]
theorem gi_mi_s {H : Nat → Bool} {L : List Nat} {m : Nat} (hm : H m = true) (n : m ∉ L) : gi_hs (gi_mi H (m :: L)) m true = gi_mi H L := by
  funext j
  by_cases v : j = m
  · subst v
    rw [gi_hss]
    exact (gi_mi_t.mpr ⟨hm, n⟩).symm
  · rw [gi_hsn v]
    apply Bool.eq_iff_iff.mpr
    rw [gi_mi_t, gi_mi_t, List.mem_cons]
    exact ⟨fun q => ⟨q.1, fun z => q.2 (Or.inr z)⟩, fun q => ⟨q.1, fun z => z.elim v q.2⟩⟩
theorem gi_step {iu hd sz nx ow : Nat → Nat} {H : Nat → Bool} {kh fh b m : Nat} {L : List Nat} (K : gi_Bk iu hd sz nx (gi_mi H (m :: L)) ow) (Q : gi_Fr kh fh nx H) (c : gi_Ch nx L (nx m))
    (n : (m :: L).Nodup) (hm : m < 40) (hH : H m = true) (ho : ow m = b) :
    gi_Bk iu (gi_up hd b (m + 1)) (gi_up sz b (sz b + 1)) (gi_up nx m (hd b)) (gi_mi H L) ow ∧ gi_Fr kh fh (gi_up nx m (hd b)) H ∧ gi_Ch (gi_up nx m (hd b)) L (nx m) := by
  obtain ⟨n1, n2⟩ := List.nodup_cons.mp n
  refine ⟨?_, gi_Fr_nx Q hH, gi_Ch_up n1 c⟩
  rw [← gi_mi_s hH n1]
  refine gi_Bk_push K hm ?_ ho
  cases z : gi_mi H (m :: L) m with
  | false => rfl
  | true => exact absurd List.mem_cons_self (gi_mi_t.mp z).2
def gi_own (C R : Nat) (cf rf bo mx my : Nat → Nat) (m : Nat) : Nat := bo (16 * gi_loc cf (mx m) C + gi_loc rf (my m) R)
theorem gi_own_ok {C R m : Nat} {cf rf bo iu fc lc fr lr mx my : Nat → Nat} (B1 : gi_Bd C cf) (B2 : gi_Bd R rf) (T : gi_Tl C R bo iu fc lc fr lr) (hx : mx m < 64) (hy : my m < 64) :
    gi_own C R cf rf bo mx my m < 64 ∧ iu (gi_own C R cf rf bo mx my m) = 1 := by
  obtain ⟨p1, p2, -⟩ := T.1 _ _ (gi_loc_in B1 hx).1 (gi_loc_in B2 hy).1
  exact ⟨p1, p2⟩
/-- the invariant of the component -/
def gi_XI (kh fh kC kR kU : Nat) (mx my nx cf rf bo iu hd sz fc lc fr lr : Nat → Nat) (H : Nat → Bool) : Prop :=
  gi_Bd kC cf ∧ gi_Bd kR rf ∧ gi_Tl kC kR bo iu fc lc fr lr ∧ gi_ct iu 64 = kU ∧ gi_Fr kh fh nx H ∧ gi_Bk iu hd sz nx H (gi_own kC kR cf rf bo mx my) ∧
  (∀ m, H m = true → m < 40 ∧ mx m < 64 ∧ my m < 64) ∧ (∀ m m', H m = true → H m' = true → mx m = mx m' → my m = my m' → m = m')
/-- u is a state of the component that holds the marks H at mx, my with the values mv -/
def gi_St (H : Nat → Bool) (mx my : Nat → Nat) (mv : Nat → Int32) (kh : Nat) (u : SX) : Prop :=
  ∀ P : SX → Prop, (∀ (fh kC kR kU : Nat) (wa wb wc wd we wf wg : Int32) (nx cf rf bo iu hd sz fc lc fr lr : Nat → Nat), gi_XI kh fh kC kR kU mx my nx cf rf bo iu hd sz fc lc fr lr H → P (nI kh, gi_pI fh, nI kC, nI kR, nI kU, wa, wb, wc, wd, we, wf, wg, gi_ar mx, gi_ar my, mv, gi_pr nx, gi_ar cf, gi_ar rf, gi_ar bo, gi_ar iu, gi_pr hd, gi_ar sz, gi_ar fc, gi_ar lc, gi_ar fr, gi_ar lr)) → P u
section
variable {kh fh kC kR kU : Nat} {wa wb wc wd we wf wg : Int32} {mx my : Nat → Nat} {mv : Nat → Int32} {nx cf rf bo iu hd sz fc lc fr lr : Nat → Nat}
theorem gi_St_i {H : Nat → Bool} (I : gi_XI kh fh kC kR kU mx my nx cf rf bo iu hd sz fc lc fr lr H) : gi_St H mx my mv kh (nI kh, gi_pI fh, nI kC, nI kR, nI kU, wa, wb, wc, wd, we, wf, wg, gi_ar mx, gi_ar my, mv, gi_pr nx, gi_ar cf, gi_ar rf, gi_ar bo, gi_ar iu, gi_pr hd, gi_ar sz, gi_ar fc, gi_ar lc, gi_ar fr, gi_ar lr) :=
  fun P k => k fh kC kR kU wa wb wc wd we wf wg nx cf rf bo iu hd sz fc lc fr lr I
end
theorem gi_divow {b o : Nat} {a a' : Nat} (h : ((a' = b ∨ a' = o) ↔ a = b) ∧ (a ≠ b → a' = a)) (x : Nat) (h1 : x ≠ b) (h2 : x ≠ o) : a' = x ↔ a = x := by
  constructor
  · intro e
    by_cases z : a = b
    · rcases h.1.mpr z with y | y
      · exact absurd (e.symm.trans y) h1
      · exact absurd (e.symm.trans y) h2
    · exact (h.2 z).symm.trans e
  · intro e
    have z : a ≠ b := fun q => h1 (e.symm.trans q)
    exact (h.2 z).trans e
/-- the marks of bucket b are taken off, to be laid into b and o -/
theorem gi_div_Bk {C R b o : Nat} {nx cf rf bo bo' iu iu' hd sz hd' sz' mx my : Nat → Nat} {H : Nat → Bool} {L : List Nat}
    (K : gi_Bk iu hd sz nx H (gi_own C R cf rf bo mx my)) (hin : ∀ m, H m = true → m < 40 ∧ mx m < 64 ∧ my m < 64) (B1 : gi_Bd C cf) (B2 : gi_Bd R rf)
    (e : ∀ m, m ∈ L ↔ (m < 40 ∧ H m = true ∧ gi_own C R cf rf bo mx my m = b))
    (w : ∀ c r, c < C → r < R → ((bo' (16 * c + r) = b ∨ bo' (16 * c + r) = o) ↔ bo (16 * c + r) = b) ∧ (bo (16 * c + r) ≠ b → bo' (16 * c + r) = bo (16 * c + r)))
    (e2 : ∀ d, d ≠ o → iu' d = iu d) (hb0 : hd' b = 0) (hb1 : sz' b = 0) (ho0 : hd' o = 0) (ho1 : sz' o = 0) (ha : ∀ d, d ≠ b → d ≠ o → hd' d = hd d ∧ sz' d = sz d) :
    gi_Bk iu' hd' sz' nx (gi_mi H L) (gi_own C R cf rf bo' mx my) := by
  have ww : ∀ m, H m = true → ((gi_own C R cf rf bo' mx my m = b ∨ gi_own C R cf rf bo' mx my m = o) ↔ gi_own C R cf rf bo mx my m = b) ∧ (gi_own C R cf rf bo mx my m ≠ b → gi_own C R cf rf bo' mx my m = gi_own C R cf rf bo mx my m) := fun m hm =>
    w _ _ (gi_loc_in B1 (hin m hm).2.1).1 (gi_loc_in B2 (hin m hm).2.2).1
  intro d h1 ud
  by_cases z : d = b ∨ d = o
  · refine ⟨[], ?_, List.nodup_nil, fun m => ?_, ?_⟩
    · rcases z with z | z
      · rw [z]; exact hb0
      · rw [z]; exact ho0
    · refine ⟨fun q => absurd q List.not_mem_nil, fun q => ?_⟩
      obtain ⟨q1, q2, q3⟩ := q
      obtain ⟨q4, q5⟩ := gi_mi_t.mp q2
      have : gi_own C R cf rf bo mx my m = b := (ww m q4).1.mp (by rw [q3]; exact z)
      exact absurd ((e m).mpr ⟨q1, q4, this⟩) q5
    · rcases z with z | z
      · rw [z]; exact hb1
      · rw [z]; exact ho1
  · have z1 : d ≠ b := fun q => z (Or.inl q)
    have z2 : d ≠ o := fun q => z (Or.inr q)
    rw [e2 d z2] at ud
    obtain ⟨M, c, n, g, s⟩ := K d h1 ud
    obtain ⟨y1, y2⟩ := ha d z1 z2
    refine ⟨M, by rw [y1]; exact c, n, fun m => ?_, by rw [y2]; exact s⟩
    rw [g m, gi_mi_t]
    constructor
    · intro q
      refine ⟨q.1, ⟨q.2.1, fun v => ?_⟩, (gi_divow (ww m q.2.1) d z1 z2).mpr q.2.2⟩
      exact z1 (q.2.2.symm.trans ((e m).mp v).2.2)
    · intro q
      exact ⟨q.1, q.2.1.1, (gi_divow (ww m q.2.1.1) d z1 z2).mp q.2.2⟩
/-- the marks of bucket o are taken off, to be laid into b -/
theorem gi_tak_Bk {C R b o : Nat} {nx cf rf bo bo' iu iu' hd sz mx my : Nat → Nat} {H : Nat → Bool} {L : List Nat}
    (K : gi_Bk iu hd sz nx H (gi_own C R cf rf bo mx my)) (hin : ∀ m, H m = true → m < 40 ∧ mx m < 64 ∧ my m < 64) (B1 : gi_Bd C cf) (B2 : gi_Bd R rf)
    (e : ∀ m, m ∈ L ↔ (m < 40 ∧ H m = true ∧ gi_own C R cf rf bo mx my m = o))
    (w : ∀ c r, c < C → r < R → (bo' (16 * c + r) = b ↔ (bo (16 * c + r) = b ∨ bo (16 * c + r) = o)) ∧ (bo (16 * c + r) ≠ b → bo (16 * c + r) ≠ o → bo' (16 * c + r) = bo (16 * c + r)))
    (hn : o ≠ b) (e1 : iu' o = 0) (e2 : ∀ d, d ≠ o → iu' d = iu d) :
    gi_Bk iu' hd sz nx (gi_mi H L) (gi_own C R cf rf bo' mx my) := by
  have ww : ∀ m, H m = true → (gi_own C R cf rf bo' mx my m = b ↔ (gi_own C R cf rf bo mx my m = b ∨ gi_own C R cf rf bo mx my m = o)) ∧ (gi_own C R cf rf bo mx my m ≠ b → gi_own C R cf rf bo mx my m ≠ o → gi_own C R cf rf bo' mx my m = gi_own C R cf rf bo mx my m) := fun m hm =>
    w _ _ (gi_loc_in B1 (hin m hm).2.1).1 (gi_loc_in B2 (hin m hm).2.2).1
  intro d h1 ud
  have z2 : d ≠ o := fun q => by rw [q, e1] at ud; cases ud
  rw [e2 d z2] at ud
  obtain ⟨M, c, n, g, s⟩ := K d h1 ud
  refine ⟨M, c, n, fun m => ?_, s⟩
  rw [g m, gi_mi_t]
  constructor
  · intro q
    refine ⟨q.1, ⟨q.2.1, fun v => ?_⟩, ?_⟩
    · exact z2 (q.2.2.symm.trans ((e m).mp v).2.2)
    · by_cases z : d = b
      · rw [z]
        exact (ww m q.2.1).1.mpr (Or.inl (q.2.2.trans z))
      · rw [(ww m q.2.1).2 (fun y => z (q.2.2.symm.trans y)) (fun y => z2 (q.2.2.symm.trans y))]
        exact q.2.2
  · intro q
    refine ⟨q.1, q.2.1.1, ?_⟩
    have no : gi_own C R cf rf bo mx my m ≠ o := fun y => q.2.1.2 ((e m).mpr ⟨q.1, q.2.1.1, y⟩)
    by_cases z : gi_own C R cf rf bo mx my m = b
    · have := (ww m q.2.1.1).1.mpr (Or.inl z)
      rw [z, ← this]
      exact q.2.2
    · rw [← (ww m q.2.1.1).2 z no]
      exact q.2.2
end
section
theorem gi_w0 (f : Nat → Nat) {k : Nat} (h : k < 2 ^ 31) : upd (gi_ar f) (nI k).toNatClampNeg 0 = gi_ar (gi_up f k 0) := by
  have := gi_wa f 0 h
  rw [nI_0] at this
  exact this
theorem gi_wm (f : Nat → Nat) {k : Nat} (h : k < 2 ^ 31) : upd (gi_pr f) (nI k).toNatClampNeg (-1) = gi_pr (gi_up f k 0) := by
  have := gi_wp f 0 h
  rw [gi_p0] at this
  exact this
theorem gi_wn (f : Nat → Nat) {k : Nat} (m : Nat) (h : k < 2 ^ 31) : upd (gi_pr f) (nI k).toNatClampNeg (nI m) = gi_pr (gi_up f k (m + 1)) := by
  have := gi_wp f (m + 1) h
  rw [gi_p1] at this
  exact this
theorem gi_onB1 {post : Int32 → Prop} {a b : Nat} (ha : a < 64) (hb : b < 64) (hp : post 1) : wpX_onBoard post (nI a) (nI b) :=
  br_f (nI_pos (by omega)) (br_f (nI_nlt (a := 63) (by omega) (by decide)) (br_f (nI_pos (by omega)) (br_f (nI_nlt (a := 63) (by omega) (by decide)) hp)))
theorem gi_onB0 {post : Int32 → Prop} {x y : Int32} (h : gi_Off x y) (hp : post 0) : wpX_onBoard post x y :=
  br_c (fun _ => hp) fun h1 => br_c (fun _ => hp) fun h2 => br_c (fun _ => hp) fun h3 => br_c (fun _ => hp) fun h4 =>
    absurd h (fun q => q.elim h1 fun q => q.elim h2 fun q => q.elim h3 h4)
section
variable {kh fh kC kR kU : Nat} {wa wb wc wd we wf wg : Int32} {mx my : Nat → Nat} {mv : Nat → Int32} {nx cf rf bo iu hd sz fc lc fr lr : Nat → Nat}
theorem gi_col4 {post : Int32 → Prop} {x : Nat} (hx : x < 64) (B : gi_Bd kC cf) (hp : post (nI (gi_loc cf x kC))) :
    ∀ d k n : Nat, k + d = kC → 1 ≤ k → d < n → wX_columnOf_4 post (nI x) (nI kh) (gi_pI fh) (nI kC) (nI kR) (nI kU) wa wb wc wd we wf wg (gi_ar mx) (gi_ar my) mv (gi_pr nx) (gi_ar cf) (gi_ar rf) (gi_ar bo) (gi_ar iu) (gi_pr hd) (gi_ar sz) (gi_ar fc) (gi_ar lc) (gi_ar fr) (gi_ar lr) n (nI (gi_loc cf x k)) (nI k) := by
  have hC := B.2.1
  intro d
  induction d with
  | zero =>
    intro k n hk h1 hn
    obtain ⟨n, rfl⟩ := gi_S hn
    have e : k = kC := by omega
    rw [e]
    exact br_t (nI_le (Nat.le_refl _) (by omega)) hp
  | succ d ih =>
    intro k n hk h1 hn
    obtain ⟨n, rfl⟩ := gi_S hn
    have hb := gi_Bd_64 B (k := k) (by omega)
    refine br_f (nI_ge (by omega) (by omega)) (And.intro (vp_in_nI (by omega) (by decide)) ?_)
    refine pk_lt x (cf k) (fun z => ?_) (fun z => ?_) rfl (gi_rd cf (by omega)) (by omega) (by omega)
    · intro y ey
      rw [nI_1] at ey
      subst ey
      have e : gi_loc cf x (k + 1) = gi_loc cf x k := if_neg (by omega)
      rw [← e]
      exact ih (k + 1) n (by omega) (by omega) (by omega)
    · intro y ey
      rw [nI_1] at ey
      subst ey
      have e : gi_loc cf x (k + 1) = k := if_pos (by omega)
      have g := ih (k + 1) n (by omega) (by omega) (by omega)
      rw [e] at g
      exact g
theorem gi_col {post : Int32 → Prop} {x : Nat} (hx : x < 64) (B : gi_Bd kC cf) (hp : post (nI (gi_loc cf x kC))) : wpX_columnOf post (nI kh, gi_pI fh, nI kC, nI kR, nI kU, wa, wb, wc, wd, we, wf, wg, gi_ar mx, gi_ar my, mv, gi_pr nx, gi_ar cf, gi_ar rf, gi_ar bo, gi_ar iu, gi_pr hd, gi_ar sz, gi_ar fc, gi_ar lc, gi_ar fr, gi_ar lr) (nI x) := by
  have h1 := B.1
  have g := gi_col4 (kh := kh) (fh := fh) (kR := kR) (kU := kU) (wa := wa) (wb := wb) (wc := wc) (wd := wd) (we := we) (wf := wf) (wg := wg) (mx := mx) (my := my) (mv := mv) (nx := nx) (rf := rf) (bo := bo) (iu := iu) (hd := hd) (sz := sz) (fc := fc) (lc := lc) (fr := fr) (lr := lr) hx B hp (kC - 1) 1 kC (by omega) (by omega) (by omega)
  rw [gi_loc_1] at g
  exact Exists.intro kC g
theorem gi_row4 {post : Int32 → Prop} {x : Nat} (hx : x < 64) (B : gi_Bd kR rf) (hp : post (nI (gi_loc rf x kR))) :
    ∀ d k n : Nat, k + d = kR → 1 ≤ k → d < n → wX_rowOf_4 post (nI x) (nI kh) (gi_pI fh) (nI kC) (nI kR) (nI kU) wa wb wc wd we wf wg (gi_ar mx) (gi_ar my) mv (gi_pr nx) (gi_ar cf) (gi_ar rf) (gi_ar bo) (gi_ar iu) (gi_pr hd) (gi_ar sz) (gi_ar fc) (gi_ar lc) (gi_ar fr) (gi_ar lr) n (nI (gi_loc rf x k)) (nI k) := by
  have hC := B.2.1
  intro d
  induction d with
  | zero =>
    intro k n hk h1 hn
    obtain ⟨n, rfl⟩ := gi_S hn
    have e : k = kR := by omega
    rw [e]
    exact br_t (nI_le (Nat.le_refl _) (by omega)) hp
  | succ d ih =>
    intro k n hk h1 hn
    obtain ⟨n, rfl⟩ := gi_S hn
    have hb := gi_Bd_64 B (k := k) (by omega)
    refine br_f (nI_ge (by omega) (by omega)) (And.intro (vp_in_nI (by omega) (by decide)) ?_)
    refine pk_lt x (rf k) (fun z => ?_) (fun z => ?_) rfl (gi_rd rf (by omega)) (by omega) (by omega)
    · intro y ey
      rw [nI_1] at ey
      subst ey
      have e : gi_loc rf x (k + 1) = gi_loc rf x k := if_neg (by omega)
      rw [← e]
      exact ih (k + 1) n (by omega) (by omega) (by omega)
    · intro y ey
      rw [nI_1] at ey
      subst ey
      have e : gi_loc rf x (k + 1) = k := if_pos (by omega)
      have g := ih (k + 1) n (by omega) (by omega) (by omega)
      rw [e] at g
      exact g
theorem gi_row {post : Int32 → Prop} {x : Nat} (hx : x < 64) (B : gi_Bd kR rf) (hp : post (nI (gi_loc rf x kR))) : wpX_rowOf post (nI kh, gi_pI fh, nI kC, nI kR, nI kU, wa, wb, wc, wd, we, wf, wg, gi_ar mx, gi_ar my, mv, gi_pr nx, gi_ar cf, gi_ar rf, gi_ar bo, gi_ar iu, gi_pr hd, gi_ar sz, gi_ar fc, gi_ar lc, gi_ar fr, gi_ar lr) (nI x) := by
  have h1 := B.1
  have g := gi_row4 (kh := kh) (fh := fh) (kC := kC) (kU := kU) (wa := wa) (wb := wb) (wc := wc) (wd := wd) (we := we) (wf := wf) (wg := wg) (mx := mx) (my := my) (mv := mv) (nx := nx) (cf := cf) (bo := bo) (iu := iu) (hd := hd) (sz := sz) (fc := fc) (lc := lc) (fr := fr) (lr := lr) hx B hp (kR - 1) 1 kR (by omega) (by omega) (by omega)
  rw [gi_loc_1] at g
  exact Exists.intro kR g
theorem gi_bat {post : Int32 → Prop} {x y : Nat} (hx : x < 64) (hy : y < 64) (B1 : gi_Bd kC cf) (B2 : gi_Bd kR rf) (hp : post (nI (bo (16 * gi_loc cf x kC + gi_loc rf y kR)))) :
    wpX_bucketAt post (nI kh, gi_pI fh, nI kC, nI kR, nI kU, wa, wb, wc, wd, we, wf, wg, gi_ar mx, gi_ar my, mv, gi_pr nx, gi_ar cf, gi_ar rf, gi_ar bo, gi_ar iu, gi_pr hd, gi_ar sz, gi_ar fc, gi_ar lc, gi_ar fr, gi_ar lr) (nI x) (nI y) := by
  unfold wpX_bucketAt
  dsimp only
  refine gi_col hx B1 ?_
  refine gi_row hy B2 ?_
  have h1 := (gi_loc_in B1 hx).1
  have h2 := (gi_loc_in B2 hy).1
  have h3 := B1.2.1
  have h4 := B2.2.1
  rw [gi_16, gi_rd bo (by omega)]
  exact ⟨vp_in_nI (by omega) (by decide), hp⟩
theorem gi_fm18 {post : Int32 → Prop} {x y : Nat} (hx : x < 64) (hy : y < 64) :
    ∀ (L : List Nat) (g s n : Nat), gi_Ch nx L g → (∀ m, m ∈ L → m < 40 ∧ mx m < 64 ∧ my m < 64) → s + L.length ≤ 40 → L.length < n →
      (∀ m, m ∈ L → mx m = x → my m = y → post (nI m)) → ((∀ m, m ∈ L → ¬ (mx m = x ∧ my m = y)) → post (-1)) → wX_findMark_18 post (nI x) (nI y) (nI kh) (gi_pI fh) (nI kC) (nI kR) (nI kU) wa wb wc wd we wf wg (gi_ar mx) (gi_ar my) mv (gi_pr nx) (gi_ar cf) (gi_ar rf) (gi_ar bo) (gi_ar iu) (gi_pr hd) (gi_ar sz) (gi_ar fc) (gi_ar lc) (gi_ar fr) (gi_ar lr) n (gi_pI g) (nI s) := by
  intro L
  induction L with
  | nil =>
    intro g s n c hin hs hn hp hq
    obtain ⟨n, rfl⟩ := gi_S hn
    have e : g = 0 := c
    rw [e, gi_p0]
    have q : post (-1) := hq (fun m hm => absurd hm List.not_mem_nil)
    exact br_c (fun _ => q) (fun _ => br_t gi_m1lt q)
  | cons m L ih =>
    intro g s n c hin hs hn hp hq
    obtain ⟨n, rfl⟩ := gi_S hn
    obtain ⟨c1, c2⟩ := c
    obtain ⟨m1, m2, m3⟩ := hin m List.mem_cons_self
    rw [List.length_cons] at hs hn
    rw [c1, gi_p1]
    have hv : vp_in (nI m) 40 := vp_in_nI m1 (by decide)
    have next : ¬ (mx m = x ∧ my m = y) → ∀ z w : Int32, z = gi_pr nx (nI m).toNatClampNeg → w = nI s + 1 → wX_findMark_18 post (nI x) (nI y) (nI kh) (gi_pI fh) (nI kC) (nI kR) (nI kU) wa wb wc wd we wf wg (gi_ar mx) (gi_ar my) mv (gi_pr nx) (gi_ar cf) (gi_ar rf) (gi_ar bo) (gi_ar iu) (gi_pr hd) (gi_ar sz) (gi_ar fc) (gi_ar lc) (gi_ar fr) (gi_ar lr) n z w := by
      intro ne z w ez ew
      rw [gi_rp nx (by omega)] at ez
      rw [nI_1] at ew
      subst ez ew
      refine ih (nx m) (s + 1) n c2 (fun j hj => hin j (List.mem_cons_of_mem _ hj)) (by omega) (by omega) (fun j hj => hp j (List.mem_cons_of_mem _ hj)) (fun k => hq (fun j hj => ?_))
      rcases List.mem_cons.mp hj with y | y
      · rw [y]; exact ne
      · exact k j y
    refine br_f (nI_ge (b := 40) (by omega) (by decide)) (br_f (nI_pos (by omega)) (And.intro hv ?_))
    refine pk_eq (mx m) x (fun e1 => And.intro hv ?_) (fun e1 => And.intro hv ?_) (gi_rd mx (by omega)) rfl (by omega) (by omega)
    · refine pk_eq (my m) y (fun e2 => hp m List.mem_cons_self e1 e2) (fun e2 => And.intro hv ?_) (gi_rd my (by omega)) rfl (by omega) (by omega)
      exact fun z ez w ew => next (fun q => e2 q.2) z w ez ew
    · exact fun z ez w ew => next (fun q => e1 q.1) z w ez ew
/-- findMark over the invariant -/
theorem gi_fm {H : Nat → Bool} {post : Int32 → Prop} {x y : Nat} (hx : x < 64) (hy : y < 64) (I : gi_XI kh fh kC kR kU mx my nx cf rf bo iu hd sz fc lc fr lr H) (hp : ∀ m, H m = true → m < 40 → mx m = x → my m = y → post (nI m))
    (hq : (∀ m, H m = true → ¬ (mx m = x ∧ my m = y)) → post (-1)) : wpX_findMark post (nI kh, gi_pI fh, nI kC, nI kR, nI kU, wa, wb, wc, wd, we, wf, wg, gi_ar mx, gi_ar my, mv, gi_pr nx, gi_ar cf, gi_ar rf, gi_ar bo, gi_ar iu, gi_pr hd, gi_ar sz, gi_ar fc, gi_ar lc, gi_ar fr, gi_ar lr) (nI x) (nI y) := by
  obtain ⟨B1, B2, T, -, -, K, hin, -⟩ := I
  unfold wpX_findMark
  dsimp only
  refine gi_bat hx hy B1 B2 ?_
  obtain ⟨p1, p2, -⟩ := T.1 _ _ (gi_loc_in B1 hx).1 (gi_loc_in B2 hy).1
  obtain ⟨L, c, n, e, s⟩ := K _ p1 p2
  refine And.intro (vp_in_nI p1 (by decide)) ?_
  intro z ez
  rw [gi_rp hd (by omega)] at ez
  subst ez
  have l40 := gi_len40 n (fun m hm => ((e m).mp hm).1)
  refine Exists.intro 41 (gi_fm18 hx hy L _ 0 41 c (fun m hm => hin m ((e m).mp hm).2.1) (by omega) (by omega) (fun m hm => hp m ((e m).mp hm).2.1 ((e m).mp hm).1) (fun k => hq (fun m hm q => ?_)))
  refine k m ((e m).mpr ⟨(hin m hm).1, hm, ?_⟩) q
  unfold gi_own
  rw [q.1, q.2]
theorem gi_pm {post : SX → Prop} {b m : Nat} (hb : b < 64) (hm : m < 40) (hp : post (nI kh, gi_pI fh, nI kC, nI kR, nI kU, wa, wb, wc, wd, we, wf, wg, gi_ar mx, gi_ar my, mv, gi_pr (gi_up nx m (hd b)), gi_ar cf, gi_ar rf, gi_ar bo, gi_ar iu, gi_pr (gi_up hd b (m + 1)), gi_ar (gi_up sz b (sz b + 1)), gi_ar fc, gi_ar lc, gi_ar fr, gi_ar lr)) : wpX_pushMark post (nI kh, gi_pI fh, nI kC, nI kR, nI kU, wa, wb, wc, wd, we, wf, wg, gi_ar mx, gi_ar my, mv, gi_pr nx, gi_ar cf, gi_ar rf, gi_ar bo, gi_ar iu, gi_pr hd, gi_ar sz, gi_ar fc, gi_ar lc, gi_ar fr, gi_ar lr) (nI b) (nI m) := by
  have v1 : vp_in (nI b) 64 := vp_in_nI hb (by decide)
  unfold wpX_pushMark
  dsimp only
  refine ⟨v1, vp_in_nI hm (by decide), ?_⟩
  intro a ea
  rw [gi_rp hd (by omega), gi_wp nx _ (by omega)] at ea
  refine ⟨v1, ?_⟩
  intro a1 ea1
  rw [gi_wn hd _ (by omega)] at ea1
  refine ⟨v1, v1, ?_⟩
  intro a2 ea2
  rw [gi_rd sz (by omega), nI_1, gi_wa sz _ (by omega)] at ea2
  subst ea ea1 ea2
  exact hp
theorem gi_nb5 {post : Int32 → SX → Prop} (ub : ∀ k, k < 64 → iu k ≤ 1)
    (hp : ∀ b, b < 64 → iu b = 0 → post (nI b) (nI kh, gi_pI fh, nI kC, nI kR, nI (kU + 1), wa, wb, wc, wd, we, wf, wg, gi_ar mx, gi_ar my, mv, gi_pr nx, gi_ar cf, gi_ar rf, gi_ar bo, gi_ar (gi_up iu b 1), gi_pr (gi_up hd b 0), gi_ar (gi_up sz b 0), gi_ar (gi_up fc b 0), gi_ar (gi_up lc b 0), gi_ar (gi_up fr b 0), gi_ar (gi_up lr b 0))) :
    ∀ j n b : Nat, j ≤ 64 → j < n → b < 64 → (iu b = 0 ∨ ∃ k, k < j ∧ iu k = 0) → wX_newBucket_5 post (nI kh) (gi_pI fh) (nI kC) (nI kR) (nI kU) wa wb wc wd we wf wg (gi_ar mx) (gi_ar my) mv (gi_pr nx) (gi_ar cf) (gi_ar rf) (gi_ar bo) (gi_ar iu) (gi_pr hd) (gi_ar sz) (gi_ar fc) (gi_ar lc) (gi_ar fr) (gi_ar lr) n (nI b) (gi_pI j) := by
  intro j
  induction j with
  | zero =>
    intro n b hj hn hb hx
    obtain ⟨n, rfl⟩ := gi_S hn
    have hi : iu b = 0 := by
      rcases hx with h | ⟨k, h, -⟩
      · exact h
      · omega
    have v1 : vp_in (nI b) 64 := vp_in_nI hb (by decide)
    rw [gi_p0]
    refine br_t gi_m1lt (And.intro v1 ?_)
    intro a1 e1 a2 e2
    refine And.intro v1 ?_
    intro a3 e3
    refine And.intro v1 ?_
    intro a4 e4
    refine And.intro v1 ?_
    intro a5 e5
    refine And.intro v1 ?_
    intro a6 e6
    refine And.intro v1 ?_
    intro a7 e7
    refine And.intro v1 ?_
    intro a8 e8
    rw [gi_vb1, gi_wa iu _ (by omega)] at e1
    rw [nI_1] at e2
    rw [gi_wm hd (by omega)] at e3
    rw [gi_w0 _ (by omega)] at e4 e5 e6 e7 e8
    subst e1 e2 e3 e4 e5 e6 e7 e8
    exact hp b hb hi
  | succ j ih =>
    intro n b hj hn hb hx
    obtain ⟨n, rfl⟩ := gi_S hn
    have hu := ub j (by omega)
    rw [gi_p1]
    refine br_f (nI_pos (by omega)) (And.intro (vp_in_nI (by omega) (by decide)) ?_)
    refine pk_eq (iu j) 0 (fun z => ?_) (fun z => ?_) (gi_rd iu (by omega)) nI_0.symm (by omega) (by omega)
    · intro y ey
      rw [gi_pd] at ey
      subst ey
      exact ih n j (by omega) (by omega) (by omega) (Or.inl z)
    · intro y ey
      rw [gi_pd] at ey
      subst ey
      refine ih n b (by omega) (by omega) hb ?_
      rcases hx with h | ⟨k, h, g⟩
      · exact Or.inl h
      · refine Or.inr ⟨k, ?_, g⟩
        by_cases w : k = j
        · exact absurd (by rw [← w]; exact g) z
        · omega
theorem gi_nb {post : Int32 → SX → Prop} (ub : ∀ k, k < 64 → iu k ≤ 1) (ex : ∃ k, k < 64 ∧ iu k = 0)
    (hp : ∀ b, b < 64 → iu b = 0 → post (nI b) (nI kh, gi_pI fh, nI kC, nI kR, nI (kU + 1), wa, wb, wc, wd, we, wf, wg, gi_ar mx, gi_ar my, mv, gi_pr nx, gi_ar cf, gi_ar rf, gi_ar bo, gi_ar (gi_up iu b 1), gi_pr (gi_up hd b 0), gi_ar (gi_up sz b 0), gi_ar (gi_up fc b 0), gi_ar (gi_up lc b 0), gi_ar (gi_up fr b 0), gi_ar (gi_up lr b 0))) :
    wpX_newBucket post (nI kh, gi_pI fh, nI kC, nI kR, nI kU, wa, wb, wc, wd, we, wf, wg, gi_ar mx, gi_ar my, mv, gi_pr nx, gi_ar cf, gi_ar rf, gi_ar bo, gi_ar iu, gi_pr hd, gi_ar sz, gi_ar fc, gi_ar lc, gi_ar fr, gi_ar lr) := by
  have g := gi_nb5 ub hp 64 65 0 (by omega) (by omega) (by omega) (Or.inr ex)
  rw [gi_p1] at g
  exact Exists.intro 65 g
theorem gi_cl24 {post : SX → Prop} {J7 : Int32 → (Nat → Int32) → (Nat → Int32) → (Nat → Int32) → (Nat → Int32) → (Nat → Int32) → (Nat → Int32) → (Nat → Int32) → (Nat → Int32) → (Nat → Int32) → (Nat → Int32) → (Nat → Int32) → (Nat → Int32) → (Nat → Int32) → (Nat → Int32) → Prop}
    {b c : Nat} (hb : b < 64) (hc : c < 16) (hl : lr b < 16) : ∀ (d r n : Nat) (bc : Nat → Nat), r + d = lr b + 1 → d < n →
      (∀ bo', (∀ i, bo' i = if 16 * c + r ≤ i ∧ i ≤ 16 * c + lr b then b else bc i) → J7 (nI (c + 1)) (gi_ar mx) (gi_ar my) mv (gi_pr nx) (gi_ar cf) (gi_ar rf) (gi_ar bo') (gi_ar iu) (gi_pr hd) (gi_ar sz) (gi_ar fc) (gi_ar lc) (gi_ar fr) (gi_ar lr)) → wX_claimCells_24 post J7 (nI b) (nI c) (nI kh) (gi_pI fh) (nI kC) (nI kR) (nI kU) wa wb wc wd we wf wg n (nI r) (gi_ar mx) (gi_ar my) mv (gi_pr nx) (gi_ar cf) (gi_ar rf) (gi_ar bc) (gi_ar iu) (gi_pr hd) (gi_ar sz) (gi_ar fc) (gi_ar lc) (gi_ar fr) (gi_ar lr) := by
  intro d
  induction d with
  | zero =>
    intro r n bc hr hn hJ
    obtain ⟨n, rfl⟩ := gi_S hn
    refine And.intro (vp_in_nI hb (by decide)) ?_
    refine pk_lt (lr b) r (fun z => ?_) (fun z => by omega) (gi_rd lr (by omega)) rfl (by omega) (by omega)
    intro x ex
    rw [nI_1] at ex
    subst ex
    exact hJ bc (fun i => (if_neg (by omega)).symm)
  | succ d ih =>
    intro r n bc hr hn hJ
    obtain ⟨n, rfl⟩ := gi_S hn
    refine And.intro (vp_in_nI hb (by decide)) ?_
    refine pk_lt (lr b) r (fun z => by omega) (fun z => ?_) (gi_rd lr (by omega)) rfl (by omega) (by omega)
    rw [gi_16]
    refine And.intro (vp_in_nI (by omega) (by decide)) ?_
    intro a ea x ex
    rw [gi_wa bc b (by omega)] at ea
    rw [nI_1] at ex
    subst ea ex
    refine ih (r + 1) n (gi_up bc (16 * c + r) b) (by omega) (by omega) (fun bo' e => hJ bo' (fun i => ?_))
    rw [e i]
    by_cases y : i = 16 * c + r
    · rw [y, gi_us, if_neg (by omega), if_pos (by omega)]
    · rw [gi_un y]
      by_cases w : 16 * c + r ≤ i ∧ i ≤ 16 * c + lr b
      · rw [if_pos w, if_pos (by omega)]
      · rw [if_neg w, if_neg (by omega)]
theorem gi_cl7 {post : SX → Prop} {b : Nat} (hb : b < 64) (hc : lc b < 16) (hl : lr b < 16) (hf : fr b ≤ lr b) : ∀ (d c n : Nat) (bc : Nat → Nat), c + d = lc b + 1 → d < n →
      (∀ bo', (∀ c' r', c' < 16 → r' < 16 → bo' (16 * c' + r') = if c ≤ c' ∧ c' ≤ lc b ∧ fr b ≤ r' ∧ r' ≤ lr b then b else bc (16 * c' + r')) → post (nI kh, gi_pI fh, nI kC, nI kR, nI kU, wa, wb, wc, wd, we, wf, wg, gi_ar mx, gi_ar my, mv, gi_pr nx, gi_ar cf, gi_ar rf, gi_ar bo', gi_ar iu, gi_pr hd, gi_ar sz, gi_ar fc, gi_ar lc, gi_ar fr, gi_ar lr)) → wX_claimCells_7 post (nI b) (nI kh) (gi_pI fh) (nI kC) (nI kR) (nI kU) wa wb wc wd we wf wg n (nI c) (gi_ar mx) (gi_ar my) mv (gi_pr nx) (gi_ar cf) (gi_ar rf) (gi_ar bc) (gi_ar iu) (gi_pr hd) (gi_ar sz) (gi_ar fc) (gi_ar lc) (gi_ar fr) (gi_ar lr) := by
  intro d
  induction d with
  | zero =>
    intro c n bc hr hn hJ
    obtain ⟨n, rfl⟩ := gi_S hn
    refine And.intro (vp_in_nI hb (by decide)) ?_
    refine pk_lt (lc b) c (fun z => ?_) (fun z => by omega) (gi_rd lc (by omega)) rfl (by omega) (by omega)
    exact hJ bc (fun c' r' h1 h2 => (if_neg (by omega)).symm)
  | succ d ih =>
    intro c n bc hr hn hJ
    obtain ⟨n, rfl⟩ := gi_S hn
    refine And.intro (vp_in_nI hb (by decide)) ?_
    refine pk_lt (lc b) c (fun z => by omega) (fun z => ?_) (gi_rd lc (by omega)) rfl (by omega) (by omega)
    refine And.intro (vp_in_nI hb (by decide)) ?_
    intro x ex
    rw [gi_rd fr (by omega)] at ex
    subst ex
    refine Exists.intro 17 (gi_cl24 hb (by omega) hl (lr b + 1 - fr b) (fr b) 17 bc (by omega) (by omega) (fun b1 e1 => ?_))
    refine ih (c + 1) n b1 (by omega) (by omega) (fun bo' e => hJ bo' (fun c' r' h1 h2 => ?_))
    rw [e c' r' h1 h2, e1]
    by_cases y : c = c'
    · subst y
      rw [if_neg (by omega)]
      by_cases w : fr b ≤ r' ∧ r' ≤ lr b
      · rw [if_pos (by omega), if_pos (by omega)]
      · rw [if_neg (by omega), if_neg (by omega)]
    · by_cases w : c ≤ c' ∧ c' ≤ lc b ∧ fr b ≤ r' ∧ r' ≤ lr b
      · rw [if_pos (by omega), if_pos w]
      · rw [if_neg (by omega), if_neg (by omega), if_neg w]
theorem gi_clm {post : SX → Prop} {b C R : Nat} (hb : b < 64) (hC : C ≤ 16) (hR : R ≤ 16) (hc : lc b < C) (hl : lr b < R) (hf : fr b ≤ lr b) (hg : fc b ≤ lc b) (hp : ∀ bo', gi_Cl C R bo bo' fc lc fr lr b → post (nI kh, gi_pI fh, nI kC, nI kR, nI kU, wa, wb, wc, wd, we, wf, wg, gi_ar mx, gi_ar my, mv, gi_pr nx, gi_ar cf, gi_ar rf, gi_ar bo', gi_ar iu, gi_pr hd, gi_ar sz, gi_ar fc, gi_ar lc, gi_ar fr, gi_ar lr)) :
    wpX_claimCells post (nI kh, gi_pI fh, nI kC, nI kR, nI kU, wa, wb, wc, wd, we, wf, wg, gi_ar mx, gi_ar my, mv, gi_pr nx, gi_ar cf, gi_ar rf, gi_ar bo, gi_ar iu, gi_pr hd, gi_ar sz, gi_ar fc, gi_ar lc, gi_ar fr, gi_ar lr) (nI b) := by
  unfold wpX_claimCells
  dsimp only
  refine ⟨vp_in_nI hb (by decide), ?_⟩
  intro x ex
  rw [gi_rd fc (by omega)] at ex
  subst ex
  refine Exists.intro 17 (gi_cl7 hb (by omega) (by omega) hf (lc b + 1 - fc b) (fc b) 17 bo (by omega) (by omega) (fun bo' e => hp bo' (fun c r h1 h2 => ?_)))
  rw [e c r (by omega) (by omega)]
  exact ⟨fun q => if_pos q, fun q => if_neg q⟩
end
end
section
theorem gi_m1 {k : Nat} (h : 0 < k) : nI k + (-1) = nI (k - 1) := by
  obtain ⟨j, rfl⟩ : ∃ j, k = j + 1 := ⟨k - 1, by omega⟩
  rw [pk_m1, Nat.add_sub_cancel]
theorem gi_pw {f g : Nat → Nat} {q : Nat → Nat} {b : Nat} (h : ∀ j, j < 64 → f j = if j < b then q (g j) else g j) (hb : b < 64) : ∀ j, j < 64 → gi_up f b (q (f b)) j = if j < b + 1 then q (g j) else g j := by
  intro j hj
  by_cases e : j = b
  · subst e
    rw [gi_us, h j hj, if_neg (Nat.lt_irrefl j), if_pos (by omega)]
  · rw [gi_un e, h j hj]
    by_cases w : j < b
    · rw [if_pos w, if_pos (by omega)]
    · rw [if_neg w, if_neg (by omega)]
theorem gi_add0 (x : Nat) : nI x + 0 = nI x := by
  have := nI_add x 0
  rw [nI_0] at this
  exact this
section
variable {kh fh kC kR kU : Nat} {wa wb wc wd we wf wg : Int32} {mx my : Nat → Nat} {mv : Nat → Int32} {nx cf rf bo iu hd sz fc lc fr lr : Nat → Nat}
theorem gi_cc159 {post : SX → Prop} {J : Int32 → (Nat → Int32) → (Nat → Int32) → (Nat → Int32) → (Nat → Int32) → (Nat → Int32) → (Nat → Int32) → (Nat → Int32) → (Nat → Int32) → (Nat → Int32) → (Nat → Int32) → (Nat → Int32) → (Nat → Int32) → (Nat → Int32) → (Nat → Int32) → Prop} {c0 b z : Nat} {y : Int32} (hb : b < 64) (hl : lc b < 1000) (hc : c0 < 1000) (hy : y = nI (fc b + z))
    (hJ : J (nI (b + 1)) (gi_ar mx) (gi_ar my) mv (gi_pr nx) (gi_ar cf) (gi_ar rf) (gi_ar bo) (gi_ar iu) (gi_pr hd) (gi_ar sz) (gi_ar (gi_up fc b (fc b + z))) (gi_ar (gi_up lc b (gi_bl c0 (lc b)))) (gi_ar fr) (gi_ar lr)) {z0 z1 : Int32} (hz : z1 + z0 = y) :
    wX_cutColumn_159 post J (nI c0) (nI b) z0 z1 (nI b) (nI kh) (gi_pI fh) (nI kC) (nI kR) (nI kU) wa wb wc wd we wf wg (gi_ar mx) (gi_ar my) mv (gi_pr nx) (gi_ar cf) (gi_ar rf) (gi_ar bo) (gi_ar iu) (gi_pr hd) (gi_ar sz) (gi_ar fc) (gi_ar lc) (gi_ar fr) (gi_ar lr) := by
  have v1 : vp_in (nI b) 64 := vp_in_nI hb (by decide)
  unfold wX_cutColumn_159
  refine ⟨v1, ?_⟩
  intro a ea
  rw [hz, hy, gi_wa fc _ (by omega)] at ea
  subst ea
  refine ⟨v1, v1, ?_⟩
  refine pk_lt (lc b) c0 (fun w => ?_) (fun w => ?_) (gi_rd lc (by omega)) rfl (by omega) (by omega)
  · refine ⟨v1, ?_⟩
    intro a ea x ex
    rw [gi_rd lc (by omega), gi_add0, gi_wa lc _ (by omega)] at ea
    rw [nI_1] at ex
    rw [show gi_bl c0 (lc b) = lc b from if_pos w] at hJ
    subst ea ex
    exact hJ
  · refine ⟨v1, ?_⟩
    intro a ea x ex
    rw [gi_rd lc (by omega), nI_1, gi_wa lc _ (by omega)] at ea
    rw [nI_1] at ex
    rw [show gi_bl c0 (lc b) = lc b + 1 from if_neg (by omega)] at hJ
    subst ea ex
    exact hJ
theorem gi_cc131 {post : SX → Prop} {c0 : Nat} (hc : c0 < 100) (bd : ∀ b, b < 64 → fc b < 100 ∧ lc b < 100)
    (hp : ∀ fc' lc', (∀ b, b < 64 → fc' b = gi_bf c0 (fc b)) → (∀ b, b < 64 → lc' b = gi_bl c0 (lc b)) → post (nI kh, gi_pI fh, nI kC, nI kR, nI kU, wa, wb, wc, wd, we, wf, wg, gi_ar mx, gi_ar my, mv, gi_pr nx, gi_ar cf, gi_ar rf, gi_ar bo, gi_ar iu, gi_pr hd, gi_ar sz, gi_ar fc', gi_ar lc', gi_ar fr, gi_ar lr)) :
    ∀ (d b n : Nat) (f1 l1 : Nat → Nat), b + d = 64 → d < n → (∀ j, j < 64 → f1 j = if j < b then gi_bf c0 (fc j) else fc j) → (∀ j, j < 64 → l1 j = if j < b then gi_bl c0 (lc j) else lc j) →
      wX_cutColumn_131 post (nI c0) (nI kh) (gi_pI fh) (nI kC) (nI kR) (nI kU) wa wb wc wd we wf wg n (nI b) (gi_ar mx) (gi_ar my) mv (gi_pr nx) (gi_ar cf) (gi_ar rf) (gi_ar bo) (gi_ar iu) (gi_pr hd) (gi_ar sz) (gi_ar f1) (gi_ar l1) (gi_ar fr) (gi_ar lr) := by
  intro d
  induction d with
  | zero =>
    intro b n f1 l1 hb hn h1 h2
    obtain ⟨n, rfl⟩ := gi_S hn
    refine br_t (nI_le (a := 64) (by omega) (by omega)) (hp f1 l1 (fun j hj => ?_) (fun j hj => ?_))
    · rw [h1 j hj, if_pos (by omega)]
    · rw [h2 j hj, if_pos (by omega)]
  | succ d ih =>
    intro b n f1 l1 hb hn h1 h2
    obtain ⟨n, rfl⟩ := gi_S hn
    have v1 : vp_in (nI b) 64 := vp_in_nI (by omega) (by decide)
    have e1 : f1 b = fc b := by rw [h1 b (by omega), if_neg (by omega)]
    have e2 : l1 b = lc b := by rw [h2 b (by omega), if_neg (by omega)]
    have b1 := (bd b (by omega)).1
    have b2 := (bd b (by omega)).2
    have g1 := gi_pw (q := gi_bf c0) h1 (by omega)
    have g2 := gi_pw (q := gi_bl c0) h2 (by omega)
    refine br_f (nI_ge (b := 64) (by omega) (by decide)) (And.intro v1 (And.intro v1 ?_))
    refine pk_le (f1 b) c0 (fun w => ?_) (fun w => ?_) (gi_rd f1 (by omega)) rfl (by omega) (by omega)
    · have k := ih (b + 1) n _ _ (by omega) (by omega) g1 g2
      rw [show gi_bf c0 (f1 b) = f1 b + 0 from if_pos w] at k
      refine gi_cc159 (z := 0) (by omega) (by omega) (by omega) rfl k ?_
      rw [gi_rd f1 (by omega)]
      exact nI_add _ 0
    · have k := ih (b + 1) n _ _ (by omega) (by omega) g1 g2
      rw [show gi_bf c0 (f1 b) = f1 b + 1 from if_neg (by omega)] at k
      refine gi_cc159 (z := 1) (by omega) (by omega) (by omega) rfl k ?_
      rw [gi_rd f1 (by omega)]
      exact nI_add _ 1
theorem gi_cc82 {post : SX → Prop} {J : Int32 → (Nat → Int32) → (Nat → Int32) → (Nat → Int32) → (Nat → Int32) → (Nat → Int32) → (Nat → Int32) → (Nat → Int32) → (Nat → Int32) → (Nat → Int32) → (Nat → Int32) → (Nat → Int32) → (Nat → Int32) → (Nat → Int32) → (Nat → Int32) → Prop} {x1 : Int32} {k : Nat} (hk : 1 ≤ k) (hk' : k < 16) (hR : kR ≤ 16) : ∀ (d r n : Nat) (bc : Nat → Nat), r + d = kR → d < n →
      (∀ bo', (∀ i, bo' i = if 16 * k + r ≤ i ∧ i < 16 * k + kR then bc (i - 16) else bc i) → J (nI (k - 1)) (gi_ar mx) (gi_ar my) mv (gi_pr nx) (gi_ar cf) (gi_ar rf) (gi_ar bo') (gi_ar iu) (gi_pr hd) (gi_ar sz) (gi_ar fc) (gi_ar lc) (gi_ar fr) (gi_ar lr)) → wX_cutColumn_82 post J x1 (nI k) (nI kh) (gi_pI fh) (nI kC) (nI kR) (nI kU) wa wb wc wd we wf wg n (nI r) (gi_ar mx) (gi_ar my) mv (gi_pr nx) (gi_ar cf) (gi_ar rf) (gi_ar bc) (gi_ar iu) (gi_pr hd) (gi_ar sz) (gi_ar fc) (gi_ar lc) (gi_ar fr) (gi_ar lr) := by
  intro d
  induction d with
  | zero =>
    intro r n bc hr hn hJ
    obtain ⟨n, rfl⟩ := gi_S hn
    refine br_t (nI_le (by omega) (by omega)) ?_
    intro y ey
    rw [gi_m1 hk] at ey
    subst ey
    exact hJ bc (fun i => (if_neg (by omega)).symm)
  | succ d ih =>
    intro r n bc hr hn hJ
    obtain ⟨n, rfl⟩ := gi_S hn
    refine br_f (nI_ge (by omega) (by omega)) ?_
    rw [gi_s1 hk, gi_16, gi_16]
    refine And.intro (vp_in_nI (by omega) (by decide)) (And.intro (vp_in_nI (by omega) (by decide)) ?_)
    intro a ea y ey
    rw [gi_rd bc (by omega), gi_wa bc _ (by omega)] at ea
    rw [nI_1] at ey
    subst ea ey
    refine ih (r + 1) n _ (by omega) (by omega) (fun bo' e => hJ bo' (fun i => ?_))
    rw [e i]
    by_cases y : i = 16 * k + r
    · subst y
      rw [if_neg (by omega), gi_us, if_pos (by omega)]
      exact congrArg bc (by omega)
    · by_cases w : 16 * k + r ≤ i ∧ i < 16 * k + kR
      · rw [if_pos (by omega), if_pos w, gi_un (by omega)]
      · rw [if_neg (by omega), if_neg w, gi_un y]
theorem gi_cc74 {post : SX → Prop} {c0 e0 : Nat} (hR : kR ≤ 16) (he : e0 < 16)
    (hK : ∀ bo', (∀ c r, c < e0 + 1 → r < kR → bo' (16 * c + r) = bo (16 * gi_od c0 c + r)) → ∃ n, wX_cutColumn_131 post (nI c0) (nI kh) (gi_pI fh) (nI kC) (nI kR) (nI kU) wa wb wc wd we wf wg n 0 (gi_ar mx) (gi_ar my) mv (gi_pr nx) (gi_ar cf) (gi_ar rf) (gi_ar bo') (gi_ar iu) (gi_pr hd) (gi_ar sz) (gi_ar fc) (gi_ar lc) (gi_ar fr) (gi_ar lr)) :
    ∀ (d k n : Nat) (bc : Nat → Nat), k = c0 + d → k ≤ e0 → d < n → (∀ c r, c < e0 + 1 → r < kR → bc (16 * c + r) = if k < c then bo (16 * (c - 1) + r) else bo (16 * c + r)) →
      wX_cutColumn_74 post (nI c0) (nI kh) (gi_pI fh) (nI kC) (nI kR) (nI kU) wa wb wc wd we wf wg n (nI k) (gi_ar mx) (gi_ar my) mv (gi_pr nx) (gi_ar cf) (gi_ar rf) (gi_ar bc) (gi_ar iu) (gi_pr hd) (gi_ar sz) (gi_ar fc) (gi_ar lc) (gi_ar fr) (gi_ar lr) := by
  intro d
  induction d with
  | zero =>
    intro k n bc hk hk' hn h1
    obtain ⟨n, rfl⟩ := gi_S hn
    refine br_t (nI_le (by omega) (by omega)) (hK bc (fun c r h2 h3 => ?_))
    rw [h1 c r h2 h3]
    unfold gi_od
    by_cases w : c ≤ c0
    · rw [if_pos w, if_neg (by omega)]
    · rw [if_neg w, if_pos (by omega)]
  | succ d ih =>
    intro k n bc hk hk' hn h1
    obtain ⟨n, rfl⟩ := gi_S hn
    refine br_f (nI_ge (by omega) (by omega)) (Exists.intro 17 (gi_cc82 (by omega) (by omega) hR kR 0 17 bc (by omega) (by omega) (fun b1 e1 => ?_)))
    refine ih (k - 1) n b1 (by omega) (by omega) (by omega) (fun c r h2 h3 => ?_)
    rw [e1]
    by_cases w : c = k
    · subst w
      rw [if_pos (by omega), if_pos (by omega), show 16 * c + r - 16 = 16 * (c - 1) + r by omega, h1 _ r (by omega) h3, if_neg (by omega)]
    · rw [if_neg (by omega), h1 c r h2 h3]
      by_cases y : k < c
      · rw [if_pos y, if_pos (by omega)]
      · rw [if_neg y, if_neg (by omega)]
theorem gi_cc23 {post : SX → Prop} {c0 a : Nat} (hC : kC < 16) (hc : c0 < kC) (bd : ∀ j, j ≤ kC → cf j ≤ 64)
    (hK : ∀ cf', (∀ j, j ≤ kC + 1 → cf' j = if j ≤ c0 then cf j else if j = c0 + 1 then a else cf (j - 1)) → ∃ n, wX_cutColumn_74 post (nI c0) (nI kh) (gi_pI fh) (nI (kC + 1)) (nI kR) (nI kU) wa wb wc wd we wf wg n (nI kC) (gi_ar mx) (gi_ar my) mv (gi_pr nx) (gi_ar cf') (gi_ar rf) (gi_ar bo) (gi_ar iu) (gi_pr hd) (gi_ar sz) (gi_ar fc) (gi_ar lc) (gi_ar fr) (gi_ar lr)) :
    ∀ (d k n : Nat) (c1 : Nat → Nat), k = c0 + d → k ≤ kC → d < n → (∀ j, c1 j = if k + 2 ≤ j ∧ j ≤ kC + 1 then cf (j - 1) else cf j) → wX_cutColumn_23 post (nI c0) (nI a) (nI kh) (gi_pI fh) (nI kC) (nI kR) (nI kU) wa wb wc wd we wf wg n (nI k) (gi_ar mx) (gi_ar my) mv (gi_pr nx) (gi_ar c1) (gi_ar rf) (gi_ar bo) (gi_ar iu) (gi_pr hd) (gi_ar sz) (gi_ar fc) (gi_ar lc) (gi_ar fr) (gi_ar lr) := by
  intro d
  induction d with
  | zero =>
    intro k n c1 hk hk' hn h1
    obtain ⟨n, rfl⟩ := gi_S hn
    refine br_t (nI_le (by omega) (by omega)) ?_
    rw [nI_1 c0]
    refine And.intro (vp_in_nI (by omega) (by decide)) ?_
    intro a7 e7 f8 e8 x9 e9
    rw [gi_wa c1 a (by omega)] at e7
    rw [nI_1] at e8
    subst e7 e8
    rw [nI_pred] at e9
    subst e9
    refine hK _ (fun j hj => ?_)
    by_cases w : j = c0 + 1
    · rw [w, gi_us, if_neg (by omega), if_pos rfl]
    · rw [gi_un w, h1 j]
      by_cases y : j ≤ c0
      · rw [if_neg (by omega), if_pos y]
      · rw [if_pos (by omega), if_neg y, if_neg w]
  | succ d ih =>
    intro k n c1 hk hk' hn h1
    obtain ⟨n, rfl⟩ := gi_S hn
    refine br_f (nI_ge (by omega) (by omega)) ?_
    rw [nI_1 k]
    refine And.intro (vp_in_nI (by omega) (by decide)) (And.intro (vp_in_nI (by omega) (by decide)) ?_)
    intro a7 e7 y ey
    rw [gi_rd c1 (by omega), gi_wa c1 _ (by omega)] at e7
    rw [gi_m1 (by omega)] at ey
    subst e7 ey
    refine ih (k - 1) n _ (by omega) (by omega) (by omega) (fun j => ?_)
    by_cases w : j = k + 1
    · rw [w, gi_us, h1 k, if_neg (by omega), if_pos (by omega), Nat.add_sub_cancel]
    · rw [gi_un w, h1 j]
      by_cases y : k + 2 ≤ j ∧ j ≤ kC + 1
      · rw [if_pos y, if_pos (by omega)]
      · rw [if_neg y, if_neg (by omega)]
theorem gi_cutC {post : SX → Prop} {c0 : Nat} (B : gi_Bd kC cf) (hR : kR ≤ 16) (hC : kC < 16) (hc : c0 < kC) (bd : ∀ b, b < 64 → fc b < 100 ∧ lc b < 100)
    (hp : ∀ cf' bo' fc' lc', (∀ j, j ≤ kC + 1 → cf' j = if j ≤ c0 then cf j else if j = c0 + 1 then (cf c0 + cf (c0 + 1)) / 2 else cf (j - 1)) → (∀ c r, c < kC + 1 → r < kR → bo' (16 * c + r) = bo (16 * gi_od c0 c + r)) →
      (∀ b, b < 64 → fc' b = gi_bf c0 (fc b)) → (∀ b, b < 64 → lc' b = gi_bl c0 (lc b)) → post (nI kh, gi_pI fh, nI (kC + 1), nI kR, nI kU, wa, wb, wc, wd, we, wf, wg, gi_ar mx, gi_ar my, mv, gi_pr nx, gi_ar cf', gi_ar rf, gi_ar bo', gi_ar iu, gi_pr hd, gi_ar sz, gi_ar fc', gi_ar lc', gi_ar fr, gi_ar lr)) : wpX_cutColumn post (nI kh, gi_pI fh, nI kC, nI kR, nI kU, wa, wb, wc, wd, we, wf, wg, gi_ar mx, gi_ar my, mv, gi_pr nx, gi_ar cf, gi_ar rf, gi_ar bo, gi_ar iu, gi_pr hd, gi_ar sz, gi_ar fc, gi_ar lc, gi_ar fr, gi_ar lr) (nI c0) := by
  have q1 := gi_Bd_64 B (k := c0) (by omega)
  have q2 := gi_Bd_64 B (k := c0 + 1) (by omega)
  unfold wpX_cutColumn
  dsimp only
  rw [nI_1 c0]
  refine ⟨vp_in_nI (by omega) (by decide), vp_in_nI (by omega) (by decide), gi_20, ?_⟩
  intro x ex
  rw [gi_rd cf (by omega), gi_rd cf (by omega), gi_mid (by omega) (by omega)] at ex
  subst ex
  refine Exists.intro 17 (gi_cc23 hC hc (fun j hj => gi_Bd_64 B hj) (fun cf' ec => ?_) (kC - c0) kC 17 cf (by omega) (by omega) (by omega) (fun j => (if_neg (by omega)).symm))
  refine Exists.intro 17 (gi_cc74 hR (by omega) (fun bo' eb => ?_) (kC - c0) kC 17 bo (by omega) (by omega) (by omega) (fun c r h2 h3 => (if_neg (by omega)).symm))
  exact Exists.intro 65 (gi_cc131 (by omega) bd (fun fc' lc' ef el => hp cf' bo' fc' lc' ec eb ef el) 64 0 65 fc lc (by omega) (by omega) (fun j hj => (if_neg (by omega)).symm) (fun j hj => (if_neg (by omega)).symm))
theorem gi_cr159 {post : SX → Prop} {J : Int32 → (Nat → Int32) → (Nat → Int32) → (Nat → Int32) → (Nat → Int32) → (Nat → Int32) → (Nat → Int32) → (Nat → Int32) → (Nat → Int32) → (Nat → Int32) → (Nat → Int32) → (Nat → Int32) → (Nat → Int32) → (Nat → Int32) → (Nat → Int32) → Prop} {c0 b z : Nat} {y : Int32} (hb : b < 64) (hl : lr b < 1000) (hc : c0 < 1000) (hy : y = nI (fr b + z))
    (hJ : J (nI (b + 1)) (gi_ar mx) (gi_ar my) mv (gi_pr nx) (gi_ar cf) (gi_ar rf) (gi_ar bo) (gi_ar iu) (gi_pr hd) (gi_ar sz) (gi_ar fc) (gi_ar lc) (gi_ar (gi_up fr b (fr b + z))) (gi_ar (gi_up lr b (gi_bl c0 (lr b))))) {z0 z1 : Int32} (hz : z1 + z0 = y) :
    wX_cutRow_159 post J (nI c0) (nI b) z0 z1 (nI b) (nI kh) (gi_pI fh) (nI kC) (nI kR) (nI kU) wa wb wc wd we wf wg (gi_ar mx) (gi_ar my) mv (gi_pr nx) (gi_ar cf) (gi_ar rf) (gi_ar bo) (gi_ar iu) (gi_pr hd) (gi_ar sz) (gi_ar fc) (gi_ar lc) (gi_ar fr) (gi_ar lr) := by
  have v1 : vp_in (nI b) 64 := vp_in_nI hb (by decide)
  unfold wX_cutRow_159
  refine ⟨v1, ?_⟩
  intro a ea
  rw [hz, hy, gi_wa fr _ (by omega)] at ea
  subst ea
  refine ⟨v1, v1, ?_⟩
  refine pk_lt (lr b) c0 (fun w => ?_) (fun w => ?_) (gi_rd lr (by omega)) rfl (by omega) (by omega)
  · refine ⟨v1, ?_⟩
    intro a ea x ex
    rw [gi_rd lr (by omega), gi_add0, gi_wa lr _ (by omega)] at ea
    rw [nI_1] at ex
    rw [show gi_bl c0 (lr b) = lr b from if_pos w] at hJ
    subst ea ex
    exact hJ
  · refine ⟨v1, ?_⟩
    intro a ea x ex
    rw [gi_rd lr (by omega), nI_1, gi_wa lr _ (by omega)] at ea
    rw [nI_1] at ex
    rw [show gi_bl c0 (lr b) = lr b + 1 from if_neg (by omega)] at hJ
    subst ea ex
    exact hJ
theorem gi_cr131 {post : SX → Prop} {c0 : Nat} (hc : c0 < 100) (bd : ∀ b, b < 64 → fr b < 100 ∧ lr b < 100)
    (hp : ∀ fr' lr', (∀ b, b < 64 → fr' b = gi_bf c0 (fr b)) → (∀ b, b < 64 → lr' b = gi_bl c0 (lr b)) → post (nI kh, gi_pI fh, nI kC, nI kR, nI kU, wa, wb, wc, wd, we, wf, wg, gi_ar mx, gi_ar my, mv, gi_pr nx, gi_ar cf, gi_ar rf, gi_ar bo, gi_ar iu, gi_pr hd, gi_ar sz, gi_ar fc, gi_ar lc, gi_ar fr', gi_ar lr')) :
    ∀ (d b n : Nat) (f1 l1 : Nat → Nat), b + d = 64 → d < n → (∀ j, j < 64 → f1 j = if j < b then gi_bf c0 (fr j) else fr j) → (∀ j, j < 64 → l1 j = if j < b then gi_bl c0 (lr j) else lr j) →
      wX_cutRow_131 post (nI c0) (nI kh) (gi_pI fh) (nI kC) (nI kR) (nI kU) wa wb wc wd we wf wg n (nI b) (gi_ar mx) (gi_ar my) mv (gi_pr nx) (gi_ar cf) (gi_ar rf) (gi_ar bo) (gi_ar iu) (gi_pr hd) (gi_ar sz) (gi_ar fc) (gi_ar lc) (gi_ar f1) (gi_ar l1) := by
  intro d
  induction d with
  | zero =>
    intro b n f1 l1 hb hn h1 h2
    obtain ⟨n, rfl⟩ := gi_S hn
    refine br_t (nI_le (a := 64) (by omega) (by omega)) (hp f1 l1 (fun j hj => ?_) (fun j hj => ?_))
    · rw [h1 j hj, if_pos (by omega)]
    · rw [h2 j hj, if_pos (by omega)]
  | succ d ih =>
    intro b n f1 l1 hb hn h1 h2
    obtain ⟨n, rfl⟩ := gi_S hn
    have v1 : vp_in (nI b) 64 := vp_in_nI (by omega) (by decide)
    have e1 : f1 b = fr b := by rw [h1 b (by omega), if_neg (by omega)]
    have e2 : l1 b = lr b := by rw [h2 b (by omega), if_neg (by omega)]
    have b1 := (bd b (by omega)).1
    have b2 := (bd b (by omega)).2
    have g1 := gi_pw (q := gi_bf c0) h1 (by omega)
    have g2 := gi_pw (q := gi_bl c0) h2 (by omega)
    refine br_f (nI_ge (b := 64) (by omega) (by decide)) (And.intro v1 (And.intro v1 ?_))
    refine pk_le (f1 b) c0 (fun w => ?_) (fun w => ?_) (gi_rd f1 (by omega)) rfl (by omega) (by omega)
    · have k := ih (b + 1) n _ _ (by omega) (by omega) g1 g2
      rw [show gi_bf c0 (f1 b) = f1 b + 0 from if_pos w] at k
      refine gi_cr159 (z := 0) (by omega) (by omega) (by omega) rfl k ?_
      rw [gi_rd f1 (by omega)]
      exact nI_add _ 0
    · have k := ih (b + 1) n _ _ (by omega) (by omega) g1 g2
      rw [show gi_bf c0 (f1 b) = f1 b + 1 from if_neg (by omega)] at k
      refine gi_cr159 (z := 1) (by omega) (by omega) (by omega) rfl k ?_
      rw [gi_rd f1 (by omega)]
      exact nI_add _ 1
theorem gi_cr82 {post : SX → Prop} {J : Int32 → (Nat → Int32) → (Nat → Int32) → (Nat → Int32) → (Nat → Int32) → (Nat → Int32) → (Nat → Int32) → (Nat → Int32) → (Nat → Int32) → (Nat → Int32) → (Nat → Int32) → (Nat → Int32) → (Nat → Int32) → (Nat → Int32) → (Nat → Int32) → Prop} {x1 : Int32} {k : Nat} (hk : 1 ≤ k) (hk' : k < 16) (hR : kC ≤ 16) : ∀ (d c n : Nat) (bc : Nat → Nat), c + d = kC → d < n →
      (∀ bo', (∀ c' r', r' < 16 → bo' (16 * c' + r') = if c ≤ c' ∧ c' < kC ∧ r' = k then bc (16 * c' + r' - 1) else bc (16 * c' + r')) → J (nI (k - 1)) (gi_ar mx) (gi_ar my) mv (gi_pr nx) (gi_ar cf) (gi_ar rf) (gi_ar bo') (gi_ar iu) (gi_pr hd) (gi_ar sz) (gi_ar fc) (gi_ar lc) (gi_ar fr) (gi_ar lr)) → wX_cutRow_82 post J x1 (nI k) (nI kh) (gi_pI fh) (nI kC) (nI kR) (nI kU) wa wb wc wd we wf wg n (nI c) (gi_ar mx) (gi_ar my) mv (gi_pr nx) (gi_ar cf) (gi_ar rf) (gi_ar bc) (gi_ar iu) (gi_pr hd) (gi_ar sz) (gi_ar fc) (gi_ar lc) (gi_ar fr) (gi_ar lr) := by
  intro d
  induction d with
  | zero =>
    intro c n bc hr hn hJ
    obtain ⟨n, rfl⟩ := gi_S hn
    refine br_t (nI_le (by omega) (by omega)) ?_
    intro y ey
    rw [gi_m1 hk] at ey
    subst ey
    exact hJ bc (fun c' r' h => (if_neg (by omega)).symm)
  | succ d ih =>
    intro c n bc hr hn hJ
    obtain ⟨n, rfl⟩ := gi_S hn
    refine br_f (nI_ge (by omega) (by omega)) ?_
    rw [gi_16, gi_s1 (by omega)]
    refine And.intro (vp_in_nI (by omega) (by decide)) (And.intro (vp_in_nI (by omega) (by decide)) ?_)
    intro a ea y ey
    rw [gi_rd bc (by omega), gi_wa bc _ (by omega)] at ea
    rw [nI_1] at ey
    subst ea ey
    refine ih (c + 1) n _ (by omega) (by omega) (fun bo' e => hJ bo' (fun c' r' h => ?_))
    rw [e c' r' h]
    by_cases y : 16 * c' + r' = 16 * c + k
    · have e1 : c' = c := by omega
      have e2 : r' = k := by omega
      subst e1 e2
      rw [if_neg (by omega), gi_us, if_pos (by omega)]
    · by_cases w : c ≤ c' ∧ c' < kC ∧ r' = k
      · rw [if_pos (by omega), if_pos w, gi_un (by omega)]
      · rw [if_neg (by omega), if_neg w, gi_un y]
theorem gi_cr74 {post : SX → Prop} {c0 e0 : Nat} (hR : kC ≤ 16) (he : e0 < 16)
    (hK : ∀ bo', (∀ c r, c < kC → r < e0 + 1 → bo' (16 * c + r) = bo (16 * c + gi_od c0 r)) → ∃ n, wX_cutRow_131 post (nI c0) (nI kh) (gi_pI fh) (nI kC) (nI kR) (nI kU) wa wb wc wd we wf wg n 0 (gi_ar mx) (gi_ar my) mv (gi_pr nx) (gi_ar cf) (gi_ar rf) (gi_ar bo') (gi_ar iu) (gi_pr hd) (gi_ar sz) (gi_ar fc) (gi_ar lc) (gi_ar fr) (gi_ar lr)) :
    ∀ (d k n : Nat) (bc : Nat → Nat), k = c0 + d → k ≤ e0 → d < n → (∀ c r, c < kC → r < e0 + 1 → bc (16 * c + r) = if k < r then bo (16 * c + (r - 1)) else bo (16 * c + r)) →
      wX_cutRow_74 post (nI c0) (nI kh) (gi_pI fh) (nI kC) (nI kR) (nI kU) wa wb wc wd we wf wg n (nI k) (gi_ar mx) (gi_ar my) mv (gi_pr nx) (gi_ar cf) (gi_ar rf) (gi_ar bc) (gi_ar iu) (gi_pr hd) (gi_ar sz) (gi_ar fc) (gi_ar lc) (gi_ar fr) (gi_ar lr) := by
  intro d
  induction d with
  | zero =>
    intro k n bc hk hk' hn h1
    obtain ⟨n, rfl⟩ := gi_S hn
    refine br_t (nI_le (by omega) (by omega)) (hK bc (fun c r h2 h3 => ?_))
    rw [h1 c r h2 h3]
    unfold gi_od
    by_cases w : r ≤ c0
    · rw [if_pos w, if_neg (by omega)]
    · rw [if_neg w, if_pos (by omega)]
  | succ d ih =>
    intro k n bc hk hk' hn h1
    obtain ⟨n, rfl⟩ := gi_S hn
    refine br_f (nI_ge (by omega) (by omega)) (Exists.intro 17 (gi_cr82 (by omega) (by omega) hR kC 0 17 bc (by omega) (by omega) (fun b1 e1 => ?_)))
    refine ih (k - 1) n b1 (by omega) (by omega) (by omega) (fun c r h2 h3 => ?_)
    rw [e1 c r (by omega)]
    by_cases w : r = k
    · subst w
      rw [if_pos (by omega), if_pos (by omega), show 16 * c + r - 1 = 16 * c + (r - 1) by omega, h1 c _ h2 (by omega), if_neg (by omega)]
    · rw [if_neg (by omega), h1 c r h2 h3]
      by_cases y : k < r
      · rw [if_pos y, if_pos (by omega)]
      · rw [if_neg y, if_neg (by omega)]
theorem gi_cr23 {post : SX → Prop} {c0 a : Nat} (hC : kR < 16) (hc : c0 < kR) (bd : ∀ j, j ≤ kR → rf j ≤ 64)
    (hK : ∀ rf', (∀ j, j ≤ kR + 1 → rf' j = if j ≤ c0 then rf j else if j = c0 + 1 then a else rf (j - 1)) → ∃ n, wX_cutRow_74 post (nI c0) (nI kh) (gi_pI fh) (nI kC) (nI (kR + 1)) (nI kU) wa wb wc wd we wf wg n (nI kR) (gi_ar mx) (gi_ar my) mv (gi_pr nx) (gi_ar cf) (gi_ar rf') (gi_ar bo) (gi_ar iu) (gi_pr hd) (gi_ar sz) (gi_ar fc) (gi_ar lc) (gi_ar fr) (gi_ar lr)) :
    ∀ (d k n : Nat) (c1 : Nat → Nat), k = c0 + d → k ≤ kR → d < n → (∀ j, c1 j = if k + 2 ≤ j ∧ j ≤ kR + 1 then rf (j - 1) else rf j) → wX_cutRow_23 post (nI c0) (nI a) (nI kh) (gi_pI fh) (nI kC) (nI kR) (nI kU) wa wb wc wd we wf wg n (nI k) (gi_ar mx) (gi_ar my) mv (gi_pr nx) (gi_ar cf) (gi_ar c1) (gi_ar bo) (gi_ar iu) (gi_pr hd) (gi_ar sz) (gi_ar fc) (gi_ar lc) (gi_ar fr) (gi_ar lr) := by
  intro d
  induction d with
  | zero =>
    intro k n c1 hk hk' hn h1
    obtain ⟨n, rfl⟩ := gi_S hn
    refine br_t (nI_le (by omega) (by omega)) ?_
    rw [nI_1 c0]
    refine And.intro (vp_in_nI (by omega) (by decide)) ?_
    intro a7 e7 f8 e8 x9 e9
    rw [gi_wa c1 a (by omega)] at e7
    rw [nI_1] at e8
    subst e7 e8
    rw [nI_pred] at e9
    subst e9
    refine hK _ (fun j hj => ?_)
    by_cases w : j = c0 + 1
    · rw [w, gi_us, if_neg (by omega), if_pos rfl]
    · rw [gi_un w, h1 j]
      by_cases y : j ≤ c0
      · rw [if_neg (by omega), if_pos y]
      · rw [if_pos (by omega), if_neg y, if_neg w]
  | succ d ih =>
    intro k n c1 hk hk' hn h1
    obtain ⟨n, rfl⟩ := gi_S hn
    refine br_f (nI_ge (by omega) (by omega)) ?_
    rw [nI_1 k]
    refine And.intro (vp_in_nI (by omega) (by decide)) (And.intro (vp_in_nI (by omega) (by decide)) ?_)
    intro a7 e7 y ey
    rw [gi_rd c1 (by omega), gi_wa c1 _ (by omega)] at e7
    rw [gi_m1 (by omega)] at ey
    subst e7 ey
    refine ih (k - 1) n _ (by omega) (by omega) (by omega) (fun j => ?_)
    by_cases w : j = k + 1
    · rw [w, gi_us, h1 k, if_neg (by omega), if_pos (by omega), Nat.add_sub_cancel]
    · rw [gi_un w, h1 j]
      by_cases y : k + 2 ≤ j ∧ j ≤ kR + 1
      · rw [if_pos y, if_pos (by omega)]
      · rw [if_neg y, if_neg (by omega)]
theorem gi_cutR {post : SX → Prop} {c0 : Nat} (B : gi_Bd kR rf) (hR : kC ≤ 16) (hC : kR < 16) (hc : c0 < kR) (bd : ∀ b, b < 64 → fr b < 100 ∧ lr b < 100)
    (hp : ∀ rf' bo' fr' lr', (∀ j, j ≤ kR + 1 → rf' j = if j ≤ c0 then rf j else if j = c0 + 1 then (rf c0 + rf (c0 + 1)) / 2 else rf (j - 1)) → (∀ c r, c < kC → r < kR + 1 → bo' (16 * c + r) = bo (16 * c + gi_od c0 r)) →
      (∀ b, b < 64 → fr' b = gi_bf c0 (fr b)) → (∀ b, b < 64 → lr' b = gi_bl c0 (lr b)) → post (nI kh, gi_pI fh, nI kC, nI (kR + 1), nI kU, wa, wb, wc, wd, we, wf, wg, gi_ar mx, gi_ar my, mv, gi_pr nx, gi_ar cf, gi_ar rf', gi_ar bo', gi_ar iu, gi_pr hd, gi_ar sz, gi_ar fc, gi_ar lc, gi_ar fr', gi_ar lr')) : wpX_cutRow post (nI kh, gi_pI fh, nI kC, nI kR, nI kU, wa, wb, wc, wd, we, wf, wg, gi_ar mx, gi_ar my, mv, gi_pr nx, gi_ar cf, gi_ar rf, gi_ar bo, gi_ar iu, gi_pr hd, gi_ar sz, gi_ar fc, gi_ar lc, gi_ar fr, gi_ar lr) (nI c0) := by
  have q1 := gi_Bd_64 B (k := c0) (by omega)
  have q2 := gi_Bd_64 B (k := c0 + 1) (by omega)
  unfold wpX_cutRow
  dsimp only
  rw [nI_1 c0]
  refine ⟨vp_in_nI (by omega) (by decide), vp_in_nI (by omega) (by decide), gi_20, ?_⟩
  intro x ex
  rw [gi_rd rf (by omega), gi_rd rf (by omega), gi_mid (by omega) (by omega)] at ex
  subst ex
  refine Exists.intro 17 (gi_cr23 hC hc (fun j hj => gi_Bd_64 B hj) (fun rf' ec => ?_) (kR - c0) kR 17 rf (by omega) (by omega) (by omega) (fun j => (if_neg (by omega)).symm))
  refine Exists.intro 17 (gi_cr74 hR (by omega) (fun bo' eb => ?_) (kR - c0) kR 17 bo (by omega) (by omega) (by omega) (fun c r h2 h3 => (if_neg (by omega)).symm))
  exact Exists.intro 65 (gi_cr131 (by omega) bd (fun fr' lr' ef el => hp rf' bo' fr' lr' ec eb ef el) 64 0 65 fr lr (by omega) (by omega) (fun j hj => (if_neg (by omega)).symm) (fun j hj => (if_neg (by omega)).symm))
end
end
section
section
variable {kh fh kC kR kU : Nat} {wa wb wc wd we wf wg : Int32} {mx my : Nat → Nat} {mv : Nat → Int32} {nx cf rf bo iu hd sz fc lc fr lr : Nat → Nat}
theorem gi_cutCX {H : Nat → Bool} {Q : SX → Prop} {c0 : Nat} (I : gi_XI kh fh kC kR kU mx my nx cf rf bo iu hd sz fc lc fr lr H) (hC : kC < 16) (hc : c0 < kC) (hw : cf c0 + 2 ≤ cf (c0 + 1))
    (hp : ∀ cf' bo' fc' lc', gi_XI kh fh (kC + 1) kR kU mx my nx cf' rf bo' iu hd sz fc' lc' fr lr H → (∀ b, b < 64 → fc' b = gi_bf c0 (fc b) ∧ lc' b = gi_bl c0 (lc b)) → Q (nI kh, gi_pI fh, nI (kC + 1), nI kR, nI kU, wa, wb, wc, wd, we, wf, wg, gi_ar mx, gi_ar my, mv, gi_pr nx, gi_ar cf', gi_ar rf, gi_ar bo', gi_ar iu, gi_pr hd, gi_ar sz, gi_ar fc', gi_ar lc', gi_ar fr, gi_ar lr)) :
    wpX_cutColumn Q (nI kh, gi_pI fh, nI kC, nI kR, nI kU, wa, wb, wc, wd, we, wf, wg, gi_ar mx, gi_ar my, mv, gi_pr nx, gi_ar cf, gi_ar rf, gi_ar bo, gi_ar iu, gi_pr hd, gi_ar sz, gi_ar fc, gi_ar lc, gi_ar fr, gi_ar lr) (nI c0) := by
  obtain ⟨B1, B2, T, ct, Fr, K, hin, inj⟩ := I
  have h16 := B1.2.1
  have r16 := B2.2.1
  refine gi_cutC B1 r16 hC hc (fun b hb => ?_) (fun cf' bo' fc' lc' ec eb ef el => ?_)
  · have := T.2.2 b hb
    omega
  · have a1 : cf c0 < (cf c0 + cf (c0 + 1)) / 2 := by omega
    have a2 : (cf c0 + cf (c0 + 1)) / 2 < cf (c0 + 1) := by omega
    have B1' := gi_cut_Bd B1 hC hc a1 a2 ec
    refine hp cf' bo' fc' lc' ⟨B1', B2, gi_cutC_Tl T hc eb ef el, ct, Fr, gi_Bk_c K (fun m _ hm => ?_), hin, inj⟩ (fun b hb => ⟨ef b hb, el b hb⟩)
    obtain ⟨m1, m2, m3⟩ := hin m hm
    unfold gi_own
    rw [eb _ _ (gi_loc_in B1' m2).1 (gi_loc_in B2 m3).1, gi_cut_loc B1 hC hc a1 a2 ec m2]
theorem gi_cutRX {H : Nat → Bool} {Q : SX → Prop} {c0 : Nat} (I : gi_XI kh fh kC kR kU mx my nx cf rf bo iu hd sz fc lc fr lr H) (hC : kR < 16) (hc : c0 < kR) (hw : rf c0 + 2 ≤ rf (c0 + 1))
    (hp : ∀ rf' bo' fr' lr', gi_XI kh fh kC (kR + 1) kU mx my nx cf rf' bo' iu hd sz fc lc fr' lr' H → (∀ b, b < 64 → fr' b = gi_bf c0 (fr b) ∧ lr' b = gi_bl c0 (lr b)) → Q (nI kh, gi_pI fh, nI kC, nI (kR + 1), nI kU, wa, wb, wc, wd, we, wf, wg, gi_ar mx, gi_ar my, mv, gi_pr nx, gi_ar cf, gi_ar rf', gi_ar bo', gi_ar iu, gi_pr hd, gi_ar sz, gi_ar fc, gi_ar lc, gi_ar fr', gi_ar lr')) :
    wpX_cutRow Q (nI kh, gi_pI fh, nI kC, nI kR, nI kU, wa, wb, wc, wd, we, wf, wg, gi_ar mx, gi_ar my, mv, gi_pr nx, gi_ar cf, gi_ar rf, gi_ar bo, gi_ar iu, gi_pr hd, gi_ar sz, gi_ar fc, gi_ar lc, gi_ar fr, gi_ar lr) (nI c0) := by
  obtain ⟨B1, B2, T, ct, Fr, K, hin, inj⟩ := I
  have h16 := B1.2.1
  have r16 := B2.2.1
  refine gi_cutR B2 h16 hC hc (fun b hb => ?_) (fun rf' bo' fr' lr' ec eb ef el => ?_)
  · have := T.2.2 b hb
    omega
  · have a1 : rf c0 < (rf c0 + rf (c0 + 1)) / 2 := by omega
    have a2 : (rf c0 + rf (c0 + 1)) / 2 < rf (c0 + 1) := by omega
    have B2' := gi_cut_Bd B2 hC hc a1 a2 ec
    refine hp rf' bo' fr' lr' ⟨B1, B2', gi_cutR_Tl T hc eb ef el, ct, Fr, gi_Bk_c K (fun m _ hm => ?_), hin, inj⟩ (fun b hb => ⟨ef b hb, el b hb⟩)
    obtain ⟨m1, m2, m3⟩ := hin m hm
    unfold gi_own
    rw [eb _ _ (gi_loc_in B1 m2).1 (gi_loc_in B2' m3).1, gi_cut_loc B2 hC hc a1 a2 ec m3]
theorem gi_md110 {H : Nat → Bool} {post : Int32 → SX → Prop} {c r w h : Nat} (I : gi_XI kh fh kC kR kU mx my nx cf rf bo iu hd sz fc lc fr lr H) (hc : c < kC) (hr : r < kR) (hw : w < 1000) (hh : h < 1000)
    (cC : 2 ≤ w → kC < 16 ∧ cf c + 2 ≤ cf (c + 1)) (cR : 2 ≤ h → kR < 16 ∧ rf r + 2 ≤ rf (r + 1)) (h2 : 2 ≤ w ∨ 2 ≤ h)
    (k1 : ∀ cf' bo' fc' lc', gi_XI kh fh (kC + 1) kR kU mx my nx cf' rf bo' iu hd sz fc' lc' fr lr H → (∀ b, b < 64 → fc' b = gi_bf c (fc b) ∧ lc' b = gi_bl c (lc b)) → post 1 (nI kh, gi_pI fh, nI (kC + 1), nI kR, nI kU, wa, wb, wc, wd, we, wf, wg, gi_ar mx, gi_ar my, mv, gi_pr nx, gi_ar cf', gi_ar rf, gi_ar bo', gi_ar iu, gi_pr hd, gi_ar sz, gi_ar fc', gi_ar lc', gi_ar fr, gi_ar lr))
    (k2 : ∀ rf' bo' fr' lr', gi_XI kh fh kC (kR + 1) kU mx my nx cf rf' bo' iu hd sz fc lc fr' lr' H → (∀ b, b < 64 → fr' b = gi_bf r (fr b) ∧ lr' b = gi_bl r (lr b)) → post 1 (nI kh, gi_pI fh, nI kC, nI (kR + 1), nI kU, wa, wb, wc, wd, we, wf, wg, gi_ar mx, gi_ar my, mv, gi_pr nx, gi_ar cf, gi_ar rf', gi_ar bo', gi_ar iu, gi_pr hd, gi_ar sz, gi_ar fc, gi_ar lc, gi_ar fr', gi_ar lr')) :
    wX_makeDividable_110 post (nI c) (nI r) (nI w) (nI h) (nI kh) (gi_pI fh) (nI kC) (nI kR) (nI kU) wa wb wc wd we wf wg (gi_ar mx) (gi_ar my) mv (gi_pr nx) (gi_ar cf) (gi_ar rf) (gi_ar bo) (gi_ar iu) (gi_pr hd) (gi_ar sz) (gi_ar fc) (gi_ar lc) (gi_ar fr) (gi_ar lr) := by
  unfold wX_makeDividable_110
  refine pk_lt w h (fun z => ?_) (fun z => ?_) rfl rfl (by omega) (by omega)
  · obtain ⟨a, b⟩ := cR (by omega)
    exact gi_cutRX I a hr b (fun rf' bo' fr' lr' I' e => k2 rf' bo' fr' lr' I' e)
  · obtain ⟨a, b⟩ := cC (by omega)
    exact gi_cutCX I a hc b (fun cf' bo' fc' lc' I' e => k1 cf' bo' fc' lc' I' e)
theorem gi_md94 {H : Nat → Bool} {post : Int32 → SX → Prop} {c r w h : Nat} (I : gi_XI kh fh kC kR kU mx my nx cf rf bo iu hd sz fc lc fr lr H) (hc : c < kC) (hr : r < kR) (hw : w < 1000) (hh : h < 1000)
    (cC : 2 ≤ w → kC < 16 ∧ cf c + 2 ≤ cf (c + 1)) (cR : 2 ≤ h → kR < 16 ∧ rf r + 2 ≤ rf (r + 1))
    (k1 : ∀ cf' bo' fc' lc', gi_XI kh fh (kC + 1) kR kU mx my nx cf' rf bo' iu hd sz fc' lc' fr lr H → (∀ b, b < 64 → fc' b = gi_bf c (fc b) ∧ lc' b = gi_bl c (lc b)) → post 1 (nI kh, gi_pI fh, nI (kC + 1), nI kR, nI kU, wa, wb, wc, wd, we, wf, wg, gi_ar mx, gi_ar my, mv, gi_pr nx, gi_ar cf', gi_ar rf, gi_ar bo', gi_ar iu, gi_pr hd, gi_ar sz, gi_ar fc', gi_ar lc', gi_ar fr, gi_ar lr))
    (k2 : ∀ rf' bo' fr' lr', gi_XI kh fh kC (kR + 1) kU mx my nx cf rf' bo' iu hd sz fc lc fr' lr' H → (∀ b, b < 64 → fr' b = gi_bf r (fr b) ∧ lr' b = gi_bl r (lr b)) → post 1 (nI kh, gi_pI fh, nI kC, nI (kR + 1), nI kU, wa, wb, wc, wd, we, wf, wg, gi_ar mx, gi_ar my, mv, gi_pr nx, gi_ar cf, gi_ar rf', gi_ar bo', gi_ar iu, gi_pr hd, gi_ar sz, gi_ar fc, gi_ar lc, gi_ar fr', gi_ar lr'))
    (k0 : post 0 (nI kh, gi_pI fh, nI kC, nI kR, nI kU, wa, wb, wc, wd, we, wf, wg, gi_ar mx, gi_ar my, mv, gi_pr nx, gi_ar cf, gi_ar rf, gi_ar bo, gi_ar iu, gi_pr hd, gi_ar sz, gi_ar fc, gi_ar lc, gi_ar fr, gi_ar lr)) : wX_makeDividable_94 post (nI c) (nI r) (nI w) (nI h) (nI kh) (gi_pI fh) (nI kC) (nI kR) (nI kU) wa wb wc wd we wf wg (gi_ar mx) (gi_ar my) mv (gi_pr nx) (gi_ar cf) (gi_ar rf) (gi_ar bo) (gi_ar iu) (gi_pr hd) (gi_ar sz) (gi_ar fc) (gi_ar lc) (gi_ar fr) (gi_ar lr) := by
  unfold wX_makeDividable_94
  refine pk_le 2 w (fun z => gi_md110 I hc hr hw hh cC cR (Or.inl z) k1 k2) (fun z => ?_) rfl rfl (by omega) (by omega)
  exact pk_le 2 h (fun y => gi_md110 I hc hr hw hh cC cR (Or.inr y) k1 k2) (fun _ => k0) rfl rfl (by omega) (by omega)
theorem gi_md64 {H : Nat → Bool} {post : Int32 → SX → Prop} {c r w : Nat} (I : gi_XI kh fh kC kR kU mx my nx cf rf bo iu hd sz fc lc fr lr H) (hc : c < kC) (hr : r < kR) (hw : w < 1000)
    (cC : 2 ≤ w → kC < 16 ∧ cf c + 2 ≤ cf (c + 1))
    (k1 : ∀ cf' bo' fc' lc', gi_XI kh fh (kC + 1) kR kU mx my nx cf' rf bo' iu hd sz fc' lc' fr lr H → (∀ b, b < 64 → fc' b = gi_bf c (fc b) ∧ lc' b = gi_bl c (lc b)) → post 1 (nI kh, gi_pI fh, nI (kC + 1), nI kR, nI kU, wa, wb, wc, wd, we, wf, wg, gi_ar mx, gi_ar my, mv, gi_pr nx, gi_ar cf', gi_ar rf, gi_ar bo', gi_ar iu, gi_pr hd, gi_ar sz, gi_ar fc', gi_ar lc', gi_ar fr, gi_ar lr))
    (k2 : ∀ rf' bo' fr' lr', gi_XI kh fh kC (kR + 1) kU mx my nx cf rf' bo' iu hd sz fc lc fr' lr' H → (∀ b, b < 64 → fr' b = gi_bf r (fr b) ∧ lr' b = gi_bl r (lr b)) → post 1 (nI kh, gi_pI fh, nI kC, nI (kR + 1), nI kU, wa, wb, wc, wd, we, wf, wg, gi_ar mx, gi_ar my, mv, gi_pr nx, gi_ar cf, gi_ar rf', gi_ar bo', gi_ar iu, gi_pr hd, gi_ar sz, gi_ar fc, gi_ar lc, gi_ar fr', gi_ar lr'))
    (k0 : post 0 (nI kh, gi_pI fh, nI kC, nI kR, nI kU, wa, wb, wc, wd, we, wf, wg, gi_ar mx, gi_ar my, mv, gi_pr nx, gi_ar cf, gi_ar rf, gi_ar bo, gi_ar iu, gi_pr hd, gi_ar sz, gi_ar fc, gi_ar lc, gi_ar fr, gi_ar lr)) : wX_makeDividable_64 post (nI c) (nI r) (nI w) (nI kh) (gi_pI fh) (nI kC) (nI kR) (nI kU) wa wb wc wd we wf wg (gi_ar mx) (gi_ar my) mv (gi_pr nx) (gi_ar cf) (gi_ar rf) (gi_ar bo) (gi_ar iu) (gi_pr hd) (gi_ar sz) (gi_ar fc) (gi_ar lc) (gi_ar fr) (gi_ar lr) := by
  have B := I.2.1
  have r16 := B.2.1
  have q1 := gi_Bd_64 B (k := r) (by omega)
  have q2 := gi_Bd_64 B (k := r + 1) (by omega)
  have q3 := B.2.2.2.2 r hr
  unfold wX_makeDividable_64
  refine pk_le 16 kR (fun z => ?_) (fun z => ?_) rfl rfl (by omega) (by omega)
  · exact gi_md94 (h := 0) I hc hr hw (by omega) cC (fun q => by omega) k1 k2 k0
  · rw [nI_1 r, gi_rd rf (by omega), gi_rd rf (by omega), pk_sub (by omega)]
    refine ⟨vp_in_nI (by omega) (by decide), vp_in_nI (by omega) (by decide), ?_⟩
    exact gi_md94 I hc hr hw (by omega) cC (fun q => ⟨by omega, by omega⟩) k1 k2 k0
theorem gi_md {H : Nat → Bool} {post : Int32 → SX → Prop} {b : Nat} (hb : b < 64) (ub : iu b = 1) (I : gi_XI kh fh kC kR kU mx my nx cf rf bo iu hd sz fc lc fr lr H)
    (h1 : ∀ kC kR cf rf bo fc lc fr lr, gi_XI kh fh kC kR kU mx my nx cf rf bo iu hd sz fc lc fr lr H → (fc b < lc b ∨ fr b < lr b) → post 1 (nI kh, gi_pI fh, nI kC, nI kR, nI kU, wa, wb, wc, wd, we, wf, wg, gi_ar mx, gi_ar my, mv, gi_pr nx, gi_ar cf, gi_ar rf, gi_ar bo, gi_ar iu, gi_pr hd, gi_ar sz, gi_ar fc, gi_ar lc, gi_ar fr, gi_ar lr)) (h0 : post 0 (nI kh, gi_pI fh, nI kC, nI kR, nI kU, wa, wb, wc, wd, we, wf, wg, gi_ar mx, gi_ar my, mv, gi_pr nx, gi_ar cf, gi_ar rf, gi_ar bo, gi_ar iu, gi_pr hd, gi_ar sz, gi_ar fc, gi_ar lc, gi_ar fr, gi_ar lr)) : wpX_makeDividable post (nI kh, gi_pI fh, nI kC, nI kR, nI kU, wa, wb, wc, wd, we, wf, wg, gi_ar mx, gi_ar my, mv, gi_pr nx, gi_ar cf, gi_ar rf, gi_ar bo, gi_ar iu, gi_pr hd, gi_ar sz, gi_ar fc, gi_ar lc, gi_ar fr, gi_ar lr) (nI b) := by
  have v1 : vp_in (nI b) 64 := vp_in_nI hb (by decide)
  have B := I.1
  have c16 := B.2.1
  have r16 := I.2.1.2.1
  obtain ⟨-, t2, t3⟩ := I.2.2.1
  obtain ⟨p1, p2, -⟩ := t2 b hb ub
  obtain ⟨-, p3, p4, p5, p6⟩ := t3 b hb
  unfold wpX_makeDividable
  dsimp only
  refine ⟨v1, ?_⟩
  intro x ex
  rw [gi_rd fc (by omega)] at ex
  subst ex
  refine ⟨v1, ?_⟩
  intro x ex
  rw [gi_rd fr (by omega)] at ex
  subst ex
  refine ⟨v1, ?_⟩
  refine pk_lt (fc b) (lc b) (fun z => h1 kC kR cf rf bo fc lc fr lr I (Or.inl z)) (fun z => ⟨v1, ?_⟩) rfl (gi_rd lc (by omega)) (by omega) (by omega)
  refine pk_le (lr b) (fr b) (fun y => ?_) (fun y => h1 kC kR cf rf bo fc lc fr lr I (Or.inr y)) (gi_rd lr (by omega)) rfl (by omega) (by omega)
  have k1 : ∀ cf' bo' fc' lc', gi_XI kh fh (kC + 1) kR kU mx my nx cf' rf bo' iu hd sz fc' lc' fr lr H → (∀ d, d < 64 → fc' d = gi_bf (fc b) (fc d) ∧ lc' d = gi_bl (fc b) (lc d)) → post 1 (nI kh, gi_pI fh, nI (kC + 1), nI kR, nI kU, wa, wb, wc, wd, we, wf, wg, gi_ar mx, gi_ar my, mv, gi_pr nx, gi_ar cf', gi_ar rf, gi_ar bo', gi_ar iu, gi_pr hd, gi_ar sz, gi_ar fc', gi_ar lc', gi_ar fr, gi_ar lr) := by
    intro cf' bo' fc' lc' I' e
    refine h1 _ _ _ _ _ _ _ _ _ I' (Or.inl ?_)
    obtain ⟨e1, e2⟩ := e b hb
    have a := gi_bf_i (fc b) (fc b)
    have d := gi_bl_i (fc b) (lc b)
    omega
  have k2 : ∀ rf' bo' fr' lr', gi_XI kh fh kC (kR + 1) kU mx my nx cf rf' bo' iu hd sz fc lc fr' lr' H → (∀ d, d < 64 → fr' d = gi_bf (fr b) (fr d) ∧ lr' d = gi_bl (fr b) (lr d)) → post 1 (nI kh, gi_pI fh, nI kC, nI (kR + 1), nI kU, wa, wb, wc, wd, we, wf, wg, gi_ar mx, gi_ar my, mv, gi_pr nx, gi_ar cf, gi_ar rf', gi_ar bo', gi_ar iu, gi_pr hd, gi_ar sz, gi_ar fc, gi_ar lc, gi_ar fr', gi_ar lr') := by
    intro rf' bo' fr' lr' I' e
    refine h1 _ _ _ _ _ _ _ _ _ I' (Or.inr ?_)
    obtain ⟨e1, e2⟩ := e b hb
    have a := gi_bf_i (fr b) (fr b)
    have d := gi_bl_i (fr b) (lr b)
    omega
  have q1 := gi_Bd_64 B (k := fc b) (by omega)
  have q2 := gi_Bd_64 B (k := fc b + 1) (by omega)
  have q3 := B.2.2.2.2 (fc b) (by omega)
  refine pk_le 16 kC (fun w => ?_) (fun w => ?_) rfl rfl (by omega) (by omega)
  · exact gi_md64 (w := 0) I p3 p5 (by omega) (fun q => by omega) k1 k2 h0
  · rw [nI_1 (fc b), gi_rd cf (by omega), gi_rd cf (by omega), pk_sub (by omega)]
    refine ⟨vp_in_nI (by omega) (by decide), vp_in_nI (by omega) (by decide), ?_⟩
    exact gi_md64 I p3 p5 (by omega) (fun q => ⟨by omega, by omega⟩) k1 k2 h0
theorem gi_dv178 {H : Nat → Bool} {post : Int32 → SX → Prop} {x2 : Int32} {N : Nat} (B1 : gi_Bd kC cf) (B2 : gi_Bd kR rf) (T : gi_Tl kC kR bo iu fc lc fr lr) (hin : ∀ m, H m = true → m < 40 ∧ mx m < 64 ∧ my m < 64) (hN : N ≤ 40)
    (hp : ∀ nx' hd' sz', gi_Bk iu hd' sz' nx' H (gi_own kC kR cf rf bo mx my) → gi_Fr kh fh nx' H → post x2 (nI kh, gi_pI fh, nI kC, nI kR, nI kU, wa, wb, wc, wd, we, wf, wg, gi_ar mx, gi_ar my, mv, gi_pr nx', gi_ar cf, gi_ar rf, gi_ar bo, gi_ar iu, gi_pr hd', gi_ar sz', gi_ar fc, gi_ar lc, gi_ar fr, gi_ar lr)) :
    ∀ (L : List Nat) (g s n : Nat) (nx1 hd1 sz1 : Nat → Nat), gi_Ch nx1 L g → L.Nodup → (∀ m, m ∈ L → H m = true) → s + L.length = N → L.length < n →
      gi_Bk iu hd1 sz1 nx1 (gi_mi H L) (gi_own kC kR cf rf bo mx my) → gi_Fr kh fh nx1 H → wX_divide_178 post x2 (nI N) n (gi_pI g) (nI s) (nI kh) (gi_pI fh) (nI kC) (nI kR) (nI kU) wa wb wc wd we wf wg (gi_ar mx) (gi_ar my) mv (gi_pr nx1) (gi_ar cf) (gi_ar rf) (gi_ar bo) (gi_ar iu) (gi_pr hd1) (gi_ar sz1) (gi_ar fc) (gi_ar lc) (gi_ar fr) (gi_ar lr) := by
  intro L
  induction L with
  | nil =>
    intro g s n nx1 hd1 sz1 c nd hL hs hn K Q
    obtain ⟨n, rfl⟩ := gi_S hn
    rw [gi_mi_0] at K
    rw [List.length_nil] at hs
    exact br_t (nI_le (by omega) (by omega)) (hp nx1 hd1 sz1 K Q)
  | cons m L ih =>
    intro g s n nx1 hd1 sz1 c nd hL hs hn K Q
    obtain ⟨n, rfl⟩ := gi_S hn
    obtain ⟨c1, c2⟩ := c
    rw [List.length_cons] at hs hn
    have hm := hL m List.mem_cons_self
    obtain ⟨m1, m2, m3⟩ := hin m hm
    have hv : vp_in (nI m) 40 := vp_in_nI m1 (by decide)
    rw [c1, gi_p1]
    refine br_f (nI_ge (by omega) (by omega)) (br_f (nI_pos (by omega)) (And.intro hv ?_))
    intro x6 e6
    rw [gi_rp nx1 (by omega)] at e6
    refine And.intro hv (And.intro hv ?_)
    rw [gi_rd mx (by omega), gi_rd my (by omega)]
    obtain ⟨p1, p2⟩ := gi_own_ok (mx := mx) (my := my) B1 B2 T m2 m3
    refine gi_bat m2 m3 B1 B2 ?_
    refine gi_pm p1 m1 ?_
    intro y ey
    rw [nI_1] at ey
    subst e6 ey
    obtain ⟨k1, k2, k3⟩ := gi_step K Q c2 nd m1 hm rfl
    exact ih _ (s + 1) n _ _ _ k3 (List.nodup_cons.mp nd).2 (fun j hj => hL j (List.mem_cons_of_mem _ hj)) (by omega) (by omega) k1 k2
theorem gi_dv141 {H : Nat → Bool} {post : Int32 → SX → Prop} {b o : Nat} {fc1 lc1 fr1 lr1 : Nat → Nat} (hb : b < 64) (ub : iu b = 1) (ho : o < 64) (uo : iu o = 0) (I : gi_XI kh fh kC kR kU mx my nx cf rf bo iu hd sz fc lc fr lr H)
    (ed : ∀ d, d ≠ b → d ≠ o → fc1 d = fc d ∧ lc1 d = lc d ∧ fr1 d = fr d ∧ lr1 d = lr d) (sp : gi_Sp fc lc fr lr fc1 lc1 fr1 lr1 b o)
    (hp : ∀ nx' bo' hd' sz', gi_XI kh fh kC kR (kU + 1) mx my nx' cf rf bo' (gi_up iu o 1) hd' sz' fc1 lc1 fr1 lr1 H →
      post (nI o) (nI kh, gi_pI fh, nI kC, nI kR, nI (kU + 1), wa, wb, wc, wd, we, wf, wg, gi_ar mx, gi_ar my, mv, gi_pr nx', gi_ar cf, gi_ar rf, gi_ar bo', gi_ar (gi_up iu o 1), gi_pr hd', gi_ar sz', gi_ar fc1, gi_ar lc1, gi_ar fr1, gi_ar lr1)) :
    wX_divide_141 post (nI b) (nI o) (nI kh) (gi_pI fh) (nI kC) (nI kR) (nI (kU + 1)) wa wb wc wd we wf wg (gi_ar mx) (gi_ar my) mv (gi_pr nx) (gi_ar cf) (gi_ar rf) (gi_ar bo) (gi_ar (gi_up iu o 1)) (gi_pr (gi_up hd o 0)) (gi_ar (gi_up sz o 0)) (gi_ar fc1) (gi_ar lc1) (gi_ar fr1) (gi_ar lr1) := by
  obtain ⟨B1, B2, T, ct, Q, K, hin, inj⟩ := I
  have v1 : vp_in (nI b) 64 := vp_in_nI hb (by decide)
  have hbo : b ≠ o := fun e => by rw [e, uo] at ub; cases ub
  have e1 : gi_up iu o 1 o = 1 := gi_us
  have e2 : ∀ d, d ≠ o → gi_up iu o 1 d = iu d := fun d h => gi_un h
  have bnd : fc1 o ≤ lc1 o ∧ fr1 o ≤ lr1 o ∧ lc1 o < kC ∧ lr1 o < kR := by
    obtain ⟨p1, p2, -⟩ := T.2.1 b hb ub
    obtain ⟨-, p3, p4, p5, p6⟩ := T.2.2 b hb
    obtain ⟨m, s⟩ := sp
    omega
  unfold wX_divide_141
  refine gi_clm ho B1.2.1 B2.2.1 bnd.2.2.1 bnd.2.2.2 bnd.2.1 bnd.1 (fun bo' cl => ?_)
  obtain ⟨T', w⟩ := gi_div_Tl T hb ub ho uo e1 e2 ed sp cl
  obtain ⟨L, c, n, e, s⟩ := K b hb ub
  have l40 := gi_len40 n (fun m hm => ((e m).mp hm).1)
  refine And.intro v1 ?_
  intro x3 e3
  rw [gi_rp _ (by omega), gi_un hbo] at e3
  refine And.intro v1 ?_
  intro x4 e4
  rw [gi_rd _ (by omega), gi_un hbo, s] at e4
  refine And.intro v1 ?_
  intro a5 e5
  rw [gi_wm _ (by omega)] at e5
  refine And.intro v1 ?_
  intro a6 e6
  rw [gi_w0 _ (by omega)] at e6
  subst e3 e4 e5 e6
  have K1 : gi_Bk (gi_up iu o 1) (gi_up (gi_up hd o 0) b 0) (gi_up (gi_up sz o 0) b 0) nx (gi_mi H L) (gi_own kC kR cf rf bo' mx my) := by
    refine gi_div_Bk K hin B1 B2 e w e2 gi_us gi_us ?_ ?_ (fun d h1 h2 => ?_)
    · rw [gi_un (Ne.symm hbo), gi_us]
    · rw [gi_un (Ne.symm hbo), gi_us]
    · rw [gi_un h1, gi_un h1, gi_un h2, gi_un h2]
      exact ⟨rfl, rfl⟩
  refine Exists.intro 41 (gi_dv178 B1 B2 T' hin l40 (fun nx' hd' sz' K' Q' => hp nx' bo' hd' sz' ⟨B1, B2, T', ?_, Q', K', hin, inj⟩) L _ 0 41 nx _ _ c n (fun m hm => ((e m).mp hm).2.1) (by omega) (by omega) K1 Q)
  have := gi_ct_up (f := iu) (k := o) (x := 1) (n := 64) ho
  omega
theorem gi_dv {H : Nat → Bool} {post : Int32 → SX → Prop} {b : Nat} (hb : b < 64) (ub : iu b = 1) (I : gi_XI kh fh kC kR kU mx my nx cf rf bo iu hd sz fc lc fr lr H) (hU : kU < 60) (hs : fc b < lc b ∨ fr b < lr b)
    (hp : ∀ (o kU : Nat) (nx bo iu hd sz fc lc fr lr : Nat → Nat), o < 64 → iu o = 1 → iu b = 1 → gi_XI kh fh kC kR kU mx my nx cf rf bo iu hd sz fc lc fr lr H → post (nI o) (nI kh, gi_pI fh, nI kC, nI kR, nI kU, wa, wb, wc, wd, we, wf, wg, gi_ar mx, gi_ar my, mv, gi_pr nx, gi_ar cf, gi_ar rf, gi_ar bo, gi_ar iu, gi_pr hd, gi_ar sz, gi_ar fc, gi_ar lc, gi_ar fr, gi_ar lr)) : wpX_divide post (nI kh, gi_pI fh, nI kC, nI kR, nI kU, wa, wb, wc, wd, we, wf, wg, gi_ar mx, gi_ar my, mv, gi_pr nx, gi_ar cf, gi_ar rf, gi_ar bo, gi_ar iu, gi_pr hd, gi_ar sz, gi_ar fc, gi_ar lc, gi_ar fr, gi_ar lr) (nI b) := by
  obtain ⟨t1, t2, t3⟩ := I.2.2.1
  have ct := I.2.2.2.1
  have c16 := I.1.2.1
  have r16 := I.2.1.2.1
  have ui : ∀ k, k < 64 → iu k ≤ 1 := fun k hk => (t3 k hk).1
  unfold wpX_divide
  dsimp only
  refine gi_nb ui (gi_ct_ex ui (by omega)) (fun o ho uo => ?_)
  have v1 : vp_in (nI b) 64 := vp_in_nI hb (by decide)
  have v2 : vp_in (nI o) 64 := vp_in_nI ho (by decide)
  have hbo : b ≠ o := fun e => by rw [e, uo] at ub; cases ub
  obtain ⟨p1, p2, -⟩ := t2 b hb ub
  obtain ⟨-, p3, p4, p5, p6⟩ := t3 b hb
  dsimp only
  refine And.intro v1 (And.intro v2 ?_)
  intro a1 e1
  rw [gi_rd _ (by omega), gi_un hbo, gi_wa _ _ (by omega)] at e1
  refine And.intro v1 (And.intro v2 ?_)
  intro a2 e2
  rw [gi_rd _ (by omega), gi_un hbo, gi_wa _ _ (by omega)] at e2
  refine And.intro v1 (And.intro v2 ?_)
  intro a3 e3
  rw [gi_rd _ (by omega), gi_un hbo, gi_wa _ _ (by omega)] at e3
  refine And.intro v1 (And.intro v2 ?_)
  intro a4 e4
  rw [gi_rd _ (by omega), gi_un hbo, gi_wa _ _ (by omega)] at e4
  subst e1 e2 e3 e4
  refine And.intro v1 (And.intro v1 ?_)
  have rd : ∀ (f : Nat → Nat) (v : Nat), gi_up (gi_up f o 0) o v b = f b := fun f v => by rw [gi_un hbo, gi_un hbo]
  have ub' : gi_up iu o 1 b = 1 := (gi_un hbo).trans ub
  refine pk_le (lc b) (fc b) (fun z => ?_) (fun z => ?_) (by rw [gi_rd _ (by omega), rd]) (by rw [gi_rd _ (by omega), rd]) (by omega) (by omega)
  · refine And.intro v1 (And.intro v1 (And.intro gi_20 (And.intro v1 ?_)))
    intro a5 e5
    rw [gi_rd _ (by omega), gi_rd _ (by omega), rd, rd, gi_mid (by omega) (by omega), gi_wa _ _ (by omega)] at e5
    subst e5
    refine And.intro v1 (And.intro v2 ?_)
    intro a6 e6
    rw [gi_rd _ (by omega), gi_us, nI_1, gi_wa _ _ (by omega)] at e6
    subst e6
    refine gi_dv141 hb ub ho uo I (fun d h1 h2 => ?_) ⟨(fr b + lr b) / 2, Or.inr ?_⟩ (fun nx' bo' hd' sz' I' => hp o _ _ _ _ _ _ _ _ _ _ ho gi_us ub' I')
    · exact ⟨by rw [gi_un h2, gi_un h2], by rw [gi_un h2, gi_un h2], by rw [gi_un h2, gi_un h2, gi_un h2], by rw [gi_un h1, gi_un h2, gi_un h2]⟩
    · refine ⟨by omega, by omega, ?_, ?_, ?_, ?_, ?_, ?_, ?_, ?_⟩
      · rw [gi_un hbo, rd]
      · rw [gi_us]
      · rw [gi_us]
      · rw [gi_un (Ne.symm hbo), gi_us]
      · rw [rd]
      · rw [rd]
      · rw [gi_us]
      · rw [gi_us]
  · refine And.intro v1 (And.intro v1 (And.intro gi_20 (And.intro v1 ?_)))
    intro a5 e5
    rw [gi_rd _ (by omega), gi_rd _ (by omega), rd, rd, gi_mid (by omega) (by omega), gi_wa _ _ (by omega)] at e5
    subst e5
    refine And.intro v1 (And.intro v2 ?_)
    intro a6 e6
    rw [gi_rd _ (by omega), gi_us, nI_1, gi_wa _ _ (by omega)] at e6
    subst e6
    refine gi_dv141 hb ub ho uo I (fun d h1 h2 => ?_) ⟨(fc b + lc b) / 2, Or.inl ?_⟩ (fun nx' bo' hd' sz' I' => hp o _ _ _ _ _ _ _ _ _ _ ho gi_us ub' I')
    · exact ⟨by rw [gi_un h2, gi_un h2, gi_un h2], by rw [gi_un h1, gi_un h2, gi_un h2], by rw [gi_un h2, gi_un h2], by rw [gi_un h2, gi_un h2]⟩
    · refine ⟨by omega, by omega, ?_, ?_, ?_, ?_, ?_, ?_, ?_, ?_⟩
      · rw [gi_un hbo, rd]
      · rw [gi_us]
      · rw [gi_us]
      · rw [gi_un (Ne.symm hbo), gi_us]
      · rw [rd]
      · rw [rd]
      · rw [gi_us]
      · rw [gi_us]
end
section
variable {kh : Nat} {mx my : Nat → Nat} {mv : Nat → Int32}
theorem gi_rl4 {H : Nat → Bool} {post : SX → Prop} (hp : ∀ u, gi_St H mx my mv kh u → post u) :
    ∀ (d s n b fh kC kR kU : Nat) (wa wb wc wd we wf wg : Int32) (nx cf rf bo iu hd sz fc lc fr lr : Nat → Nat), s + d = 16 → d < n → b < 64 → iu b = 1 → gi_XI kh fh kC kR kU mx my nx cf rf bo iu hd sz fc lc fr lr H → wX_relieve_4 post n (nI b) (nI s) (nI kh) (gi_pI fh) (nI kC) (nI kR) (nI kU) wa wb wc wd we wf wg (gi_ar mx) (gi_ar my) mv (gi_pr nx) (gi_ar cf) (gi_ar rf) (gi_ar bo) (gi_ar iu) (gi_pr hd) (gi_ar sz) (gi_ar fc) (gi_ar lc) (gi_ar fr) (gi_ar lr) := by
  intro d
  induction d with
  | zero =>
    intro s n b fh kC kR kU wa wb wc wd we wf wg nx cf rf bo iu hd sz fc lc fr lr hs hn hb ub I
    obtain ⟨n, rfl⟩ := gi_S hn
    exact br_t (nI_le (a := 16) (by omega) (by omega)) (hp _ (gi_St_i I))
  | succ d ih =>
    intro s n b fh kC kR kU wa wb wc wd we wf wg nx cf rf bo iu hd sz fc lc fr lr hs hn hb ub I
    obtain ⟨n, rfl⟩ := gi_S hn
    have v1 : vp_in (nI b) 64 := vp_in_nI hb (by decide)
    have sb : ∀ (iu hd sz nx ow : Nat → Nat), gi_Bk iu hd sz nx H ow → ∀ b, b < 64 → iu b = 1 → sz b ≤ 40 := by
      intro iu hd sz nx ow K b hb ub
      obtain ⟨L, c, n, e, s⟩ := K b hb ub
      rw [s]
      exact gi_len40 n (fun m hm => ((e m).mp hm).1)
    have s1 := sb _ _ _ _ _ I.2.2.2.2.2.1 b hb ub
    have uU : kU ≤ 64 := by
      have := gi_ct_le (f := iu) (n := 64) (fun k hk => (I.2.2.1.2.2 k hk).1)
      have := I.2.2.2.1
      omega
    refine br_f (nI_ge (b := 16) (by omega) (by decide)) (And.intro v1 ?_)
    refine pk_le (sz b) 4 (fun _ => hp _ (gi_St_i I)) (fun z => ?_) (gi_rd sz (by omega)) rfl (by omega) (by omega)
    refine pk_le 60 kU (fun _ => hp _ (gi_St_i I)) (fun y => ?_) rfl rfl (by omega) (by omega)
    refine gi_md hb ub I ?_ ?_
    · intro kC kR cf rf bo fc lc fr lr I1 h1
      refine br_f gi_10 ?_
      refine gi_dv hb ub I1 y h1 ?_
      intro o kU nx bo iu hd sz fc lc fr lr ho uo ub I2
      have s1 := sb _ _ _ _ _ I2.2.2.2.2.2.1 b hb ub
      have s2 := sb _ _ _ _ _ I2.2.2.2.2.2.1 o ho uo
      refine And.intro (vp_in_nI ho (by decide)) (And.intro v1 ?_)
      refine pk_le (sz o) (sz b) (fun _ => ?_) (fun _ => ?_) (gi_rd sz (by omega)) (gi_rd sz (by omega)) (by omega) (by omega)
      · intro x ex
        rw [nI_1] at ex
        subst ex
        exact ih (s + 1) n b _ _ _ _ _ _ _ _ _ _ _ _ _ _ _ _ _ _ _ _ _ _ (by omega) (by omega) hb ub I2
      · intro x ex
        rw [nI_1] at ex
        subst ex
        exact ih (s + 1) n o _ _ _ _ _ _ _ _ _ _ _ _ _ _ _ _ _ _ _ _ _ _ (by omega) (by omega) ho uo I2
    · exact br_t rfl (hp _ (gi_St_i I))
end
end
section
section
variable {kh fh kC kR kU : Nat} {wa wb wc wd we wf wg : Int32} {mx my : Nat → Nat} {mv : Nat → Int32} {nx cf rf bo iu hd sz fc lc fr lr : Nat → Nat}
theorem gi_rl {H : Nat → Bool} {post : SX → Prop} {b : Nat} (hb : b < 64) (ub : iu b = 1) (I : gi_XI kh fh kC kR kU mx my nx cf rf bo iu hd sz fc lc fr lr H) (hp : ∀ u, gi_St H mx my mv kh u → post u) : wpX_relieve post (nI kh, gi_pI fh, nI kC, nI kR, nI kU, wa, wb, wc, wd, we, wf, wg, gi_ar mx, gi_ar my, mv, gi_pr nx, gi_ar cf, gi_ar rf, gi_ar bo, gi_ar iu, gi_pr hd, gi_ar sz, gi_ar fc, gi_ar lc, gi_ar fr, gi_ar lr) (nI b) :=
  Exists.intro 17 (gi_rl4 hp 16 0 17 b _ _ _ _ _ _ _ _ _ _ _ _ _ _ _ _ _ _ _ _ _ _ (by omega) (by omega) hb ub I)
/-- a new mark laid into its bucket keeps the invariant -/
theorem gi_put_XI {H : Nat → Bool} {x y m : Nat} (hx : x < 64) (hy : y < 64) (I : gi_XI kh (m + 1) kC kR kU mx my nx cf rf bo iu hd sz fc lc fr lr H) (hm : m < 40) (hH : H m = false) (hF : gi_Fr (kh + 1) (nx m) nx (gi_hs H m true))
    (hno : ∀ j, H j = true → ¬ (mx j = x ∧ my j = y)) {b : Nat} (hb : b = bo (16 * gi_loc cf x kC + gi_loc rf y kR)) :
    gi_XI (kh + 1) (nx m) kC kR kU (gi_up mx m x) (gi_up my m y) (gi_up nx m (hd b)) cf rf bo iu (gi_up hd b (m + 1)) (gi_up sz b (sz b + 1)) fc lc fr lr (gi_hs H m true) := by
  obtain ⟨B1, B2, T, ct, -, K, hin, inj⟩ := I
  have ne : ∀ j, H j = true → j ≠ m := fun j hj e => by rw [e, hH] at hj; cases hj
  refine ⟨B1, B2, T, ct, gi_Fr_nx hF gi_hss, ?_, fun j hj => ?_, fun j i hj hi e1 e2 => ?_⟩
  · refine gi_Bk_push (gi_Bk_c K (fun j _ hj => ?_)) hm hH ?_
    · unfold gi_own
      rw [gi_un (ne j hj), gi_un (ne j hj)]
    · unfold gi_own
      rw [gi_us, gi_us, hb]
  · by_cases v : j = m
    · subst v
      rw [gi_us, gi_us]
      exact ⟨hm, hx, hy⟩
    · rw [gi_hsn v] at hj
      rw [gi_un v, gi_un v]
      exact hin j hj
  · by_cases v : j = m
    · by_cases w : i = m
      · rw [v, w]
      · rw [gi_hsn w] at hi
        rw [v, gi_us, gi_un w] at e1 e2
        exact absurd ⟨e1.symm, e2.symm⟩ (hno i hi)
    · rw [gi_hsn v] at hj
      by_cases w : i = m
      · rw [w, gi_us, gi_un v] at e1 e2
        exact absurd ⟨e1, e2⟩ (hno j hj)
      · rw [gi_hsn w] at hi
        rw [gi_un v, gi_un w] at e1 e2
        exact inj j i hj hi e1 e2
theorem gi_put {H : Nat → Bool} {post : Int32 → SX → Prop} {x y : Nat} {v : Int32} (hx : x < 64) (hy : y < 64) (I : gi_XI kh fh kC kR kU mx my nx cf rf bo iu hd sz fc lc fr lr H)
    (h1 : ∀ m, H m = true → m < 40 → mx m = x → my m = y → ∀ u, gi_St H mx my (upd mv m v) kh u → post (nI kh) u)
    (h2 : (∀ m, H m = true → ¬ (mx m = x ∧ my m = y)) → 40 ≤ kh → ∀ u, gi_St H mx my mv kh u → post (-1) u)
    (h3 : (∀ m, H m = true → ¬ (mx m = x ∧ my m = y)) → kh < 40 → ∀ m, m < 40 → H m = false → ∀ u, gi_St (gi_hs H m true) (gi_up mx m x) (gi_up my m y) (upd mv m v) (kh + 1) u → post (nI (kh + 1)) u) :
    wpX_put post (nI kh, gi_pI fh, nI kC, nI kR, nI kU, wa, wb, wc, wd, we, wf, wg, gi_ar mx, gi_ar my, mv, gi_pr nx, gi_ar cf, gi_ar rf, gi_ar bo, gi_ar iu, gi_pr hd, gi_ar sz, gi_ar fc, gi_ar lc, gi_ar fr, gi_ar lr) (nI x) (nI y) v := by
  have k40 : kh ≤ 40 := by
    obtain ⟨F, -, -, -, s⟩ := I.2.2.2.2.1
    omega
  unfold wpX_put
  dsimp only
  refine gi_onB1 hx hy (br_f gi_10 ?_)
  refine gi_fm hx hy I (fun m hm m40 e1 e2 => ?_) (fun hno => ?_)
  · refine br_f (nI_pos (by omega)) (And.intro (vp_in_nI m40 (by decide)) ?_)
    intro a ea
    rw [nI_clamp (by omega)] at ea
    subst ea
    exact h1 m hm m40 e1 e2 _ (gi_St_i I)
  · refine br_t gi_m1lt ?_
    refine pk_lt kh 40 (fun z => ?_) (fun z => h2 hno z _ (gi_St_i I)) rfl rfl (by omega) (by omega)
    obtain ⟨m, e, m40, hH, hF⟩ := gi_Fr_pop I.2.2.2.2.1 z
    subst e
    rw [gi_p1]
    have v1 : vp_in (nI m) 40 := vp_in_nI m40 (by decide)
    refine And.intro v1 ?_
    intro a1 e1
    rw [gi_rp nx (by omega)] at e1
    refine And.intro v1 ?_
    intro a2 e2
    rw [gi_wa mx x (by omega)] at e2
    refine And.intro v1 ?_
    intro a3 e3
    rw [gi_wa my y (by omega)] at e3
    refine And.intro v1 ?_
    intro a4 e4
    rw [nI_clamp (by omega)] at e4
    intro a5 e5
    rw [nI_1] at e5
    subst e1 e2 e3 e4 e5
    have I' := gi_put_XI hx hy I m40 hH hF hno rfl
    obtain ⟨p1, p2, -⟩ := I.2.2.1.1 _ _ (gi_loc_in I.1 hx).1 (gi_loc_in I.2.1 hy).1
    refine gi_bat hx hy I.1 I.2.1 ?_
    refine gi_pm p1 m40 ?_
    dsimp only
    refine gi_rl p1 p2 I' (fun u hu => ?_)
    refine hu (fun u => post u.1 u) ?_
    intro fh kC kR kU wa wb wc wd we wf wg nx cf rf bo iu hd sz fc lc fr lr I2
    exact h3 hno z m m40 hH _ (gi_St_i I2)
theorem gi_put0 {H : Nat → Bool} {post : Int32 → SX → Prop} {x y v : Int32} (ho : gi_Off x y) (I : gi_XI kh fh kC kR kU mx my nx cf rf bo iu hd sz fc lc fr lr H) (h2 : ∀ u, gi_St H mx my mv kh u → post (-1) u) : wpX_put post (nI kh, gi_pI fh, nI kC, nI kR, nI kU, wa, wb, wc, wd, we, wf, wg, gi_ar mx, gi_ar my, mv, gi_pr nx, gi_ar cf, gi_ar rf, gi_ar bo, gi_ar iu, gi_pr hd, gi_ar sz, gi_ar fc, gi_ar lc, gi_ar fr, gi_ar lr) x y v := by
  unfold wpX_put
  dsimp only
  exact gi_onB0 ho (br_t rfl (h2 _ (gi_St_i I)))
end
end
section
theorem gi_Fr_pos {kh fh m : Nat} {nx : Nat → Nat} {H : Nat → Bool} (K : gi_Fr kh fh nx H) (hm : m < 40) (hH : H m = true) : 1 ≤ kh ∧ kh ≤ 40 := by
  obtain ⟨F, c, n, e, s⟩ := K
  have nm : m ∉ F := fun q => by have := ((e m).mp q).2; rw [hH] at this; cases this
  have := gi_len40 (L := m :: F) (List.nodup_cons.mpr ⟨nm, n⟩) (fun j hj => by
      rcases List.mem_cons.mp hj with z | z
      · omega
      · exact ((e j).mp z).1)
  rw [List.length_cons] at this
  omega
section
variable {kh fh kC kR kU : Nat} {wa wb wc wd we wf wg : Int32} {mx my : Nat → Nat} {mv : Nat → Int32} {nx cf rf bo iu hd sz fc lc fr lr : Nat → Nat}
theorem gi_ul77 {post : SX → Prop} {b : Nat} (hb : b < 64) (hs : 1 ≤ sz b) (hp : post (nI kh, gi_pI fh, nI kC, nI kR, nI kU, wa, wb, wc, wd, we, wf, wg, gi_ar mx, gi_ar my, mv, gi_pr nx, gi_ar cf, gi_ar rf, gi_ar bo, gi_ar iu, gi_pr hd, gi_ar (gi_up sz b (sz b - 1)), gi_ar fc, gi_ar lc, gi_ar fr, gi_ar lr)) : wX_unlink_77 post (nI b) (nI kh) (gi_pI fh) (nI kC) (nI kR) (nI kU) wa wb wc wd we wf wg (gi_ar mx) (gi_ar my) mv (gi_pr nx) (gi_ar cf) (gi_ar rf) (gi_ar bo) (gi_ar iu) (gi_pr hd) (gi_ar sz) (gi_ar fc) (gi_ar lc) (gi_ar fr) (gi_ar lr) := by
  have v1 : vp_in (nI b) 64 := vp_in_nI hb (by decide)
  unfold wX_unlink_77
  refine ⟨v1, v1, ?_⟩
  intro a ea
  rw [gi_rd sz (by omega), gi_s1 hs, gi_wa sz _ (by omega)] at ea
  subst ea
  exact hp
theorem gi_ul65 {post : SX → Prop} {b m a : Nat} (hb : b < 64) (hm : m < 40) (ha : a < 40) (hs : 1 ≤ sz b) (hp : post (nI kh, gi_pI fh, nI kC, nI kR, nI kU, wa, wb, wc, wd, we, wf, wg, gi_ar mx, gi_ar my, mv, gi_pr (gi_up nx a (nx m)), gi_ar cf, gi_ar rf, gi_ar bo, gi_ar iu, gi_pr hd, gi_ar (gi_up sz b (sz b - 1)), gi_ar fc, gi_ar lc, gi_ar fr, gi_ar lr)) : wX_unlink_65 post (nI b) (nI m) (nI a) (nI kh) (gi_pI fh) (nI kC) (nI kR) (nI kU) wa wb wc wd we wf wg (gi_ar mx) (gi_ar my) mv (gi_pr nx) (gi_ar cf) (gi_ar rf) (gi_ar bo) (gi_ar iu) (gi_pr hd) (gi_ar sz) (gi_ar fc) (gi_ar lc) (gi_ar fr) (gi_ar lr) := by
  unfold wX_unlink_65
  refine ⟨vp_in_nI hm (by decide), vp_in_nI ha (by decide), ?_⟩
  intro y ey
  rw [gi_rp nx (by omega), gi_wp nx _ (by omega)] at ey
  subst ey
  exact gi_ul77 hb hs hp
theorem gi_ul35 {post : SX → Prop} {b m : Nat} {L : List Nat} (hb : b < 64) (hs : 1 ≤ sz b) (h40 : ∀ j, j ∈ L → j < 40) (hm : m ∈ L)
    (hp : ∀ a L1 L2, L = L1 ++ a :: m :: L2 → post (nI kh, gi_pI fh, nI kC, nI kR, nI kU, wa, wb, wc, wd, we, wf, wg, gi_ar mx, gi_ar my, mv, gi_pr (gi_up nx a (nx m)), gi_ar cf, gi_ar rf, gi_ar bo, gi_ar iu, gi_pr hd, gi_ar (gi_up sz b (sz b - 1)), gi_ar fc, gi_ar lc, gi_ar fr, gi_ar lr)) :
    ∀ (R : List Nat) (a s n : Nat) (L1 : List Nat), L = L1 ++ a :: R → m ∈ R → gi_Ch nx R (nx a) → s + R.length ≤ 40 → R.length < n → wX_unlink_35 post (nI b) (nI m) (nI kh) (gi_pI fh) (nI kC) (nI kR) (nI kU) wa wb wc wd we wf wg (gi_ar mx) (gi_ar my) mv (gi_pr nx) (gi_ar cf) (gi_ar rf) (gi_ar bo) (gi_ar iu) (gi_pr hd) (gi_ar sz) (gi_ar fc) (gi_ar lc) (gi_ar fr) (gi_ar lr) n (nI a) (nI s) := by
  intro R
  induction R with
  | nil => intro a s n L1 e h; exact absurd h List.not_mem_nil
  | cons r R ih =>
    intro a s n L1 e h c hs1 hn
    obtain ⟨n, rfl⟩ := gi_S hn
    rw [List.length_cons] at hs1 hn
    obtain ⟨c1, c2⟩ := c
    have a40 : a < 40 := h40 a (by rw [e]; exact List.mem_append.mpr (Or.inr List.mem_cons_self))
    have r40 : r < 40 := h40 r (by rw [e]; exact List.mem_append.mpr (Or.inr (List.mem_cons_of_mem _ List.mem_cons_self)))
    have m40 := h40 m hm
    have v1 : vp_in (nI a) 40 := vp_in_nI a40 (by decide)
    refine br_f (nI_ge (b := 40) (by omega) (by decide)) (And.intro v1 ?_)
    refine pk_eq r m (fun z => ?_) (fun z => And.intro v1 ?_) (by rw [gi_rp nx (by omega), c1, gi_p1]) rfl (by omega) (by omega)
    · subst z
      exact gi_ul65 hb m40 a40 hs (hp a L1 R e)
    · intro x ex y ey
      rw [gi_rp nx (by omega), c1, gi_p1] at ex
      rw [nI_1] at ey
      subst ex ey
      refine ih r (s + 1) n (L1 ++ [a]) ?_ ?_ c2 (by omega) (by omega)
      · rw [e, List.append_assoc]; rfl
      · rcases List.mem_cons.mp h with w | w
        · exact absurd w.symm z
        · exact w
theorem gi_ul {post : SX → Prop} {b m : Nat} {L : List Nat} (hb : b < 64) (c : gi_Ch nx L (hd b)) (n : L.Nodup) (h40 : ∀ j, j ∈ L → j < 40) (hs : sz b = L.length) (hm : m ∈ L)
    (hp : ∀ nx' hd' L', gi_Ch nx' L' (hd' b) → L'.Nodup → (∀ j, j ∈ L' ↔ (j ∈ L ∧ j ≠ m)) → sz b - 1 = L'.length → (∀ d, d ≠ b → hd' d = hd d) → (∀ j, j ∉ L → nx' j = nx j) →
      post (nI kh, gi_pI fh, nI kC, nI kR, nI kU, wa, wb, wc, wd, we, wf, wg, gi_ar mx, gi_ar my, mv, gi_pr nx', gi_ar cf, gi_ar rf, gi_ar bo, gi_ar iu, gi_pr hd', gi_ar (gi_up sz b (sz b - 1)), gi_ar fc, gi_ar lc, gi_ar fr, gi_ar lr)) : wpX_unlink post (nI kh, gi_pI fh, nI kC, nI kR, nI kU, wa, wb, wc, wd, we, wf, wg, gi_ar mx, gi_ar my, mv, gi_pr nx, gi_ar cf, gi_ar rf, gi_ar bo, gi_ar iu, gi_pr hd, gi_ar sz, gi_ar fc, gi_ar lc, gi_ar fr, gi_ar lr) (nI b) (nI m) := by
  have v1 : vp_in (nI b) 64 := vp_in_nI hb (by decide)
  have l40 := gi_len40 n h40
  have m40 := h40 m hm
  unfold wpX_unlink
  dsimp only
  cases L with
  | nil => exact absurd hm List.not_mem_nil
  | cons a R =>
    obtain ⟨c1, c2⟩ := c
    obtain ⟨n1, n2⟩ := List.nodup_cons.mp n
    have a40 := h40 a List.mem_cons_self
    rw [List.length_cons] at hs l40
    refine ⟨v1, ?_⟩
    refine pk_eq a m (fun z => ?_) (fun z => ⟨v1, ?_⟩) (by rw [gi_rp hd (by omega), c1, gi_p1]) rfl (by omega) (by omega)
    · subst z
      refine ⟨vp_in_nI m40 (by decide), v1, ?_⟩
      intro y ey
      rw [gi_rp nx (by omega), gi_wp hd _ (by omega)] at ey
      subst ey
      refine gi_ul77 hb (by omega) (hp nx (gi_up hd b (nx a)) R (by rw [gi_us]; exact c2) n2 (fun j => ?_) (by omega) (fun d h => gi_un h) (fun j _ => rfl))
      rw [List.mem_cons]
      exact ⟨fun q => ⟨Or.inr q, fun e => n1 (by rw [← e]; exact q)⟩, fun q => q.1.elim (fun e => absurd e q.2) id⟩
    · have hR : m ∈ R := by
        rcases List.mem_cons.mp hm with w | w
        · exact absurd w.symm z
        · exact w
      intro x ex
      rw [gi_rp hd (by omega), c1, gi_p1] at ex
      subst ex
      refine Exists.intro 41 (gi_ul35 (L := a :: R) hb (by omega) h40 hm (fun p L1 L2 e => ?_) R a 0 41 [] rfl hR c2 (by omega) (by omega))
      have c3 : gi_Ch nx (L1 ++ p :: m :: L2) (hd b) := by rw [← e]; exact ⟨c1, c2⟩
      have n3 : (L1 ++ p :: m :: L2).Nodup := by rw [← e]; exact n
      have s3 : (a :: R).length = (L1 ++ p :: m :: L2).length := by rw [e]
      have sub : (L1 ++ p :: L2).Sublist (L1 ++ p :: m :: L2) := List.Sublist.append_left (List.Sublist.cons₂ _ (List.sublist_cons_self _ _)) _
      have nm : m ∉ L1 ++ p :: L2 := by
        intro q
        have t := n3
        rw [show L1 ++ p :: m :: L2 = (L1 ++ [p]) ++ m :: L2 by rw [List.append_assoc]; rfl] at t
        obtain ⟨t1, t2, t3⟩ := List.nodup_append.mp t
        rcases List.mem_append.mp q with w | w
        · exact t3 m (List.mem_append.mpr (Or.inl w)) m List.mem_cons_self rfl
        · rcases List.mem_cons.mp w with w | w
          · exact t3 m (List.mem_append.mpr (Or.inr (by rw [w]; exact List.mem_cons_self))) m List.mem_cons_self rfl
          · exact (List.nodup_cons.mp t2).1 w
      refine hp (gi_up nx p (nx m)) hd (L1 ++ p :: L2) (gi_Ch_cut n3 c3) (List.Pairwise.sublist sub n3) (fun j => ?_) ?_ (fun d _ => rfl) (fun j hj => gi_un (fun e1 => hj ?_))
      · rw [e]
        constructor
        · intro q
          exact ⟨sub.subset q, fun e1 => nm (by rw [← e1]; exact q)⟩
        · intro q
          rcases List.mem_append.mp q.1 with w | w
          · exact List.mem_append.mpr (Or.inl w)
          · rcases List.mem_cons.mp w with w | w
            · exact List.mem_append.mpr (Or.inr (by rw [w]; exact List.mem_cons_self))
            · rcases List.mem_cons.mp w with w | w
              · exact absurd w q.2
              · exact List.mem_append.mpr (Or.inr (List.mem_cons_of_mem _ w))
      · rw [List.length_append, List.length_cons, List.length_cons, List.length_cons] at s3
        rw [List.length_append, List.length_cons]
        omega
      · rw [e, e1]
        exact List.mem_append.mpr (Or.inr List.mem_cons_self)
/-! whether two buckets fit together -/
theorem gi_ft164 {post : Int32 → Prop} {x4 x6 : Int32} (h1 : ¬ x4 = 0 → ¬ x6 = 0 → post 1) (h0 : post 0) : wX_fitTogether_164 post x4 x6 (nI kh) (gi_pI fh) (nI kC) (nI kR) (nI kU) wa wb wc wd we wf wg (gi_ar mx) (gi_ar my) mv (gi_pr nx) (gi_ar cf) (gi_ar rf) (gi_ar bo) (gi_ar iu) (gi_pr hd) (gi_ar sz) (gi_ar fc) (gi_ar lc) (gi_ar fr) (gi_ar lr) :=
  br_c (fun _ => h0) (fun a => br_c (fun _ => h0) (fun b => h1 a b))
theorem gi_ft153 {post : Int32 → Prop} {x3 x4 x5 z0 : Int32} (h1 : (¬ x3 = 0 ∧ ¬ x5 = 0) ∨ (¬ x4 = 0 ∧ ¬ z0 = 0) → post 1) (h0 : post 0) : wX_fitTogether_153 post x3 x4 x5 z0 (nI kh) (gi_pI fh) (nI kC) (nI kR) (nI kU) wa wb wc wd we wf wg (gi_ar mx) (gi_ar my) mv (gi_pr nx) (gi_ar cf) (gi_ar rf) (gi_ar bo) (gi_ar iu) (gi_pr hd) (gi_ar sz) (gi_ar fc) (gi_ar lc) (gi_ar fr) (gi_ar lr) :=
  br_c (fun _ => gi_ft164 (fun c d => h1 (Or.inr ⟨c, d⟩)) h0) (fun a => br_c (fun _ => gi_ft164 (fun c d => h1 (Or.inr ⟨c, d⟩)) h0) (fun b => h1 (Or.inl ⟨a, b⟩)))
theorem gi_ft112 {post : Int32 → Prop} {x3 x4 z0 : Int32} {b o : Nat} (hb : b < 64) (ho : o < 64) (l1 : lr b < 1000) (l2 : lr o < 1000) (l3 : fr b < 1000) (l4 : fr o < 1000)
    (h1 : (¬ x3 = 0 ∧ ¬ z0 = 0) ∨ (¬ x4 = 0 ∧ (lr b + 1 = fr o ∨ lr o + 1 = fr b)) → post 1) (h0 : post 0) : wX_fitTogether_112 post (nI b) (nI o) x3 x4 z0 (nI kh) (gi_pI fh) (nI kC) (nI kR) (nI kU) wa wb wc wd we wf wg (gi_ar mx) (gi_ar my) mv (gi_pr nx) (gi_ar cf) (gi_ar rf) (gi_ar bo) (gi_ar iu) (gi_pr hd) (gi_ar sz) (gi_ar fc) (gi_ar lc) (gi_ar fr) (gi_ar lr) := by
  have v1 : vp_in (nI b) 64 := vp_in_nI hb (by decide)
  have v2 : vp_in (nI o) 64 := vp_in_nI ho (by decide)
  unfold wX_fitTogether_112
  refine ⟨v1, v2, ?_⟩
  refine pk_eq (lr b + 1) (fr o) (fun z => ?_) (fun z => ⟨v2, v1, ?_⟩) (by rw [gi_rd lr (by omega), nI_1]) (gi_rd fr (by omega)) (by omega) (by omega)
  · unfold wX_fitTogether_148
    exact gi_ft153 (fun q => h1 (q.elim Or.inl (fun q => Or.inr ⟨q.1, Or.inl z⟩))) h0
  · refine pk_eq (lr o + 1) (fr b) (fun y => ?_) (fun y => ?_) (by rw [gi_rd lr (by omega), nI_1]) (gi_rd fr (by omega)) (by omega) (by omega)
    · unfold wX_fitTogether_148
      exact gi_ft153 (fun q => h1 (q.elim Or.inl (fun q => Or.inr ⟨q.1, Or.inr y⟩))) h0
    · exact gi_ft153 (fun q => h1 (q.elim Or.inl (fun q => absurd rfl q.2))) h0
theorem gi_ft71 {post : Int32 → Prop} {x3 z0 : Int32} {b o : Nat} (hb : b < 64) (ho : o < 64) (l1 : lr b < 1000) (l2 : lr o < 1000) (l3 : fr b < 1000) (l4 : fr o < 1000) (l5 : lc b < 1000) (l6 : lc o < 1000) (l7 : fc b < 1000) (l8 : fc o < 1000)
    (h1 : (¬ x3 = 0 ∧ (lc b + 1 = fc o ∨ lc o + 1 = fc b)) ∨ (¬ z0 = 0 ∧ (lr b + 1 = fr o ∨ lr o + 1 = fr b)) → post 1) (h0 : post 0) : wX_fitTogether_71 post (nI b) (nI o) x3 z0 (nI kh) (gi_pI fh) (nI kC) (nI kR) (nI kU) wa wb wc wd we wf wg (gi_ar mx) (gi_ar my) mv (gi_pr nx) (gi_ar cf) (gi_ar rf) (gi_ar bo) (gi_ar iu) (gi_pr hd) (gi_ar sz) (gi_ar fc) (gi_ar lc) (gi_ar fr) (gi_ar lr) := by
  have v1 : vp_in (nI b) 64 := vp_in_nI hb (by decide)
  have v2 : vp_in (nI o) 64 := vp_in_nI ho (by decide)
  unfold wX_fitTogether_71
  refine ⟨v1, v2, ?_⟩
  refine pk_eq (lc b + 1) (fc o) (fun z => ?_) (fun z => ⟨v2, v1, ?_⟩) (by rw [gi_rd lc (by omega), nI_1]) (gi_rd fc (by omega)) (by omega) (by omega)
  · unfold wX_fitTogether_107
    exact gi_ft112 hb ho l1 l2 l3 l4 (fun q => h1 (q.elim (fun q => Or.inl ⟨q.1, Or.inl z⟩) Or.inr)) h0
  · refine pk_eq (lc o + 1) (fc b) (fun y => ?_) (fun y => ?_) (by rw [gi_rd lc (by omega), nI_1]) (gi_rd fc (by omega)) (by omega) (by omega)
    · unfold wX_fitTogether_107
      exact gi_ft112 hb ho l1 l2 l3 l4 (fun q => h1 (q.elim (fun q => Or.inl ⟨q.1, Or.inr y⟩) Or.inr)) h0
    · exact gi_ft112 hb ho l1 l2 l3 l4 (fun q => h1 (q.elim (fun q => absurd rfl q.2) Or.inr)) h0
theorem gi_ft35 {post : Int32 → Prop} {z0 : Int32} {b o : Nat} (hb : b < 64) (ho : o < 64) (l1 : lr b < 1000) (l2 : lr o < 1000) (l3 : fr b < 1000) (l4 : fr o < 1000) (l5 : lc b < 1000) (l6 : lc o < 1000) (l7 : fc b < 1000) (l8 : fc o < 1000)
    (h1 : (¬ z0 = 0 ∧ (lc b + 1 = fc o ∨ lc o + 1 = fc b)) ∨ (fc b = fc o ∧ lc b = lc o ∧ (lr b + 1 = fr o ∨ lr o + 1 = fr b)) → post 1) (h0 : post 0) : wX_fitTogether_35 post (nI b) (nI o) z0 (nI kh) (gi_pI fh) (nI kC) (nI kR) (nI kU) wa wb wc wd we wf wg (gi_ar mx) (gi_ar my) mv (gi_pr nx) (gi_ar cf) (gi_ar rf) (gi_ar bo) (gi_ar iu) (gi_pr hd) (gi_ar sz) (gi_ar fc) (gi_ar lc) (gi_ar fr) (gi_ar lr) := by
  have v1 : vp_in (nI b) 64 := vp_in_nI hb (by decide)
  have v2 : vp_in (nI o) 64 := vp_in_nI ho (by decide)
  have no : wX_fitTogether_70 post (nI b) (nI o) z0 (nI kh) (gi_pI fh) (nI kC) (nI kR) (nI kU) wa wb wc wd we wf wg (gi_ar mx) (gi_ar my) mv (gi_pr nx) (gi_ar cf) (gi_ar rf) (gi_ar bo) (gi_ar iu) (gi_pr hd) (gi_ar sz) (gi_ar fc) (gi_ar lc) (gi_ar fr) (gi_ar lr) := by
    unfold wX_fitTogether_70
    exact gi_ft71 hb ho l1 l2 l3 l4 l5 l6 l7 l8 (fun q => h1 (q.elim Or.inl (fun q => absurd rfl q.1))) h0
  unfold wX_fitTogether_35
  refine ⟨v1, v2, ?_⟩
  refine pk_eq (fc b) (fc o) (fun z => ⟨v1, v2, ?_⟩) (fun z => no) (gi_rd fc (by omega)) (gi_rd fc (by omega)) (by omega) (by omega)
  refine pk_eq (lc b) (lc o) (fun y => ?_) (fun y => no) (gi_rd lc (by omega)) (gi_rd lc (by omega)) (by omega) (by omega)
  exact gi_ft71 hb ho l1 l2 l3 l4 l5 l6 l7 l8 (fun q => h1 (q.elim Or.inl (fun q => Or.inr ⟨z, y, q.2⟩))) h0
theorem gi_ft {post : Int32 → Prop} {b o : Nat} (hb : b < 64) (ho : o < 64) (T : gi_Tl kC kR bo iu fc lc fr lr) (hC : kC ≤ 16) (hR : kR ≤ 16)
    (h1 : gi_Ft fc lc fr lr b o → post 1) (h0 : post 0) : wpX_fitTogether post (nI kh, gi_pI fh, nI kC, nI kR, nI kU, wa, wb, wc, wd, we, wf, wg, gi_ar mx, gi_ar my, mv, gi_pr nx, gi_ar cf, gi_ar rf, gi_ar bo, gi_ar iu, gi_pr hd, gi_ar sz, gi_ar fc, gi_ar lc, gi_ar fr, gi_ar lr) (nI b) (nI o) := by
  have v1 : vp_in (nI b) 64 := vp_in_nI hb (by decide)
  have v2 : vp_in (nI o) 64 := vp_in_nI ho (by decide)
  obtain ⟨-, p1, p2, p3, p4⟩ := T.2.2 b hb
  obtain ⟨-, q1, q2, q3, q4⟩ := T.2.2 o ho
  have no : wX_fitTogether_34 post (nI b) (nI o) (nI kh) (gi_pI fh) (nI kC) (nI kR) (nI kU) wa wb wc wd we wf wg (gi_ar mx) (gi_ar my) mv (gi_pr nx) (gi_ar cf) (gi_ar rf) (gi_ar bo) (gi_ar iu) (gi_pr hd) (gi_ar sz) (gi_ar fc) (gi_ar lc) (gi_ar fr) (gi_ar lr) := by
    unfold wX_fitTogether_34
    exact gi_ft35 hb ho (by omega) (by omega) (by omega) (by omega) (by omega) (by omega) (by omega) (by omega) (fun q => h1 (q.elim (fun q => absurd rfl q.1) Or.inr)) h0
  unfold wpX_fitTogether
  dsimp only
  refine ⟨v1, v2, ?_⟩
  refine pk_eq (fr b) (fr o) (fun z => ⟨v1, v2, ?_⟩) (fun z => no) (gi_rd fr (by omega)) (gi_rd fr (by omega)) (by omega) (by omega)
  refine pk_eq (lr b) (lr o) (fun y => ?_) (fun y => no) (gi_rd lr (by omega)) (gi_rd lr (by omega)) (by omega) (by omega)
  exact gi_ft35 hb ho (by omega) (by omega) (by omega) (by omega) (by omega) (by omega) (by omega) (by omega) (fun q => h1 (q.elim (fun q => Or.inl ⟨z, y, q.2⟩) Or.inr)) h0
end
end
section
section
variable {kh fh kC kR kU : Nat} {wa wb wc wd we wf wg : Int32} {mx my : Nat → Nat} {mv : Nat → Int32} {nx cf rf bo iu hd sz fc lc fr lr : Nat → Nat}
theorem gi_to201 {post : SX → Prop} {o : Nat} (ho : o < 64) (hU : 1 ≤ kU) (hp : post (nI kh, gi_pI fh, nI kC, nI kR, nI (kU - 1), wa, wb, wc, wd, we, wf, wg, gi_ar mx, gi_ar my, mv, gi_pr nx, gi_ar cf, gi_ar rf, gi_ar bo, gi_ar (gi_up iu o 0), gi_pr hd, gi_ar sz, gi_ar fc, gi_ar lc, gi_ar fr, gi_ar lr)) : wX_takeOver_201 post (nI o) (nI kh) (gi_pI fh) (nI kC) (nI kR) (nI kU) wa wb wc wd we wf wg (gi_ar mx) (gi_ar my) mv (gi_pr nx) (gi_ar cf) (gi_ar rf) (gi_ar bo) (gi_ar iu) (gi_pr hd) (gi_ar sz) (gi_ar fc) (gi_ar lc) (gi_ar fr) (gi_ar lr) := by
  unfold wX_takeOver_201
  refine ⟨vp_in_nI ho (by decide), ?_⟩
  intro a ea y ey
  rw [gi_vb0, gi_wa iu _ (by omega)] at ea
  rw [gi_s1 hU] at ey
  subst ea ey
  exact hp
theorem gi_to167 {H : Nat → Bool} {post : SX → Prop} {b o N : Nat} {iu1 ow : Nat → Nat} (hb : b < 64) (ho : o < 64) (hU : 1 ≤ kU) (hin : ∀ m, H m = true → m < 40) (hN : N ≤ 40)
    (hp : ∀ nx' hd' sz', gi_Bk iu1 hd' sz' nx' H ow → gi_Fr kh fh nx' H → post (nI kh, gi_pI fh, nI kC, nI kR, nI (kU - 1), wa, wb, wc, wd, we, wf, wg, gi_ar mx, gi_ar my, mv, gi_pr nx', gi_ar cf, gi_ar rf, gi_ar bo, gi_ar (gi_up iu o 0), gi_pr hd', gi_ar sz', gi_ar fc, gi_ar lc, gi_ar fr, gi_ar lr)) :
    ∀ (L : List Nat) (g s n : Nat) (nx1 hd1 sz1 : Nat → Nat), gi_Ch nx1 L g → L.Nodup → (∀ m, m ∈ L → H m = true ∧ ow m = b) → s + L.length = N → L.length < n →
      gi_Bk iu1 hd1 sz1 nx1 (gi_mi H L) ow → gi_Fr kh fh nx1 H → wX_takeOver_167 post (nI b) (nI o) (nI N) n (gi_pI g) (nI s) (nI kh) (gi_pI fh) (nI kC) (nI kR) (nI kU) wa wb wc wd we wf wg (gi_ar mx) (gi_ar my) mv (gi_pr nx1) (gi_ar cf) (gi_ar rf) (gi_ar bo) (gi_ar iu) (gi_pr hd1) (gi_ar sz1) (gi_ar fc) (gi_ar lc) (gi_ar fr) (gi_ar lr) := by
  intro L
  induction L with
  | nil =>
    intro g s n nx1 hd1 sz1 c nd hL hs hn K Q
    obtain ⟨n, rfl⟩ := gi_S hn
    rw [gi_mi_0] at K
    rw [List.length_nil] at hs
    exact br_t (nI_le (by omega) (by omega)) (gi_to201 ho hU (hp nx1 hd1 sz1 K Q))
  | cons m L ih =>
    intro g s n nx1 hd1 sz1 c nd hL hs hn K Q
    obtain ⟨n, rfl⟩ := gi_S hn
    obtain ⟨c1, c2⟩ := c
    rw [List.length_cons] at hs hn
    obtain ⟨hm, hw⟩ := hL m List.mem_cons_self
    have m1 := hin m hm
    rw [c1, gi_p1]
    refine br_f (nI_ge (by omega) (by omega)) (br_f (nI_pos (by omega)) (And.intro (vp_in_nI m1 (by decide)) ?_))
    intro x6 e6
    rw [gi_rp nx1 (by omega)] at e6
    refine gi_pm hb m1 ?_
    intro y ey
    rw [nI_1] at ey
    subst e6 ey
    obtain ⟨k1, k2, k3⟩ := gi_step K Q c2 nd m1 hm hw
    exact ih _ (s + 1) n _ _ _ k3 (List.nodup_cons.mp nd).2 (fun j hj => hL j (List.mem_cons_of_mem _ hj)) (by omega) (by omega) k1 k2
theorem gi_to143 {H : Nat → Bool} {post : SX → Prop} {b o v1 v2 v3 v4 : Nat} (hb : b < 64) (ub : iu b = 1) (ho : o < 64) (uo : iu o = 1) (hn : o ≠ b) (I : gi_XI kh fh kC kR kU mx my nx cf rf bo iu hd sz fc lc fr lr H) (F : gi_Ft fc lc fr lr b o)
    (m1 : (fc b ≤ fc o ∧ v1 = fc b) ∨ (fc o < fc b ∧ v1 = fc o)) (m2 : (lc o ≤ lc b ∧ v2 = lc b) ∨ (lc b < lc o ∧ v2 = lc o))
    (m3 : (fr b ≤ fr o ∧ v3 = fr b) ∨ (fr o < fr b ∧ v3 = fr o)) (m4 : (lr o ≤ lr b ∧ v4 = lr b) ∨ (lr b < lr o ∧ v4 = lr o))
    (hp : ∀ u, gi_St H mx my mv kh u → post u) : wX_takeOver_143 post (nI b) (nI o) (nI v4) (nI b) (nI kh) (gi_pI fh) (nI kC) (nI kR) (nI kU) wa wb wc wd we wf wg (gi_ar mx) (gi_ar my) mv (gi_pr nx) (gi_ar cf) (gi_ar rf) (gi_ar bo) (gi_ar iu) (gi_pr hd) (gi_ar sz) (gi_ar (gi_up fc b v1)) (gi_ar (gi_up lc b v2)) (gi_ar (gi_up fr b v3)) (gi_ar lr) := by
  obtain ⟨B1, B2, T, ct, Q, K, hin, inj⟩ := I
  have w2 : vp_in (nI o) 64 := vp_in_nI ho (by decide)
  have e1 : gi_up iu o 0 o = 0 := gi_us
  have e2 : ∀ d, d ≠ o → gi_up iu o 0 d = iu d := fun d h => gi_un h
  obtain ⟨p1, p2, -⟩ := T.2.1 b hb ub
  obtain ⟨-, p3, p4, p5, p6⟩ := T.2.2 b hb
  obtain ⟨q1, q2, -⟩ := T.2.1 o ho uo
  obtain ⟨-, q3, q4, q5, q6⟩ := T.2.2 o ho
  have cU := gi_ct_up (f := iu) (k := o) (x := 0) (n := 64) ho
  have hU : 1 ≤ kU := by omega
  unfold wX_takeOver_143
  refine ⟨vp_in_nI hb (by decide), ?_⟩
  intro a ea
  rw [gi_wa lr _ (by omega)] at ea
  subst ea
  refine gi_clm hb B1.2.1 B2.2.1 (by rw [gi_us]; omega) (by rw [gi_us]; omega) (by rw [gi_us, gi_us]; omega) (by rw [gi_us, gi_us]; omega) (fun bo' cl => ?_)
  obtain ⟨T', w⟩ := gi_tak_Tl T hb ub ho uo hn F e1 e2 (fun d h => ⟨gi_un h, gi_un h, gi_un h, gi_un h⟩) (by rw [gi_us]; exact m1) (by rw [gi_us]; exact m2) (by rw [gi_us]; exact m3) (by rw [gi_us]; exact m4) cl
  obtain ⟨L, c, n, e, s⟩ := K o ho uo
  have l40 := gi_len40 n (fun m hm => ((e m).mp hm).1)
  refine And.intro w2 ?_
  intro x3 e3
  rw [gi_rp _ (by omega)] at e3
  refine And.intro w2 ?_
  intro x4 e4
  rw [gi_rd _ (by omega), s] at e4
  subst e3 e4
  have K1 := gi_tak_Bk K hin B1 B2 e w hn e1 e2
  refine Exists.intro 41 (gi_to167 hb ho hU (fun m hm => (hin m hm).1) l40 (fun nx' hd' sz' K' Q' => hp _ (gi_St_i ⟨B1, B2, T', ?_, Q', K', hin, inj⟩)) L _ 0 41 nx hd sz c n (fun m hm => ⟨((e m).mp hm).2.1, ?_⟩) (by omega) (by omega) K1 Q)
  · omega
  · obtain ⟨f1, f2, f3⟩ := (e m).mp hm
    obtain ⟨-, f4, f5⟩ := hin m f2
    exact (w _ _ (gi_loc_in B1 f4).1 (gi_loc_in B2 f5).1).1.mpr (Or.inr f3)
theorem gi_to107 {H : Nat → Bool} {post : SX → Prop} {b o v1 v2 v3 : Nat} (hb : b < 64) (ub : iu b = 1) (ho : o < 64) (uo : iu o = 1) (hn : o ≠ b) (I : gi_XI kh fh kC kR kU mx my nx cf rf bo iu hd sz fc lc fr lr H) (F : gi_Ft fc lc fr lr b o)
    (m1 : (fc b ≤ fc o ∧ v1 = fc b) ∨ (fc o < fc b ∧ v1 = fc o)) (m2 : (lc o ≤ lc b ∧ v2 = lc b) ∨ (lc b < lc o ∧ v2 = lc o))
    (m3 : (fr b ≤ fr o ∧ v3 = fr b) ∨ (fr o < fr b ∧ v3 = fr o))
    (hp : ∀ u, gi_St H mx my mv kh u → post u) : wX_takeOver_107 post (nI b) (nI o) (nI v3) (nI b) (nI kh) (gi_pI fh) (nI kC) (nI kR) (nI kU) wa wb wc wd we wf wg (gi_ar mx) (gi_ar my) mv (gi_pr nx) (gi_ar cf) (gi_ar rf) (gi_ar bo) (gi_ar iu) (gi_pr hd) (gi_ar sz) (gi_ar (gi_up fc b v1)) (gi_ar (gi_up lc b v2)) (gi_ar fr) (gi_ar lr) := by
  have w1 : vp_in (nI b) 64 := vp_in_nI hb (by decide)
  have w2 : vp_in (nI o) 64 := vp_in_nI ho (by decide)
  obtain ⟨-, -, -, -, p6⟩ := I.2.2.1.2.2 b hb
  obtain ⟨-, -, -, -, q6⟩ := I.2.2.1.2.2 o ho
  have r16 := I.2.1.2.1
  unfold wX_takeOver_107
  refine ⟨w1, ?_⟩
  intro a ea
  rw [gi_wa _ _ (by omega)] at ea
  subst ea
  refine ⟨w2, w1, ?_⟩
  refine pk_le (lr o) (lr b) (fun z => ⟨w1, ?_⟩) (fun z => ⟨w2, ?_⟩) (gi_rd lr (by omega)) (gi_rd lr (by omega)) (by omega) (by omega)
  · rw [gi_rd lr (by omega)]
    exact gi_to143 hb ub ho uo hn I F m1 m2 m3 (Or.inl ⟨z, rfl⟩) hp
  · rw [gi_rd lr (by omega)]
    exact gi_to143 hb ub ho uo hn I F m1 m2 m3 (Or.inr ⟨z, rfl⟩) hp
theorem gi_to71 {H : Nat → Bool} {post : SX → Prop} {b o v1 v2 : Nat} (hb : b < 64) (ub : iu b = 1) (ho : o < 64) (uo : iu o = 1) (hn : o ≠ b) (I : gi_XI kh fh kC kR kU mx my nx cf rf bo iu hd sz fc lc fr lr H) (F : gi_Ft fc lc fr lr b o)
    (m1 : (fc b ≤ fc o ∧ v1 = fc b) ∨ (fc o < fc b ∧ v1 = fc o)) (m2 : (lc o ≤ lc b ∧ v2 = lc b) ∨ (lc b < lc o ∧ v2 = lc o))
    (hp : ∀ u, gi_St H mx my mv kh u → post u) : wX_takeOver_71 post (nI b) (nI o) (nI v2) (nI b) (nI kh) (gi_pI fh) (nI kC) (nI kR) (nI kU) wa wb wc wd we wf wg (gi_ar mx) (gi_ar my) mv (gi_pr nx) (gi_ar cf) (gi_ar rf) (gi_ar bo) (gi_ar iu) (gi_pr hd) (gi_ar sz) (gi_ar (gi_up fc b v1)) (gi_ar lc) (gi_ar fr) (gi_ar lr) := by
  have w1 : vp_in (nI b) 64 := vp_in_nI hb (by decide)
  have w2 : vp_in (nI o) 64 := vp_in_nI ho (by decide)
  obtain ⟨-, -, -, p6, -⟩ := I.2.2.1.2.2 b hb
  obtain ⟨-, -, -, q6, -⟩ := I.2.2.1.2.2 o ho
  have r16 := I.2.1.2.1
  unfold wX_takeOver_71
  refine ⟨w1, ?_⟩
  intro a ea
  rw [gi_wa _ _ (by omega)] at ea
  subst ea
  refine ⟨w2, w1, ?_⟩
  refine pk_le (fr b) (fr o) (fun z => ⟨w1, ?_⟩) (fun z => ⟨w2, ?_⟩) (gi_rd fr (by omega)) (gi_rd fr (by omega)) (by omega) (by omega)
  · rw [gi_rd fr (by omega)]
    exact gi_to107 hb ub ho uo hn I F m1 m2 (Or.inl ⟨z, rfl⟩) hp
  · rw [gi_rd fr (by omega)]
    exact gi_to107 hb ub ho uo hn I F m1 m2 (Or.inr ⟨z, rfl⟩) hp
theorem gi_to35 {H : Nat → Bool} {post : SX → Prop} {b o v1 : Nat} (hb : b < 64) (ub : iu b = 1) (ho : o < 64) (uo : iu o = 1) (hn : o ≠ b) (I : gi_XI kh fh kC kR kU mx my nx cf rf bo iu hd sz fc lc fr lr H) (F : gi_Ft fc lc fr lr b o)
    (m1 : (fc b ≤ fc o ∧ v1 = fc b) ∨ (fc o < fc b ∧ v1 = fc o))
    (hp : ∀ u, gi_St H mx my mv kh u → post u) : wX_takeOver_35 post (nI b) (nI o) (nI v1) (nI b) (nI kh) (gi_pI fh) (nI kC) (nI kR) (nI kU) wa wb wc wd we wf wg (gi_ar mx) (gi_ar my) mv (gi_pr nx) (gi_ar cf) (gi_ar rf) (gi_ar bo) (gi_ar iu) (gi_pr hd) (gi_ar sz) (gi_ar fc) (gi_ar lc) (gi_ar fr) (gi_ar lr) := by
  have w1 : vp_in (nI b) 64 := vp_in_nI hb (by decide)
  have w2 : vp_in (nI o) 64 := vp_in_nI ho (by decide)
  obtain ⟨-, -, p6, -, -⟩ := I.2.2.1.2.2 b hb
  obtain ⟨-, -, q6, -, -⟩ := I.2.2.1.2.2 o ho
  have r16 := I.1.2.1
  unfold wX_takeOver_35
  refine ⟨w1, ?_⟩
  intro a ea
  rw [gi_wa _ _ (by omega)] at ea
  subst ea
  refine ⟨w2, w1, ?_⟩
  refine pk_le (lc o) (lc b) (fun z => ⟨w1, ?_⟩) (fun z => ⟨w2, ?_⟩) (gi_rd lc (by omega)) (gi_rd lc (by omega)) (by omega) (by omega)
  · rw [gi_rd lc (by omega)]
    exact gi_to71 hb ub ho uo hn I F m1 (Or.inl ⟨z, rfl⟩) hp
  · rw [gi_rd lc (by omega)]
    exact gi_to71 hb ub ho uo hn I F m1 (Or.inr ⟨z, rfl⟩) hp
theorem gi_to {H : Nat → Bool} {post : SX → Prop} {b o : Nat} (hb : b < 64) (ub : iu b = 1) (ho : o < 64) (uo : iu o = 1) (hn : o ≠ b) (I : gi_XI kh fh kC kR kU mx my nx cf rf bo iu hd sz fc lc fr lr H) (F : gi_Ft fc lc fr lr b o)
    (hp : ∀ u, gi_St H mx my mv kh u → post u) : wpX_takeOver post (nI kh, gi_pI fh, nI kC, nI kR, nI kU, wa, wb, wc, wd, we, wf, wg, gi_ar mx, gi_ar my, mv, gi_pr nx, gi_ar cf, gi_ar rf, gi_ar bo, gi_ar iu, gi_pr hd, gi_ar sz, gi_ar fc, gi_ar lc, gi_ar fr, gi_ar lr) (nI b) (nI o) := by
  have w1 : vp_in (nI b) 64 := vp_in_nI hb (by decide)
  have w2 : vp_in (nI o) 64 := vp_in_nI ho (by decide)
  obtain ⟨-, p6, -, -, -⟩ := I.2.2.1.2.2 b hb
  obtain ⟨-, q6, -, -, -⟩ := I.2.2.1.2.2 o ho
  have r16 := I.1.2.1
  unfold wpX_takeOver
  dsimp only
  refine ⟨w2, w1, ?_⟩
  refine pk_le (fc b) (fc o) (fun z => ⟨w1, ?_⟩) (fun z => ⟨w2, ?_⟩) (gi_rd fc (by omega)) (gi_rd fc (by omega)) (by omega) (by omega)
  · rw [gi_rd fc (by omega)]
    exact gi_to35 hb ub ho uo hn I F (Or.inl ⟨z, rfl⟩) hp
  · rw [gi_rd fc (by omega)]
    exact gi_to35 hb ub ho uo hn I F (Or.inr ⟨z, rfl⟩) hp
theorem gi_sz40 {H : Nat → Bool} {ow : Nat → Nat} (K : gi_Bk iu hd sz nx H ow) {b : Nat} (hb : b < 64) (ub : iu b = 1) : sz b ≤ 40 := by
  obtain ⟨L, c, n, e, s⟩ := K b hb ub
  rw [s]
  exact gi_len40 n (fun m hm => ((e m).mp hm).1)
theorem gi_jn2 {H : Nat → Bool} {post : SX → Prop} {b : Nat} (hb : b < 64) (ub : iu b = 1) (I : gi_XI kh fh kC kR kU mx my nx cf rf bo iu hd sz fc lc fr lr H) (hp : ∀ u, gi_St H mx my mv kh u → post u) :
    ∀ d o n : Nat, o + d = 64 → d < n → wX_joinWithNeighbour_2 post (nI b) (nI kh) (gi_pI fh) (nI kC) (nI kR) (nI kU) wa wb wc wd we wf wg (gi_ar mx) (gi_ar my) mv (gi_pr nx) (gi_ar cf) (gi_ar rf) (gi_ar bo) (gi_ar iu) (gi_pr hd) (gi_ar sz) (gi_ar fc) (gi_ar lc) (gi_ar fr) (gi_ar lr) n (nI o) := by
  have w1 : vp_in (nI b) 64 := vp_in_nI hb (by decide)
  have s1 := gi_sz40 I.2.2.2.2.2.1 hb ub
  intro d
  induction d with
  | zero =>
    intro o n ho hn
    obtain ⟨n, rfl⟩ := gi_S hn
    exact br_t (nI_le (a := 64) (by omega) (by omega)) (hp _ (gi_St_i I))
  | succ d ih =>
    intro o n ho hn
    obtain ⟨n, rfl⟩ := gi_S hn
    have w2 : vp_in (nI o) 64 := vp_in_nI (by omega) (by decide)
    have u1 := (I.2.2.1.2.2 o (by omega)).1
    have next : ∀ x : Int32, x = nI o + 1 → wX_joinWithNeighbour_2 post (nI b) (nI kh) (gi_pI fh) (nI kC) (nI kR) (nI kU) wa wb wc wd we wf wg (gi_ar mx) (gi_ar my) mv (gi_pr nx) (gi_ar cf) (gi_ar rf) (gi_ar bo) (gi_ar iu) (gi_pr hd) (gi_ar sz) (gi_ar fc) (gi_ar lc) (gi_ar fr) (gi_ar lr) n x := by
      intro x ex
      rw [nI_1] at ex
      subst ex
      exact ih (o + 1) n (by omega) (by omega)
    refine br_f (nI_ge (b := 64) (by omega) (by decide)) (And.intro w2 ?_)
    refine pk_eq (iu o) 0 (fun _ => next) (fun z => ?_) (gi_rd iu (by omega)) nI_0.symm (by omega) (by omega)
    refine pk_eq o b (fun _ => next) (fun y => And.intro w2 (And.intro w1 ?_)) rfl rfl (by omega) (by omega)
    have uo : iu o = 1 := by omega
    have s2 := gi_sz40 I.2.2.2.2.2.1 (b := o) (by omega) uo
    refine pk_lt 3 (sz o + sz b) (fun _ => next) (fun _ => ?_) rfl (by rw [gi_rd sz (by omega), gi_rd sz (by omega), nI_add]) (by omega) (by omega)
    refine gi_ft hb (by omega) I.2.2.1 I.1.2.1 I.2.1.2.1 (fun F => ?_) (br_t rfl next)
    exact br_f gi_10 (gi_to hb ub (by omega) uo y I F (fun u hu => hu _ (fun fh kC kR kU wa wb wc wd we wf wg nx cf rf bo iu hd sz fc lc fr lr I2 => hp _ (gi_St_i I2))))
theorem gi_jn {H : Nat → Bool} {post : SX → Prop} {b : Nat} (hb : b < 64) (ub : iu b = 1) (I : gi_XI kh fh kC kR kU mx my nx cf rf bo iu hd sz fc lc fr lr H) (hp : ∀ u, gi_St H mx my mv kh u → post u) : wpX_joinWithNeighbour post (nI kh, gi_pI fh, nI kC, nI kR, nI kU, wa, wb, wc, wd, we, wf, wg, gi_ar mx, gi_ar my, mv, gi_pr nx, gi_ar cf, gi_ar rf, gi_ar bo, gi_ar iu, gi_pr hd, gi_ar sz, gi_ar fc, gi_ar lc, gi_ar fr, gi_ar lr) (nI b) :=
  Exists.intro 65 (gi_jn2 hb ub I hp 64 0 65 (by omega) (by omega))
theorem gi_rem_XI {H : Nat → Bool} {b m : Nat} {L L' : List Nat} {nx' hd' : Nat → Nat} (I : gi_XI kh fh kC kR kU mx my nx cf rf bo iu hd sz fc lc fr lr H) (hm : H m = true) (hb : b = gi_own kC kR cf rf bo mx my m)
    (e : ∀ j, j ∈ L ↔ (j < 40 ∧ H j = true ∧ gi_own kC kR cf rf bo mx my j = b)) (c' : gi_Ch nx' L' (hd' b)) (n' : L'.Nodup) (e' : ∀ j, j ∈ L' ↔ (j ∈ L ∧ j ≠ m)) (s' : sz b - 1 = L'.length)
    (h1 : ∀ d, d ≠ b → hd' d = hd d) (h2 : ∀ j, j ∉ L → nx' j = nx j) :
    gi_XI (kh - 1) (m + 1) kC kR kU mx my (gi_up nx' m fh) cf rf bo iu hd' (gi_up sz b (sz b - 1)) fc lc fr lr (gi_hs H m false) := by
  obtain ⟨B1, B2, T, ct, Q, K, hin, inj⟩ := I
  have hs : ∀ j, gi_hs H m false j = true → H j = true := by
    intro j hj
    by_cases v : j = m
    · rw [v, gi_hss] at hj; cases hj
    · rw [gi_hsn v] at hj; exact hj
  refine ⟨B1, B2, T, ct, ?_, ?_, fun j hj => hin j (hs j hj), fun j i hj hi => inj j i (hs j hj) (hs i hi)⟩
  · refine gi_Fr_push Q (hin m hm).1 hm (fun j j40 hj => h2 j (fun q => ?_))
    have := ((e j).mp q).2.1
    rw [hj] at this
    cases this
  · exact gi_Bk_nx (gi_Bk_rem K hb.symm e c' n' e' s' h1 h2) gi_hss
theorem gi_rem {H : Nat → Bool} {post : Int32 → SX → Prop} {x y : Nat} (hx : x < 64) (hy : y < 64) (I : gi_XI kh fh kC kR kU mx my nx cf rf bo iu hd sz fc lc fr lr H)
    (h1 : ∀ m, H m = true → m < 40 → mx m = x → my m = y → ∀ u, gi_St (gi_hs H m false) mx my mv (kh - 1) u → post (nI (kh - 1)) u)
    (h0 : (∀ m, H m = true → ¬ (mx m = x ∧ my m = y)) → ∀ u, gi_St H mx my mv kh u → post (-1) u) : wpX_remove post (nI kh, gi_pI fh, nI kC, nI kR, nI kU, wa, wb, wc, wd, we, wf, wg, gi_ar mx, gi_ar my, mv, gi_pr nx, gi_ar cf, gi_ar rf, gi_ar bo, gi_ar iu, gi_pr hd, gi_ar sz, gi_ar fc, gi_ar lc, gi_ar fr, gi_ar lr) (nI x) (nI y) := by
  unfold wpX_remove
  dsimp only
  refine gi_onB1 hx hy (br_f gi_10 ?_)
  refine gi_fm hx hy I (fun m hm m40 e1 e2 => ?_) (fun hno => br_f gi_0m1 (h0 hno _ (gi_St_i I)))
  refine br_t (nI_pos' (by omega)) ?_
  obtain ⟨p1, p2, -⟩ := I.2.2.1.1 _ _ (gi_loc_in I.1 hx).1 (gi_loc_in I.2.1 hy).1
  have hw : bo (16 * gi_loc cf x kC + gi_loc rf y kR) = gi_own kC kR cf rf bo mx my m := by
    unfold gi_own
    rw [e1, e2]
  refine gi_bat hx hy I.1 I.2.1 ?_
  rw [hw] at p1 p2 ⊢
  obtain ⟨L, c, n, e, s⟩ := I.2.2.2.2.2.1 _ p1 p2
  have k1 := gi_Fr_pos I.2.2.2.2.1 m40 hm
  have s40 := gi_sz40 I.2.2.2.2.2.1 p1 p2
  refine gi_ul p1 c n (fun j hj => ((e j).mp hj).1) s ((e m).mpr ⟨m40, hm, rfl⟩) (fun nx' hd' L' c' n' e' s' g1 g2 => ?_)
  have I' := gi_rem_XI I hm rfl e c' n' e' s' g1 g2
  dsimp only
  refine And.intro (vp_in_nI m40 (by decide)) ?_
  intro a ea f ef
  rw [gi_wp nx' _ (by omega)] at ea
  rw [gi_s1 k1.1] at ef
  subst ea ef
  refine And.intro (vp_in_nI p1 (by decide)) ?_
  refine pk_lt 1 (sz (gi_own kC kR cf rf bo mx my m) - 1) (fun _ => ?_) (fun _ => ?_) rfl (by rw [gi_rd _ (by omega), gi_us]) (by omega) (by omega)
  · have k := h1 m hm m40 e1 e2 _ (gi_St_i (mv := mv) (wa := wa) (wb := wb) (wc := wc) (wd := wd) (we := we) (wf := wf) (wg := wg) I')
    rw [gi_p1] at k
    exact k
  · have k := fun (Q : SX → Prop) (hQ : ∀ u, gi_St (gi_hs H m false) mx my mv (kh - 1) u → Q u) => gi_jn (mv := mv) (wa := wa) (wb := wb) (wc := wc) (wd := wd) (we := we) (wf := wf) (wg := wg) (post := Q) p1 p2 I' hQ
    rw [gi_p1] at k
    refine k _ (fun u hu => ?_)
    refine hu (fun u => post u.1 u) ?_
    intro fh kC kR kU wa wb wc wd we wf wg nx cf rf bo iu hd sz fc lc fr lr I2
    exact h1 m hm m40 e1 e2 _ (gi_St_i I2)
theorem gi_rem0 {H : Nat → Bool} {post : Int32 → SX → Prop} {x y : Int32} (ho : gi_Off x y) (I : gi_XI kh fh kC kR kU mx my nx cf rf bo iu hd sz fc lc fr lr H) (h2 : ∀ u, gi_St H mx my mv kh u → post (-1) u) : wpX_remove post (nI kh, gi_pI fh, nI kC, nI kR, nI kU, wa, wb, wc, wd, we, wf, wg, gi_ar mx, gi_ar my, mv, gi_pr nx, gi_ar cf, gi_ar rf, gi_ar bo, gi_ar iu, gi_pr hd, gi_ar sz, gi_ar fc, gi_ar lc, gi_ar fr, gi_ar lr) x y := by
  unfold wpX_remove
  dsimp only
  exact gi_onB0 ho (br_t rfl (h2 _ (gi_St_i I)))
end
end
section
def gi_lo (a b : Int32) : Int32 := if b ≤ a then b else a
def gi_hi (a b : Int32) : Int32 := if b ≤ a then a else b
def gi_c0 (v : Int32) : Int32 := if 0 ≤ v then v else 0
def gi_c63 (v : Int32) : Int32 := if v ≤ 63 then v else 63
def gi_bt (v a b : Int32) : Prop := (a ≤ v ∧ v ≤ b) ∨ (b ≤ v ∧ v ≤ a)
def gi_Rc (a b lo hi : Int32) : Prop := 0 ≤ lo ∧ hi ≤ 63 ∧ ∀ x : Nat, x < 64 → ((lo ≤ nI x ∧ nI x ≤ hi) ↔ gi_bt (nI x) a b)
theorem gi_i0 : (0 : Int32).toInt = 0 := by decide
theorem gi_i63 : (63 : Int32).toInt = 63 := by decide
theorem gi_lo_i (a b : Int32) : (b.toInt ≤ a.toInt ∧ (gi_lo a b).toInt = b.toInt) ∨ (a.toInt < b.toInt ∧ (gi_lo a b).toInt = a.toInt) := by
  unfold gi_lo
  by_cases h : b ≤ a
  · rw [if_pos h]; exact Or.inl ⟨Int32.le_iff_toInt_le.mp h, rfl⟩
  · rw [if_neg h]; rw [Int32.le_iff_toInt_le] at h; exact Or.inr ⟨by omega, rfl⟩
theorem gi_hi_i (a b : Int32) : (b.toInt ≤ a.toInt ∧ (gi_hi a b).toInt = a.toInt) ∨ (a.toInt < b.toInt ∧ (gi_hi a b).toInt = b.toInt) := by
  unfold gi_hi
  by_cases h : b ≤ a
  · rw [if_pos h]; exact Or.inl ⟨Int32.le_iff_toInt_le.mp h, rfl⟩
  · rw [if_neg h]; rw [Int32.le_iff_toInt_le] at h; exact Or.inr ⟨by omega, rfl⟩
theorem gi_c0_i (v : Int32) : (0 ≤ v.toInt ∧ (gi_c0 v).toInt = v.toInt) ∨ (v.toInt < 0 ∧ (gi_c0 v).toInt = 0) := by
  unfold gi_c0
  by_cases h : 0 ≤ v
  · rw [if_pos h]; rw [Int32.le_iff_toInt_le, gi_i0] at h; exact Or.inl ⟨h, rfl⟩
  · rw [if_neg h]; rw [Int32.le_iff_toInt_le, gi_i0] at h; exact Or.inr ⟨by omega, gi_i0⟩
theorem gi_c63_i (v : Int32) : (v.toInt ≤ 63 ∧ (gi_c63 v).toInt = v.toInt) ∨ (63 < v.toInt ∧ (gi_c63 v).toInt = 63) := by
  unfold gi_c63
  by_cases h : v ≤ 63
  · rw [if_pos h]; rw [Int32.le_iff_toInt_le, gi_i63] at h; exact Or.inl ⟨h, rfl⟩
  · rw [if_neg h]; rw [Int32.le_iff_toInt_le, gi_i63] at h; exact Or.inr ⟨by omega, gi_i63⟩
theorem gi_Rc_i (a b : Int32) : gi_Rc a b (gi_c0 (gi_lo a b)) (gi_c63 (gi_hi a b)) := by
  have h1 := gi_lo_i a b
  have h2 := gi_hi_i a b
  have h3 := gi_c0_i (gi_lo a b)
  have h4 := gi_c63_i (gi_hi a b)
  unfold gi_Rc gi_bt
  refine ⟨?_, ?_, fun x hx => ?_⟩
  · rw [Int32.le_iff_toInt_le, gi_i0]; omega
  · rw [Int32.le_iff_toInt_le, gi_i63]; omega
  · have e := nI_toInt (n := x) (by omega)
    simp only [Int32.le_iff_toInt_le, e]
    omega
section
variable {kh fh kC kR kU : Nat} {wa wb wc wd we wf wg : Int32} {mx my : Nat → Nat} {mv : Nat → Int32} {nx cf rf bo iu hd sz fc lc fr lr : Nat → Nat}
theorem gi_sr117 {post : SX → Prop} {z0 : Int32} (hp : post (nI kh, gi_pI fh, nI kC, nI kR, nI kU, wa, wb, z0, gi_c63 wd, we, wf, wg, gi_ar mx, gi_ar my, mv, gi_pr nx, gi_ar cf, gi_ar rf, gi_ar bo, gi_ar iu, gi_pr hd, gi_ar sz, gi_ar fc, gi_ar lc, gi_ar fr, gi_ar lr)) : wX_setRectangle_117 post z0 (nI kh) (gi_pI fh) (nI kC) (nI kR) (nI kU) wa wb wc wd we wf wg (gi_ar mx) (gi_ar my) mv (gi_pr nx) (gi_ar cf) (gi_ar rf) (gi_ar bo) (gi_ar iu) (gi_pr hd) (gi_ar sz) (gi_ar fc) (gi_ar lc) (gi_ar fr) (gi_ar lr) :=
  br_c (fun h => by rw [show gi_c63 wd = wd from if_pos h] at hp; exact hp) (fun h => by rw [show gi_c63 wd = 63 from if_neg h] at hp; exact hp)
theorem gi_sr95 {post : SX → Prop} {z0 : Int32} (hp : post (nI kh, gi_pI fh, nI kC, nI kR, nI kU, wa, z0, gi_c63 wc, gi_c63 wd, we, wf, wg, gi_ar mx, gi_ar my, mv, gi_pr nx, gi_ar cf, gi_ar rf, gi_ar bo, gi_ar iu, gi_pr hd, gi_ar sz, gi_ar fc, gi_ar lc, gi_ar fr, gi_ar lr)) : wX_setRectangle_95 post z0 (nI kh) (gi_pI fh) (nI kC) (nI kR) (nI kU) wa wb wc wd we wf wg (gi_ar mx) (gi_ar my) mv (gi_pr nx) (gi_ar cf) (gi_ar rf) (gi_ar bo) (gi_ar iu) (gi_pr hd) (gi_ar sz) (gi_ar fc) (gi_ar lc) (gi_ar fr) (gi_ar lr) :=
  br_c (fun h => gi_sr117 (by rw [show gi_c63 wc = wc from if_pos h] at hp; exact hp)) (fun h => gi_sr117 (by rw [show gi_c63 wc = 63 from if_neg h] at hp; exact hp))
theorem gi_sr76 {post : SX → Prop} {z0 : Int32} (hp : post (nI kh, gi_pI fh, nI kC, nI kR, nI kU, z0, gi_c0 wb, gi_c63 wc, gi_c63 wd, we, wf, wg, gi_ar mx, gi_ar my, mv, gi_pr nx, gi_ar cf, gi_ar rf, gi_ar bo, gi_ar iu, gi_pr hd, gi_ar sz, gi_ar fc, gi_ar lc, gi_ar fr, gi_ar lr)) : wX_setRectangle_76 post z0 (nI kh) (gi_pI fh) (nI kC) (nI kR) (nI kU) wa wb wc wd we wf wg (gi_ar mx) (gi_ar my) mv (gi_pr nx) (gi_ar cf) (gi_ar rf) (gi_ar bo) (gi_ar iu) (gi_pr hd) (gi_ar sz) (gi_ar fc) (gi_ar lc) (gi_ar fr) (gi_ar lr) :=
  br_c (fun h => gi_sr95 (by rw [show gi_c0 wb = wb from if_pos h] at hp; exact hp)) (fun h => gi_sr95 (by rw [show gi_c0 wb = 0 from if_neg h] at hp; exact hp))
theorem gi_sr57 {post : SX → Prop} {z0 : Int32} (hp : post (nI kh, gi_pI fh, nI kC, nI kR, nI kU, gi_c0 wa, gi_c0 wb, gi_c63 wc, gi_c63 z0, we, wf, wg, gi_ar mx, gi_ar my, mv, gi_pr nx, gi_ar cf, gi_ar rf, gi_ar bo, gi_ar iu, gi_pr hd, gi_ar sz, gi_ar fc, gi_ar lc, gi_ar fr, gi_ar lr)) : wX_setRectangle_57 post z0 (nI kh) (gi_pI fh) (nI kC) (nI kR) (nI kU) wa wb wc wd we wf wg (gi_ar mx) (gi_ar my) mv (gi_pr nx) (gi_ar cf) (gi_ar rf) (gi_ar bo) (gi_ar iu) (gi_pr hd) (gi_ar sz) (gi_ar fc) (gi_ar lc) (gi_ar fr) (gi_ar lr) :=
  br_c (fun h => gi_sr76 (by rw [show gi_c0 wa = wa from if_pos h] at hp; exact hp)) (fun h => gi_sr76 (by rw [show gi_c0 wa = 0 from if_neg h] at hp; exact hp))
theorem gi_sr41 {post : SX → Prop} {x2 x4 z0 : Int32} (hp : post (nI kh, gi_pI fh, nI kC, nI kR, nI kU, gi_c0 wa, gi_c0 z0, gi_c63 wc, gi_c63 (gi_hi x2 x4), we, wf, wg, gi_ar mx, gi_ar my, mv, gi_pr nx, gi_ar cf, gi_ar rf, gi_ar bo, gi_ar iu, gi_pr hd, gi_ar sz, gi_ar fc, gi_ar lc, gi_ar fr, gi_ar lr)) : wX_setRectangle_41 post x2 x4 z0 (nI kh) (gi_pI fh) (nI kC) (nI kR) (nI kU) wa wb wc wd we wf wg (gi_ar mx) (gi_ar my) mv (gi_pr nx) (gi_ar cf) (gi_ar rf) (gi_ar bo) (gi_ar iu) (gi_pr hd) (gi_ar sz) (gi_ar fc) (gi_ar lc) (gi_ar fr) (gi_ar lr) :=
  br_c (fun h => gi_sr57 (by rw [show gi_hi x2 x4 = x2 from if_pos h] at hp; exact hp)) (fun h => gi_sr57 (by rw [show gi_hi x2 x4 = x4 from if_neg h] at hp; exact hp))
theorem gi_sr25 {post : SX → Prop} {x2 x4 z0 : Int32} (hp : post (nI kh, gi_pI fh, nI kC, nI kR, nI kU, gi_c0 wa, gi_c0 (gi_lo x2 x4), gi_c63 z0, gi_c63 (gi_hi x2 x4), we, wf, wg, gi_ar mx, gi_ar my, mv, gi_pr nx, gi_ar cf, gi_ar rf, gi_ar bo, gi_ar iu, gi_pr hd, gi_ar sz, gi_ar fc, gi_ar lc, gi_ar fr, gi_ar lr)) : wX_setRectangle_25 post x2 x4 z0 (nI kh) (gi_pI fh) (nI kC) (nI kR) (nI kU) wa wb wc wd we wf wg (gi_ar mx) (gi_ar my) mv (gi_pr nx) (gi_ar cf) (gi_ar rf) (gi_ar bo) (gi_ar iu) (gi_pr hd) (gi_ar sz) (gi_ar fc) (gi_ar lc) (gi_ar fr) (gi_ar lr) :=
  br_c (fun h => gi_sr41 (by rw [show gi_lo x2 x4 = x4 from if_pos h] at hp; exact hp)) (fun h => gi_sr41 (by rw [show gi_lo x2 x4 = x2 from if_neg h] at hp; exact hp))
theorem gi_sr11 {post : SX → Prop} {x1 x2 x3 x4 z0 : Int32} (hp : post (nI kh, gi_pI fh, nI kC, nI kR, nI kU, gi_c0 z0, gi_c0 (gi_lo x2 x4), gi_c63 (gi_hi x1 x3), gi_c63 (gi_hi x2 x4), we, wf, wg, gi_ar mx, gi_ar my, mv, gi_pr nx, gi_ar cf, gi_ar rf, gi_ar bo, gi_ar iu, gi_pr hd, gi_ar sz, gi_ar fc, gi_ar lc, gi_ar fr, gi_ar lr)) : wX_setRectangle_11 post x1 x2 x3 x4 z0 (nI kh) (gi_pI fh) (nI kC) (nI kR) (nI kU) wa wb wc wd we wf wg (gi_ar mx) (gi_ar my) mv (gi_pr nx) (gi_ar cf) (gi_ar rf) (gi_ar bo) (gi_ar iu) (gi_pr hd) (gi_ar sz) (gi_ar fc) (gi_ar lc) (gi_ar fr) (gi_ar lr) :=
  br_c (fun h => gi_sr25 (by rw [show gi_hi x1 x3 = x1 from if_pos h] at hp; exact hp)) (fun h => gi_sr25 (by rw [show gi_hi x1 x3 = x3 from if_neg h] at hp; exact hp))
theorem gi_sr {post : SX → Prop} {x1 x2 x3 x4 : Int32} (hp : ∀ wa wb wc wd, gi_Rc x1 x3 wa wc → gi_Rc x2 x4 wb wd → post (nI kh, gi_pI fh, nI kC, nI kR, nI kU, wa, wb, wc, wd, we, wf, wg, gi_ar mx, gi_ar my, mv, gi_pr nx, gi_ar cf, gi_ar rf, gi_ar bo, gi_ar iu, gi_pr hd, gi_ar sz, gi_ar fc, gi_ar lc, gi_ar fr, gi_ar lr)) : wpX_setRectangle post (nI kh, gi_pI fh, nI kC, nI kR, nI kU, wa, wb, wc, wd, we, wf, wg, gi_ar mx, gi_ar my, mv, gi_pr nx, gi_ar cf, gi_ar rf, gi_ar bo, gi_ar iu, gi_pr hd, gi_ar sz, gi_ar fc, gi_ar lc, gi_ar fr, gi_ar lr) x1 x2 x3 x4 := by
  have h := hp _ _ _ _ (gi_Rc_i x1 x3) (gi_Rc_i x2 x4)
  exact br_c (fun g => gi_sr11 (by rw [show gi_lo x1 x3 = x3 from if_pos g] at h; exact h)) (fun g => gi_sr11 (by rw [show gi_lo x1 x3 = x1 from if_neg g] at h; exact h))
end
/-! what is found: count, sum, least code of the marks of a list -/
def gi_sm (mv : Nat → Int32) : List Nat → Int32
  | [] => 0
  | m :: W => gi_sm mv W + mv m
def gi_Mn (cd : Nat → Nat) (W : List Nat) (wg : Int32) : Prop := (W = [] ∧ wg = -1) ∨ ∃ m, m ∈ W ∧ wg = nI (cd m) ∧ ∀ j, j ∈ W → cd m ≤ cd j
def gi_Ac (mx my : Nat → Nat) (mv : Nat → Int32) (W : List Nat) (we wf wg : Int32) : Prop := we = nI W.length ∧ wf = gi_sm mv W ∧ gi_Mn (fun m => 64 * mx m + my m) W wg
theorem gi_Mn_new {cd : Nat → Nat} {W : List Nat} {wg : Int32} {m : Nat} (h : gi_Mn cd W wg) (hb : ∀ j, j ∈ W → cd j < 2 ^ 31) (hlt : wg < 0 ∨ ¬ wg ≤ nI (cd m)) (hm : cd m < 2 ^ 31) : gi_Mn cd (m :: W) (nI (cd m)) := by
  refine Or.inr ⟨m, List.mem_cons_self, rfl, fun j hj => ?_⟩
  rcases List.mem_cons.mp hj with z | z
  · rw [z]; exact Nat.le_refl _
  · rcases h with ⟨e, -⟩ | ⟨a, ha, e, hl⟩
    · rw [e] at z; exact absurd z List.not_mem_nil
    · have b := hb a ha
      have l := hl j z
      rcases hlt with q | q
      · rw [e] at q; exact absurd q (nI_pos b)
      · rw [e, nI_leI b hm] at q
        omega
theorem gi_Mn_old {cd : Nat → Nat} {W : List Nat} {wg : Int32} {m : Nat} (h : gi_Mn cd W wg) (hb : ∀ j, j ∈ W → cd j < 2 ^ 31) (h0 : ¬ wg < 0) (hle : wg ≤ nI (cd m)) (hm : cd m < 2 ^ 31) : gi_Mn cd (m :: W) wg := by
  rcases h with ⟨e, e2⟩ | ⟨a, ha, e, hl⟩
  · rw [e2] at h0; exact absurd gi_m1lt h0
  · refine Or.inr ⟨a, List.mem_cons_of_mem _ ha, e, fun j hj => ?_⟩
    rcases List.mem_cons.mp hj with z | z
    · rw [z]
      rw [e, nI_leI (hb a ha) hm] at hle
      exact hle
    · exact hl j z
def gi_is (mx my : Nat → Nat) (wa wb wc wd : Int32) (m : Nat) : Prop := (wa ≤ nI (mx m) ∧ nI (mx m) ≤ wc) ∧ (wb ≤ nI (my m) ∧ nI (my m) ≤ wd)
section
variable {kh fh kC kR kU : Nat} {wa wb wc wd we wf wg : Int32} {mx my : Nat → Nat} {mv : Nat → Int32} {nx cf rf bo iu hd sz fc lc fr lr : Nat → Nat}
theorem gi_sb152 {post : SX → Prop} {J : Int32 → Int32 → Int32 → Int32 → Int32 → Prop} {m s : Nat} {z0 : Int32} (hm : m < 40) (hJ : J (gi_pI (nx m)) (nI (s + 1)) we wf z0) : wX_scanBucket_152 post J (nI m) (nI s) z0 (nI kh) (gi_pI fh) (nI kC) (nI kR) (nI kU) wa wb wc wd we wf wg (gi_ar mx) (gi_ar my) mv (gi_pr nx) (gi_ar cf) (gi_ar rf) (gi_ar bo) (gi_ar iu) (gi_pr hd) (gi_ar sz) (gi_ar fc) (gi_ar lc) (gi_ar fr) (gi_ar lr) := by
  unfold wX_scanBucket_152
  refine ⟨vp_in_nI hm (by decide), ?_⟩
  intro x ex y ey
  rw [gi_rp nx (by omega)] at ex
  rw [nI_1] at ey
  subst ex ey
  exact hJ
theorem gi_sb76 {post : SX → Prop} {J : Int32 → Int32 → Int32 → Int32 → Int32 → Prop} {m s : Nat} {W : List Nat} (hm : m < 40) (h1 : mx m < 64) (h2 : my m < 64) (hW : ∀ j, j ∈ W → mx j < 64 ∧ my j < 64) (hA : gi_Ac mx my mv W we wf wg)
    (hJ : ∀ we wf wg, gi_Ac mx my mv (m :: W) we wf wg → J (gi_pI (nx m)) (nI (s + 1)) we wf wg) : wX_scanBucket_76 post J (nI m) (nI s) 1 (nI kh) (gi_pI fh) (nI kC) (nI kR) (nI kU) wa wb wc wd we wf wg (gi_ar mx) (gi_ar my) mv (gi_pr nx) (gi_ar cf) (gi_ar rf) (gi_ar bo) (gi_ar iu) (gi_pr hd) (gi_ar sz) (gi_ar fc) (gi_ar lc) (gi_ar fr) (gi_ar lr) := by
  have v1 : vp_in (nI m) 40 := vp_in_nI hm (by decide)
  obtain ⟨A1, A2, A3⟩ := hA
  unfold wX_scanBucket_76
  refine br_f gi_10 ?_
  intro a1 e1
  refine ⟨v1, ?_⟩
  intro a2 e2
  refine ⟨v1, v1, ?_⟩
  intro a3 e3
  rw [A1, nI_1] at e1
  rw [A2, nI_clamp (by omega)] at e2
  rw [gi_rd mx (by omega), gi_rd my (by omega), gi_64] at e3
  have hb : ∀ j, j ∈ W → (fun m => 64 * mx m + my m) j < 2 ^ 31 := fun j hj => by
    have := hW j hj
    show 64 * mx j + my j < 2 ^ 31
    omega
  have hm2 : (fun m => 64 * mx m + my m) m < 2 ^ 31 := by
    show 64 * mx m + my m < 2 ^ 31
    omega
  subst e1 e2 e3
  refine br_c (fun z => ?_) (fun z => ?_)
  · unfold wX_scanBucket_143
    exact gi_sb152 hm (hJ _ _ _ ⟨rfl, rfl, gi_Mn_new A3 hb (Or.inl z) hm2⟩)
  · refine br_c (fun y => ?_) (fun y => ?_)
    · exact gi_sb152 hm (hJ _ _ _ ⟨rfl, rfl, gi_Mn_old A3 hb z y hm2⟩)
    · unfold wX_scanBucket_143
      exact gi_sb152 hm (hJ _ _ _ ⟨rfl, rfl, gi_Mn_new A3 hb (Or.inr y) hm2⟩)
theorem gi_sb75 {post : SX → Prop} {J : Int32 → Int32 → Int32 → Int32 → Int32 → Prop} {m s : Nat} (hm : m < 40) (hJ : J (gi_pI (nx m)) (nI (s + 1)) we wf wg) : wX_scanBucket_75 post J (nI m) (nI s) (nI kh) (gi_pI fh) (nI kC) (nI kR) (nI kU) wa wb wc wd we wf wg (gi_ar mx) (gi_ar my) mv (gi_pr nx) (gi_ar cf) (gi_ar rf) (gi_ar bo) (gi_ar iu) (gi_pr hd) (gi_ar sz) (gi_ar fc) (gi_ar lc) (gi_ar fr) (gi_ar lr) := by
  unfold wX_scanBucket_75 wX_scanBucket_76
  refine br_t rfl ⟨vp_in_nI hm (by decide), ?_⟩
  intro x ex y ey
  rw [gi_rp nx (by omega)] at ex
  rw [nI_1] at ey
  subst ex ey
  exact hJ
end
section
variable {kh fh kC kR kU : Nat} {wa wb wc wd : Int32} {mx my : Nat → Nat} {mv : Nat → Int32} {nx cf rf bo iu hd sz fc lc fr lr : Nat → Nat}
theorem gi_sb9 {post : SX → Prop} : ∀ (L : List Nat) (g s n : Nat) (W : List Nat) (we wf wg : Int32), gi_Ch nx L g → (∀ m, m ∈ L → m < 40 ∧ mx m < 64 ∧ my m < 64) → L.Nodup → (∀ m, m ∈ L → m ∉ W) → W.Nodup →
    (∀ m, m ∈ W → mx m < 64 ∧ my m < 64) → s + L.length ≤ 40 → L.length < n → gi_Ac mx my mv W we wf wg →
    (∀ (W' : List Nat) (we wf wg : Int32), W'.Nodup → (∀ j, j ∈ W' ↔ (j ∈ W ∨ (j ∈ L ∧ gi_is mx my wa wb wc wd j))) → gi_Ac mx my mv W' we wf wg → post (nI kh, gi_pI fh, nI kC, nI kR, nI kU, wa, wb, wc, wd, we, wf, wg, gi_ar mx, gi_ar my, mv, gi_pr nx, gi_ar cf, gi_ar rf, gi_ar bo, gi_ar iu, gi_pr hd, gi_ar sz, gi_ar fc, gi_ar lc, gi_ar fr, gi_ar lr)) →
    wX_scanBucket_9 post (nI kh) (gi_pI fh) (nI kC) (nI kR) (nI kU) wa wb wc wd (gi_ar mx) (gi_ar my) mv (gi_pr nx) (gi_ar cf) (gi_ar rf) (gi_ar bo) (gi_ar iu) (gi_pr hd) (gi_ar sz) (gi_ar fc) (gi_ar lc) (gi_ar fr) (gi_ar lr) n (gi_pI g) (nI s) we wf wg := by
  intro L
  induction L with
  | nil =>
    intro g s n W we wf wg c hin nd hdj nW hW hs hn hA hp
    obtain ⟨n, rfl⟩ := gi_S hn
    have e : g = 0 := c
    rw [e, gi_p0]
    have q := hp W we wf wg nW (fun j => ⟨Or.inl, fun q => q.elim id (fun q => absurd q.1 List.not_mem_nil)⟩) hA
    exact br_c (fun _ => q) (fun _ => br_t gi_m1lt q)
  | cons m L ih =>
    intro g s n W we wf wg c hin nd hdj nW hW hs hn hA hp
    obtain ⟨n, rfl⟩ := gi_S hn
    obtain ⟨c1, c2⟩ := c
    obtain ⟨m1, m2, m3⟩ := hin m List.mem_cons_self
    obtain ⟨n1, n2⟩ := List.nodup_cons.mp nd
    rw [List.length_cons] at hs hn
    rw [c1, gi_p1]
    have hv : vp_in (nI m) 40 := vp_in_nI m1 (by decide)
    have skip : ¬ gi_is mx my wa wb wc wd m → wX_scanBucket_9 post (nI kh) (gi_pI fh) (nI kC) (nI kR) (nI kU) wa wb wc wd (gi_ar mx) (gi_ar my) mv (gi_pr nx) (gi_ar cf) (gi_ar rf) (gi_ar bo) (gi_ar iu) (gi_pr hd) (gi_ar sz) (gi_ar fc) (gi_ar lc) (gi_ar fr) (gi_ar lr) n (gi_pI (nx m)) (nI (s + 1)) we wf wg := by
      intro no
      refine ih (nx m) (s + 1) n W we wf wg c2 (fun j hj => hin j (List.mem_cons_of_mem _ hj)) n2 (fun j hj => hdj j (List.mem_cons_of_mem _ hj)) nW hW (by omega) (by omega) hA (fun W' we wf wg nW' e' hA' => hp W' we wf wg nW' (fun j => ?_) hA')
      rw [e' j, List.mem_cons]
      constructor
      · exact fun q => q.elim Or.inl (fun q => Or.inr ⟨Or.inr q.1, q.2⟩)
      · exact fun q => q.elim Or.inl (fun q => q.1.elim (fun e => absurd (by rw [← e]; exact q.2) no) (fun h => Or.inr ⟨h, q.2⟩))
    refine br_f (nI_ge (b := 40) (by omega) (by decide)) (br_f (nI_pos (by omega)) (And.intro hv ?_))
    rw [gi_rd mx (by omega), gi_rd my (by omega)]
    refine br_c (fun z => gi_sb75 m1 (skip (fun q => Int32.not_le.mpr z q.1.1))) (fun z1 => And.intro hv ?_)
    refine br_c (fun z => gi_sb75 m1 (skip (fun q => Int32.not_le.mpr z q.1.2))) (fun z2 => And.intro hv ?_)
    refine br_c (fun z => gi_sb75 m1 (skip (fun q => Int32.not_le.mpr z q.2.1))) (fun z3 => And.intro hv ?_)
    refine br_c (fun z => gi_sb75 m1 (skip (fun q => Int32.not_le.mpr z q.2.2))) (fun z4 => ?_)
    have yes : gi_is mx my wa wb wc wd m := ⟨⟨Int32.not_lt.mp z1, Int32.not_lt.mp z2⟩, Int32.not_lt.mp z3, Int32.not_lt.mp z4⟩
    have nm := hdj m List.mem_cons_self
    refine gi_sb76 m1 m2 m3 hW hA (fun we wf wg hA' => ?_)
    refine ih (nx m) (s + 1) n (m :: W) we wf wg c2 (fun j hj => hin j (List.mem_cons_of_mem _ hj)) n2 (fun j hj q => ?_) (List.nodup_cons.mpr ⟨nm, nW⟩) (fun j hj => ?_) (by omega) (by omega) hA' (fun W' we wf wg nW' e' hA' => hp W' we wf wg nW' (fun j => ?_) hA')
    · rcases List.mem_cons.mp q with y | y
      · exact n1 (by rw [← y]; exact hj)
      · exact hdj j (List.mem_cons_of_mem _ hj) y
    · rcases List.mem_cons.mp hj with y | y
      · rw [y]; exact ⟨m2, m3⟩
      · exact hW j y
    · rw [e' j, List.mem_cons, List.mem_cons]
      constructor
      · exact fun q => q.elim (fun q => q.elim (fun e => Or.inr ⟨Or.inl e, by rw [e]; exact yes⟩) Or.inl) (fun q => Or.inr ⟨Or.inr q.1, q.2⟩)
      · exact fun q => q.elim (fun h => Or.inl (Or.inr h)) (fun q => q.1.elim (fun e => Or.inl (Or.inl e)) (fun h => Or.inr ⟨h, q.2⟩))
end
end
section
def gi_m2 (a b : Nat) : Nat := if a ≤ b then b else a
theorem gi_m2_i (a b : Nat) : (a ≤ b ∧ gi_m2 a b = b) ∨ (b < a ∧ gi_m2 a b = a) := by
  unfold gi_m2
  rcases Nat.lt_or_ge b a with z | z
  · exact Or.inr ⟨z, if_neg (by omega)⟩
  · exact Or.inl ⟨z, if_pos z⟩
def gi_Wk (H : Nat → Bool) (mx my : Nat → Nat) (mv : Nat → Int32) (wa wb wc wd : Int32) (kc kr : Nat → Nat) (c r : Nat) (we wf wg : Int32) : Prop :=
  ∃ W : List Nat, W.Nodup ∧ (∀ m, m ∈ W ↔ (H m = true ∧ gi_is mx my wa wb wc wd m ∧ (kc m < c ∨ (kc m = c ∧ kr m < r)))) ∧ gi_Ac mx my mv W we wf wg
theorem gi_Wk_c {H : Nat → Bool} {mx my : Nat → Nat} {mv : Nat → Int32} {wa wb wc wd : Int32} {kc kr : Nat → Nat} {c r c' r' : Nat} {we wf wg : Int32} (h : gi_Wk H mx my mv wa wb wc wd kc kr c r we wf wg)
    (e : ∀ m, H m = true → gi_is mx my wa wb wc wd m → ((kc m < c ∨ (kc m = c ∧ kr m < r)) ↔ (kc m < c' ∨ (kc m = c' ∧ kr m < r')))) : gi_Wk H mx my mv wa wb wc wd kc kr c' r' we wf wg := by
  obtain ⟨W, n, g, a⟩ := h
  refine ⟨W, n, fun m => ?_, a⟩
  rw [g m]
  exact ⟨fun q => ⟨q.1, q.2.1, (e m q.1 q.2.1).mp q.2.2⟩, fun q => ⟨q.1, q.2.1, (e m q.1 q.2.1).mpr q.2.2⟩⟩
section
variable {kh fh kC kR kU : Nat} {wa wb wc wd we wf wg : Int32} {mx my : Nat → Nat} {mv : Nat → Int32} {nx cf rf bo iu hd sz fc lc fr lr : Nat → Nat}
theorem gi_scan {H : Nat → Bool} {Q : SX → Prop} {b c r : Nat} {kc kr : Nat → Nat} (I : gi_XI kh fh kC kR kU mx my nx cf rf bo iu hd sz fc lc fr lr H) (hb : b < 64) (ub : iu b = 1) (hw : gi_Wk H mx my mv wa wb wc wd kc kr c r we wf wg)
    (e : ∀ m, H m = true → gi_is mx my wa wb wc wd m → ((kc m = c ∧ kr m = r) ↔ gi_own kC kR cf rf bo mx my m = b))
    (hQ : ∀ we wf wg, gi_Wk H mx my mv wa wb wc wd kc kr c (r + 1) we wf wg → Q (nI kh, gi_pI fh, nI kC, nI kR, nI kU, wa, wb, wc, wd, we, wf, wg, gi_ar mx, gi_ar my, mv, gi_pr nx, gi_ar cf, gi_ar rf, gi_ar bo, gi_ar iu, gi_pr hd, gi_ar sz, gi_ar fc, gi_ar lc, gi_ar fr, gi_ar lr)) : wpX_scanBucket Q (nI kh, gi_pI fh, nI kC, nI kR, nI kU, wa, wb, wc, wd, we, wf, wg, gi_ar mx, gi_ar my, mv, gi_pr nx, gi_ar cf, gi_ar rf, gi_ar bo, gi_ar iu, gi_pr hd, gi_ar sz, gi_ar fc, gi_ar lc, gi_ar fr, gi_ar lr) (nI b) := by
  obtain ⟨B1, B2, T, ct, Fr, K, hin, inj⟩ := I
  obtain ⟨L, ch, n, g, s⟩ := K b hb ub
  obtain ⟨W, nW, gW, hA⟩ := hw
  have l40 := gi_len40 n (fun m hm => ((g m).mp hm).1)
  unfold wpX_scanBucket
  dsimp only
  refine ⟨vp_in_nI hb (by decide), ?_⟩
  intro x ex
  rw [gi_rp hd (by omega)] at ex
  subst ex
  refine Exists.intro 41 (gi_sb9 L _ 0 41 W we wf wg ch (fun m hm => hin m ((g m).mp hm).2.1) n (fun m hm q => ?_) nW (fun m hm => (hin m ((gW m).mp hm).1).2) (by omega) (by omega) hA (fun W' we wf wg nW' e' hA' => hQ we wf wg ⟨W', nW', fun m => ?_, hA'⟩))
  · obtain ⟨q1, q2, q3⟩ := (gW m).mp q
    have := (e m q1 q2).mpr ((g m).mp hm).2.2
    omega
  · rw [e' m, gW m, g m]
    constructor
    · intro q
      rcases q with q | q
      · exact ⟨q.1, q.2.1, by omega⟩
      · have := (e m q.1.2.1 q.2).mpr q.1.2.2
        exact ⟨q.1.2.1, q.2, by omega⟩
    · intro q
      obtain ⟨q1, q2, q3⟩ := q
      by_cases z : kc m = c ∧ kr m = r
      · exact Or.inr ⟨⟨(hin m q1).1, q1, (e m q1 q2).mp z⟩, q2⟩
      · exact Or.inl ⟨q1, q2, by omega⟩
theorem gi_w157 {post : SX → Prop} {J78 J87 : Int32 → Int32 → Int32 → Int32 → Int32 → Int32 → Int32 → Int32 → Int32 → Int32 → Int32 → Int32 → Int32 → (Nat → Int32) → (Nat → Int32) → (Nat → Int32) → (Nat → Int32) → (Nat → Int32) → (Nat → Int32) → (Nat → Int32) → (Nat → Int32) → (Nat → Int32) → (Nat → Int32) → (Nat → Int32) → (Nat → Int32) → (Nat → Int32) → (Nat → Int32) → Prop} {S : Int32 → Int32 → Int32 → Prop} {x1 x2 x3 x4 x5 x8 z0 : Int32} {r b : Nat}
    (h0 : (x8 = 0 ∨ z0 = 0) → S we wf wg) (h1 : ¬ x8 = 0 → ¬ z0 = 0 → ∀ Q : SX → Prop, (∀ we wf wg, S we wf wg → Q (nI kh, gi_pI fh, nI kC, nI kR, nI kU, wa, wb, wc, wd, we, wf, wg, gi_ar mx, gi_ar my, mv, gi_pr nx, gi_ar cf, gi_ar rf, gi_ar bo, gi_ar iu, gi_pr hd, gi_ar sz, gi_ar fc, gi_ar lc, gi_ar fr, gi_ar lr)) → wpX_scanBucket Q (nI kh, gi_pI fh, nI kC, nI kR, nI kU, wa, wb, wc, wd, we, wf, wg, gi_ar mx, gi_ar my, mv, gi_pr nx, gi_ar cf, gi_ar rf, gi_ar bo, gi_ar iu, gi_pr hd, gi_ar sz, gi_ar fc, gi_ar lc, gi_ar fr, gi_ar lr) (nI b))
    (hS : ∀ we wf wg, S we wf wg → J87 (nI (r + 1)) (nI kh) (gi_pI fh) (nI kC) (nI kR) (nI kU) wa wb wc wd we wf wg (gi_ar mx) (gi_ar my) mv (gi_pr nx) (gi_ar cf) (gi_ar rf) (gi_ar bo) (gi_ar iu) (gi_pr hd) (gi_ar sz) (gi_ar fc) (gi_ar lc) (gi_ar fr) (gi_ar lr)) : wX_walkCells_157 post J78 J87 x1 x2 x3 x4 x5 (nI r) (nI b) x8 z0 (nI kh) (gi_pI fh) (nI kC) (nI kR) (nI kU) wa wb wc wd we wf wg (gi_ar mx) (gi_ar my) mv (gi_pr nx) (gi_ar cf) (gi_ar rf) (gi_ar bo) (gi_ar iu) (gi_pr hd) (gi_ar sz) (gi_ar fc) (gi_ar lc) (gi_ar fr) (gi_ar lr) := by
  have next : ∀ we wf wg, S we wf wg → ∀ x : Int32, x = nI r + 1 → J87 x (nI kh) (gi_pI fh) (nI kC) (nI kR) (nI kU) wa wb wc wd we wf wg (gi_ar mx) (gi_ar my) mv (gi_pr nx) (gi_ar cf) (gi_ar rf) (gi_ar bo) (gi_ar iu) (gi_pr hd) (gi_ar sz) (gi_ar fc) (gi_ar lc) (gi_ar fr) (gi_ar lr) := by
    intro we wf wg h x ex
    rw [nI_1] at ex
    subst ex
    exact hS we wf wg h
  unfold wX_walkCells_157
  refine br_c (fun z => next we wf wg (h0 (Or.inl z))) (fun z => br_c (fun y => next we wf wg (h0 (Or.inr y))) (fun y => ?_))
  exact h1 z y _ (fun we wf wg h => next we wf wg h)
theorem gi_w132 {post : SX → Prop} {J78 J87 : Int32 → Int32 → Int32 → Int32 → Int32 → Int32 → Int32 → Int32 → Int32 → Int32 → Int32 → Int32 → Int32 → (Nat → Int32) → (Nat → Int32) → (Nat → Int32) → (Nat → Int32) → (Nat → Int32) → (Nat → Int32) → (Nat → Int32) → (Nat → Int32) → (Nat → Int32) → (Nat → Int32) → (Nat → Int32) → (Nat → Int32) → (Nat → Int32) → (Nat → Int32) → Prop} {S : Int32 → Int32 → Int32 → Prop} {x1 x2 x4 x5 z0 : Int32} {r b r1 : Nat} (hb : b < 64) (hr : r < 1000) (hr1 : r1 < 1000) (hf : fr b < 1000)
    (h0 : (z0 = 0 ∨ ¬ (r = r1 ∨ r = fr b)) → S we wf wg) (h1 : ¬ z0 = 0 → (r = r1 ∨ r = fr b) → ∀ Q : SX → Prop, (∀ we wf wg, S we wf wg → Q (nI kh, gi_pI fh, nI kC, nI kR, nI kU, wa, wb, wc, wd, we, wf, wg, gi_ar mx, gi_ar my, mv, gi_pr nx, gi_ar cf, gi_ar rf, gi_ar bo, gi_ar iu, gi_pr hd, gi_ar sz, gi_ar fc, gi_ar lc, gi_ar fr, gi_ar lr)) → wpX_scanBucket Q (nI kh, gi_pI fh, nI kC, nI kR, nI kU, wa, wb, wc, wd, we, wf, wg, gi_ar mx, gi_ar my, mv, gi_pr nx, gi_ar cf, gi_ar rf, gi_ar bo, gi_ar iu, gi_pr hd, gi_ar sz, gi_ar fc, gi_ar lc, gi_ar fr, gi_ar lr) (nI b))
    (hS : ∀ we wf wg, S we wf wg → J87 (nI (r + 1)) (nI kh) (gi_pI fh) (nI kC) (nI kR) (nI kU) wa wb wc wd we wf wg (gi_ar mx) (gi_ar my) mv (gi_pr nx) (gi_ar cf) (gi_ar rf) (gi_ar bo) (gi_ar iu) (gi_pr hd) (gi_ar sz) (gi_ar fc) (gi_ar lc) (gi_ar fr) (gi_ar lr)) : wX_walkCells_132 post J78 J87 x1 x2 (nI r1) x4 x5 (nI r) (nI b) z0 (nI kh) (gi_pI fh) (nI kC) (nI kR) (nI kU) wa wb wc wd we wf wg (gi_ar mx) (gi_ar my) mv (gi_pr nx) (gi_ar cf) (gi_ar rf) (gi_ar bo) (gi_ar iu) (gi_pr hd) (gi_ar sz) (gi_ar fc) (gi_ar lc) (gi_ar fr) (gi_ar lr) := by
  unfold wX_walkCells_132
  refine pk_eq r r1 (fun z => ?_) (fun z => And.intro (vp_in_nI hb (by decide)) ?_) rfl rfl (by omega) (by omega)
  · unfold wX_walkCells_152
    exact gi_w157 (fun q => h0 (q.elim Or.inl (fun q => absurd q gi_10))) (fun a _ => h1 a (Or.inl z)) hS
  · refine pk_eq r (fr b) (fun y => ?_) (fun y => ?_) rfl (gi_rd fr (by omega)) (by omega) (by omega)
    · unfold wX_walkCells_152
      exact gi_w157 (fun q => h0 (q.elim Or.inl (fun q => absurd q gi_10))) (fun a _ => h1 a (Or.inr y)) hS
    · exact gi_w157 (fun _ => h0 (Or.inr (fun q => q.elim z y))) (fun _ a => absurd rfl a) hS
/-- what a mark in the rectangle says of its bucket -/
theorem gi_key {H : Nat → Bool} {c1 c2 r1 r2 : Nat} (I : gi_XI kh fh kC kR kU mx my nx cf rf bo iu hd sz fc lc fr lr H) (hC : ∀ m, H m = true → gi_is mx my wa wb wc wd m → c1 ≤ gi_loc cf (mx m) kC ∧ gi_loc cf (mx m) kC ≤ c2 ∧ r1 ≤ gi_loc rf (my m) kR ∧ gi_loc rf (my m) kR ≤ r2)
    {m : Nat} (hm : H m = true) (hi : gi_is mx my wa wb wc wd m) :
    gi_m2 c1 (fc (gi_own kC kR cf rf bo mx my m)) ≤ c2 ∧ gi_m2 r1 (fr (gi_own kC kR cf rf bo mx my m)) ≤ r2 ∧
    bo (16 * gi_m2 c1 (fc (gi_own kC kR cf rf bo mx my m)) + gi_m2 r1 (fr (gi_own kC kR cf rf bo mx my m))) = gi_own kC kR cf rf bo mx my m := by
  obtain ⟨B1, B2, T, ct, Fr, K, hin, inj⟩ := I
  obtain ⟨m1, m2, m3⟩ := hin m hm
  obtain ⟨g1, g2, g3, g4⟩ := hC m hm hi
  obtain ⟨p1, p2, p3, p4, p5, p6⟩ := T.1 _ _ (gi_loc_in B1 m2).1 (gi_loc_in B2 m3).1
  have q := (T.2.1 _ p1 p2).2.2
  change fc (gi_own kC kR cf rf bo mx my m) ≤ _ at p3
  change _ ≤ lc (gi_own kC kR cf rf bo mx my m) at p4
  change fr (gi_own kC kR cf rf bo mx my m) ≤ _ at p5
  change _ ≤ lr (gi_own kC kR cf rf bo mx my m) at p6
  have a1 := gi_m2_i c1 (fc (gi_own kC kR cf rf bo mx my m))
  have a2 := gi_m2_i r1 (fr (gi_own kC kR cf rf bo mx my m))
  refine ⟨by omega, by omega, ?_⟩
  exact q _ _ (show fc (gi_own kC kR cf rf bo mx my m) ≤ _ by omega) (show _ ≤ lc (gi_own kC kR cf rf bo mx my m) by omega) (show fr (gi_own kC kR cf rf bo mx my m) ≤ _ by omega) (show _ ≤ lr (gi_own kC kR cf rf bo mx my m) by omega)
end
section
variable {kh fh kC kR kU : Nat} {wa wb wc wd : Int32} {mx my : Nat → Nat} {mv : Nat → Int32} {nx cf rf bo iu hd sz fc lc fr lr : Nat → Nat}
theorem gi_w87 {H : Nat → Bool} {post : SX → Prop} {J78 : Int32 → Int32 → Int32 → Int32 → Int32 → Int32 → Int32 → Int32 → Int32 → Int32 → Int32 → Int32 → Int32 → (Nat → Int32) → (Nat → Int32) → (Nat → Int32) → (Nat → Int32) → (Nat → Int32) → (Nat → Int32) → (Nat → Int32) → (Nat → Int32) → (Nat → Int32) → (Nat → Int32) → (Nat → Int32) → (Nat → Int32) → (Nat → Int32) → (Nat → Int32) → Prop} {c1 c2 r1 r2 c : Nat} (I : gi_XI kh fh kC kR kU mx my nx cf rf bo iu hd sz fc lc fr lr H) (hC : ∀ m, H m = true → gi_is mx my wa wb wc wd m → c1 ≤ gi_loc cf (mx m) kC ∧ gi_loc cf (mx m) kC ≤ c2 ∧ r1 ≤ gi_loc rf (my m) kR ∧ gi_loc rf (my m) kR ≤ r2)
    (hc1 : c1 ≤ c) (hc2 : c ≤ c2) (hcC : c2 < kC) (hrR : r2 < kR)
    (hJ : ∀ we wf wg, gi_Wk H mx my mv wa wb wc wd (fun m => gi_m2 c1 (fc (gi_own kC kR cf rf bo mx my m))) (fun m => gi_m2 r1 (fr (gi_own kC kR cf rf bo mx my m))) c (r2 + 1) we wf wg → J78 (nI (c + 1)) (nI kh) (gi_pI fh) (nI kC) (nI kR) (nI kU) wa wb wc wd we wf wg (gi_ar mx) (gi_ar my) mv (gi_pr nx) (gi_ar cf) (gi_ar rf) (gi_ar bo) (gi_ar iu) (gi_pr hd) (gi_ar sz) (gi_ar fc) (gi_ar lc) (gi_ar fr) (gi_ar lr)) :
    ∀ (d r n : Nat) (we wf wg : Int32), r + d = r2 + 1 → r1 ≤ r → d < n → gi_Wk H mx my mv wa wb wc wd (fun m => gi_m2 c1 (fc (gi_own kC kR cf rf bo mx my m))) (fun m => gi_m2 r1 (fr (gi_own kC kR cf rf bo mx my m))) c r we wf wg →
      wX_walkCells_87 post J78 (nI c1) (nI c2) (nI r1) (nI r2) (nI c) n (nI r) (nI kh) (gi_pI fh) (nI kC) (nI kR) (nI kU) wa wb wc wd we wf wg (gi_ar mx) (gi_ar my) mv (gi_pr nx) (gi_ar cf) (gi_ar rf) (gi_ar bo) (gi_ar iu) (gi_pr hd) (gi_ar sz) (gi_ar fc) (gi_ar lc) (gi_ar fr) (gi_ar lr) := by
  have k16 := I.1.2.1
  have r16 := I.2.1.2.1
  intro d
  induction d with
  | zero =>
    intro r n we wf wg hr h1 hn hw
    obtain ⟨n, rfl⟩ := gi_S hn
    refine br_t (nI_lt (by omega) (by omega)) ?_
    intro x ex
    rw [nI_1] at ex
    subst ex
    have e : r = r2 + 1 := by omega
    rw [e] at hw
    exact hJ we wf wg hw
  | succ d ih =>
    intro r n we wf wg hr h1 hn hw
    obtain ⟨n, rfl⟩ := gi_S hn
    obtain ⟨p1, p2, p3, p4, p5, p6⟩ := I.2.2.1.1 c r (by omega) (by omega)
    have key := fun m hm hi => gi_key I hC (m := m) hm hi
    refine br_f (nI_nlt (by omega) (by omega)) ?_
    rw [gi_16]
    refine And.intro (vp_in_nI (by omega) (by decide)) ?_
    intro x ex
    rw [gi_rd bo (by omega)] at ex
    subst ex
    generalize hb : bo (16 * c + r) = b at p1 p2 p3 p4 p5 p6
    have hS : ∀ we wf wg, gi_Wk H mx my mv wa wb wc wd (fun m => gi_m2 c1 (fc (gi_own kC kR cf rf bo mx my m))) (fun m => gi_m2 r1 (fr (gi_own kC kR cf rf bo mx my m))) c (r + 1) we wf wg →
        wX_walkCells_87 post J78 (nI c1) (nI c2) (nI r1) (nI r2) (nI c) n (nI (r + 1)) (nI kh) (gi_pI fh) (nI kC) (nI kR) (nI kU) wa wb wc wd we wf wg (gi_ar mx) (gi_ar my) mv (gi_pr nx) (gi_ar cf) (gi_ar rf) (gi_ar bo) (gi_ar iu) (gi_pr hd) (gi_ar sz) (gi_ar fc) (gi_ar lc) (gi_ar fr) (gi_ar lr) := fun we wf wg h => ih (r + 1) n we wf wg (by omega) (by omega) (by omega) h
    -- a mark whose bucket is due at this cell
    have due : ∀ m, H m = true → gi_is mx my wa wb wc wd m → gi_m2 c1 (fc (gi_own kC kR cf rf bo mx my m)) = c → gi_m2 r1 (fr (gi_own kC kR cf rf bo mx my m)) = r → gi_own kC kR cf rf bo mx my m = b ∧ (c = c1 ∨ c = fc b) ∧ (r = r1 ∨ r = fr b) := by
      intro m hm hi e1 e2
      obtain ⟨-, -, k⟩ := key m hm hi
      have a1 := gi_m2_i c1 (fc (gi_own kC kR cf rf bo mx my m))
      have a2 := gi_m2_i r1 (fr (gi_own kC kR cf rf bo mx my m))
      rw [e1, e2, hb] at k
      rw [← k] at e1 e2 a1 a2
      exact ⟨k.symm, by omega, by omega⟩
    have skip : ¬ ((c = c1 ∨ c = fc b) ∧ (r = r1 ∨ r = fr b)) → gi_Wk H mx my mv wa wb wc wd (fun m => gi_m2 c1 (fc (gi_own kC kR cf rf bo mx my m))) (fun m => gi_m2 r1 (fr (gi_own kC kR cf rf bo mx my m))) c (r + 1) we wf wg := by
      intro no
      refine gi_Wk_c hw (fun m hm hi => ?_)
      have nd : ¬ (gi_m2 c1 (fc (gi_own kC kR cf rf bo mx my m)) = c ∧ gi_m2 r1 (fr (gi_own kC kR cf rf bo mx my m)) = r) := fun q => no (due m hm hi q.1 q.2).2
      omega
    have scan : (c = c1 ∨ c = fc b) → (r = r1 ∨ r = fr b) → ∀ Q : SX → Prop, (∀ we wf wg, gi_Wk H mx my mv wa wb wc wd (fun m => gi_m2 c1 (fc (gi_own kC kR cf rf bo mx my m))) (fun m => gi_m2 r1 (fr (gi_own kC kR cf rf bo mx my m))) c (r + 1) we wf wg → Q (nI kh, gi_pI fh, nI kC, nI kR, nI kU, wa, wb, wc, wd, we, wf, wg, gi_ar mx, gi_ar my, mv, gi_pr nx, gi_ar cf, gi_ar rf, gi_ar bo, gi_ar iu, gi_pr hd, gi_ar sz, gi_ar fc, gi_ar lc, gi_ar fr, gi_ar lr)) → wpX_scanBucket Q (nI kh, gi_pI fh, nI kC, nI kR, nI kU, wa, wb, wc, wd, we, wf, wg, gi_ar mx, gi_ar my, mv, gi_pr nx, gi_ar cf, gi_ar rf, gi_ar bo, gi_ar iu, gi_pr hd, gi_ar sz, gi_ar fc, gi_ar lc, gi_ar fr, gi_ar lr) (nI b) := by
      intro f1 f2 Q hQ
      refine gi_scan I p1 p2 hw (fun m hm hi => ⟨fun q => (due m hm hi q.1 q.2).1, fun q => ?_⟩) hQ
      rw [q]
      have a1 := gi_m2_i c1 (fc b)
      have a2 := gi_m2_i r1 (fr b)
      omega
    have b3 := I.2.2.1.2.2 b p1
    refine pk_eq c c1 (fun z => ?_) (fun z => And.intro (vp_in_nI p1 (by decide)) ?_) rfl rfl (by omega) (by omega)
    · unfold wX_walkCells_127
      exact gi_w132 p1 (by omega) (by omega) (by omega) (fun q => skip (fun w => q.elim gi_10 (fun q => q w.2))) (fun _ => scan (Or.inl z)) hS
    · refine pk_eq c (fc b) (fun y => ?_) (fun y => ?_) rfl (gi_rd fc (by omega)) (by omega) (by omega)
      · unfold wX_walkCells_127
        exact gi_w132 p1 (by omega) (by omega) (by omega) (fun q => skip (fun w => q.elim gi_10 (fun q => q w.2))) (fun _ => scan (Or.inr y)) hS
      · exact gi_w132 p1 (by omega) (by omega) (by omega) (fun q => skip (fun w => w.1.elim z y)) (fun a => absurd rfl a) hS
theorem gi_w78 {H : Nat → Bool} {post : SX → Prop} {c1 c2 r1 r2 : Nat} (I : gi_XI kh fh kC kR kU mx my nx cf rf bo iu hd sz fc lc fr lr H) (hC : ∀ m, H m = true → gi_is mx my wa wb wc wd m → c1 ≤ gi_loc cf (mx m) kC ∧ gi_loc cf (mx m) kC ≤ c2 ∧ r1 ≤ gi_loc rf (my m) kR ∧ gi_loc rf (my m) kR ≤ r2)
    (hcC : c2 < kC) (hrR : r2 < kR) (hr12 : r1 ≤ r2)
    (hp : ∀ (W : List Nat) (we wf wg : Int32), W.Nodup → (∀ m, m ∈ W ↔ (H m = true ∧ gi_is mx my wa wb wc wd m)) → gi_Ac mx my mv W we wf wg → post (nI kh, gi_pI fh, nI kC, nI kR, nI kU, wa, wb, wc, wd, we, wf, wg, gi_ar mx, gi_ar my, mv, gi_pr nx, gi_ar cf, gi_ar rf, gi_ar bo, gi_ar iu, gi_pr hd, gi_ar sz, gi_ar fc, gi_ar lc, gi_ar fr, gi_ar lr)) :
    ∀ (d c n : Nat) (we wf wg : Int32), c + d = c2 + 1 → c1 ≤ c → d < n → gi_Wk H mx my mv wa wb wc wd (fun m => gi_m2 c1 (fc (gi_own kC kR cf rf bo mx my m))) (fun m => gi_m2 r1 (fr (gi_own kC kR cf rf bo mx my m))) c r1 we wf wg →
      wX_walkCells_78 post (nI c1) (nI c2) (nI r1) (nI r2) n (nI c) (nI kh) (gi_pI fh) (nI kC) (nI kR) (nI kU) wa wb wc wd we wf wg (gi_ar mx) (gi_ar my) mv (gi_pr nx) (gi_ar cf) (gi_ar rf) (gi_ar bo) (gi_ar iu) (gi_pr hd) (gi_ar sz) (gi_ar fc) (gi_ar lc) (gi_ar fr) (gi_ar lr) := by
  have k16 := I.1.2.1
  have r16 := I.2.1.2.1
  intro d
  induction d with
  | zero =>
    intro c n we wf wg hr h1 hn hw
    obtain ⟨n, rfl⟩ := gi_S hn
    obtain ⟨W, nW, gW, hA⟩ := hw
    refine br_t (nI_lt (by omega) (by omega)) (hp W we wf wg nW (fun m => ?_) hA)
    rw [gW m]
    refine ⟨fun q => ⟨q.1, q.2.1⟩, fun q => ⟨q.1, q.2, Or.inl ?_⟩⟩
    have := (gi_key I hC q.1 q.2).1
    dsimp only
    omega
  | succ d ih =>
    intro c n we wf wg hr h1 hn hw
    obtain ⟨n, rfl⟩ := gi_S hn
    refine br_f (nI_nlt (by omega) (by omega)) (Exists.intro 17 (gi_w87 I hC h1 (by omega) hcC hrR (fun we wf wg hw' => ih (c + 1) n we wf wg (by omega) (by omega) (by omega) (gi_Wk_c hw' (fun m hm hi => ?_))) (r2 + 1 - r1) r1 17 we wf wg (by omega) (by omega) (by omega) hw))
    have k1 := (gi_key I hC hm hi).2.1
    have a2 := gi_m2_i r1 (fr (gi_own kC kR cf rf bo mx my m))
    omega
theorem gi_wc {H : Nat → Bool} {post : SX → Prop} {x1 y1 x2 y2 : Int32} {we wf wg : Int32} (I : gi_XI kh fh kC kR kU mx my nx cf rf bo iu hd sz fc lc fr lr H) (R1 : gi_Rc x1 x2 wa wc) (R2 : gi_Rc y1 y2 wb wd)
    (hp : ∀ (W : List Nat) (we wf wg : Int32), W.Nodup → (∀ m, m ∈ W ↔ (H m = true ∧ gi_bt (nI (mx m)) x1 x2 ∧ gi_bt (nI (my m)) y1 y2)) → gi_Ac mx my mv W we wf wg → post (nI kh, gi_pI fh, nI kC, nI kR, nI kU, wa, wb, wc, wd, we, wf, wg, gi_ar mx, gi_ar my, mv, gi_pr nx, gi_ar cf, gi_ar rf, gi_ar bo, gi_ar iu, gi_pr hd, gi_ar sz, gi_ar fc, gi_ar lc, gi_ar fr, gi_ar lr)) : wpX_walkCells post (nI kh, gi_pI fh, nI kC, nI kR, nI kU, wa, wb, wc, wd, we, wf, wg, gi_ar mx, gi_ar my, mv, gi_pr nx, gi_ar cf, gi_ar rf, gi_ar bo, gi_ar iu, gi_pr hd, gi_ar sz, gi_ar fc, gi_ar lc, gi_ar fr, gi_ar lr) := by
  have B1 := I.1
  have B2 := I.2.1
  have hin := I.2.2.2.2.2.2.1
  have c16 := B1.2.1
  have r16 := B2.2.1
  have hp' : ∀ (W : List Nat) (we wf wg : Int32), W.Nodup → (∀ m, m ∈ W ↔ (H m = true ∧ gi_is mx my wa wb wc wd m)) → gi_Ac mx my mv W we wf wg → post (nI kh, gi_pI fh, nI kC, nI kR, nI kU, wa, wb, wc, wd, we, wf, wg, gi_ar mx, gi_ar my, mv, gi_pr nx, gi_ar cf, gi_ar rf, gi_ar bo, gi_ar iu, gi_pr hd, gi_ar sz, gi_ar fc, gi_ar lc, gi_ar fr, gi_ar lr) := by
    intro W we wf wg nW e hA
    refine hp W we wf wg nW (fun m => ?_) hA
    rw [e m]
    constructor
    · intro q
      obtain ⟨-, m2, m3⟩ := hin m q.1
      exact ⟨q.1, (R1.2.2 _ m2).mp q.2.1, (R2.2.2 _ m3).mp q.2.2⟩
    · intro q
      obtain ⟨-, m2, m3⟩ := hin m q.1
      exact ⟨q.1, (R1.2.2 _ m2).mpr q.2.1, (R2.2.2 _ m3).mpr q.2.2⟩
  have none : (∀ m, ¬ gi_is mx my wa wb wc wd m) → post (nI kh, gi_pI fh, nI kC, nI kR, nI kU, wa, wb, wc, wd, 0, 0, -1, gi_ar mx, gi_ar my, mv, gi_pr nx, gi_ar cf, gi_ar rf, gi_ar bo, gi_ar iu, gi_pr hd, gi_ar sz, gi_ar fc, gi_ar lc, gi_ar fr, gi_ar lr) := fun no =>
    hp' [] 0 0 (-1) List.nodup_nil (fun m => ⟨fun q => absurd q List.not_mem_nil, fun q => absurd q.2 (no m)⟩) ⟨rfl, rfl, Or.inl ⟨rfl, rfl⟩⟩
  unfold wpX_walkCells
  dsimp only
  refine br_c (fun z => none (fun m q => Int32.not_le.mpr z (Int32.le_trans q.1.1 q.1.2))) (fun z => ?_)
  refine br_c (fun y => ?_) (fun y => none (fun m q => y (Int32.le_trans q.2.1 q.2.2)))
  have z' := Int32.not_lt.mp z
  obtain ⟨a, ha, e1⟩ := nI_of2 (x := wa) (M := 63) (n := 63) (by decide) (Int32.not_lt.mpr R1.1) (Int32.le_trans z' R1.2.1)
  obtain ⟨c, hc, e2⟩ := nI_of2 (x := wc) (M := 63) (n := 63) (by decide) (Int32.not_lt.mpr (Int32.le_trans R1.1 z')) R1.2.1
  obtain ⟨b, hb, e3⟩ := nI_of2 (x := wb) (M := 63) (n := 63) (by decide) (Int32.not_lt.mpr R2.1) (Int32.le_trans y R2.2.1)
  obtain ⟨d, hd', e4⟩ := nI_of2 (x := wd) (M := 63) (n := 63) (by decide) (Int32.not_lt.mpr (Int32.le_trans R2.1 y)) R2.2.1
  subst e1 e2 e3 e4
  rw [nI_leI (by omega) (by omega)] at z' y
  have hC : ∀ m, H m = true → gi_is mx my (nI a) (nI b) (nI c) (nI d) m → gi_loc cf a kC ≤ gi_loc cf (mx m) kC ∧ gi_loc cf (mx m) kC ≤ gi_loc cf c kC ∧ gi_loc rf b kR ≤ gi_loc rf (my m) kR ∧ gi_loc rf (my m) kR ≤ gi_loc rf d kR := by
    intro m hm hi
    obtain ⟨-, m2, m3⟩ := hin m hm
    obtain ⟨⟨i1, i2⟩, i3, i4⟩ := hi
    rw [nI_leI (by omega) (by omega)] at i1 i2 i3 i4
    exact ⟨gi_loc_mono B1 i1 m2, gi_loc_mono B1 i2 (by omega), gi_loc_mono B2 i3 m3, gi_loc_mono B2 i4 (by omega)⟩
  refine gi_col (by omega) B1 ?_
  refine gi_col (by omega) B1 ?_
  refine gi_row (by omega) B2 ?_
  refine gi_row (by omega) B2 ?_
  have l1 := gi_loc_mono B1 z' (by omega)
  have l2 := gi_loc_mono B2 y (by omega)
  refine Exists.intro 18 (gi_w78 I hC (gi_loc_in B1 (x := c) (by omega)).1 (gi_loc_in B2 (x := d) (by omega)).1 l2 hp' (gi_loc cf c kC + 1 - gi_loc cf a kC) (gi_loc cf a kC) 18 0 0 (-1) (by omega) (by omega) ?_ ?_)
  · have := (gi_loc_in B1 (x := c) (by omega)).1
    omega
  · refine ⟨[], List.nodup_nil, fun m => ⟨fun q => absurd q List.not_mem_nil, fun q => ?_⟩, rfl, rfl, Or.inl ⟨rfl, rfl⟩⟩
    obtain ⟨-, -, q⟩ := q
    dsimp only at q
    have a1 := gi_m2_i (gi_loc cf a kC) (fc (gi_own kC kR cf rf bo mx my m))
    have a2 := gi_m2_i (gi_loc rf b kR) (fr (gi_own kC kR cf rf bo mx my m))
    omega
end
end
section
def gi_ab (a b : Nat) : Nat := if a < b then b - a else a - b
theorem gi_ab_i (a b : Nat) : (a < b ∧ gi_ab a b = b - a) ∨ (b ≤ a ∧ gi_ab a b = a - b) := by
  unfold gi_ab
  rcases Nat.lt_or_ge a b with z | z
  · exact Or.inl ⟨z, if_pos z⟩
  · exact Or.inr ⟨z, if_neg (by omega)⟩
/-- the distance of (a, b) from (x, y) -/
def gi_ds (x y a b : Nat) : Nat := gi_m2 (gi_ab a x) (gi_ab b y)
theorem gi_sq {a x d : Nat} (ha : a < 64) (hx : x < 64) (hd : d < 64) : gi_bt (nI a) (nI x - nI d) (nI x + nI d) ↔ gi_ab a x ≤ d := by
  have e1 := pk_sub_toInt (a := x) (b := d) (by omega) (by omega)
  have e2 := nI_toInt (n := a) (by omega)
  have e3 : (nI x + nI d).toInt = ((x + d : Nat) : Int) := by rw [nI_add, nI_toInt (by omega)]
  have g := gi_ab_i a x
  unfold gi_bt
  simp only [Int32.le_iff_toInt_le, e1, e2, e3]
  omega
theorem gi_dsq {x y a b d : Nat} (ha : a < 64) (hb : b < 64) (hx : x < 64) (hy : y < 64) (hd : d < 64) :
    (gi_bt (nI a) (nI x - nI d) (nI x + nI d) ∧ gi_bt (nI b) (nI y - nI d) (nI y + nI d)) ↔ gi_ds x y a b ≤ d := by
  rw [gi_sq ha hx hd, gi_sq hb hy hd]
  have := gi_m2_i (gi_ab a x) (gi_ab b y)
  unfold gi_ds
  omega
theorem gi_ds_lt {x y a b : Nat} (ha : a < 64) (hb : b < 64) (hx : x < 64) (hy : y < 64) : gi_ds x y a b < 64 := by
  have g1 := gi_ab_i a x
  have g2 := gi_ab_i b y
  have := gi_m2_i (gi_ab a x) (gi_ab b y)
  unfold gi_ds
  omega
theorem gi_Fr_ex {kh fh : Nat} {nx : Nat → Nat} {H : Nat → Bool} (K : gi_Fr kh fh nx H) (h : 0 < kh) : ∃ m, m < 40 ∧ H m = true := by
  obtain ⟨F, c, n, e, s⟩ := K
  apply Classical.byContradiction
  intro no
  have sub : List.range 40 ⊆ F := by
    intro m hm
    have m40 := List.mem_range.mp hm
    refine (e m).mpr ⟨m40, ?_⟩
    cases z : H m with
    | false => rfl
    | true => exact absurd ⟨m, m40, z⟩ no
  have := List.Nodup.length_le_of_subset List.nodup_range sub
  rw [List.length_range] at this
  omega
section
variable {kh fh kC kR kU : Nat} {wa wb wc wd we wf wg : Int32} {mx my : Nat → Nat} {mv : Nat → Int32} {nx cf rf bo iu hd sz fc lc fr lr : Nat → Nat}
theorem gi_has {H : Nat → Bool} {post : Int32 → Prop} {x y : Nat} (hx : x < 64) (hy : y < 64) (I : gi_XI kh fh kC kR kU mx my nx cf rf bo iu hd sz fc lc fr lr H) (h1 : ∀ m, H m = true → mx m = x → my m = y → post 1)
    (h0 : (∀ m, H m = true → ¬ (mx m = x ∧ my m = y)) → post 0) : wpX_has post (nI kh, gi_pI fh, nI kC, nI kR, nI kU, wa, wb, wc, wd, we, wf, wg, gi_ar mx, gi_ar my, mv, gi_pr nx, gi_ar cf, gi_ar rf, gi_ar bo, gi_ar iu, gi_pr hd, gi_ar sz, gi_ar fc, gi_ar lc, gi_ar fr, gi_ar lr) (nI x) (nI y) := by
  unfold wpX_has
  dsimp only
  refine gi_onB1 hx hy (br_f gi_10 ?_)
  exact gi_fm hx hy I (fun m hm m40 e1 e2 => br_f (nI_pos (by omega)) (h1 m hm e1 e2)) (fun hno => br_t gi_m1lt (h0 hno))
theorem gi_has0 {post : Int32 → Prop} {x y : Int32} (ho : gi_Off x y) (h : post 0) : wpX_has post (nI kh, gi_pI fh, nI kC, nI kR, nI kU, wa, wb, wc, wd, we, wf, wg, gi_ar mx, gi_ar my, mv, gi_pr nx, gi_ar cf, gi_ar rf, gi_ar bo, gi_ar iu, gi_pr hd, gi_ar sz, gi_ar fc, gi_ar lc, gi_ar fr, gi_ar lr) x y := by
  unfold wpX_has
  dsimp only
  exact gi_onB0 ho (br_t rfl h)
theorem gi_val {H : Nat → Bool} {post : Int32 → Prop} {x y : Nat} (hx : x < 64) (hy : y < 64) (I : gi_XI kh fh kC kR kU mx my nx cf rf bo iu hd sz fc lc fr lr H) (h1 : ∀ m, H m = true → mx m = x → my m = y → post (mv m))
    (h0 : (∀ m, H m = true → ¬ (mx m = x ∧ my m = y)) → post 0) : wpX_value post (nI kh, gi_pI fh, nI kC, nI kR, nI kU, wa, wb, wc, wd, we, wf, wg, gi_ar mx, gi_ar my, mv, gi_pr nx, gi_ar cf, gi_ar rf, gi_ar bo, gi_ar iu, gi_pr hd, gi_ar sz, gi_ar fc, gi_ar lc, gi_ar fr, gi_ar lr) (nI x) (nI y) := by
  unfold wpX_value
  dsimp only
  refine gi_onB1 hx hy (br_f gi_10 ?_)
  refine gi_fm hx hy I (fun m hm m40 e1 e2 => br_t (nI_pos' (by omega)) (And.intro (vp_in_nI m40 (by decide)) ?_)) (fun hno => br_f gi_0m1 (h0 hno))
  rw [nI_clamp (by omega)]
  exact h1 m hm e1 e2
theorem gi_val0 {post : Int32 → Prop} {x y : Int32} (ho : gi_Off x y) (h : post 0) : wpX_value post (nI kh, gi_pI fh, nI kC, nI kR, nI kU, wa, wb, wc, wd, we, wf, wg, gi_ar mx, gi_ar my, mv, gi_pr nx, gi_ar cf, gi_ar rf, gi_ar bo, gi_ar iu, gi_pr hd, gi_ar sz, gi_ar fc, gi_ar lc, gi_ar fr, gi_ar lr) x y := by
  unfold wpX_value
  dsimp only
  exact gi_onB0 ho (br_t rfl h)
theorem gi_cnt {H : Nat → Bool} {post : Int32 → SX → Prop} {x1 y1 x2 y2 : Int32} (I : gi_XI kh fh kC kR kU mx my nx cf rf bo iu hd sz fc lc fr lr H)
    (hp : ∀ (W : List Nat) (wa wb wc wd we wf wg : Int32), W.Nodup → (∀ m, m ∈ W ↔ (H m = true ∧ gi_bt (nI (mx m)) x1 x2 ∧ gi_bt (nI (my m)) y1 y2)) → post (nI W.length) (nI kh, gi_pI fh, nI kC, nI kR, nI kU, wa, wb, wc, wd, we, wf, wg, gi_ar mx, gi_ar my, mv, gi_pr nx, gi_ar cf, gi_ar rf, gi_ar bo, gi_ar iu, gi_pr hd, gi_ar sz, gi_ar fc, gi_ar lc, gi_ar fr, gi_ar lr)) : wpX_count post (nI kh, gi_pI fh, nI kC, nI kR, nI kU, wa, wb, wc, wd, we, wf, wg, gi_ar mx, gi_ar my, mv, gi_pr nx, gi_ar cf, gi_ar rf, gi_ar bo, gi_ar iu, gi_pr hd, gi_ar sz, gi_ar fc, gi_ar lc, gi_ar fr, gi_ar lr) x1 y1 x2 y2 := by
  unfold wpX_count
  dsimp only
  refine gi_sr (fun wa wb wc wd R1 R2 => ?_)
  refine gi_wc I R1 R2 (fun W we wf wg nW e hA => ?_)
  obtain ⟨A1, A2, A3⟩ := hA
  subst A1
  exact hp W _ _ _ _ _ _ _ nW e
theorem gi_sum {H : Nat → Bool} {post : Int32 → SX → Prop} {x1 y1 x2 y2 : Int32} (I : gi_XI kh fh kC kR kU mx my nx cf rf bo iu hd sz fc lc fr lr H)
    (hp : ∀ (W : List Nat) (wa wb wc wd we wf wg : Int32), W.Nodup → (∀ m, m ∈ W ↔ (H m = true ∧ gi_bt (nI (mx m)) x1 x2 ∧ gi_bt (nI (my m)) y1 y2)) → post (gi_sm mv W) (nI kh, gi_pI fh, nI kC, nI kR, nI kU, wa, wb, wc, wd, we, wf, wg, gi_ar mx, gi_ar my, mv, gi_pr nx, gi_ar cf, gi_ar rf, gi_ar bo, gi_ar iu, gi_pr hd, gi_ar sz, gi_ar fc, gi_ar lc, gi_ar fr, gi_ar lr)) : wpX_sum post (nI kh, gi_pI fh, nI kC, nI kR, nI kU, wa, wb, wc, wd, we, wf, wg, gi_ar mx, gi_ar my, mv, gi_pr nx, gi_ar cf, gi_ar rf, gi_ar bo, gi_ar iu, gi_pr hd, gi_ar sz, gi_ar fc, gi_ar lc, gi_ar fr, gi_ar lr) x1 y1 x2 y2 := by
  unfold wpX_sum
  dsimp only
  refine gi_sr (fun wa wb wc wd R1 R2 => ?_)
  refine gi_wc I R1 R2 (fun W we wf wg nW e hA => ?_)
  obtain ⟨A1, A2, A3⟩ := hA
  subst A2
  exact hp W _ _ _ _ _ _ _ nW e
theorem gi_fst {H : Nat → Bool} {post : Int32 → SX → Prop} {x1 y1 x2 y2 : Int32} (I : gi_XI kh fh kC kR kU mx my nx cf rf bo iu hd sz fc lc fr lr H)
    (hp : ∀ (W : List Nat) (z wa wb wc wd we wf wg : Int32), W.Nodup → (∀ m, m ∈ W ↔ (H m = true ∧ gi_bt (nI (mx m)) x1 x2 ∧ gi_bt (nI (my m)) y1 y2)) → gi_Mn (fun m => 64 * mx m + my m) W z → post z (nI kh, gi_pI fh, nI kC, nI kR, nI kU, wa, wb, wc, wd, we, wf, wg, gi_ar mx, gi_ar my, mv, gi_pr nx, gi_ar cf, gi_ar rf, gi_ar bo, gi_ar iu, gi_pr hd, gi_ar sz, gi_ar fc, gi_ar lc, gi_ar fr, gi_ar lr)) : wpX_first post (nI kh, gi_pI fh, nI kC, nI kR, nI kU, wa, wb, wc, wd, we, wf, wg, gi_ar mx, gi_ar my, mv, gi_pr nx, gi_ar cf, gi_ar rf, gi_ar bo, gi_ar iu, gi_pr hd, gi_ar sz, gi_ar fc, gi_ar lc, gi_ar fr, gi_ar lr) x1 y1 x2 y2 := by
  unfold wpX_first
  dsimp only
  refine gi_sr (fun wa wb wc wd R1 R2 => ?_)
  refine gi_wc I R1 R2 (fun W we wf wg nW e hA => ?_)
  exact hp W wg _ _ _ _ _ _ _ nW e hA.2.2
theorem gi_nr92 {H : Nat → Bool} {post : Int32 → SX → Prop} {x y lo : Nat} (hx : x < 64) (hy : y < 64) (hl : lo < 64) (I : gi_XI kh fh kC kR kU mx my nx cf rf bo iu hd sz fc lc fr lr H)
    (g1 : ∀ m, H m = true → lo ≤ gi_ds x y (mx m) (my m)) (g2 : ∃ m, H m = true ∧ gi_ds x y (mx m) (my m) ≤ lo)
    (hp : ∀ (m : Nat) (wa wb wc wd we wf wg : Int32), H m = true → (∀ j, H j = true → gi_ds x y (mx m) (my m) < gi_ds x y (mx j) (my j) ∨ (gi_ds x y (mx m) (my m) = gi_ds x y (mx j) (my j) ∧ 64 * mx m + my m ≤ 64 * mx j + my j)) → post (nI (64 * mx m + my m)) (nI kh, gi_pI fh, nI kC, nI kR, nI kU, wa, wb, wc, wd, we, wf, wg, gi_ar mx, gi_ar my, mv, gi_pr nx, gi_ar cf, gi_ar rf, gi_ar bo, gi_ar iu, gi_pr hd, gi_ar sz, gi_ar fc, gi_ar lc, gi_ar fr, gi_ar lr)) :
    wX_nearest_92 post (nI x) (nI y) (nI lo) (nI kh) (gi_pI fh) (nI kC) (nI kR) (nI kU) wa wb wc wd we wf wg (gi_ar mx) (gi_ar my) mv (gi_pr nx) (gi_ar cf) (gi_ar rf) (gi_ar bo) (gi_ar iu) (gi_pr hd) (gi_ar sz) (gi_ar fc) (gi_ar lc) (gi_ar fr) (gi_ar lr) := by
  have hin := I.2.2.2.2.2.2.1
  unfold wX_nearest_92
  refine gi_fst I (fun W z wa wb wc wd we wf wg nW e hM => ?_)
  have e' : ∀ m, m ∈ W ↔ (H m = true ∧ gi_ds x y (mx m) (my m) ≤ lo) := by
    intro m
    rw [e m]
    constructor
    · intro q
      obtain ⟨-, m2, m3⟩ := hin m q.1
      exact ⟨q.1, (gi_dsq m2 m3 hx hy hl).mp q.2⟩
    · intro q
      obtain ⟨-, m2, m3⟩ := hin m q.1
      exact ⟨q.1, (gi_dsq m2 m3 hx hy hl).mpr q.2⟩
  rcases hM with ⟨e1, -⟩ | ⟨m, hm, e1, hl1⟩
  · obtain ⟨m, h1, h2⟩ := g2
    have := (e' m).mpr ⟨h1, h2⟩
    rw [e1] at this
    exact absurd this List.not_mem_nil
  · subst e1
    obtain ⟨h1, h2⟩ := (e' m).mp hm
    refine hp m _ _ _ _ _ _ _ h1 (fun j hj => ?_)
    have a1 := g1 m h1
    have a2 := g1 j hj
    by_cases w : gi_ds x y (mx j) (my j) ≤ lo
    · exact Or.inr ⟨by omega, hl1 j ((e' j).mpr ⟨hj, w⟩)⟩
    · exact Or.inl (by omega)
end
section
variable {kh fh kC kR kU : Nat} {mx my : Nat → Nat} {mv : Nat → Int32} {nx cf rf bo iu hd sz fc lc fr lr : Nat → Nat}
theorem gi_nr26 {H : Nat → Bool} {post : Int32 → SX → Prop} {x y : Nat} (hx : x < 64) (hy : y < 64) (I : gi_XI kh fh kC kR kU mx my nx cf rf bo iu hd sz fc lc fr lr H)
    (hp : ∀ (m : Nat) (wa wb wc wd we wf wg : Int32), H m = true → (∀ j, H j = true → gi_ds x y (mx m) (my m) < gi_ds x y (mx j) (my j) ∨ (gi_ds x y (mx m) (my m) = gi_ds x y (mx j) (my j) ∧ 64 * mx m + my m ≤ 64 * mx j + my j)) → post (nI (64 * mx m + my m)) (nI kh, gi_pI fh, nI kC, nI kR, nI kU, wa, wb, wc, wd, we, wf, wg, gi_ar mx, gi_ar my, mv, gi_pr nx, gi_ar cf, gi_ar rf, gi_ar bo, gi_ar iu, gi_pr hd, gi_ar sz, gi_ar fc, gi_ar lc, gi_ar fr, gi_ar lr)) :
    ∀ (d s n lo hi : Nat) (wa wb wc wd we wf wg : Int32), s + d = 6 → d < n → lo ≤ hi → hi < 64 → hi < lo + 2 ^ d → (∀ m, H m = true → lo ≤ gi_ds x y (mx m) (my m)) → (∃ m, H m = true ∧ gi_ds x y (mx m) (my m) ≤ hi) →
      wX_nearest_26 post (nI x) (nI y) n (nI lo) (nI hi) (nI s) (nI kh) (gi_pI fh) (nI kC) (nI kR) (nI kU) wa wb wc wd we wf wg (gi_ar mx) (gi_ar my) mv (gi_pr nx) (gi_ar cf) (gi_ar rf) (gi_ar bo) (gi_ar iu) (gi_pr hd) (gi_ar sz) (gi_ar fc) (gi_ar lc) (gi_ar fr) (gi_ar lr) := by
  have hin := I.2.2.2.2.2.2.1
  intro d
  induction d with
  | zero =>
    intro s n lo hi wa wb wc wd we wf wg hs hn h1 h2 h3 g1 g2
    obtain ⟨n, rfl⟩ := gi_S hn
    have e : hi = lo := by omega
    subst e
    have fin := gi_nr92 (wa := wa) (wb := wb) (wc := wc) (wd := wd) (we := we) (wf := wf) (wg := wg) (post := post) hx hy h2 I g1 g2 hp
    exact br_f (nI_ge (b := 7) (by omega) (by decide)) (br_t (nI_le (by omega) (by omega)) fin)
  | succ d ih =>
    intro s n lo hi wa wb wc wd we wf wg hs hn h1 h2 h3 g1 g2
    obtain ⟨n, rfl⟩ := gi_S hn
    have h4 : hi < lo + 2 * 2 ^ d := by rw [Nat.pow_succ] at h3; omega
    generalize hw : 2 ^ d = w at h4 ih
    refine br_f (nI_ge (b := 7) (by omega) (by decide)) ?_
    refine pk_le hi lo (fun z => ?_) (fun z => And.intro gi_20 ?_) rfl rfl (by omega) (by omega)
    · have e : hi = lo := by omega
      subst e
      exact gi_nr92 hx hy h2 I g1 g2 hp
    · intro mid em
      rw [gi_mid (by omega) (by omega)] at em
      subst em
      refine gi_cnt I (fun W wa wb wc wd we wf wg nW e => ?_)
      have e' : ∀ m, m ∈ W ↔ (H m = true ∧ gi_ds x y (mx m) (my m) ≤ (lo + hi) / 2) := by
        intro m
        rw [e m]
        constructor
        · intro q
          obtain ⟨-, m2, m3⟩ := hin m q.1
          exact ⟨q.1, (gi_dsq m2 m3 hx hy (by omega)).mp q.2⟩
        · intro q
          obtain ⟨-, m2, m3⟩ := hin m q.1
          exact ⟨q.1, (gi_dsq m2 m3 hx hy (by omega)).mpr q.2⟩
      have l40 := gi_len40 nW (fun m hm => (hin m ((e' m).mp hm).1).1)
      refine pk_le W.length 0 (fun y0 => ?_) (fun y0 => ?_) rfl nI_0.symm (by omega) (by omega)
      · intro a ea b eb
        rw [nI_1] at ea eb
        subst ea eb
        refine ih (s + 1) n _ hi _ _ _ _ _ _ _ (by omega) (by omega) (by omega) h2 (by omega) (fun m hm => ?_) g2
        apply Nat.lt_of_not_le
        intro q
        have mm := (e' m).mpr ⟨hm, q⟩
        have := List.eq_nil_of_length_eq_zero (Nat.le_zero.mp y0)
        rw [this] at mm
        exact absurd mm List.not_mem_nil
      · intro b eb
        rw [nI_1] at eb
        subst eb
        refine ih (s + 1) n lo _ _ _ _ _ _ _ _ (by omega) (by omega) (by omega) (by omega) (by omega) g1 ?_
        obtain ⟨m, hm⟩ := List.exists_mem_of_length_pos y0
        exact ⟨m, ((e' m).mp hm).1, ((e' m).mp hm).2⟩
theorem gi_nr {H : Nat → Bool} {post : Int32 → SX → Prop} {x y : Nat} {wa wb wc wd we wf wg : Int32} (hx : x < 64) (hy : y < 64) (I : gi_XI kh fh kC kR kU mx my nx cf rf bo iu hd sz fc lc fr lr H)
    (h0 : (∀ m, H m = false) → post (-1) (nI kh, gi_pI fh, nI kC, nI kR, nI kU, wa, wb, wc, wd, we, wf, wg, gi_ar mx, gi_ar my, mv, gi_pr nx, gi_ar cf, gi_ar rf, gi_ar bo, gi_ar iu, gi_pr hd, gi_ar sz, gi_ar fc, gi_ar lc, gi_ar fr, gi_ar lr))
    (hp : ∀ (m : Nat) (wa wb wc wd we wf wg : Int32), H m = true → (∀ j, H j = true → gi_ds x y (mx m) (my m) < gi_ds x y (mx j) (my j) ∨ (gi_ds x y (mx m) (my m) = gi_ds x y (mx j) (my j) ∧ 64 * mx m + my m ≤ 64 * mx j + my j)) → post (nI (64 * mx m + my m)) (nI kh, gi_pI fh, nI kC, nI kR, nI kU, wa, wb, wc, wd, we, wf, wg, gi_ar mx, gi_ar my, mv, gi_pr nx, gi_ar cf, gi_ar rf, gi_ar bo, gi_ar iu, gi_pr hd, gi_ar sz, gi_ar fc, gi_ar lc, gi_ar fr, gi_ar lr)) :
    wpX_nearest post (nI kh, gi_pI fh, nI kC, nI kR, nI kU, wa, wb, wc, wd, we, wf, wg, gi_ar mx, gi_ar my, mv, gi_pr nx, gi_ar cf, gi_ar rf, gi_ar bo, gi_ar iu, gi_pr hd, gi_ar sz, gi_ar fc, gi_ar lc, gi_ar fr, gi_ar lr) (nI x) (nI y) := by
  have hin := I.2.2.2.2.2.2.1
  have k40 : kh ≤ 40 := by
    obtain ⟨F, -, -, -, s⟩ := I.2.2.2.2.1
    omega
  unfold wpX_nearest
  dsimp only
  refine gi_onB1 hx hy (br_f gi_10 ?_)
  refine pk_eq kh 0 (fun z => h0 (fun m => ?_)) (fun z => ?_) rfl nI_0.symm (by omega) (by omega)
  · cases w : H m with
    | false => rfl
    | true =>
      have := gi_Fr_pos I.2.2.2.2.1 (hin m w).1 w
      omega
  · obtain ⟨m, m40, hm⟩ := gi_Fr_ex I.2.2.2.2.1 (by omega)
    obtain ⟨-, m2, m3⟩ := hin m hm
    have := gi_ds_lt m2 m3 hx hy
    exact Exists.intro 7 (gi_nr26 hx hy I hp 6 0 7 0 63 _ _ _ _ _ _ _ (by omega) (by omega) (by omega) (by omega) (by omega) (fun m _ => Nat.zero_le _) ⟨m, hm, by omega⟩)
theorem gi_nr0 {post : Int32 → SX → Prop} {x y : Int32} {wa wb wc wd we wf wg : Int32} (ho : gi_Off x y) (h : post (-1) (nI kh, gi_pI fh, nI kC, nI kR, nI kU, wa, wb, wc, wd, we, wf, wg, gi_ar mx, gi_ar my, mv, gi_pr nx, gi_ar cf, gi_ar rf, gi_ar bo, gi_ar iu, gi_pr hd, gi_ar sz, gi_ar fc, gi_ar lc, gi_ar fr, gi_ar lr)) : wpX_nearest post (nI kh, gi_pI fh, nI kC, nI kR, nI kU, wa, wb, wc, wd, we, wf, wg, gi_ar mx, gi_ar my, mv, gi_pr nx, gi_ar cf, gi_ar rf, gi_ar bo, gi_ar iu, gi_pr hd, gi_ar sz, gi_ar fc, gi_ar lc, gi_ar fr, gi_ar lr) x y := by
  unfold wpX_nearest
  dsimp only
  exact gi_onB0 ho (br_t rfl h)
end
section
variable {mx my : Nat → Nat} {mv : Nat → Int32}
theorem gi_remT {H : Nat → Bool} {post : Int32 → SX → Prop} {x y : Nat} {kh fh kC kR kU : Nat} {wa wb wc wd we wf wg : Int32} {nx cf rf bo iu hd sz fc lc fr lr : Nat → Nat} (hx : x < 64) (hy : y < 64) (I : gi_XI kh fh kC kR kU mx my nx cf rf bo iu hd sz fc lc fr lr H)
    (h1 : ∀ m, H m = true → mx m = x → my m = y → ∀ (fh kC kR kU : Nat) (wa wb wc wd we wf wg : Int32) (nx cf rf bo iu hd sz fc lc fr lr : Nat → Nat), gi_XI (kh - 1) fh kC kR kU mx my nx cf rf bo iu hd sz fc lc fr lr (gi_hs H m false) → post (nI (kh - 1)) (nI (kh - 1), gi_pI fh, nI kC, nI kR, nI kU, wa, wb, wc, wd, we, wf, wg, gi_ar mx, gi_ar my, mv, gi_pr nx, gi_ar cf, gi_ar rf, gi_ar bo, gi_ar iu, gi_pr hd, gi_ar sz, gi_ar fc, gi_ar lc, gi_ar fr, gi_ar lr))
    (h0 : (∀ m, H m = true → ¬ (mx m = x ∧ my m = y)) → ∀ u, gi_St H mx my mv kh u → post (-1) u) : wpX_remove post (nI kh, gi_pI fh, nI kC, nI kR, nI kU, wa, wb, wc, wd, we, wf, wg, gi_ar mx, gi_ar my, mv, gi_pr nx, gi_ar cf, gi_ar rf, gi_ar bo, gi_ar iu, gi_pr hd, gi_ar sz, gi_ar fc, gi_ar lc, gi_ar fr, gi_ar lr) (nI x) (nI y) :=
  gi_rem hx hy I (fun m hm _ e1 e2 _ hu => hu (post (nI (kh - 1))) (h1 m hm e1 e2)) h0
theorem gi_cl17 {post : Int32 → SX → Prop} {x1 y1 x2 y2 : Int32} :
    ∀ (d : Nat) (H : Nat → Bool) (s n k kh fh kC kR kU : Nat) (z wa wb wc wd we wf wg : Int32) (nx cf rf bo iu hd sz fc lc fr lr : Nat → Nat) (W : List Nat), gi_XI kh fh kC kR kU mx my nx cf rf bo iu hd sz fc lc fr lr H → W.Nodup →
      (∀ m, m ∈ W ↔ (H m = true ∧ gi_bt (nI (mx m)) x1 x2 ∧ gi_bt (nI (my m)) y1 y2)) → gi_Mn (fun m => 64 * mx m + my m) W z → W.length = d → s + d ≤ 40 → d < n →
      (∀ (H' : Nat → Bool) (kh' : Nat) (u : SX), (∀ m, H' m = true ↔ (H m = true ∧ ¬ (gi_bt (nI (mx m)) x1 x2 ∧ gi_bt (nI (my m)) y1 y2))) → kh' + d = kh → gi_St H' mx my mv kh' u → post (nI (k + d)) u) →
      wX_clear_17 post x1 y1 x2 y2 n (nI k) z (nI s) (nI kh) (gi_pI fh) (nI kC) (nI kR) (nI kU) wa wb wc wd we wf wg (gi_ar mx) (gi_ar my) mv (gi_pr nx) (gi_ar cf) (gi_ar rf) (gi_ar bo) (gi_ar iu) (gi_pr hd) (gi_ar sz) (gi_ar fc) (gi_ar lc) (gi_ar fr) (gi_ar lr) := by
  intro d
  induction d with
  | zero =>
    intro H s n k kh fh kC kR kU z wa wb wc wd we wf wg nx cf rf bo iu hd sz fc lc fr lr W I nW e hM hl hs hn hp
    obtain ⟨n, rfl⟩ := gi_S hn
    have eW := List.eq_nil_of_length_eq_zero hl
    subst eW
    have ez : z = -1 := by
      rcases hM with ⟨-, h⟩ | ⟨m, h, -⟩
      · exact h
      · exact absurd h List.not_mem_nil
    subst ez
    have q : post (nI k) (nI kh, gi_pI fh, nI kC, nI kR, nI kU, wa, wb, wc, wd, we, wf, wg, gi_ar mx, gi_ar my, mv, gi_pr nx, gi_ar cf, gi_ar rf, gi_ar bo, gi_ar iu, gi_pr hd, gi_ar sz, gi_ar fc, gi_ar lc, gi_ar fr, gi_ar lr) := hp H kh _ (fun m => ⟨fun h => ⟨h, fun b => absurd ((e m).mpr ⟨h, b⟩) List.not_mem_nil⟩, fun h => h.1⟩) (by omega) (gi_St_i I)
    exact br_c (fun _ => q) (fun _ => br_t gi_m1lt q)
  | succ d ih =>
    intro H s n k kh fh kC kR kU z wa wb wc wd we wf wg nx cf rf bo iu hd sz fc lc fr lr W I nW e hM hl hs hn hp
    obtain ⟨n, rfl⟩ := gi_S hn
    have hin := I.2.2.2.2.2.2.1
    have inj := I.2.2.2.2.2.2.2
    obtain ⟨a, ha, ez, -⟩ : ∃ m, m ∈ W ∧ z = nI (64 * mx m + my m) ∧ True := by
      rcases hM with ⟨h, -⟩ | ⟨m, h1, h2, -⟩
      · rw [h] at hl; cases hl
      · exact ⟨m, h1, h2, trivial⟩
    subst ez
    obtain ⟨a1, a2⟩ := (e a).mp ha
    obtain ⟨a40, ax, ay⟩ := hin a a1
    refine br_f (nI_ge (b := 40) (by omega) (by decide)) (br_f (nI_pos (by omega)) ?_)
    have e1 : nI (64 * mx a + my a) >>> ((6 : Int32) &&& 31) = nI (mx a) := by
      rw [pk_shrN (by omega) _ 6 (by decide)]
      exact congrArg nI (by omega)
    have e2 : nI (64 * mx a + my a) &&& 63 = nI (my a) := by
      rw [pk_andN (by omega) 6 (by decide)]
      exact congrArg nI (by omega)
    rw [e1, e2]
    have kpos := gi_Fr_pos I.2.2.2.2.1 a40 a1
    refine gi_remT ax ay I (fun m hm f1 f2 => ?_) (fun hno u hu => absurd ⟨rfl, rfl⟩ (hno a a1))
    have ema : m = a := inj m a hm a1 f1 f2
    subst ema
    intro fh kC kR kU wa wb wc wd we wf wg nx cf rf bo iu hd sz fc lc fr lr I2
    intro x ex
    rw [nI_1] at ex
    subst ex
    refine gi_fst I2 (fun W2 z2 wa wb wc wd we wf wg nW2 eW2 hM2 => ?_)
    intro x ex
    rw [nI_1] at ex
    subst ex
    have hsm : ∀ j, gi_hs H m false j = true ↔ (H j = true ∧ j ≠ m) := by
      intro j
      by_cases v : j = m
      · rw [v, gi_hss]
        exact ⟨fun q => (nomatch q), fun q => absurd rfl q.2⟩
      · rw [gi_hsn v]
        exact ⟨fun q => ⟨q, v⟩, fun q => q.1⟩
    have pm : W.Perm (m :: W2) := by
      refine (List.perm_ext_iff_of_nodup nW (List.nodup_cons.mpr ⟨fun q => ?_, nW2⟩)).mpr (fun j => ?_)
      · have := ((eW2 m).mp q).1
        exact ((hsm m).mp this).2 rfl
      · rw [List.mem_cons, e j, eW2 j, hsm j]
        by_cases v : j = m
        · subst v
          exact ⟨fun _ => Or.inl rfl, fun _ => ⟨a1, a2⟩⟩
        · exact ⟨fun q => Or.inr ⟨⟨q.1, v⟩, q.2⟩, fun q => q.elim (fun h => absurd h v) (fun q => ⟨q.1.1, q.2⟩)⟩
    have hl2 : W2.length = d := by
      have := pm.length_eq
      rw [List.length_cons] at this
      omega
    refine ih (gi_hs H m false) (s + 1) n (k + 1) (kh - 1) _ _ _ _ z2 _ _ _ _ _ _ _ _ _ _ _ _ _ _ _ _ _ _ W2 I2 nW2 eW2 hM2 hl2 (by omega) (by omega) (fun H' kh' u h1 h2 h3 => ?_)
    have := hp H' kh' u (fun j => ?_) (by omega) h3
    · rw [show k + 1 + d = k + (d + 1) by omega]
      exact this
    · rw [h1 j, hsm j]
      constructor
      · exact fun q => ⟨q.1.1, q.2⟩
      · exact fun q => ⟨⟨q.1, fun w => q.2 (by rw [w]; exact a2)⟩, q.2⟩
theorem gi_clr {H : Nat → Bool} {post : Int32 → SX → Prop} {x1 y1 x2 y2 : Int32} {kh fh kC kR kU : Nat} {wa wb wc wd we wf wg : Int32} {nx cf rf bo iu hd sz fc lc fr lr : Nat → Nat} (I : gi_XI kh fh kC kR kU mx my nx cf rf bo iu hd sz fc lc fr lr H)
    (hp : ∀ (H' : Nat → Bool) (kh' k : Nat) (u : SX), (∀ m, H' m = true ↔ (H m = true ∧ ¬ (gi_bt (nI (mx m)) x1 x2 ∧ gi_bt (nI (my m)) y1 y2))) → kh' + k = kh → gi_St H' mx my mv kh' u → post (nI k) u) : wpX_clear post (nI kh, gi_pI fh, nI kC, nI kR, nI kU, wa, wb, wc, wd, we, wf, wg, gi_ar mx, gi_ar my, mv, gi_pr nx, gi_ar cf, gi_ar rf, gi_ar bo, gi_ar iu, gi_pr hd, gi_ar sz, gi_ar fc, gi_ar lc, gi_ar fr, gi_ar lr) x1 y1 x2 y2 := by
  unfold wpX_clear
  dsimp only
  refine gi_fst I (fun W z wa wb wc wd we wf wg nW e hM => ?_)
  have l40 := gi_len40 nW (fun m hm => (I.2.2.2.2.2.2.1 m ((e m).mp hm).1).1)
  refine Exists.intro 41 (gi_cl17 W.length H 0 41 0 kh _ _ _ _ z _ _ _ _ _ _ _ _ _ _ _ _ _ _ _ _ _ _ W I nW e hM rfl (by omega) (by omega) (fun H' kh' u h1 h2 h3 => hp H' kh' _ u h1 ?_ h3))
  omega
end
end
section
def gi_YI (yk : Nat) (yx yy : Nat → Nat) : Prop := yk ≤ 40 ∧ (∀ i, i < yk → yx i < 64 ∧ yy i < 64) ∧ (∀ i j, i < yk → j < yk → yx i = yx j → yy i = yy j → i = j)
/-- the reference holds value v at (x, y) -/
def gi_Y (yk : Nat) (yx yy : Nat → Nat) (yv : Nat → Int32) (x y : Nat) (v : Int32) : Prop := ∃ i, i < yk ∧ yx i = x ∧ yy i = y ∧ yv i = v
theorem gi_yoff1 {post : Int32 → Prop} {a b : Nat} (ha : a < 64) (hb : b < 64) (hp : post 0) : wpY_off post (nI a) (nI b) :=
  br_f (nI_pos (by omega)) (br_f (nI_nlt (a := 63) (by omega) (by decide)) (br_f (nI_pos (by omega)) (br_t (nI_le (b := 63) (by omega) (by decide)) hp)))
theorem gi_yoff0 {post : Int32 → Prop} {x y : Int32} (h : gi_Off x y) (hp : post 1) : wpY_off post x y :=
  br_c (fun _ => hp) fun h1 => br_c (fun _ => hp) fun h2 => br_c (fun _ => hp) fun h3 => br_c (fun h4 => absurd h (fun q => q.elim h1 fun q => q.elim h2 fun q => q.elim h3 (fun q => Int32.not_lt.mpr h4 q))) fun _ => hp
theorem gi_ybt {post : Int32 → Prop} {v a b : Int32} (h1 : gi_bt v a b → post 1) (h0 : ¬ gi_bt v a b → post 0) : wpY_between post v a b := by
  have e : gi_bt v a b ↔ ((a.toInt ≤ v.toInt ∧ v.toInt ≤ b.toInt) ∨ (b.toInt ≤ v.toInt ∧ v.toInt ≤ a.toInt)) := by
    unfold gi_bt
    simp only [Int32.le_iff_toInt_le]
  rw [e] at h1 h0
  unfold wpY_between
  simp only [Int32.le_iff_toInt_le, Int32.lt_iff_toInt_lt]
  refine br_c (fun z => br_c (fun y => h0 (by omega)) (fun y => br_c (fun w => h0 (by omega)) (fun w => h1 (by omega)))) (fun z => br_c (fun y => h0 (by omega)) (fun y => br_c (fun w => h0 (by omega)) (fun w => h1 (by omega))))
theorem gi_updn {f : Nat → Int32} {k j : Nat} {x : Int32} (h : j ≠ k) : upd f k x j = f j := if_neg h
theorem gi_upds {f : Nat → Int32} {k : Nat} {x : Int32} : upd f k x k = x := if_pos rfl
theorem gi_dropY {yk i : Nat} {yx yy : Nat → Nat} {yv : Nat → Int32} (Y : gi_YI yk yx yy) (hi : i < yk) :
    gi_YI (yk - 1) (gi_up yx i (yx (yk - 1))) (gi_up yy i (yy (yk - 1))) ∧
    ∀ x y v, gi_Y (yk - 1) (gi_up yx i (yx (yk - 1))) (gi_up yy i (yy (yk - 1))) (upd yv i (yv (yk - 1))) x y v ↔ (gi_Y yk yx yy yv x y v ∧ ¬ (x = yx i ∧ y = yy i)) := by
  obtain ⟨Y1, Y2, Y3⟩ := Y
  refine ⟨⟨by omega, fun j hj => ?_, fun j l hj hl e1 e2 => ?_⟩, fun x y v => ⟨fun h => ?_, fun h => ?_⟩⟩
  · by_cases z : j = i
    · rw [z, gi_us, gi_us]; exact Y2 _ (by omega)
    · rw [gi_un z, gi_un z]; exact Y2 _ (by omega)
  · by_cases z : j = i
    · by_cases w : l = i
      · rw [z, w]
      · rw [z, gi_us, gi_un w] at e1 e2
        have := Y3 _ _ (by omega) (by omega) e1 e2
        omega
    · by_cases w : l = i
      · rw [w, gi_us, gi_un z] at e1 e2
        have := Y3 _ _ (by omega) (by omega) e1 e2
        omega
      · rw [gi_un w, gi_un z] at e1 e2
        exact Y3 _ _ (by omega) (by omega) e1 e2
  · obtain ⟨j, hj, e1, e2, e3⟩ := h
    by_cases z : j = i
    · rw [z, gi_us] at e1 e2
      rw [z, gi_upds] at e3
      refine ⟨⟨yk - 1, by omega, e1, e2, e3⟩, fun q => ?_⟩
      have := Y3 (yk - 1) i (by omega) hi (e1.trans q.1) (e2.trans q.2)
      omega
    · rw [gi_un z] at e1 e2
      rw [gi_updn z] at e3
      refine ⟨⟨j, by omega, e1, e2, e3⟩, fun q => z ?_⟩
      exact Y3 j i (by omega) hi (e1.trans q.1) (e2.trans q.2)
  · obtain ⟨⟨j, hj, e1, e2, e3⟩, no⟩ := h
    have z : j ≠ i := fun q => no (by rw [← q]; exact ⟨e1.symm, e2.symm⟩)
    by_cases w : j = yk - 1
    · refine ⟨i, by omega, ?_, ?_, ?_⟩
      · rw [gi_us, ← w]; exact e1
      · rw [gi_us, ← w]; exact e2
      · rw [gi_upds, ← w]; exact e3
    · refine ⟨j, by omega, ?_, ?_, ?_⟩
      · rw [gi_un z]; exact e1
      · rw [gi_un z]; exact e2
      · rw [gi_updn z]; exact e3
section
variable {yk : Nat} {yx yy : Nat → Nat} {yv : Nat → Int32}
theorem gi_yf2 {post : Int32 → Prop} {x y : Int32} (h40 : yk ≤ 40) (h1 : ∀ i, i < yk → nI (yx i) = x → nI (yy i) = y → post (nI i)) (h0 : (∀ i, i < yk → ¬ (nI (yx i) = x ∧ nI (yy i) = y)) → post (-1)) :
    ∀ d i n : Nat, i + d = yk → d < n → (∀ j, j < i → ¬ (nI (yx j) = x ∧ nI (yy j) = y)) → wY_find_2 post x y (nI yk) (gi_ar yx) (gi_ar yy) yv n (nI i) := by
  intro d
  induction d with
  | zero =>
    intro i n hi hn no
    obtain ⟨n, rfl⟩ := gi_S hn
    have e : i = yk := by omega
    subst e
    exact br_t (nI_le (Nat.le_refl _) (by omega)) (h0 no)
  | succ d ih =>
    intro i n hi hn no
    obtain ⟨n, rfl⟩ := gi_S hn
    have v1 : vp_in (nI i) 40 := vp_in_nI (by omega) (by decide)
    have next : ¬ (nI (yx i) = x ∧ nI (yy i) = y) → ∀ z : Int32, z = nI i + 1 → wY_find_2 post x y (nI yk) (gi_ar yx) (gi_ar yy) yv n z := by
      intro ne z ez
      rw [nI_1] at ez
      subst ez
      refine ih (i + 1) n (by omega) (by omega) (fun j hj => ?_)
      by_cases w : j = i
      · rw [w]; exact ne
      · exact no j (by omega)
    refine br_f (nI_ge (by omega) (by omega)) (And.intro v1 ?_)
    rw [gi_rd yx (by omega), gi_rd yy (by omega)]
    refine br_c (fun e1 => And.intro v1 ?_) (fun e1 => next (fun q => e1 q.1))
    exact br_c (fun e2 => h1 i (by omega) e1 e2) (fun e2 => next (fun q => e2 q.2))
theorem gi_yf {post : Int32 → Prop} {x y : Int32} (h40 : yk ≤ 40) (h1 : ∀ i, i < yk → nI (yx i) = x → nI (yy i) = y → post (nI i)) (h0 : (∀ i, i < yk → ¬ (nI (yx i) = x ∧ nI (yy i) = y)) → post (-1)) :
    wpY_find post (nI yk, gi_ar yx, gi_ar yy, yv) x y :=
  Exists.intro 41 (gi_yf2 h40 h1 h0 yk 0 41 (by omega) (by omega) (fun j hj => absurd hj (Nat.not_lt_zero j)))
theorem gi_yp71 {post : Int32 → SY → Prop} {v : Int32} {i : Nat} (hi : i < 40) (hp : post (nI yk) (nI yk, gi_ar yx, gi_ar yy, upd yv i v)) : wY_put_71 post v (nI i) (nI yk) (gi_ar yx) (gi_ar yy) yv := by
  unfold wY_put_71
  refine ⟨vp_in_nI hi (by decide), ?_⟩
  intro a ea
  rw [nI_clamp (by omega)] at ea
  subst ea
  exact hp
theorem gi_yput {post : Int32 → SY → Prop} {x y : Nat} {v : Int32} (hx : x < 64) (hy : y < 64) (Y : gi_YI yk yx yy) (h1 : ∀ i, i < yk → yx i = x → yy i = y → post (nI yk) (nI yk, gi_ar yx, gi_ar yy, upd yv i v))
    (h2 : (∀ i, i < yk → ¬ (yx i = x ∧ yy i = y)) → 40 ≤ yk → post (-1) (nI yk, gi_ar yx, gi_ar yy, yv)) (h3 : (∀ i, i < yk → ¬ (yx i = x ∧ yy i = y)) → yk < 40 → post (nI (yk + 1)) (nI (yk + 1), gi_ar (gi_up yx yk x), gi_ar (gi_up yy yk y), upd yv yk v)) :
    wpY_put post (nI yk, gi_ar yx, gi_ar yy, yv) (nI x) (nI y) v := by
  obtain ⟨Y1, Y2, Y3⟩ := Y
  have eqv : ∀ i, i < yk → ((nI (yx i) = nI x ∧ nI (yy i) = nI y) ↔ (yx i = x ∧ yy i = y)) := fun i hi => by
    have := Y2 i hi
    rw [nI_eq (by omega) (by omega), nI_eq (by omega) (by omega)]
  unfold wpY_put
  dsimp only
  refine gi_yoff1 hx hy (br_t rfl ?_)
  refine gi_yf Y1 (fun i hi e1 e2 => ?_) (fun no => ?_)
  · obtain ⟨e1, e2⟩ := (eqv i hi).mp ⟨e1, e2⟩
    refine br_t (nI_pos' (by omega)) ?_
    unfold wY_put_34
    exact br_t (nI_pos' (by omega)) (gi_yp71 (by omega) (h1 i hi e1 e2))
  · have no' : ∀ i, i < yk → ¬ (yx i = x ∧ yy i = y) := fun i hi q => no i hi ((eqv i hi).mpr q)
    refine br_f gi_0m1 ?_
    refine pk_eq yk 40 (fun z => h2 no' (by omega)) (fun z => ?_) rfl rfl (by omega) (by omega)
    have v1 : vp_in (nI yk) 40 := vp_in_nI (by omega) (by decide)
    unfold wY_put_34
    refine br_f gi_0m1 (And.intro v1 ?_)
    intro a1 e1
    refine And.intro v1 ?_
    intro a2 e2 a3 e3
    rw [gi_wa yx _ (by omega)] at e1
    rw [gi_wa yy _ (by omega)] at e2
    rw [nI_1] at e3
    subst e1 e2 e3
    exact gi_yp71 (yk := yk + 1) (by omega) (h3 no' (by omega))
theorem gi_yput0 {post : Int32 → SY → Prop} {x y v : Int32} (ho : gi_Off x y) (h : post (-1) (nI yk, gi_ar yx, gi_ar yy, yv)) : wpY_put post (nI yk, gi_ar yx, gi_ar yy, yv) x y v := by
  unfold wpY_put
  dsimp only
  exact gi_yoff0 ho (br_f gi_10 h)
theorem gi_ydrop {post : SY → Prop} {i : Nat} (h40 : yk ≤ 40) (hi : i < yk) (hp : post (nI (yk - 1), gi_ar (gi_up yx i (yx (yk - 1))), gi_ar (gi_up yy i (yy (yk - 1))), upd yv i (yv (yk - 1)))) : wpY_drop post (nI yk, gi_ar yx, gi_ar yy, yv) (nI i) := by
  have v1 : vp_in (nI i) 40 := vp_in_nI (by omega) (by decide)
  have v2 : vp_in (nI (yk - 1)) 40 := vp_in_nI (by omega) (by decide)
  unfold wpY_drop
  dsimp only
  intro k ek
  rw [gi_s1 (by omega)] at ek
  subst ek
  refine ⟨v2, v1, ?_⟩
  intro a1 e1
  refine ⟨v2, v1, ?_⟩
  intro a2 e2
  refine ⟨v2, v1, ?_⟩
  intro a3 e3
  rw [gi_rd yx (by omega), gi_wa yx _ (by omega)] at e1
  rw [gi_rd yy (by omega), gi_wa yy _ (by omega)] at e2
  rw [nI_clamp (by omega), nI_clamp (by omega)] at e3
  subst e1 e2 e3
  exact hp
theorem gi_yrem {post : Int32 → SY → Prop} {x y : Int32} (h40 : yk ≤ 40)
    (h1 : ∀ i, i < yk → nI (yx i) = x → nI (yy i) = y → post (nI (yk - 1)) (nI (yk - 1), gi_ar (gi_up yx i (yx (yk - 1))), gi_ar (gi_up yy i (yy (yk - 1))), upd yv i (yv (yk - 1))))
    (h0 : (∀ i, i < yk → ¬ (nI (yx i) = x ∧ nI (yy i) = y)) → post (-1) (nI yk, gi_ar yx, gi_ar yy, yv)) : wpY_remove post (nI yk, gi_ar yx, gi_ar yy, yv) x y := by
  unfold wpY_remove
  dsimp only
  refine gi_yf h40 (fun i hi e1 e2 => br_t (nI_pos' (by omega)) ?_) (fun no => br_f gi_0m1 (h0 no))
  exact gi_ydrop h40 hi (h1 i hi e1 e2)
theorem gi_yhas {post : Int32 → Prop} {x y : Int32} (h40 : yk ≤ 40) (h1 : ∀ i, i < yk → nI (yx i) = x → nI (yy i) = y → post 1) (h0 : (∀ i, i < yk → ¬ (nI (yx i) = x ∧ nI (yy i) = y)) → post 0) : wpY_has post (nI yk, gi_ar yx, gi_ar yy, yv) x y := by
  unfold wpY_has
  dsimp only
  exact gi_yf h40 (fun i hi e1 e2 => br_f (nI_pos (by omega)) (h1 i hi e1 e2)) (fun no => br_t gi_m1lt (h0 no))
theorem gi_yval {post : Int32 → Prop} {x y : Int32} (h40 : yk ≤ 40) (h1 : ∀ i, i < yk → nI (yx i) = x → nI (yy i) = y → post (yv i)) (h0 : (∀ i, i < yk → ¬ (nI (yx i) = x ∧ nI (yy i) = y)) → post 0) : wpY_value post (nI yk, gi_ar yx, gi_ar yy, yv) x y := by
  unfold wpY_value
  dsimp only
  refine gi_yf h40 (fun i hi e1 e2 => br_t (nI_pos' (by omega)) (And.intro (vp_in_nI (by omega) (by decide)) ?_)) (fun no => br_f gi_0m1 (h0 no))
  rw [nI_clamp (by omega)]
  exact h1 i hi e1 e2
theorem gi_yin {post : Int32 → Prop} {x1 y1 x2 y2 : Int32} {i : Nat} (hi : i < 40) (h1 : gi_bt (nI (yx i)) x1 x2 ∧ gi_bt (nI (yy i)) y1 y2 → post 1) (h0 : ¬ (gi_bt (nI (yx i)) x1 x2 ∧ gi_bt (nI (yy i)) y1 y2) → post 0) :
    wpY_inside post (nI yk, gi_ar yx, gi_ar yy, yv) (nI i) x1 y1 x2 y2 := by
  have v1 : vp_in (nI i) 40 := vp_in_nI hi (by decide)
  unfold wpY_inside
  dsimp only
  rw [gi_rd yx (by omega), gi_rd yy (by omega)]
  refine ⟨v1, gi_ybt (fun z => br_f gi_10 ⟨v1, ?_⟩) (fun z => br_t rfl (h0 (fun q => z q.1)))⟩
  exact gi_ybt (fun y => br_f gi_10 (h1 ⟨z, y⟩)) (fun y => br_t rfl (h0 (fun q => y q.2)))
/-- the list of the places below i that lie inside, one longer -/
theorem gi_vstep {P : Nat → Prop} {V : List Nat} {i : Nat} (nV : V.Nodup) (e : ∀ j, j ∈ V ↔ (j < i ∧ P j)) (h : P i) : (i :: V).Nodup ∧ ∀ j, j ∈ i :: V ↔ (j < i + 1 ∧ P j) := by
  refine ⟨List.nodup_cons.mpr ⟨fun q => absurd ((e i).mp q).1 (Nat.lt_irrefl i), nV⟩, fun j => ?_⟩
  rw [List.mem_cons, e j]
  constructor
  · rintro (q | q)
    · rw [q]; exact ⟨Nat.lt_succ_self i, h⟩
    · exact ⟨by omega, q.2⟩
  · intro q
    by_cases w : j = i
    · exact Or.inl w
    · exact Or.inr ⟨by omega, q.2⟩
theorem gi_vskip {P : Nat → Prop} {V : List Nat} {i : Nat} (e : ∀ j, j ∈ V ↔ (j < i ∧ P j)) (h : ¬ P i) : ∀ j, j ∈ V ↔ (j < i + 1 ∧ P j) := by
  intro j
  rw [e j]
  constructor
  · exact fun q => ⟨by omega, q.2⟩
  · intro q
    by_cases w : j = i
    · exact absurd (by rw [← w]; exact q.2) h
    · exact ⟨by omega, q.2⟩
theorem gi_yc6 {post : Int32 → Prop} {x1 y1 x2 y2 : Int32} (h40 : yk ≤ 40) (hp : ∀ V : List Nat, V.Nodup → (∀ j, j ∈ V ↔ (j < yk ∧ (gi_bt (nI (yx j)) x1 x2 ∧ gi_bt (nI (yy j)) y1 y2))) → post (nI V.length)) :
    ∀ (d i n : Nat) (V : List Nat), i + d = yk → d < n → V.Nodup → (∀ j, j ∈ V ↔ (j < i ∧ (gi_bt (nI (yx j)) x1 x2 ∧ gi_bt (nI (yy j)) y1 y2))) → wY_count_6 post x1 y1 x2 y2 (nI yk) (gi_ar yx) (gi_ar yy) yv n (nI V.length) (nI i) := by
  intro d
  induction d with
  | zero =>
    intro i n V hi hn nV e
    obtain ⟨n, rfl⟩ := gi_S hn
    have ei : i = yk := by omega
    subst ei
    exact br_t (nI_le (Nat.le_refl _) (by omega)) (hp V nV e)
  | succ d ih =>
    intro i n V hi hn nV e
    obtain ⟨n, rfl⟩ := gi_S hn
    refine br_f (nI_ge (by omega) (by omega)) (gi_yin (by omega) (fun z => br_f gi_10 ?_) (fun z => br_t rfl ?_))
    · intro a ea b eb
      rw [nI_1] at ea eb
      subst ea eb
      obtain ⟨g1, g2⟩ := gi_vstep (P := fun j => gi_bt (nI (yx j)) x1 x2 ∧ gi_bt (nI (yy j)) y1 y2) nV e z
      exact ih (i + 1) n (i :: V) (by omega) (by omega) g1 g2
    · intro b eb
      rw [nI_1] at eb
      subst eb
      exact ih (i + 1) n V (by omega) (by omega) nV (gi_vskip (P := fun j => gi_bt (nI (yx j)) x1 x2 ∧ gi_bt (nI (yy j)) y1 y2) e z)
theorem gi_ycnt {post : Int32 → Prop} {x1 y1 x2 y2 : Int32} (h40 : yk ≤ 40) (hp : ∀ V : List Nat, V.Nodup → (∀ j, j ∈ V ↔ (j < yk ∧ (gi_bt (nI (yx j)) x1 x2 ∧ gi_bt (nI (yy j)) y1 y2))) → post (nI V.length)) :
    wpY_count post (nI yk, gi_ar yx, gi_ar yy, yv) x1 y1 x2 y2 :=
  Exists.intro 41 (gi_yc6 h40 hp yk 0 41 [] (by omega) (by omega) List.nodup_nil (fun j => ⟨fun q => absurd q List.not_mem_nil, fun q => absurd q.1 (Nat.not_lt_zero j)⟩))
theorem gi_ys6 {post : Int32 → Prop} {x1 y1 x2 y2 : Int32} (h40 : yk ≤ 40) (hp : ∀ V : List Nat, V.Nodup → (∀ j, j ∈ V ↔ (j < yk ∧ (gi_bt (nI (yx j)) x1 x2 ∧ gi_bt (nI (yy j)) y1 y2))) → post (gi_sm yv V)) :
    ∀ (d i n : Nat) (V : List Nat), i + d = yk → d < n → V.Nodup → (∀ j, j ∈ V ↔ (j < i ∧ (gi_bt (nI (yx j)) x1 x2 ∧ gi_bt (nI (yy j)) y1 y2))) → wY_sum_6 post x1 y1 x2 y2 (nI yk) (gi_ar yx) (gi_ar yy) yv n (gi_sm yv V) (nI i) := by
  intro d
  induction d with
  | zero =>
    intro i n V hi hn nV e
    obtain ⟨n, rfl⟩ := gi_S hn
    have ei : i = yk := by omega
    subst ei
    exact br_t (nI_le (Nat.le_refl _) (by omega)) (hp V nV e)
  | succ d ih =>
    intro i n V hi hn nV e
    obtain ⟨n, rfl⟩ := gi_S hn
    refine br_f (nI_ge (by omega) (by omega)) (gi_yin (by omega) (fun z => br_f gi_10 (And.intro (vp_in_nI (by omega) (by decide)) ?_)) (fun z => br_t rfl ?_))
    · intro a ea b eb
      rw [nI_clamp (by omega)] at ea
      rw [nI_1] at eb
      subst ea eb
      obtain ⟨g1, g2⟩ := gi_vstep (P := fun j => gi_bt (nI (yx j)) x1 x2 ∧ gi_bt (nI (yy j)) y1 y2) nV e z
      exact ih (i + 1) n (i :: V) (by omega) (by omega) g1 g2
    · intro b eb
      rw [nI_1] at eb
      subst eb
      exact ih (i + 1) n V (by omega) (by omega) nV (gi_vskip (P := fun j => gi_bt (nI (yx j)) x1 x2 ∧ gi_bt (nI (yy j)) y1 y2) e z)
theorem gi_ysum {post : Int32 → Prop} {x1 y1 x2 y2 : Int32} (h40 : yk ≤ 40) (hp : ∀ V : List Nat, V.Nodup → (∀ j, j ∈ V ↔ (j < yk ∧ (gi_bt (nI (yx j)) x1 x2 ∧ gi_bt (nI (yy j)) y1 y2))) → post (gi_sm yv V)) :
    wpY_sum post (nI yk, gi_ar yx, gi_ar yy, yv) x1 y1 x2 y2 :=
  Exists.intro 41 (gi_ys6 h40 hp yk 0 41 [] (by omega) (by omega) List.nodup_nil (fun j => ⟨fun q => absurd q List.not_mem_nil, fun q => absurd q.1 (Nat.not_lt_zero j)⟩))
theorem gi_ynum {post : Int32 → Prop} {i : Nat} (hi : i < 40) (hp : post (nI (64 * yx i + yy i))) : wpY_number post (nI yk, gi_ar yx, gi_ar yy, yv) (nI i) := by
  have v1 : vp_in (nI i) 40 := vp_in_nI hi (by decide)
  unfold wpY_number
  dsimp only
  rw [gi_rd yx (by omega), gi_rd yy (by omega), gi_64]
  exact ⟨v1, v1, hp⟩
theorem gi_yfs6 {post : Int32 → Prop} {x1 y1 x2 y2 : Int32} (Y : gi_YI yk yx yy) (hp : ∀ (V : List Nat) (z : Int32), V.Nodup → (∀ j, j ∈ V ↔ (j < yk ∧ (gi_bt (nI (yx j)) x1 x2 ∧ gi_bt (nI (yy j)) y1 y2))) → gi_Mn (fun m => 64 * yx m + yy m) V z → post z) :
    ∀ (d i n : Nat) (V : List Nat) (z : Int32), i + d = yk → d < n → V.Nodup → (∀ j, j ∈ V ↔ (j < i ∧ (gi_bt (nI (yx j)) x1 x2 ∧ gi_bt (nI (yy j)) y1 y2))) → gi_Mn (fun m => 64 * yx m + yy m) V z → wY_first_6 post x1 y1 x2 y2 (nI yk) (gi_ar yx) (gi_ar yy) yv n z (nI i) := by
  have h40 := Y.1
  intro d
  induction d with
  | zero =>
    intro i n V z hi hn nV e hM
    obtain ⟨n, rfl⟩ := gi_S hn
    have ei : i = yk := by omega
    subst ei
    exact br_t (nI_le (Nat.le_refl _) (by omega)) (hp V z nV e hM)
  | succ d ih =>
    intro i n V z hi hn nV e hM
    obtain ⟨n, rfl⟩ := gi_S hn
    refine br_f (nI_ge (by omega) (by omega)) (gi_yin (by omega) (fun q => br_f gi_10 ?_) (fun q => br_t rfl ?_))
    · obtain ⟨g1, g2⟩ := gi_vstep (P := fun j => gi_bt (nI (yx j)) x1 x2 ∧ gi_bt (nI (yy j)) y1 y2) nV e q
      have hb : ∀ j, j ∈ V → (fun m => 64 * yx m + yy m) j < 2 ^ 31 := fun j hj => by
        have := Y.2.1 j (by have := ((e j).mp hj).1; omega)
        show 64 * yx j + yy j < 2 ^ 31
        omega
      have hm2 : (fun m => 64 * yx m + yy m) i < 2 ^ 31 := by
        have := Y.2.1 i (by omega)
        show 64 * yx i + yy i < 2 ^ 31
        omega
      have new : z < 0 ∨ ¬ z ≤ nI (64 * yx i + yy i) → wY_first_45 post (wY_first_6 post x1 y1 x2 y2 (nI yk) (gi_ar yx) (gi_ar yy) yv n) x1 y1 x2 y2 (nI i) (nI yk) (gi_ar yx) (gi_ar yy) yv := by
        intro w
        unfold wY_first_45
        refine gi_ynum (by omega) ?_
        intro b eb
        rw [nI_1] at eb
        subst eb
        exact ih (i + 1) n (i :: V) _ (by omega) (by omega) g1 g2 (gi_Mn_new hM hb w hm2)
      refine br_c (fun w => new (Or.inl w)) (fun w => gi_ynum (by omega) (br_c (fun y => ?_) (fun y => new (Or.inr y))))
      intro b eb
      rw [nI_1] at eb
      subst eb
      exact ih (i + 1) n (i :: V) z (by omega) (by omega) g1 g2 (gi_Mn_old hM hb w y hm2)
    · intro b eb
      rw [nI_1] at eb
      subst eb
      exact ih (i + 1) n V z (by omega) (by omega) nV (gi_vskip (P := fun j => gi_bt (nI (yx j)) x1 x2 ∧ gi_bt (nI (yy j)) y1 y2) e q) hM
theorem gi_yfst {post : Int32 → Prop} {x1 y1 x2 y2 : Int32} (Y : gi_YI yk yx yy) (hp : ∀ (V : List Nat) (z : Int32), V.Nodup → (∀ j, j ∈ V ↔ (j < yk ∧ (gi_bt (nI (yx j)) x1 x2 ∧ gi_bt (nI (yy j)) y1 y2))) → gi_Mn (fun m => 64 * yx m + yy m) V z → post z) :
    wpY_first post (nI yk, gi_ar yx, gi_ar yy, yv) x1 y1 x2 y2 :=
  Exists.intro 41 (gi_yfs6 Y hp yk 0 41 [] (-1) (by omega) (by have := Y.1; omega) List.nodup_nil (fun j => ⟨fun q => absurd q List.not_mem_nil, fun q => absurd q.1 (Nat.not_lt_zero j)⟩) (Or.inl ⟨rfl, rfl⟩))
theorem gi_yds {post : Int32 → Prop} {x y i : Nat} (hx : x < 64) (hy : y < 64) (hi : i < 40) (h1 : yx i < 64) (h2 : yy i < 64) (hp : post (nI (gi_ds x y (yx i) (yy i)))) : wpY_distance post (nI yk, gi_ar yx, gi_ar yy, yv) (nI i) (nI x) (nI y) := by
  have v1 : vp_in (nI i) 40 := vp_in_nI hi (by decide)
  have s60 : ∀ p q : Nat, p < 1000 → q < 1000 → p = gi_ab (yx i) x → q = gi_ab (yy i) y → wY_distance_60 post (nI p) (nI q) (nI yk) (gi_ar yx) (gi_ar yy) yv := by
    intro p q hp1 hq1 ep eq
    unfold gi_ds at hp
    rw [← ep, ← eq] at hp
    unfold wY_distance_60
    refine pk_le p q (fun z => ?_) (fun z => ?_) rfl rfl (by omega) (by omega)
    · rw [show gi_m2 p q = q from if_pos z] at hp
      exact hp
    · rw [show gi_m2 p q = p from if_neg (by omega)] at hp
      exact hp
  have s29 : ∀ p : Nat, p < 1000 → p = gi_ab (yx i) x → wY_distance_29 post (nI i) (nI y) (nI p) (nI yk) (gi_ar yx) (gi_ar yy) yv := by
    intro p hp1 ep
    have g := gi_ab_i (yy i) y
    unfold wY_distance_29
    rw [gi_rd yy (by omega)]
    refine ⟨v1, ?_⟩
    refine pk_le y (yy i) (fun z => ⟨v1, ?_⟩) (fun z => ⟨v1, ?_⟩) rfl rfl (by omega) (by omega)
    · rw [pk_sub z]
      exact s60 p _ hp1 (by omega) ep (by omega)
    · rw [pk_sub (by omega)]
      exact s60 p _ hp1 (by omega) ep (by omega)
  have g := gi_ab_i (yx i) x
  unfold wpY_distance
  dsimp only
  rw [gi_rd yx (by omega)]
  refine ⟨v1, ?_⟩
  refine pk_le x (yx i) (fun z => ⟨v1, ?_⟩) (fun z => ⟨v1, ?_⟩) rfl rfl (by omega) (by omega)
  · rw [pk_sub z]
    exact s29 _ (by omega) (by omega)
  · rw [pk_sub (by omega)]
    exact s29 _ (by omega) (by omega)
def gi_YN (x y : Nat) (yx yy : Nat → Nat) (i : Nat) (be le : Int32) : Prop :=
  (i = 0 ∧ be = -1 ∧ le = 64) ∨ ∃ j, j < i ∧ be = nI (64 * yx j + yy j) ∧ le = nI (gi_ds x y (yx j) (yy j)) ∧
    ∀ l, l < i → gi_ds x y (yx j) (yy j) < gi_ds x y (yx l) (yy l) ∨ (gi_ds x y (yx j) (yy j) = gi_ds x y (yx l) (yy l) ∧ 64 * yx j + yy j ≤ 64 * yx l + yy l)
theorem gi_yn19 {post : Int32 → Prop} {x y : Nat} (hx : x < 64) (hy : y < 64) (Y : gi_YI yk yx yy) (hp : ∀ be le, gi_YN x y yx yy yk be le → post be) :
    ∀ (d i n : Nat) (be le : Int32), i + d = yk → d < n → gi_YN x y yx yy i be le → wY_nearest_19 post (nI x) (nI y) (nI yk) (gi_ar yx) (gi_ar yy) yv n be le (nI i) := by
  obtain ⟨h40, Y2, -⟩ := Y
  intro d
  induction d with
  | zero =>
    intro i n be le hi hn hI
    obtain ⟨n, rfl⟩ := gi_S hn
    have ei : i = yk := by omega
    subst ei
    exact br_t (nI_le (Nat.le_refl _) (by omega)) (hp be le hI)
  | succ d ih =>
    intro i n be le hi hn hI
    obtain ⟨n, rfl⟩ := gi_S hn
    obtain ⟨y1, y2⟩ := Y2 i (by omega)
    have dl := gi_ds_lt y1 y2 hx hy
    refine br_f (nI_ge (by omega) (by omega)) (gi_yds hx hy (by omega) y1 y2 ?_)
    have new : (∀ l, l < i → gi_ds x y (yx i) (yy i) < gi_ds x y (yx l) (yy l) ∨ (gi_ds x y (yx i) (yy i) = gi_ds x y (yx l) (yy l) ∧ 64 * yx i + yy i ≤ 64 * yx l + yy l)) →
        wY_nearest_62 post (wY_nearest_19 post (nI x) (nI y) (nI yk) (gi_ar yx) (gi_ar yy) yv n) (nI x) (nI y) (nI i) (nI (gi_ds x y (yx i) (yy i))) (nI yk) (gi_ar yx) (gi_ar yy) yv := by
      intro hl
      unfold wY_nearest_62
      refine gi_ynum (by omega) ?_
      intro b eb
      rw [nI_1] at eb
      subst eb
      refine ih (i + 1) n _ _ (by omega) (by omega) (Or.inr ⟨i, by omega, rfl, rfl, fun l hl1 => ?_⟩)
      by_cases w : l = i
      · rw [w]; exact Or.inr ⟨rfl, Nat.le_refl _⟩
      · exact hl l (by omega)
    rcases hI with ⟨e0, e1, e2⟩ | ⟨j, hj, e1, e2, hl⟩
    · subst e0 e1 e2
      exact br_t (nI_lt (b := 64) dl (by decide)) (new (fun l hl => absurd hl (Nat.not_lt_zero l)))
    · obtain ⟨z1, z2⟩ := Y2 j (by omega)
      have dj := gi_ds_lt z1 z2 hx hy
      subst e1 e2
      have old : (gi_ds x y (yx j) (yy j) < gi_ds x y (yx i) (yy i) ∨ (gi_ds x y (yx j) (yy j) = gi_ds x y (yx i) (yy i) ∧ 64 * yx j + yy j ≤ 64 * yx i + yy i)) →
          ∀ b : Int32, b = nI i + 1 → wY_nearest_19 post (nI x) (nI y) (nI yk) (gi_ar yx) (gi_ar yy) yv n (nI (64 * yx j + yy j)) (nI (gi_ds x y (yx j) (yy j))) b := by
        intro ho b eb
        rw [nI_1] at eb
        subst eb
        refine ih (i + 1) n _ _ (by omega) (by omega) (Or.inr ⟨j, by omega, rfl, rfl, fun l hl1 => ?_⟩)
        by_cases w : l = i
        · rw [w]; exact ho
        · exact hl l (by omega)
      refine pk_lt (gi_ds x y (yx i) (yy i)) (gi_ds x y (yx j) (yy j)) (fun z => new (fun l hl1 => ?_)) (fun z => ?_) rfl rfl (by omega) (by omega)
      · have := hl l hl1
        omega
      · refine pk_eq (gi_ds x y (yx i) (yy i)) (gi_ds x y (yx j) (yy j)) (fun w => gi_ynum (by omega) ?_) (fun w => old (Or.inl (by omega))) rfl rfl (by omega) (by omega)
        refine pk_le (64 * yx j + yy j) (64 * yx i + yy i) (fun v => old (Or.inr ⟨w.symm, v⟩)) (fun v => new (fun l hl1 => ?_)) rfl rfl (by omega) (by omega)
        have := hl l hl1
        omega
theorem gi_ynr {post : Int32 → Prop} {x y : Nat} (hx : x < 64) (hy : y < 64) (Y : gi_YI yk yx yy) (hp : ∀ be le, gi_YN x y yx yy yk be le → post be) : wpY_nearest post (nI yk, gi_ar yx, gi_ar yy, yv) (nI x) (nI y) := by
  unfold wpY_nearest
  dsimp only
  exact gi_yoff1 hx hy (br_t rfl (Exists.intro 41 (gi_yn19 hx hy Y hp yk 0 41 (-1) 64 (by omega) (by have := Y.1; omega) (Or.inl ⟨rfl, rfl, rfl⟩))))
theorem gi_ynr0 {post : Int32 → Prop} {x y : Int32} (ho : gi_Off x y) (h : post (-1)) : wpY_nearest post (nI yk, gi_ar yx, gi_ar yy, yv) x y := by
  unfold wpY_nearest
  dsimp only
  exact gi_yoff0 ho (br_f gi_10 h)
end
theorem gi_ycl14 {post : Int32 → SY → Prop} {x1 y1 x2 y2 x5 : Int32} :
    ∀ (i n yk : Nat) (yx yy : Nat → Nat) (yv : Nat → Int32), i ≤ yk → i < n → gi_YI yk yx yy → (∀ j, i ≤ j → j < yk → ¬ (gi_bt (nI (yx j)) x1 x2 ∧ gi_bt (nI (yy j)) y1 y2)) →
      (∀ yk' yx' yy' yv', gi_YI yk' yx' yy' → yk' ≤ yk → (∀ x y v, gi_Y yk' yx' yy' yv' x y v ↔ (gi_Y yk yx yy yv x y v ∧ ¬ (gi_bt (nI x) x1 x2 ∧ gi_bt (nI y) y1 y2))) → post (x5 - nI yk') (nI yk', gi_ar yx', gi_ar yy', yv')) →
      wY_clear_14 post x1 y1 x2 y2 x5 n (gi_pI i) (nI yk) (gi_ar yx) (gi_ar yy) yv := by
  intro i
  induction i with
  | zero =>
    intro n yk yx yy yv hi hn Y no hp
    obtain ⟨n, rfl⟩ := gi_S hn
    rw [gi_p0]
    refine br_t gi_m1lt (hp yk yx yy yv Y (Nat.le_refl _) (fun x y v => ⟨fun h => ⟨h, ?_⟩, fun h => h.1⟩))
    obtain ⟨j, hj, e1, e2, -⟩ := h
    rw [← e1, ← e2]
    exact no j (Nat.zero_le _) hj
  | succ i ih =>
    intro n yk yx yy yv hi hn Y no hp
    obtain ⟨n, rfl⟩ := gi_S hn
    have h40 := Y.1
    rw [gi_p1]
    refine br_f (nI_pos (by omega)) (gi_yin (by omega) (fun z => br_f gi_10 (gi_ydrop h40 (by omega) ?_)) (fun z => br_t rfl ?_))
    · intro b eb
      rw [gi_pd] at eb
      subst eb
      obtain ⟨Y', e⟩ := gi_dropY (yv := yv) Y (i := i) (by omega)
      refine ih n (yk - 1) _ _ _ (by omega) (by omega) Y' (fun j h1 h2 => ?_) (fun yk' yx' yy' yv' Y2 h2 e2 => hp yk' yx' yy' yv' Y2 (by omega) (fun x y v => ?_))
      · by_cases w : j = i
        · rw [w, gi_us, gi_us]
          exact no (yk - 1) (by omega) (by omega)
        · rw [gi_un w, gi_un w]
          exact no j (by omega) (by omega)
      · rw [e2 x y v, e x y v]
        constructor
        · exact fun q => ⟨q.1.1, q.2⟩
        · exact fun q => ⟨⟨q.1, fun w => q.2 (by rw [w.1, w.2]; exact z)⟩, q.2⟩
    · intro b eb
      rw [gi_pd] at eb
      subst eb
      refine ih n yk yx yy yv (by omega) (by omega) Y (fun j h1 h2 => ?_) hp
      by_cases w : j = i
      · rw [w]; exact z
      · exact no j (by omega) h2
theorem gi_yclr {post : Int32 → SY → Prop} {x1 y1 x2 y2 : Int32} {yk : Nat} {yx yy : Nat → Nat} {yv : Nat → Int32} (Y : gi_YI yk yx yy)
    (hp : ∀ yk' yx' yy' yv', gi_YI yk' yx' yy' → yk' ≤ yk → (∀ x y v, gi_Y yk' yx' yy' yv' x y v ↔ (gi_Y yk yx yy yv x y v ∧ ¬ (gi_bt (nI x) x1 x2 ∧ gi_bt (nI y) y1 y2))) → post (nI (yk - yk')) (nI yk', gi_ar yx', gi_ar yy', yv')) :
    wpY_clear post (nI yk, gi_ar yx, gi_ar yy, yv) x1 y1 x2 y2 := by
  have h40 := Y.1
  unfold wpY_clear
  dsimp only
  intro b eb
  have e : nI yk - 1 = gi_pI yk := by
    rw [← gi_pd, Int32.sub_eq_add_neg]
  rw [e] at eb
  subst eb
  refine Exists.intro 41 (gi_ycl14 yk 41 yk yx yy yv (by omega) (by omega) Y (fun j h1 h2 => by omega) (fun yk' yx' yy' yv' Y' h e => ?_))
  rw [pk_sub h]
  exact hp yk' yx' yy' yv' Y' h e
end
section
/-- both sides hold the same values at the same places -/
def gi_Eq (H : Nat → Bool) (mx my : Nat → Nat) (mv : Nat → Int32) (yk : Nat) (yx yy : Nat → Nat) (yv : Nat → Int32) : Prop :=
  ∀ x y v, (∃ m, H m = true ∧ mx m = x ∧ my m = y ∧ mv m = v) ↔ gi_Y yk yx yy yv x y v
def gi_Ij (H : Nat → Bool) (mx my : Nat → Nat) : Prop := ∀ m m', H m = true → H m' = true → mx m = mx m' → my m = my m' → m = m'
section
variable {H : Nat → Bool} {mx my : Nat → Nat} {mv : Nat → Int32} {yk : Nat} {yx yy : Nat → Nat} {yv : Nat → Int32}
theorem gi_XY (E : gi_Eq H mx my mv yk yx yy yv) {m : Nat} (h : H m = true) : ∃ i, i < yk ∧ yx i = mx m ∧ yy i = my m ∧ yv i = mv m := (E _ _ _).mp ⟨m, h, rfl, rfl, rfl⟩
theorem gi_YX (E : gi_Eq H mx my mv yk yx yy yv) {i : Nat} (h : i < yk) : ∃ m, H m = true ∧ mx m = yx i ∧ my m = yy i ∧ mv m = yv i := (E _ _ _).mpr ⟨i, h, rfl, rfl, rfl⟩
theorem gi_pm3 (E : gi_Eq H mx my mv yk yx yy yv) (J : gi_Ij H mx my) (Y : gi_YI yk yx yy) {P : Nat → Nat → Prop} {W V : List Nat} (nW : W.Nodup) (eW : ∀ m, m ∈ W ↔ (H m = true ∧ P (mx m) (my m)))
    (nV : V.Nodup) (eV : ∀ i, i ∈ V ↔ (i < yk ∧ P (yx i) (yy i))) : (W.map (fun m => (mx m, my m, mv m))).Perm (V.map (fun i => (yx i, yy i, yv i))) := by
  refine (List.perm_ext_iff_of_nodup ?_ ?_).mpr (fun t => ?_)
  · refine List.pairwise_map.mpr (List.Pairwise.imp_of_mem (fun {a b} ha hb ne q => ?_) nW)
    simp only [Prod.mk.injEq] at q
    exact ne (J a b ((eW a).mp ha).1 ((eW b).mp hb).1 q.1 q.2.1)
  · refine List.pairwise_map.mpr (List.Pairwise.imp_of_mem (fun {a b} ha hb ne q => ?_) nV)
    simp only [Prod.mk.injEq] at q
    exact ne (Y.2.2 a b ((eV a).mp ha).1 ((eV b).mp hb).1 q.1 q.2.1)
  · rw [List.mem_map, List.mem_map]
    constructor
    · rintro ⟨m, hm, rfl⟩
      obtain ⟨h1, h2⟩ := (eW m).mp hm
      obtain ⟨i, i1, i2, i3, i4⟩ := gi_XY E h1
      exact ⟨i, (eV i).mpr ⟨i1, by rw [i2, i3]; exact h2⟩, by rw [i2, i3, i4]⟩
    · rintro ⟨i, hi, rfl⟩
      obtain ⟨h1, h2⟩ := (eV i).mp hi
      obtain ⟨m, i1, i2, i3, i4⟩ := gi_YX E h1
      exact ⟨m, (eW m).mpr ⟨i1, by rw [i2, i3]; exact h2⟩, by rw [i2, i3, i4]⟩
theorem gi_cEq (E : gi_Eq H mx my mv yk yx yy yv) (J : gi_Ij H mx my) (Y : gi_YI yk yx yy) {P : Nat → Nat → Prop} {W V : List Nat} (nW : W.Nodup) (eW : ∀ m, m ∈ W ↔ (H m = true ∧ P (mx m) (my m)))
    (nV : V.Nodup) (eV : ∀ i, i ∈ V ↔ (i < yk ∧ P (yx i) (yy i))) : V.length = W.length := by
  have := (gi_pm3 E J Y nW eW nV eV).length_eq
  rw [List.length_map, List.length_map] at this
  exact this.symm
def gi_s3 : List (Nat × Nat × Int32) → Int32
  | [] => 0
  | t :: l => gi_s3 l + t.2.2
theorem gi_s3_p {l l' : List (Nat × Nat × Int32)} (p : l.Perm l') : gi_s3 l = gi_s3 l' := by
  induction p with
  | nil => rfl
  | cons x _ ih => exact congrArg (· + x.2.2) ih
  | swap x y l =>
    show gi_s3 l + x.2.2 + y.2.2 = gi_s3 l + y.2.2 + x.2.2
    rw [Int32.add_assoc, Int32.add_comm x.2.2, ← Int32.add_assoc]
  | trans _ _ i1 i2 => exact i1.trans i2
theorem gi_sm3 (f g : Nat → Nat) (v : Nat → Int32) : ∀ W : List Nat, gi_sm v W = gi_s3 (W.map (fun m => (f m, g m, v m))) := by
  intro W
  induction W with
  | nil => rfl
  | cons m W ih =>
    show gi_sm v W + v m = gi_s3 (W.map (fun m => (f m, g m, v m))) + v m
    rw [ih]
theorem gi_sEq (E : gi_Eq H mx my mv yk yx yy yv) (J : gi_Ij H mx my) (Y : gi_YI yk yx yy) {P : Nat → Nat → Prop} {W V : List Nat} (nW : W.Nodup) (eW : ∀ m, m ∈ W ↔ (H m = true ∧ P (mx m) (my m)))
    (nV : V.Nodup) (eV : ∀ i, i ∈ V ↔ (i < yk ∧ P (yx i) (yy i))) : gi_sm yv V = gi_sm mv W := by
  rw [gi_sm3 mx my mv W, gi_sm3 yx yy yv V]
  exact (gi_s3_p (gi_pm3 E J Y nW eW nV eV)).symm
theorem gi_fEq (E : gi_Eq H mx my mv yk yx yy yv) {P : Nat → Nat → Prop} {W V : List Nat} {z z' : Int32} (eW : ∀ m, m ∈ W ↔ (H m = true ∧ P (mx m) (my m)))
    (eV : ∀ i, i ∈ V ↔ (i < yk ∧ P (yx i) (yy i))) (h : gi_Mn (fun m => 64 * mx m + my m) W z) (h' : gi_Mn (fun m => 64 * yx m + yy m) V z') : z' = z := by
  have a : ∀ m, m ∈ W → ∃ i, i ∈ V ∧ yx i = mx m ∧ yy i = my m := fun m hm => by
    obtain ⟨h1, h2⟩ := (eW m).mp hm
    obtain ⟨i, i1, i2, i3, i4⟩ := gi_XY E h1
    exact ⟨i, (eV i).mpr ⟨i1, by rw [i2, i3]; exact h2⟩, i2, i3⟩
  have b : ∀ i, i ∈ V → ∃ m, m ∈ W ∧ mx m = yx i ∧ my m = yy i := fun i hi => by
    obtain ⟨h1, h2⟩ := (eV i).mp hi
    obtain ⟨m, i1, i2, i3, i4⟩ := gi_YX E h1
    exact ⟨m, (eW m).mpr ⟨i1, by rw [i2, i3]; exact h2⟩, i2, i3⟩
  rcases h with ⟨e1, e2⟩ | ⟨m, hm, e2, hl⟩
  · rcases h' with ⟨e3, e4⟩ | ⟨i, hi, e4, hl'⟩
    · rw [e2, e4]
    · obtain ⟨m, hm, -⟩ := b i hi
      rw [e1] at hm
      exact absurd hm List.not_mem_nil
  · rcases h' with ⟨e3, e4⟩ | ⟨i, hi, e4, hl'⟩
    · obtain ⟨i, hi, -⟩ := a m hm
      rw [e3] at hi
      exact absurd hi List.not_mem_nil
    · obtain ⟨i', hi', f1, f2⟩ := a m hm
      obtain ⟨m', hm', g1, g2⟩ := b i hi
      have l1 := hl m' hm'
      have l2 := hl' i' hi'
      dsimp only at l1 l2 e2 e4
      rw [g1, g2] at l1
      rw [f1, f2] at l2
      rw [e2, e4]
      exact congrArg nI (by omega)
theorem gi_len {kh fh : Nat} {nx : Nat → Nat} (Q : gi_Fr kh fh nx H) (hin : ∀ m, H m = true → m < 40) (E : gi_Eq H mx my mv yk yx yy yv) (J : gi_Ij H mx my) (Y : gi_YI yk yx yy) : kh = yk := by
  have nW : ((List.range 40).filter H).Nodup := List.Pairwise.sublist List.filter_sublist List.nodup_range
  have eW : ∀ m, m ∈ (List.range 40).filter H ↔ (H m = true ∧ (fun _ _ : Nat => True) (mx m) (my m)) := fun m => by
    rw [List.mem_filter, List.mem_range]
    exact ⟨fun q => ⟨q.2, trivial⟩, fun q => ⟨hin m q.1, q.1⟩⟩
  have c := gi_cEq (P := fun _ _ => True) E J Y nW eW (V := List.range yk) List.nodup_range (fun i => by
    rw [List.mem_range]
    exact ⟨fun q => ⟨q, trivial⟩, fun q => q.1⟩)
  rw [List.length_range] at c
  obtain ⟨F, -, n, e, s⟩ := Q
  have p : ((List.range 40).filter H ++ F).Perm (List.range 40) := by
    refine (List.perm_ext_iff_of_nodup (List.nodup_append.mpr ⟨nW, n, fun a ha b hb q => ?_⟩) List.nodup_range).mpr (fun m => ?_)
    · have h1 := ((eW a).mp ha).1
      have h2 := ((e b).mp hb).2
      rw [q, h2] at h1
      cases h1
    · rw [List.mem_append, eW m, e m, List.mem_range]
      constructor
      · rintro (q | q)
        · exact hin m q.1
        · exact q.1
      · intro q
        cases z : H m with
        | false => exact Or.inr ⟨q, rfl⟩
        | true => exact Or.inl ⟨rfl, trivial⟩
  have := p.length_eq
  rw [List.length_append, List.length_range] at this
  omega
/-! the contents after a call -/
theorem gi_Eq_set (E : gi_Eq H mx my mv yk yx yy yv) (J : gi_Ij H mx my) (Y : gi_YI yk yx yy) {m i : Nat} {v : Int32} (hm : H m = true) (hi : i < yk) (e1 : yx i = mx m) (e2 : yy i = my m) :
    gi_Eq H mx my (upd mv m v) yk yx yy (upd yv i v) := by
  intro x y w
  constructor
  · rintro ⟨a, ha, f1, f2, f3⟩
    by_cases z : a = m
    · rw [z, gi_upds] at f3
      rw [z] at f1 f2
      exact ⟨i, hi, e1.trans f1, e2.trans f2, by rw [gi_upds]; exact f3⟩
    · rw [gi_updn z] at f3
      obtain ⟨j, hj, g1, g2, g3⟩ := gi_XY E ha
      have ne : j ≠ i := fun q => z (J a m ha hm (by rw [← g1, q, e1]) (by rw [← g2, q, e2]))
      exact ⟨j, hj, g1.trans f1, g2.trans f2, by rw [gi_updn ne, g3]; exact f3⟩
  · rintro ⟨j, hj, f1, f2, f3⟩
    by_cases z : j = i
    · rw [z, gi_upds] at f3
      rw [z] at f1 f2
      exact ⟨m, hm, e1.symm.trans f1, e2.symm.trans f2, by rw [gi_upds]; exact f3⟩
    · rw [gi_updn z] at f3
      obtain ⟨a, ha, g1, g2, g3⟩ := gi_YX E hj
      have ne : a ≠ m := fun q => z (Y.2.2 j i hj hi (by rw [← g1, q, e1]) (by rw [← g2, q, e2]))
      exact ⟨a, ha, g1.trans f1, g2.trans f2, by rw [gi_updn ne, g3]; exact f3⟩
theorem gi_Eq_new (E : gi_Eq H mx my mv yk yx yy yv) {m x0 y0 : Nat} {v : Int32} (hm : H m = false) : gi_Eq (gi_hs H m true) (gi_up mx m x0) (gi_up my m y0) (upd mv m v) (yk + 1) (gi_up yx yk x0) (gi_up yy yk y0) (upd yv yk v) := by
  intro x y w
  constructor
  · rintro ⟨a, ha, f1, f2, f3⟩
    by_cases z : a = m
    · rw [z, gi_us] at f1 f2
      rw [z, gi_upds] at f3
      exact ⟨yk, Nat.lt_succ_self _, by rw [gi_us]; exact f1, by rw [gi_us]; exact f2, by rw [gi_upds]; exact f3⟩
    · rw [gi_hsn z] at ha
      rw [gi_un z] at f1 f2
      rw [gi_updn z] at f3
      obtain ⟨j, hj, g1, g2, g3⟩ := gi_XY E ha
      have ne : j ≠ yk := by omega
      exact ⟨j, by omega, by rw [gi_un ne, g1]; exact f1, by rw [gi_un ne, g2]; exact f2, by rw [gi_updn ne, g3]; exact f3⟩
  · rintro ⟨j, hj, f1, f2, f3⟩
    by_cases z : j = yk
    · rw [z, gi_us] at f1 f2
      rw [z, gi_upds] at f3
      exact ⟨m, gi_hss, by rw [gi_us]; exact f1, by rw [gi_us]; exact f2, by rw [gi_upds]; exact f3⟩
    · rw [gi_un z] at f1 f2
      rw [gi_updn z] at f3
      obtain ⟨a, ha, g1, g2, g3⟩ := gi_YX E (i := j) (by omega)
      have ne : a ≠ m := fun q => by rw [q, hm] at ha; cases ha
      exact ⟨a, by rw [gi_hsn ne]; exact ha, by rw [gi_un ne, g1]; exact f1, by rw [gi_un ne, g2]; exact f2, by rw [gi_updn ne, g3]; exact f3⟩
theorem gi_YI_new (Y : gi_YI yk yx yy) {x y : Nat} (hx : x < 64) (hy : y < 64) (hk : yk < 40) (no : ∀ i, i < yk → ¬ (yx i = x ∧ yy i = y)) : gi_YI (yk + 1) (gi_up yx yk x) (gi_up yy yk y) := by
  obtain ⟨Y1, Y2, Y3⟩ := Y
  refine ⟨by omega, fun j hj => ?_, fun j l hj hl e1 e2 => ?_⟩
  · by_cases z : j = yk
    · rw [z, gi_us, gi_us]; exact ⟨hx, hy⟩
    · rw [gi_un z, gi_un z]; exact Y2 j (by omega)
  · by_cases z : j = yk
    · by_cases w : l = yk
      · rw [z, w]
      · rw [z, gi_us, gi_un w] at e1 e2
        exact absurd ⟨e1.symm, e2.symm⟩ (no l (by omega))
    · by_cases w : l = yk
      · rw [w, gi_us, gi_un z] at e1 e2
        exact absurd ⟨e1, e2⟩ (no j (by omega))
      · rw [gi_un z, gi_un w] at e1 e2
        exact Y3 j l (by omega) (by omega) e1 e2
theorem gi_Eq_rem (E : gi_Eq H mx my mv yk yx yy yv) (J : gi_Ij H mx my) {yk' : Nat} {yx' yy' : Nat → Nat} {yv' : Nat → Int32} {m i : Nat} (hm : H m = true) (e1 : yx i = mx m) (e2 : yy i = my m)
    (e : ∀ x y v, gi_Y yk' yx' yy' yv' x y v ↔ (gi_Y yk yx yy yv x y v ∧ ¬ (x = yx i ∧ y = yy i))) : gi_Eq (gi_hs H m false) mx my mv yk' yx' yy' yv' := by
  intro x y w
  rw [e, ← E x y w]
  constructor
  · rintro ⟨a, ha, f1, f2, f3⟩
    by_cases z : a = m
    · rw [z, gi_hss] at ha; cases ha
    · rw [gi_hsn z] at ha
      refine ⟨⟨a, ha, f1, f2, f3⟩, fun q => z (J a m ha hm ?_ ?_)⟩
      · rw [f1, q.1, e1]
      · rw [f2, q.2, e2]
  · rintro ⟨⟨a, ha, f1, f2, f3⟩, no⟩
    have z : a ≠ m := fun q => no ⟨by rw [← f1, q, e1], by rw [← f2, q, e2]⟩
    exact ⟨a, by rw [gi_hsn z]; exact ha, f1, f2, f3⟩
theorem gi_Eq_clr (E : gi_Eq H mx my mv yk yx yy yv) {P : Nat → Nat → Prop} {H' : Nat → Bool} {yk' : Nat} {yx' yy' : Nat → Nat} {yv' : Nat → Int32} (h : ∀ m, H' m = true ↔ (H m = true ∧ ¬ P (mx m) (my m)))
    (e : ∀ x y v, gi_Y yk' yx' yy' yv' x y v ↔ (gi_Y yk yx yy yv x y v ∧ ¬ P x y)) : gi_Eq H' mx my mv yk' yx' yy' yv' := by
  intro x y w
  rw [e, ← E x y w]
  constructor
  · rintro ⟨a, ha, f1, f2, f3⟩
    obtain ⟨h1, h2⟩ := (h a).mp ha
    exact ⟨⟨a, h1, f1, f2, f3⟩, by rw [← f1, ← f2]; exact h2⟩
  · rintro ⟨⟨a, ha, f1, f2, f3⟩, no⟩
    exact ⟨a, (h a).mpr ⟨ha, by rw [f1, f2]; exact no⟩, f1, f2, f3⟩
end
end
section
theorem gi_ch0 {nx : Nat → Nat} (h : ∀ j, j < 40 → nx j = if j = 39 then 0 else j + 2) : ∀ d i : Nat, i + d = 40 → gi_Ch nx (List.range' i d) (if d = 0 then 0 else i + 1) := by
  intro d
  induction d with
  | zero => intro i _; exact rfl
  | succ d ih =>
    intro i hi
    rw [List.range'_succ]
    refine ⟨rfl, ?_⟩
    have g := ih (i + 1) (by omega)
    rw [h i (by omega)]
    by_cases z : i = 39
    · rw [if_pos z]
      rw [if_pos (by omega)] at g
      exact g
    · rw [if_neg z]
      rw [if_neg (by omega)] at g
      exact g
theorem gi_XI0 {nx : Nat → Nat} {b : Nat} (hb : b < 64) (h : ∀ j, j < 40 → nx j = if j = 39 then 0 else j + 2) :
    gi_XI 0 1 1 1 (0 + 1) (fun _ => 0) (fun _ => 0) nx (gi_up (fun _ => 0) 1 64) (gi_up (fun _ => 0) 1 64) (gi_up (fun _ => 0) 0 b) (gi_up (fun _ => 0) b 1) (gi_up (fun _ => 1) b 0) (gi_up (fun _ => 0) b 0) (gi_up (fun _ => 0) b 0) (gi_up (fun _ => 0) b 0) (gi_up (fun _ => 0) b 0) (gi_up (fun _ => 0) b 0) (fun _ => false) := by
  have z : ∀ j, gi_up (fun _ => 0) b 0 j = 0 := fun j => by
    by_cases e : j = b
    · rw [e, gi_us]
    · rw [gi_un e]
  have B : gi_Bd 1 (gi_up (fun _ => 0) 1 64) := by
    refine ⟨by omega, by omega, gi_un (by omega), gi_us, fun k hk => ?_⟩
    have e : k = 0 := by omega
    rw [e, gi_us, gi_un (by omega)]
    omega
  have iu0 : ∀ d, gi_up (fun _ => 0) b 1 d = 1 → d = b := fun d h => by
    by_cases e : d = b
    · exact e
    · rw [gi_un e] at h; cases h
  refine ⟨B, B, ⟨fun c r hc hr => ?_, fun d hd1 hu => ?_, fun d hd1 => ?_⟩, ?_, ⟨List.range' 0 40, ?_, List.nodup_range', fun m => ?_, ?_⟩, fun d hd1 hu => ?_, fun m hm => ?_, fun m m' hm => ?_⟩
  · have e1 : c = 0 := by omega
    have e2 : r = 0 := by omega
    rw [e1, e2, show 16 * 0 + 0 = 0 from rfl, gi_us, z, gi_us]
    exact ⟨hb, rfl, Nat.le_refl _, Nat.le_refl _, Nat.le_refl _, Nat.le_refl _⟩
  · have e := iu0 d hu
    rw [z]
    refine ⟨Nat.le_refl _, Nat.le_refl _, fun c r h1 h2 h3 h4 => ?_⟩
    have e1 : c = 0 := by omega
    have e2 : r = 0 := by omega
    rw [e1, e2, e]
    exact gi_us
  · rw [z]
    refine ⟨?_, by omega, by omega, by omega, by omega⟩
    by_cases e : d = b
    · rw [e, gi_us]; exact Nat.le_refl _
    · rw [gi_un e]; exact Nat.zero_le _
  · have := gi_ct_up (f := fun _ => 0) (k := b) (x := 1) (n := 64) hb
    have c0 : gi_ct (fun _ => 0) 64 = 0 := by decide
    rw [c0] at this
    omega
  · exact gi_ch0 h 40 0 rfl
  · rw [List.mem_range'_1]
    exact ⟨fun q => ⟨by omega, rfl⟩, fun q => ⟨Nat.zero_le _, by omega⟩⟩
  · rw [List.length_range']
  · have e := iu0 d hu
    refine ⟨[], ?_, List.nodup_nil, fun m => ⟨fun q => absurd q List.not_mem_nil, fun q => nomatch q.2.1⟩, z d⟩
    rw [e]
    exact gi_us
  · cases hm
  · cases hm
theorem gi_init119 {post : SX → Prop} (hp : ∀ u, gi_St (fun _ => false) (fun _ => 0) (fun _ => 0) (fun _ => 0) 0 u → post u) :
    ∀ (d i n : Nat) (nx : Nat → Nat), i + d = 40 → d < n → (∀ j, j < i → nx j = if j = 39 then 0 else j + 2) →
      wX_init_119 post 0 0 0 0 0 0 0 0 0 0 0 0 n (nI i) (fun _ => 0) (fun _ => 0) (fun _ => 0) (gi_pr nx) (fun _ => 0) (fun _ => 0) (fun _ => 0) (fun _ => 0) (fun _ => 0) (fun _ => 0) (fun _ => 0) (fun _ => 0) (fun _ => 0) (fun _ => 0) := by
  intro d
  induction d with
  | zero =>
    intro i n nx hi hn h
    obtain ⟨n, rfl⟩ := gi_S hn
    refine br_t (nI_le (a := 40) (by omega) (by omega)) ?_
    intro a3 e3 a5 e5
    have f3 : a3 = gi_ar (gi_up (fun _ => 0) 1 64) := e3.trans (gi_ua (fun _ => 0) 1 64)
    have f5 : a5 = gi_ar (gi_up (fun _ => 0) 1 64) := e5.trans (gi_ua (fun _ => 0) 1 64)
    subst f3 f5
    refine gi_nb (kh := 0) (fh := 1) (kC := 1) (kR := 1) (kU := 0) (mx := fun _ => 0) (my := fun _ => 0) (mv := fun _ => 0) (nx := nx) (cf := gi_up (fun _ => 0) 1 64) (rf := gi_up (fun _ => 0) 1 64) (bo := fun _ => 0) (iu := fun _ => 0) (hd := fun _ => 1) (sz := fun _ => 0) (fc := fun _ => 0) (lc := fun _ => 0) (fr := fun _ => 0) (lr := fun _ => 0) (fun k _ => Nat.zero_le _) ⟨0, by omega, rfl⟩ (fun b hb _ => ?_)
    intro a ea
    have fa : a = gi_ar (gi_up (fun _ => 0) 0 b) := ea.trans (gi_ua (fun _ => 0) 0 b)
    subst fa
    exact hp _ (gi_St_i (gi_XI0 hb (fun j hj => h j (by omega))))
  | succ d ih =>
    intro i n nx hi hn h
    obtain ⟨n, rfl⟩ := gi_S hn
    have v1 : vp_in (nI i) 40 := vp_in_nI (by omega) (by decide)
    refine br_f (nI_ge (b := 40) (by omega) (by decide)) ?_
    refine pk_eq i 39 (fun z => And.intro v1 ?_) (fun z => And.intro v1 ?_) rfl rfl (by omega) (by omega)
    · intro a ea x ex
      rw [gi_wm nx (by omega)] at ea
      rw [nI_1] at ex
      subst ea ex
      refine ih (i + 1) n _ (by omega) (by omega) (fun j hj => ?_)
      by_cases w : j = i
      · rw [w, gi_us, if_pos z]
      · rw [gi_un w]; exact h j (by omega)
    · intro a ea x ex
      rw [nI_1, gi_wn nx _ (by omega)] at ea
      rw [nI_1] at ex
      subst ea ex
      refine ih (i + 1) n _ (by omega) (by omega) (fun j hj => ?_)
      by_cases w : j = i
      · rw [w, gi_us, if_neg z]
      · rw [gi_un w]; exact h j (by omega)
theorem gi_init {post : SX → Prop} (hp : ∀ u, gi_St (fun _ => false) (fun _ => 0) (fun _ => 0) (fun _ => 0) 0 u → post u) : wpX_init post := by
  have e0 : gi_pr (fun _ => 1) = fun _ => 0 := by
    funext j
    show gi_pI 1 = 0
    rw [gi_p1]
    exact nI_0
  have k := gi_init119 hp 40 0 41 (fun _ => 1) (by omega) (by omega) (fun j hj => absurd hj (Nat.not_lt_zero j))
  rw [e0] at k
  exact Exists.intro 41 k
end
section
/-- the component holds marks H in its pool, the reference yk of them in its list, and their places and values are the same -/
def i_Rel (k : Nat) (u : SX) (v : SY) : Prop :=
  ∃ (H : Nat → Bool) (mx my : Nat → Nat) (mv : Nat → Int32) (kh yk : Nat) (yx yy : Nat → Nat) (yv : Nat → Int32), gi_St H mx my mv kh u ∧ v = (nI yk, gi_ar yx, gi_ar yy, yv) ∧ gi_YI yk yx yy ∧ gi_Eq H mx my mv yk yx yy yv
theorem gi_rel_e {P : SX → SY → Prop} {k : Nat} {u : SX} {v : SY} (I : i_Rel k u v)
    (h : ∀ (H : Nat → Bool) (mx my : Nat → Nat) (mv : Nat → Int32) (yk : Nat) (yx yy : Nat → Nat) (yv : Nat → Int32) (kh fh kC kR kU : Nat) (wa wb wc wd we wf wg : Int32) (nx cf rf bo iu hd sz fc lc fr lr : Nat → Nat),
      gi_XI kh fh kC kR kU mx my nx cf rf bo iu hd sz fc lc fr lr H → gi_YI yk yx yy → gi_Eq H mx my mv yk yx yy yv → kh = yk → P (nI kh, gi_pI fh, nI kC, nI kR, nI kU, wa, wb, wc, wd, we, wf, wg, gi_ar mx, gi_ar my, mv, gi_pr nx, gi_ar cf, gi_ar rf, gi_ar bo, gi_ar iu, gi_pr hd, gi_ar sz, gi_ar fc, gi_ar lc, gi_ar fr, gi_ar lr) (nI yk, gi_ar yx, gi_ar yy, yv)) : P u v := by
  obtain ⟨H, mx, my, mv, kh, yk, yx, yy, yv, hu, hv, Y, E⟩ := I
  subst hv
  refine hu (fun u => P u (nI yk, gi_ar yx, gi_ar yy, yv)) ?_
  intro fh kC kR kU wa wb wc wd we wf wg nx cf rf bo iu hd sz fc lc fr lr I
  exact h H mx my mv yk yx yy yv kh fh kC kR kU wa wb wc wd we wf wg nx cf rf bo iu hd sz fc lc fr lr I Y E (gi_len I.2.2.2.2.1 (fun m hm => (I.2.2.2.2.2.2.1 m hm).1) E I.2.2.2.2.2.2.2 Y)
theorem gi_rel_i {H : Nat → Bool} {mx my : Nat → Nat} {mv : Nat → Int32} {kh yk : Nat} {yx yy : Nat → Nat} {yv : Nat → Int32} {u : SX} (k : Nat) (hu : gi_St H mx my mv kh u) (Y : gi_YI yk yx yy) (E : gi_Eq H mx my mv yk yx yy yv) : i_Rel k u (nI yk, gi_ar yx, gi_ar yy, yv) :=
  ⟨H, mx, my, mv, kh, yk, yx, yy, yv, hu, rfl, Y, E⟩
theorem gi_nIp {a b x y : Nat} (ha : a < 64) (hb : b < 64) (hx : x < 64) (hy : y < 64) : (nI a = nI x ∧ nI b = nI y) ↔ (a = x ∧ b = y) := by
  rw [nI_eq (by omega) (by omega), nI_eq (by omega) (by omega)]
theorem i_up {k : Nat} {u : SX} {v : SY} (h : i_Rel k u v) : i_Rel (k + 5) u v := h
theorem i_vc0 : wpX_init (fun u => wpY_init (fun v => i_Rel 0 u v)) := by
  refine gi_init (fun u hu => ?_)
  exact gi_rel_i (yk := 0) (yx := fun _ => 0) (yy := fun _ => 0) (yv := fun _ => 0) 0 hu ⟨by omega, fun i hi => absurd hi (Nat.not_lt_zero i), fun i j hi => absurd hi (Nat.not_lt_zero i)⟩
    (fun x y v => ⟨fun ⟨m, hm, _⟩ => (nomatch hm), fun ⟨i, hi, _⟩ => absurd hi (Nat.not_lt_zero i)⟩)
theorem i_vc_put {k : Nat} {u : SX} {v : SY} (I : i_Rel k u v) (hk : k + 5 ≤ 2560) (v1 : Int32) (v2 : Int32) (v3 : Int32) : wpX_put (fun r u' => wpY_put (fun r' v' => r' = r ∧ i_Rel (k + 5) u' v') v v1 v2 v3) u v1 v2 v3 := by
  refine gi_rel_e (P := fun u v => wpX_put (fun r u' => wpY_put (fun r' v' => r' = r ∧ i_Rel (k + 5) u' v') v v1 v2 v3) u v1 v2 v3) I ?_
  intro H mx my mv yk yx yy yv kh fh kC kR kU wa wb wc wd we wf wg nx cf rf bo iu hd sz fc lc fr lr I Y E ek
  have J := I.2.2.2.2.2.2.2
  rcases gi_board v1 v2 with ⟨x, y, hx, hy, e1, e2⟩ | ho
  · subst e1 e2
    refine gi_put hx hy I (fun m hm m40 f1 f2 u hu => ?_) (fun no hf u hu => ?_) (fun no hf m m40 hm u hu => ?_)
    · refine gi_yput hx hy Y (fun i hi g1 g2 => ⟨by rw [ek], ?_⟩) (fun no' _ => ?_) (fun no' _ => ?_)
      · exact gi_rel_i _ hu Y (gi_Eq_set E J Y hm hi (g1.trans f1.symm) (g2.trans f2.symm))
      · obtain ⟨i, hi, g1, g2, -⟩ := gi_XY E hm
        exact absurd ⟨g1.trans f1, g2.trans f2⟩ (no' i hi)
      · obtain ⟨i, hi, g1, g2, -⟩ := gi_XY E hm
        exact absurd ⟨g1.trans f1, g2.trans f2⟩ (no' i hi)
    · refine gi_yput hx hy Y (fun i hi g1 g2 => ?_) (fun no' _ => ⟨rfl, gi_rel_i _ hu Y E⟩) (fun no' _ => by omega)
      obtain ⟨m, hm, f1, f2, -⟩ := gi_YX E hi
      exact absurd ⟨f1.trans g1, f2.trans g2⟩ (no m hm)
    · refine gi_yput hx hy Y (fun i hi g1 g2 => ?_) (fun no' _ => by omega) (fun no' hl => ⟨by rw [ek], ?_⟩)
      · obtain ⟨m, hm, f1, f2, -⟩ := gi_YX E hi
        exact absurd ⟨f1.trans g1, f2.trans g2⟩ (no m hm)
      · exact gi_rel_i _ hu (gi_YI_new Y hx hy hl no') (gi_Eq_new E hm)
  · exact gi_put0 ho I (fun u hu => gi_yput0 ho ⟨rfl, gi_rel_i _ hu Y E⟩)
theorem gi_yoff {yk : Nat} {yx yy : Nat → Nat} (Y : gi_YI yk yx yy) {x y : Int32} (ho : gi_Off x y) {i : Nat} (hi : i < yk) (e1 : nI (yx i) = x) (e2 : nI (yy i) = y) : False := by
  subst e1 e2
  obtain ⟨y1, y2⟩ := Y.2.1 i hi
  exact gi_offN y1 y2 ho
theorem i_vc_remove {k : Nat} {u : SX} {v : SY} (I : i_Rel k u v) (hk : k + 5 ≤ 2560) (v1 : Int32) (v2 : Int32) : wpX_remove (fun r u' => wpY_remove (fun r' v' => r' = r ∧ i_Rel (k + 5) u' v') v v1 v2) u v1 v2 := by
  refine gi_rel_e (P := fun u v => wpX_remove (fun r u' => wpY_remove (fun r' v' => r' = r ∧ i_Rel (k + 5) u' v') v v1 v2) u v1 v2) I ?_
  intro H mx my mv yk yx yy yv kh fh kC kR kU wa wb wc wd we wf wg nx cf rf bo iu hd sz fc lc fr lr I Y E ek
  have J := I.2.2.2.2.2.2.2
  rcases gi_board v1 v2 with ⟨x, y, hx, hy, e1, e2⟩ | ho
  · subst e1 e2
    have eqv : ∀ i, i < yk → ((nI (yx i) = nI x ∧ nI (yy i) = nI y) ↔ (yx i = x ∧ yy i = y)) := fun i hi => gi_nIp (Y.2.1 i hi).1 (Y.2.1 i hi).2 hx hy
    refine gi_rem hx hy I (fun m hm m40 f1 f2 u hu => ?_) (fun no u hu => ?_)
    · refine gi_yrem Y.1 (fun i hi g1 g2 => ⟨by rw [ek], ?_⟩) (fun no' => ?_)
      · obtain ⟨g1, g2⟩ := (eqv i hi).mp ⟨g1, g2⟩
        obtain ⟨Y', e⟩ := gi_dropY (yv := yv) Y hi
        exact gi_rel_i _ hu Y' (gi_Eq_rem E J hm (g1.trans f1.symm) (g2.trans f2.symm) e)
      · obtain ⟨i, hi, g1, g2, -⟩ := gi_XY E hm
        exact absurd ((eqv i hi).mpr ⟨g1.trans f1, g2.trans f2⟩) (no' i hi)
    · refine gi_yrem Y.1 (fun i hi g1 g2 => ?_) (fun no' => ⟨rfl, gi_rel_i _ hu Y E⟩)
      obtain ⟨g1, g2⟩ := (eqv i hi).mp ⟨g1, g2⟩
      obtain ⟨m, hm, f1, f2, -⟩ := gi_YX E hi
      exact absurd ⟨f1.trans g1, f2.trans g2⟩ (no m hm)
  · exact gi_rem0 ho I (fun u hu => gi_yrem Y.1 (fun i hi g1 g2 => (gi_yoff Y ho hi g1 g2).elim) (fun no' => ⟨rfl, gi_rel_i _ hu Y E⟩))
theorem i_vc_has {k : Nat} {u : SX} {v : SY} (I : i_Rel k u v) (hk : k + 5 ≤ 2560) (v1 : Int32) (v2 : Int32) : wpX_has (fun r => wpY_has (fun r' => r' = r ∧ i_Rel (k + 5) u v) v v1 v2) u v1 v2 := by
  refine gi_rel_e (P := fun u v => wpX_has (fun r => wpY_has (fun r' => r' = r ∧ i_Rel (k + 5) u v) v v1 v2) u v1 v2) I ?_
  intro H mx my mv yk yx yy yv kh fh kC kR kU wa wb wc wd we wf wg nx cf rf bo iu hd sz fc lc fr lr I Y E ek
  have R : i_Rel (k + 5) (nI kh, gi_pI fh, nI kC, nI kR, nI kU, wa, wb, wc, wd, we, wf, wg, gi_ar mx, gi_ar my, mv, gi_pr nx, gi_ar cf, gi_ar rf, gi_ar bo, gi_ar iu, gi_pr hd, gi_ar sz, gi_ar fc, gi_ar lc, gi_ar fr, gi_ar lr) (nI yk, gi_ar yx, gi_ar yy, yv) := gi_rel_i _ (gi_St_i I) Y E
  rcases gi_board v1 v2 with ⟨x, y, hx, hy, e1, e2⟩ | ho
  · subst e1 e2
    have eqv : ∀ i, i < yk → ((nI (yx i) = nI x ∧ nI (yy i) = nI y) ↔ (yx i = x ∧ yy i = y)) := fun i hi => gi_nIp (Y.2.1 i hi).1 (Y.2.1 i hi).2 hx hy
    refine gi_has hx hy I (fun m hm f1 f2 => ?_) (fun no => ?_)
    · refine gi_yhas Y.1 (fun i hi g1 g2 => ⟨rfl, R⟩) (fun no' => ?_)
      obtain ⟨i, hi, g1, g2, -⟩ := gi_XY E hm
      exact absurd ((eqv i hi).mpr ⟨g1.trans f1, g2.trans f2⟩) (no' i hi)
    · refine gi_yhas Y.1 (fun i hi g1 g2 => ?_) (fun no' => ⟨rfl, R⟩)
      obtain ⟨g1, g2⟩ := (eqv i hi).mp ⟨g1, g2⟩
      obtain ⟨m, hm, f1, f2, -⟩ := gi_YX E hi
      exact absurd ⟨f1.trans g1, f2.trans g2⟩ (no m hm)
  · exact gi_has0 ho (gi_yhas Y.1 (fun i hi g1 g2 => (gi_yoff Y ho hi g1 g2).elim) (fun no' => ⟨rfl, R⟩))
theorem i_vc_value {k : Nat} {u : SX} {v : SY} (I : i_Rel k u v) (hk : k + 5 ≤ 2560) (v1 : Int32) (v2 : Int32) : wpX_value (fun r => wpY_value (fun r' => r' = r ∧ i_Rel (k + 5) u v) v v1 v2) u v1 v2 := by
  refine gi_rel_e (P := fun u v => wpX_value (fun r => wpY_value (fun r' => r' = r ∧ i_Rel (k + 5) u v) v v1 v2) u v1 v2) I ?_
  intro H mx my mv yk yx yy yv kh fh kC kR kU wa wb wc wd we wf wg nx cf rf bo iu hd sz fc lc fr lr I Y E ek
  have J := I.2.2.2.2.2.2.2
  have R : i_Rel (k + 5) (nI kh, gi_pI fh, nI kC, nI kR, nI kU, wa, wb, wc, wd, we, wf, wg, gi_ar mx, gi_ar my, mv, gi_pr nx, gi_ar cf, gi_ar rf, gi_ar bo, gi_ar iu, gi_pr hd, gi_ar sz, gi_ar fc, gi_ar lc, gi_ar fr, gi_ar lr) (nI yk, gi_ar yx, gi_ar yy, yv) := gi_rel_i _ (gi_St_i I) Y E
  rcases gi_board v1 v2 with ⟨x, y, hx, hy, e1, e2⟩ | ho
  · subst e1 e2
    have eqv : ∀ i, i < yk → ((nI (yx i) = nI x ∧ nI (yy i) = nI y) ↔ (yx i = x ∧ yy i = y)) := fun i hi => gi_nIp (Y.2.1 i hi).1 (Y.2.1 i hi).2 hx hy
    refine gi_val hx hy I (fun m hm f1 f2 => ?_) (fun no => ?_)
    · refine gi_yval Y.1 (fun i hi g1 g2 => ⟨?_, R⟩) (fun no' => ?_)
      · obtain ⟨g1, g2⟩ := (eqv i hi).mp ⟨g1, g2⟩
        obtain ⟨a, ha, h1, h2, h3⟩ := gi_YX E hi
        rw [← h3, J a m ha hm ((h1.trans g1).trans f1.symm) ((h2.trans g2).trans f2.symm)]
      · obtain ⟨i, hi, g1, g2, -⟩ := gi_XY E hm
        exact absurd ((eqv i hi).mpr ⟨g1.trans f1, g2.trans f2⟩) (no' i hi)
    · refine gi_yval Y.1 (fun i hi g1 g2 => ?_) (fun no' => ⟨rfl, R⟩)
      obtain ⟨g1, g2⟩ := (eqv i hi).mp ⟨g1, g2⟩
      obtain ⟨m, hm, f1, f2, -⟩ := gi_YX E hi
      exact absurd ⟨f1.trans g1, f2.trans g2⟩ (no m hm)
  · exact gi_val0 ho (gi_yval Y.1 (fun i hi g1 g2 => (gi_yoff Y ho hi g1 g2).elim) (fun no' => ⟨rfl, R⟩))
theorem i_vc_count {k : Nat} {u : SX} {v : SY} (I : i_Rel k u v) (hk : k + 5 ≤ 2560) (v1 : Int32) (v2 : Int32) (v3 : Int32) (v4 : Int32) : wpX_count (fun r u' => wpY_count (fun r' => r' = r ∧ i_Rel (k + 5) u' v) v v1 v2 v3 v4) u v1 v2 v3 v4 := by
  refine gi_rel_e (P := fun u v => wpX_count (fun r u' => wpY_count (fun r' => r' = r ∧ i_Rel (k + 5) u' v) v v1 v2 v3 v4) u v1 v2 v3 v4) I ?_
  intro H mx my mv yk yx yy yv kh fh kC kR kU wa wb wc wd we wf wg nx cf rf bo iu hd sz fc lc fr lr I Y E ek
  have J := I.2.2.2.2.2.2.2
  refine gi_cnt I (fun W wa wb wc wd we wf wg nW eW => ?_)
  refine gi_ycnt Y.1 (fun V nV eV => ⟨?_, gi_rel_i _ (gi_St_i I) Y E⟩)
  rw [gi_cEq (P := fun x y => gi_bt (nI x) v1 v3 ∧ gi_bt (nI y) v2 v4) E J Y nW eW nV eV]
theorem i_vc_sum {k : Nat} {u : SX} {v : SY} (I : i_Rel k u v) (hk : k + 5 ≤ 2560) (v1 : Int32) (v2 : Int32) (v3 : Int32) (v4 : Int32) : wpX_sum (fun r u' => wpY_sum (fun r' => r' = r ∧ i_Rel (k + 5) u' v) v v1 v2 v3 v4) u v1 v2 v3 v4 := by
  refine gi_rel_e (P := fun u v => wpX_sum (fun r u' => wpY_sum (fun r' => r' = r ∧ i_Rel (k + 5) u' v) v v1 v2 v3 v4) u v1 v2 v3 v4) I ?_
  intro H mx my mv yk yx yy yv kh fh kC kR kU wa wb wc wd we wf wg nx cf rf bo iu hd sz fc lc fr lr I Y E ek
  have J := I.2.2.2.2.2.2.2
  refine gi_sum I (fun W wa wb wc wd we wf wg nW eW => ?_)
  exact gi_ysum Y.1 (fun V nV eV => ⟨gi_sEq (P := fun x y => gi_bt (nI x) v1 v3 ∧ gi_bt (nI y) v2 v4) E J Y nW eW nV eV, gi_rel_i _ (gi_St_i I) Y E⟩)
theorem i_vc_first {k : Nat} {u : SX} {v : SY} (I : i_Rel k u v) (hk : k + 5 ≤ 2560) (v1 : Int32) (v2 : Int32) (v3 : Int32) (v4 : Int32) : wpX_first (fun r u' => wpY_first (fun r' => r' = r ∧ i_Rel (k + 5) u' v) v v1 v2 v3 v4) u v1 v2 v3 v4 := by
  refine gi_rel_e (P := fun u v => wpX_first (fun r u' => wpY_first (fun r' => r' = r ∧ i_Rel (k + 5) u' v) v v1 v2 v3 v4) u v1 v2 v3 v4) I ?_
  intro H mx my mv yk yx yy yv kh fh kC kR kU wa wb wc wd we wf wg nx cf rf bo iu hd sz fc lc fr lr I Y E ek
  refine gi_fst I (fun W z wa wb wc wd we wf wg nW eW hM => ?_)
  exact gi_yfst Y (fun V z' nV eV hM' => ⟨gi_fEq (P := fun x y => gi_bt (nI x) v1 v3 ∧ gi_bt (nI y) v2 v4) E eW eV hM hM', gi_rel_i _ (gi_St_i I) Y E⟩)
theorem i_vc_nearest {k : Nat} {u : SX} {v : SY} (I : i_Rel k u v) (hk : k + 5 ≤ 2560) (v1 : Int32) (v2 : Int32) : wpX_nearest (fun r u' => wpY_nearest (fun r' => r' = r ∧ i_Rel (k + 5) u' v) v v1 v2) u v1 v2 := by
  refine gi_rel_e (P := fun u v => wpX_nearest (fun r u' => wpY_nearest (fun r' => r' = r ∧ i_Rel (k + 5) u' v) v v1 v2) u v1 v2) I ?_
  intro H mx my mv yk yx yy yv kh fh kC kR kU wa wb wc wd we wf wg nx cf rf bo iu hd sz fc lc fr lr I Y E ek
  rcases gi_board v1 v2 with ⟨x, y, hx, hy, e1, e2⟩ | ho
  · subst e1 e2
    refine gi_nr hx hy I (fun no => ?_) (fun m wa wb wc wd we wf wg hm hmin => ?_)
    · refine gi_ynr hx hy Y (fun be le hN => ⟨?_, gi_rel_i _ (gi_St_i I) Y E⟩)
      rcases hN with ⟨-, e, -⟩ | ⟨j, hj, -⟩
      · exact e
      · obtain ⟨m, hm, -⟩ := gi_YX E hj
        rw [no m] at hm
        cases hm
    · refine gi_ynr hx hy Y (fun be le hN => ⟨?_, gi_rel_i _ (gi_St_i I) Y E⟩)
      obtain ⟨i, hi, g1, g2, -⟩ := gi_XY E hm
      rcases hN with ⟨e, -⟩ | ⟨j, hj, e, -, hl⟩
      · omega
      · obtain ⟨a, ha, f1, f2, -⟩ := gi_YX E hj
        have q1 := hmin a ha
        have q2 := hl i hi
        rw [f1, f2] at q1
        rw [g1, g2] at q2
        rw [e]
        exact congrArg nI (by omega)
  · exact gi_nr0 ho (gi_ynr0 ho ⟨rfl, gi_rel_i _ (gi_St_i I) Y E⟩)
theorem i_vc_clear {k : Nat} {u : SX} {v : SY} (I : i_Rel k u v) (hk : k + 5 ≤ 2560) (v1 : Int32) (v2 : Int32) (v3 : Int32) (v4 : Int32) : wpX_clear (fun r u' => wpY_clear (fun r' v' => r' = r ∧ i_Rel (k + 5) u' v') v v1 v2 v3 v4) u v1 v2 v3 v4 := by
  refine gi_rel_e (P := fun u v => wpX_clear (fun r u' => wpY_clear (fun r' v' => r' = r ∧ i_Rel (k + 5) u' v') v v1 v2 v3 v4) u v1 v2 v3 v4) I ?_
  intro H mx my mv yk yx yy yv kh fh kC kR kU wa wb wc wd we wf wg nx cf rf bo iu hd sz fc lc fr lr I Y E ek
  refine gi_clr I (fun H' kh' n u h1 h2 hu => ?_)
  refine gi_yclr Y (fun yk' yx' yy' yv' Y' hle e => ?_)
  have E' := gi_Eq_clr (P := fun x y => gi_bt (nI x) v1 v3 ∧ gi_bt (nI y) v2 v4) E h1 e
  have ek' : kh' = yk' := hu (fun _ => kh' = yk') (fun fh kC kR kU wa wb wc wd we wf wg nx cf rf bo iu hd sz fc lc fr lr I' => gi_len I'.2.2.2.2.1 (fun m hm => (I'.2.2.2.2.2.2.1 m hm).1) E' I'.2.2.2.2.2.2.2 Y')
  refine ⟨congrArg nI (by omega), gi_rel_i _ hu Y' E'⟩
end
