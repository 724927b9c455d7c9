section
/-! rows pasted from the kit (kit/rows/PURE-ROWS) -/
theorem pk_us {f : Nat → Int32} {k : Nat} {x : Int32} : upd f k x k = x := if_pos rfl
theorem pk_un {f : Nat → Int32} {k j : Nat} {x : Int32} (h : j ≠ k) : upd f k x j = f j := if_neg h
theorem pk_uLs {f : Nat → Int64} {k : Nat} {x : Int64} : vp_updL f k x k = x := if_pos rfl
theorem pk_uLn {f : Nat → Int64} {k j : Nat} {x : Int64} (h : j ≠ k) : vp_updL f k x j = f j := if_neg h
theorem pk_mul (a b : Nat) : nI a * nI b = nI (a * b) := (Int32.ofNat_mul a b).symm
theorem pk_sub_toInt {a b : Nat} (ha : a < 2 ^ 30) (hb : b < 2 ^ 30) : (nI a - nI b).toInt = (a : Int) - b := by
  rw [Int32.toInt_sub, nI_toInt (by omega), nI_toInt (by omega)]
  exact Int.bmod_eq_of_le (by omega) (by omega)
theorem pk_le {x y : Int32} {A B : Prop} (a b : Nat) (f : a ≤ b → A) (g : b < a → B) (hx : x = nI a := by rfl) (hy : y = nI b := by rfl) (ha : a < 2 ^ 31 := by omega) (hb : b < 2 ^ 31 := by omega) : (x ≤ y → A) ∧ (¬ x ≤ y → B) := by
  subst hx hy
  rw [nI_leI ha hb]
  exact ⟨f, fun z => g (by omega)⟩
theorem pk_lt {x y : Int32} {A B : Prop} (a b : Nat) (f : a < b → A) (g : b ≤ a → B) (hx : x = nI a := by rfl) (hy : y = nI b := by rfl) (ha : a < 2 ^ 31 := by omega) (hb : b < 2 ^ 31 := by omega) : (x < y → A) ∧ (¬ x < y → B) := by
  subst hx hy
  rw [nI_ltI ha hb]
  exact ⟨f, fun z => g (by omega)⟩
theorem pk_eq {x y : Int32} {A B : Prop} (a b : Nat) (f : a = b → A) (g : a ≠ b → B) (hx : x = nI a := by rfl) (hy : y = nI b := by rfl) (ha : a < 2 ^ 31 := by omega) (hb : b < 2 ^ 31 := by omega) : (x = y → A) ∧ (¬ x = y → B) := by
  subst hx hy
  rw [nI_eq ha hb]
  exact ⟨f, g⟩
theorem pk_in {x : Int32} (n N : Nat) (h : n < N) (hx : x = nI n := by rfl) (hN : N < 2 ^ 31 := by omega) : vp_in x N := by
  subst hx
  exact vp_in_nI h hN
theorem pk_cl {x : Int32} (n : Nat) (hx : x = nI n := by rfl) (h : n < 2 ^ 31 := by omega) : x.toNatClampNeg = n := by
  subst hx
  exact nI_clamp h
theorem pk_tn {n : Nat} (h : n < 2 ^ 32) : (nI n).toBitVec.toNat = n := Nat.mod_eq_of_lt h
theorem pk_and (x : Int32) {m : Int32} (k : Nat) (hm : m.toBitVec.toNat = 2 ^ k - 1) : x &&& m = nI (x.toBitVec.toNat % 2 ^ k) := by
  apply Int32.toBitVec_inj.mp
  apply BitVec.eq_of_toNat_eq
  rw [Int32.toBitVec_and, BitVec.toNat_and, hm, Nat.and_two_pow_sub_one_eq_mod]
  show _ = (BitVec.ofNat 32 _).toNat
  rw [BitVec.toNat_ofNat]
  exact (Nat.mod_eq_of_lt (Nat.lt_of_le_of_lt (Nat.mod_le _ _) x.toBitVec.isLt)).symm
theorem pk_andN {n : Nat} (h : n < 2 ^ 32) {m : Int32} (k : Nat) (hm : m.toBitVec.toNat = 2 ^ k - 1) : nI n &&& m = nI (n % 2 ^ k) := by
  rw [pk_and _ k hm, pk_tn h]
/-! own rows: small numbers, the relation, the constructors -/
theorem gs_a15 {i : Nat} (h : i < 16) : nI i &&& 15 = nI i := by
  rw [pk_andN (by omega) 4 (by decide)]
  exact congrArg nI (Nat.mod_eq_of_lt h)
theorem gs_a3 {i : Nat} (h : i < 4) : nI i &&& 3 = nI i := by
  rw [pk_andN (by omega) 2 (by decide)]
  exact congrArg nI (Nat.mod_eq_of_lt h)
def gs_B (R C F n l : Nat) : Prop := 1 ≤ R ∧ R ≤ 3 ∧ 1 ≤ C ∧ C ≤ 4 ∧ F ≤ 4 ∧ n ≤ 4 ∧ l ≤ 16
theorem gs_B_T {R C F n l : Nat} (h : gs_B R C F n l) : R * C ≤ 12 := by
  obtain ⟨_, h2, _, h4, _⟩ := h
  exact Nat.mul_le_mul h2 h4
/-- the two objects hold the same fields and the same arrays, within bounds -/
def i_Rel (k : Nat) (u : SX) (v : SY) : Prop := ∃ (R C F n l : Nat) (d x : Nat → Int64) (m s : Nat → Int32) (o : Nat → Int64), gs_B R C F n l ∧ u = (nI R, nI C, nI F, nI n, nI l, d, x, m, s, o) ∧ v = (nI R, nI C, nI F, nI n, nI l, d, x, m, s, o)
theorem gs_R {R C F n l : Nat} {d x : Nat → Int64} {m s : Nat → Int32} {o : Nat → Int64} (k : Nat) (h : gs_B R C F n l) : i_Rel k (nI R, nI C, nI F, nI n, nI l, d, x, m, s, o) (nI R, nI C, nI F, nI n, nI l, d, x, m, s, o) := ⟨R, C, F, n, l, d, x, m, s, o, h, rfl, rfl⟩
theorem i_up {k : Nat} {u : SX} {v : SY} (h : i_Rel k u v) : i_Rel (k + 5) u v := h
theorem gs_cl (x : Int32) (lo hi : Nat) (hl : lo ≤ hi) (hh : hi < 2 ^ 31) : ∃ y : Nat, lo ≤ y ∧ y ≤ hi ∧ (∀ P : Int32 → Prop, P (nI y) → ((nI lo ≤ x → ((x ≤ nI hi → P x) ∧ (¬ x ≤ nI hi → P (nI hi)))) ∧ (¬ nI lo ≤ x → ((nI lo ≤ nI hi → P (nI lo)) ∧ (¬ nI lo ≤ nI hi → P (nI hi)))))) ∧ (∀ P : Int32 → Prop, P (nI y) → ((nI lo ≤ x → ((x ≤ nI hi → P x) ∧ (¬ x ≤ nI hi → P (nI hi)))) ∧ (¬ nI lo ≤ x → P (nI lo)))) := by
  have h0 : nI lo ≤ nI hi := nI_le hl hh
  by_cases h1 : nI lo ≤ x
  · by_cases h2 : x ≤ nI hi
    · have hx : ¬ x < 0 := by
        have a : (0 : Int32) ≤ nI lo := nI_pos' (by omega)
        exact Int32.not_lt.mpr (Int32.le_trans a h1)
      obtain ⟨j, hj, rfl⟩ := nI_of hx
      have a := (nI_leI (by omega) hj).mp h1
      have b := (nI_leI hj hh).mp h2
      exact ⟨j, a, b, fun P hp => br_t h1 (br_t h2 hp), fun P hp => br_t h1 (br_t h2 hp)⟩
    · exact ⟨hi, hl, Nat.le_refl _, fun P hp => br_t h1 (br_f h2 hp), fun P hp => br_t h1 (br_f h2 hp)⟩
  · exact ⟨lo, Nat.le_refl _, hl, fun P hp => br_f h1 (br_t h0 hp), fun P hp => br_f h1 hp⟩
theorem gs_initX (post : SX → Prop) (k0 k1 k2 : Int32) {R C F : Nat} (hR : ∀ P : Int32 → Prop, P (nI R) → ((nI 1 ≤ k0 → ((k0 ≤ nI 3 → P k0) ∧ (¬ k0 ≤ nI 3 → P (nI 3)))) ∧ (¬ nI 1 ≤ k0 → ((nI 1 ≤ nI 3 → P (nI 1)) ∧ (¬ nI 1 ≤ nI 3 → P (nI 3)))))) (hC : ∀ P : Int32 → Prop, P (nI C) → ((nI 1 ≤ k1 → ((k1 ≤ nI 4 → P k1) ∧ (¬ k1 ≤ nI 4 → P (nI 4)))) ∧ (¬ nI 1 ≤ k1 → ((nI 1 ≤ nI 4 → P (nI 1)) ∧ (¬ nI 1 ≤ nI 4 → P (nI 4)))))) (hF : ∀ P : Int32 → Prop, P (nI F) → ((nI 0 ≤ k2 → ((k2 ≤ nI 4 → P k2) ∧ (¬ k2 ≤ nI 4 → P (nI 4)))) ∧ (¬ nI 0 ≤ k2 → ((nI 0 ≤ nI 4 → P (nI 0)) ∧ (¬ nI 0 ≤ nI 4 → P (nI 4)))))) (hp : post (nI R, nI C, nI F, 0, 0, fun _ => 0, fun _ => 0, fun _ => 0, fun _ => 0, fun _ => 0)) : wpX_init post k0 k1 k2 :=
  hR (fun y => wX_init_64 post k1 k2 y 0 0 0 0 0 (fun _ => 0) (fun _ => 0) (fun _ => 0) (fun _ => 0) (fun _ => 0))
    (hC (fun y => wX_init_85 post k2 (nI R) y 0 0 0 0 0 (fun _ => 0) (fun _ => 0) (fun _ => 0) (fun _ => 0) (fun _ => 0))
      (hF (fun y => wX_init_105 post (nI R) (nI C) y 0 0 0 0 0 (fun _ => 0) (fun _ => 0) (fun _ => 0) (fun _ => 0) (fun _ => 0)) hp))
theorem gs_initY (post : SY → Prop) (k0 k1 k2 : Int32) {R C F : Nat} (hR : ∀ P : Int32 → Prop, P (nI R) → ((nI 1 ≤ k0 → ((k0 ≤ nI 3 → P k0) ∧ (¬ k0 ≤ nI 3 → P (nI 3)))) ∧ (¬ nI 1 ≤ k0 → P (nI 1)))) (hC : ∀ P : Int32 → Prop, P (nI C) → ((nI 1 ≤ k1 → ((k1 ≤ nI 4 → P k1) ∧ (¬ k1 ≤ nI 4 → P (nI 4)))) ∧ (¬ nI 1 ≤ k1 → P (nI 1)))) (hF : ∀ P : Int32 → Prop, P (nI F) → ((nI 0 ≤ k2 → ((k2 ≤ nI 4 → P k2) ∧ (¬ k2 ≤ nI 4 → P (nI 4)))) ∧ (¬ nI 0 ≤ k2 → P (nI 0)))) (hp : post (nI R, nI C, nI F, 0, 0, fun _ => 0, fun _ => 0, fun _ => 0, fun _ => 0, fun _ => 0)) : wpY_init post k0 k1 k2 :=
  hR (fun y => wY_init_63 post k1 k2 y 0 0 0 0 0 (fun _ => 0) (fun _ => 0) (fun _ => 0) (fun _ => 0) (fun _ => 0))
    (hC (fun y => wY_init_86 post k2 y (nI R) 0 0 0 0 (fun _ => 0) (fun _ => 0) (fun _ => 0) (fun _ => 0) (fun _ => 0))
      (hF (fun y => post (nI R, nI C, y, 0, 0, fun _ => 0, fun _ => 0, fun _ => 0, fun _ => 0, fun _ => 0)) hp))
theorem i_vc0 (k0 : Int32) (k1 : Int32) (k2 : Int32) : wpX_init (fun u => wpY_init (fun v => i_Rel 3 u v) k0 k1 k2) k0 k1 k2 := by
  obtain ⟨R, a1, a2, aX, aY⟩ := gs_cl k0 1 3 (by omega) (by omega)
  obtain ⟨C, b1, b2, bX, bY⟩ := gs_cl k1 1 4 (by omega) (by omega)
  obtain ⟨F, c1, c2, cX, cY⟩ := gs_cl k2 0 4 (by omega) (by omega)
  have hB : gs_B R C F 0 0 := ⟨a1, a2, b1, b2, c2, by omega, by omega⟩
  exact gs_initX _ k0 k1 k2 aX bX cX (gs_initY _ k0 k1 k2 aY bY cY (gs_R 3 hB))
end
section
/-! an index: good for a dimension D, and its wrapped place -/
def gs_g (D : Nat) (x : Int64) : Prop := -(D : Int) ≤ x.toInt ∧ x.toInt < (D : Int)
def gs_w (D : Nat) (x : Int64) : Nat := if x.toInt < 0 then (x.toInt + (D : Int)).toNat else x.toInt.toNat
def gs_A (D n : Nat) (x : Nat → Int64) : Prop := ∀ k, k < n → gs_g D (x k)
theorem gs_w_lt {D : Nat} {x : Int64} (h : gs_g D x) : gs_w D x < D := by
  obtain ⟨h1, h2⟩ := h
  unfold gs_w
  split <;> omega
theorem gs_w_p {D p : Nat} {x : Int64} (h : x.toInt = (p : Int)) : gs_w D x = p := by
  unfold gs_w
  rw [if_neg (by omega)]
  omega
theorem gs_w_n {D p : Nat} {x : Int64} (hp : p < D) (h : x.toInt = (p : Int) - (D : Int)) : gs_w D x = p := by
  unfold gs_w
  rw [if_pos (by omega)]
  omega
theorem gs_e1 {x : Int64} {p : Nat} (hp : p < 2 ^ 31) : x = (nI p).toInt64 ↔ x.toInt = (p : Int) := by
  rw [← Int64.toInt_inj, Int32.toInt_toInt64, nI_toInt hp]
theorem gs_e2 {x : Int64} {p D : Nat} (hp : p < 2 ^ 30) (hD : D < 2 ^ 30) : x = (nI p - nI D).toInt64 ↔ x.toInt = (p : Int) - (D : Int) := by
  rw [← Int64.toInt_inj, Int32.toInt_toInt64, pk_sub_toInt hp hD]
theorem gs_pl {post : Int32 → Prop} {x : Int64} {D : Nat} (hD : D ≤ 4) (hg : gs_g D x → post (nI (gs_w D x))) (hb : ¬ gs_g D x → post (-1)) : ∀ n p : Nat, p ≤ D → D < n + p → (∀ q : Nat, q < p → x.toInt ≠ (q : Int) ∧ x.toInt ≠ (q : Int) - (D : Int)) → wY_place_2 post x (nI D) n (nI p) := by
  intro n
  induction n with
  | zero => intro p h1 h2; omega
  | succ n ih =>
    intro p h1 h2 hq
    refine pk_le D p (fun h => ?_) (fun h => ?_)
    · refine hb (fun z => ?_)
      obtain ⟨z1, z2⟩ := z
      by_cases s : x.toInt < 0
      · have a := (hq (x.toInt + (D : Int)).toNat (by omega)).2
        omega
      · have a := (hq x.toInt.toNat (by omega)).1
        omega
    · by_cases c1 : x.toInt = (p : Int)
      · have g : gs_g D x := ⟨by omega, by omega⟩
        have e := hg g
        rw [gs_w_p c1] at e
        exact br_t ((gs_e1 (by omega)).mpr c1) e
      · refine br_f (fun z => c1 ((gs_e1 (by omega)).mp z)) ?_
        by_cases c2 : x.toInt = (p : Int) - (D : Int)
        · have g : gs_g D x := ⟨by omega, by omega⟩
          have e := hg g
          rw [gs_w_n h c2] at e
          exact br_t ((gs_e2 (by omega) (by omega)).mpr c2) e
        · refine br_f (fun z => c2 ((gs_e2 (by omega) (by omega)).mp z)) (nm_r (nI_1 p) ?_)
          refine ih (p + 1) (by omega) (by omega) (fun q hq1 => ?_)
          by_cases e : q = p
          · subst e; exact ⟨c1, c2⟩
          · exact hq q (by omega)
theorem gs_place {post : Int32 → Prop} {x : Int64} {D : Nat} (hD : D ≤ 4) (hg : gs_g D x → post (nI (gs_w D x))) (hb : ¬ gs_g D x → post (-1)) : wpY_place post x (nI D) :=
  ⟨D + 1, gs_pl hD hg hb (D + 1) 0 (by omega) (by omega) (fun q hq => absurd hq (by omega))⟩
section
variable {post : Int32 → Prop} {fr fc fo fn fl : Int32} {d x : Nat → Int64} {m s : Nat → Int32} {o : Nat → Int64}
theorem gs_yg_l {D N : Nat} (hD : D ≤ 4) (hN : N ≤ 4) (hg : gs_A D N x → post 1) (hb : ¬ gs_A D N x → post 0) : ∀ n k : Nat, k ≤ N → N < n + k → (∀ q, q < k → gs_g D (x q)) → wY_allGood_2 post (nI D) fr fc fo (nI N) fl d x m s o n (nI k) := by
  intro n
  induction n with
  | zero => intro k h1 h2; omega
  | succ n ih =>
    intro k h1 h2 hq
    refine pk_le N k (fun h => hg (fun q hq1 => hq q (by omega))) (fun h => ?_)
    rw [gs_a3 (i := k) (by omega), nI_clamp (n := k) (by omega)]
    refine ⟨vp_in_nI (by omega) (by omega), gs_place hD (fun g => ?_) (fun g => ?_)⟩
    · have a := gs_w_lt g
      refine br_t (nI_pos' (by omega)) (nm_r (nI_1 k) ?_)
      refine ih (k + 1) (by omega) (by omega) (fun q hq1 => ?_)
      by_cases e : q = k
      · subst e; exact g
      · exact hq q (by omega)
    · exact br_f (by decide) (hb (fun z => g (z k h)))
theorem gs_yg {D N : Nat} (hD : D ≤ 4) (hN : N ≤ 4) (hg : gs_A D N x → post 1) (hb : ¬ gs_A D N x → post 0) : wpY_allGood post (fr, fc, fo, nI N, fl, d, x, m, s, o) (nI D) :=
  ⟨N + 1, gs_yg_l hD hN hg hb (N + 1) 0 (by omega) (by omega) (fun q hq => absurd hq (by omega))⟩
theorem gs_neg {D : Nat} (hD : D ≤ 4) : (-(nI D).toInt64).toInt = -(D : Int) := by
  rw [Int64.toInt_neg, Int32.toInt_toInt64, nI_toInt (by omega)]
  exact Int.bmod_eq_of_le (by omega) (by omega)
theorem gs_xg_l {D N : Nat} (hD : D ≤ 4) (hN : N ≤ 4) (hg : gs_A D N x → post 1) (hb : ¬ gs_A D N x → post 0) : ∀ n k : Nat, k ≤ N → N < n + k → (∀ q, q < k → gs_g D (x q)) → wX_indicesGood_6 post (nI D).toInt64 fr fc fo (nI N) fl d x m s o n (nI k) := by
  intro n
  induction n with
  | zero => intro k h1 h2; omega
  | succ n ih =>
    intro k h1 h2 hq
    refine pk_le N k (fun h => hg (fun q hq1 => hq q (by omega))) (fun h => ?_)
    refine ⟨vp_in_nI (by omega) (by omega), nm_r (e' := x k) (congrArg x (nI_clamp (by omega))) ?_⟩
    by_cases c1 : x k < -(nI D).toInt64
    · refine br_t c1 (hb (fun z => ?_))
      have a := (z k h).1
      rw [Int64.lt_iff_toInt_lt, gs_neg hD] at c1
      omega
    · refine br_f c1 ?_
      by_cases c2 : x k < (nI D).toInt64
      · refine br_t c2 (nm_r (nI_1 k) ?_)
        refine ih (k + 1) (by omega) (by omega) (fun q hq1 => ?_)
        by_cases e : q = k
        · subst e
          rw [Int64.lt_iff_toInt_lt, gs_neg hD] at c1
          rw [Int64.lt_iff_toInt_lt, Int32.toInt_toInt64, nI_toInt (by omega)] at c2
          exact ⟨by omega, c2⟩
        · exact hq q (by omega)
      · refine br_f c2 (hb (fun z => ?_))
        have a := (z k h).2
        rw [Int64.lt_iff_toInt_lt, Int32.toInt_toInt64, nI_toInt (by omega)] at c2
        omega
theorem gs_xg {D N : Nat} (hD : D ≤ 4) (hN : N ≤ 4) (hg : gs_A D N x → post 1) (hb : ¬ gs_A D N x → post 0) : wpX_indicesGood post (fr, fc, fo, nI N, fl, d, x, m, s, o) (nI D) :=
  ⟨N + 1, gs_xg_l hD hN hg hb (N + 1) 0 (by omega) (by omega) (fun q hq => absurd hq (by omega))⟩
theorem gs_lw {y : Int64} {j : Nat} (hj : j < 2 ^ 31) (h : y.toInt = (j : Int)) : y.toInt32 = nI j := by
  have e : y = lN j := by rw [← Int64.toInt_inj, lN_toInt hj, h]
  rw [e, lN_i]
theorem gs_xw {D k : Nat} (hD : D ≤ 4) (hk : k < 4) (g : gs_g D (x k)) (hp : post (nI (gs_w D (x k)))) : wpX_wrapped post (fr, fc, fo, fn, fl, d, x, m, s, o) (nI k) (nI D) := by
  unfold wpX_wrapped
  dsimp only
  refine ⟨vp_in_nI (by omega) (by omega), nm_r (e' := x k) (congrArg x (nI_clamp (by omega))) ?_⟩
  obtain ⟨g1, g2⟩ := g
  have z0 : (0 : Int64).toInt = 0 := by decide
  by_cases c : 0 ≤ x k
  · refine br_t c ?_
    rw [Int64.le_iff_toInt_le, z0] at c
    have e : (x k).toInt32 = nI (gs_w D (x k)) := gs_lw (by have := gs_w_lt ⟨g1, g2⟩; omega) (by unfold gs_w; rw [if_neg (by omega)]; omega)
    rw [e]; exact hp
  · refine br_f c (nm_e ?_)
    rw [Int64.le_iff_toInt_le, z0] at c
    have e0 : (x k + (nI D).toInt64).toInt = (x k).toInt + (D : Int) := by
      rw [Int64.toInt_add, Int32.toInt_toInt64, nI_toInt (by omega)]
      exact Int.bmod_eq_of_le (by omega) (by omega)
    have e : (x k + (nI D).toInt64).toInt32 = nI (gs_w D (x k)) := gs_lw (by have := gs_w_lt ⟨g1, g2⟩; omega) (by unfold gs_w; rw [if_pos (by omega), e0]; omega)
    rw [e]; exact hp
end
end
section
/-! the mask: its count, and what select leaves in out -/
def gs_ct (m : Nat → Int32) : Nat → Nat
  | 0 => 0
  | p + 1 => if m p = 0 then gs_ct m p else gs_ct m p + 1
theorem gs_ct_z {m : Nat → Int32} {p : Nat} (h : m p = 0) : gs_ct m (p + 1) = gs_ct m p := by rw [gs_ct, if_pos h]
theorem gs_ct_s {m : Nat → Int32} {p : Nat} (h : ¬ m p = 0) : gs_ct m (p + 1) = gs_ct m p + 1 := by rw [gs_ct, if_neg h]
theorem gs_ct_le (m : Nat → Int32) : ∀ p, gs_ct m p ≤ p := by
  intro p
  induction p with
  | zero => exact Nat.le_refl _
  | succ p ih =>
    by_cases h : m p = 0
    · rw [gs_ct_z h]; omega
    · rw [gs_ct_s h]; omega
def gs_so (m : Nat → Int32) (d : Nat → Int64) (F : Nat) (o : Nat → Int64) : Nat → Nat → Int64
  | 0 => o
  | p + 1 => if m p = 0 then gs_so m d F o p else vp_updL (gs_so m d F o p) (gs_ct m p) (d (F + p))
section
variable {m s : Nat → Int32} {d x : Nat → Int64} {F : Nat} {o : Nat → Int64}
theorem gs_so_z {p : Nat} (h : m p = 0) : gs_so m d F o (p + 1) = gs_so m d F o p := by rw [gs_so, if_pos h]
theorem gs_so_s {p : Nat} (h : ¬ m p = 0) : gs_so m d F o (p + 1) = vp_updL (gs_so m d F o p) (gs_ct m p) (d (F + p)) := by rw [gs_so, if_neg h]
theorem gs_so_ge : ∀ p j, gs_ct m p ≤ j → gs_so m d F o p j = o j := by
  intro p
  induction p with
  | zero => intro j _; rfl
  | succ p ih =>
    intro j hj
    by_cases h : m p = 0
    · rw [gs_ct_z h] at hj
      rw [gs_so_z h]
      exact ih j hj
    · rw [gs_ct_s h] at hj
      rw [gs_so_s h, pk_uLn (by omega)]
      exact ih j (by omega)
/-- the inner pass of the reference's select for place k, over a start a -/
def gs_in (m : Nat → Int32) (d : Nat → Int64) (F : Nat) (o a : Nat → Int64) (k i : Nat) : Nat → Int64 := if k < gs_ct m i then vp_updL a k (gs_so m d F o i k) else a
theorem gs_in_0 {a : Nat → Int64} {k : Nat} : gs_in m d F o a k 0 = a := if_neg (Nat.not_lt_zero k)
theorem gs_in_z {a : Nat → Int64} {k i : Nat} (h : m i = 0) : gs_in m d F o a k (i + 1) = gs_in m d F o a k i := by
  unfold gs_in
  rw [gs_ct_z h, gs_so_z h]
theorem gs_in_e {a : Nat → Int64} {k i : Nat} (h : ¬ m i = 0) (e : gs_ct m i = k) : gs_in m d F o a k (i + 1) = vp_updL (gs_in m d F o a k i) k (d (F + i)) := by
  unfold gs_in
  rw [gs_ct_s h, gs_so_s h, if_pos (by omega), if_neg (by omega), e, pk_uLs]
theorem gs_in_n {a : Nat → Int64} {k i : Nat} (h : ¬ m i = 0) (e : gs_ct m i ≠ k) : gs_in m d F o a k (i + 1) = gs_in m d F o a k i := by
  unfold gs_in
  rw [gs_ct_s h, gs_so_s h, pk_uLn (fun z => e z.symm)]
  by_cases c : k < gs_ct m i
  · rw [if_pos c, if_pos (by omega)]
  · rw [if_neg c, if_neg (by omega)]
def gs_ou (g o : Nat → Int64) (k : Nat) : Nat → Int64 := fun j => if j < k then g j else o j
theorem gs_ou_0 (g o : Nat → Int64) : gs_ou g o 0 = o := by
  funext j
  exact if_neg (by omega)
theorem gs_ou_s (g o : Nat → Int64) (k : Nat) : vp_updL (gs_ou g o k) k (g k) = gs_ou g o (k + 1) := by
  funext j
  unfold vp_updL gs_ou
  by_cases h : j = k
  · subst h; rw [if_pos rfl, if_pos (by omega)]
  · rw [if_neg h]
    by_cases h2 : j < k
    · rw [if_pos h2, if_pos (by omega)]
    · rw [if_neg h2, if_neg (by omega)]
theorem gs_ou_e {T : Nat} : gs_ou (gs_so m d F o T) o (gs_ct m T) = gs_so m d F o T := by
  funext j
  unfold gs_ou
  by_cases h : j < gs_ct m T
  · rw [if_pos h]
  · rw [if_neg h, gs_so_ge T j (by omega)]
theorem gs_in_T {T k : Nat} (hk : k < gs_ct m T) : gs_in m d F o (gs_ou (gs_so m d F o T) o k) k T = gs_ou (gs_so m d F o T) o (k + 1) := by
  unfold gs_in
  rw [if_pos hk, gs_ou_s]
end
section
variable {fr fc fo fn fl : Int32} {d x : Nat → Int64} {m s : Nat → Int32} {o : Nat → Int64}
theorem gs_xmc_l {post : Int32 → Prop} {T : Nat} (hT : T ≤ 12) (hp : post (nI (gs_ct m T))) : ∀ n i : Nat, i ≤ T → T < n + i → wX_maskCount_14 post (nI T) fr fc fo fn fl d x m s o n (nI (gs_ct m i)) (nI i) := by
  intro n
  induction n with
  | zero => intro i h1 h2; omega
  | succ n ih =>
    intro i h1 h2
    refine pk_le T i (fun h => ?_) (fun h => ?_)
    · obtain rfl : i = T := by omega
      exact hp
    · have K := ih (i + 1) (by omega) (by omega)
      rw [nI_clamp (n := i) (by omega)]
      refine ⟨vp_in_nI (by omega) (by omega), ?_⟩
      by_cases z : m i = 0
      · rw [gs_ct_z z] at K
        exact br_t z (nm_r (nI_1 i) K)
      · rw [gs_ct_s z] at K
        exact br_f z (nm_r (nI_1 _) (nm_r (nI_1 i) K))
theorem gs_xmc {post : Int32 → Prop} {R C : Nat} (hT : R * C ≤ 12) (hp : post (nI (gs_ct m (R * C)))) : wpX_maskCount post (nI R, nI C, fo, fn, fl, d, x, m, s, o) := by
  unfold wpX_maskCount
  dsimp only
  exact nm_r (pk_mul R C) ⟨R * C + 1, gs_xmc_l hT hp (R * C + 1) 0 (by omega) (by omega)⟩
theorem gs_ymc_l {post : Int32 → Prop} {R C : Nat} (hT : R * C ≤ 12) (hp : post (nI (gs_ct m (R * C)))) : ∀ n i : Nat, i ≤ R * C → R * C < n + i → wY_maskCount_4 post (nI R) (nI C) fo fn fl d x m s o n (nI (gs_ct m i)) (nI i) := by
  intro n
  induction n with
  | zero => intro i h1 h2; omega
  | succ n ih =>
    intro i h1 h2
    refine pk_le (R * C) i (fun h => ?_) (fun h => ?_) (pk_mul R C) rfl
    · have e : i = R * C := by omega
      rw [e]
      exact hp
    · have K := ih (i + 1) (by omega) (by omega)
      rw [gs_a15 (i := i) (by omega), nI_clamp (n := i) (by omega)]
      refine ⟨vp_in_nI (by omega) (by omega), ?_⟩
      by_cases z : m i = 0
      · rw [gs_ct_z z] at K
        exact br_t z (nm_r (nI_1 i) K)
      · rw [gs_ct_s z] at K
        exact br_f z (nm_r (nI_1 _) (nm_r (nI_1 i) K))
theorem gs_ymc {post : Int32 → Prop} {R C : Nat} (hT : R * C ≤ 12) (hp : post (nI (gs_ct m (R * C)))) : wpY_maskCount post (nI R, nI C, fo, fn, fl, d, x, m, s, o) :=
  ⟨R * C + 1, gs_ymc_l hT hp (R * C + 1) 0 (by omega) (by omega)⟩
theorem gs_xms_l {post : Int32 → SX → Prop} {T F : Nat} (hT : T ≤ 12) (hF : F ≤ 4) (hp : post (nI (gs_ct m T)) (fr, fc, nI F, fn, nI (gs_ct m T), d, x, m, s, gs_so m d F o T)) : ∀ n i : Nat, i ≤ T → T < n + i → wX_maskSelect_14 post (nI T) fr fc (nI F) fn fl n (nI (gs_ct m i)) (nI i) d x m s (gs_so m d F o i) := by
  intro n
  induction n with
  | zero => intro i h1 h2; omega
  | succ n ih =>
    intro i h1 h2
    have hc := gs_ct_le m i
    refine pk_le T i (fun h => ?_) (fun h => ?_)
    · obtain rfl : i = T := by omega
      exact hp
    · have K := ih (i + 1) (by omega) (by omega)
      rw [nI_add F i, nI_clamp (n := i) (by omega), nI_clamp (n := F + i) (by omega), nI_clamp (n := gs_ct m i) (by omega)]
      refine ⟨vp_in_nI (by omega) (by omega), ?_⟩
      by_cases z : m i = 0
      · rw [gs_ct_z z, gs_so_z z] at K
        exact br_t z (nm_r (nI_1 i) K)
      · rw [gs_ct_s z, gs_so_s z] at K
        exact br_f z ⟨vp_in_nI (by omega) (by omega), ⟨vp_in_nI (by omega) (by omega), nm_e (nm_r (nI_1 _) (nm_r (nI_1 i) K))⟩⟩
theorem gs_xms {post : Int32 → SX → Prop} {R C F : Nat} (hT : R * C ≤ 12) (hF : F ≤ 4) (hp : post (nI (gs_ct m (R * C))) (nI R, nI C, nI F, fn, nI (gs_ct m (R * C)), d, x, m, s, gs_so m d F o (R * C))) : wpX_maskSelect post (nI R, nI C, nI F, fn, fl, d, x, m, s, o) := by
  unfold wpX_maskSelect
  dsimp only
  exact nm_r (pk_mul R C) ⟨R * C + 1, gs_xms_l hT hF hp (R * C + 1) 0 (by omega) (by omega)⟩
theorem gs_yms_i {post : Int32 → SY → Prop} {J7 : Int32 → (Nat → Int64) → (Nat → Int64) → (Nat → Int32) → (Nat → Int32) → (Nat → Int64) → Prop} {x1 : Int32} {R C F k : Nat} {a : Nat → Int64} (hT : R * C ≤ 12) (hF : F ≤ 4) (hk : k < 12) (hJ : J7 (nI (k + 1)) d x m s (gs_in m d F o a k (R * C))) : ∀ n i : Nat, i ≤ R * C → R * C < n + i → wY_maskSelect_17 post J7 x1 (nI k) (nI R) (nI C) (nI F) fn fl n (nI (gs_ct m i)) (nI i) d x m s (gs_in m d F o a k i) := by
  intro n
  induction n with
  | zero => intro i h1 h2; omega
  | succ n ih =>
    intro i h1 h2
    have hc := gs_ct_le m i
    refine pk_le (R * C) i (fun h => ?_) (fun h => ?_) (pk_mul R C) rfl
    · have e : i = R * C := by omega
      rw [e]
      exact nm_r (nI_1 k) hJ
    · have K := ih (i + 1) (by omega) (by omega)
      rw [gs_a15 (i := i) (by omega), nI_add F i, gs_a15 (i := F + i) (by omega), gs_a15 (i := k) (by omega), nI_clamp (n := i) (by omega), nI_clamp (n := F + i) (by omega), nI_clamp (n := k) (by omega)]
      refine ⟨vp_in_nI (by omega) (by omega), ?_⟩
      by_cases z : m i = 0
      · rw [gs_ct_z z, gs_in_z z] at K
        exact br_t z (nm_r (nI_1 i) K)
      · refine br_f z (nm_r (nI_1 _) ?_)
        rw [gs_ct_s z] at K
        refine pk_eq (gs_ct m i) k (fun e => ?_) (fun e => ?_)
        · rw [gs_in_e z e] at K
          exact ⟨vp_in_nI (by omega) (by omega), ⟨vp_in_nI (by omega) (by omega), nm_e (nm_r (nI_1 i) K)⟩⟩
        · rw [gs_in_n z e] at K
          exact nm_r (nI_1 i) K
theorem gs_yms_l {post : Int32 → SY → Prop} {R C F : Nat} (hT : R * C ≤ 12) (hF : F ≤ 4) (hp : post (nI (gs_ct m (R * C))) (nI R, nI C, nI F, fn, nI (gs_ct m (R * C)), d, x, m, s, gs_so m d F o (R * C))) : ∀ n k : Nat, k ≤ gs_ct m (R * C) → gs_ct m (R * C) < n + k → wY_maskSelect_7 post (nI (gs_ct m (R * C))) (nI R) (nI C) (nI F) fn fl n (nI k) d x m s (gs_ou (gs_so m d F o (R * C)) o k) := by
  intro n
  have hc := gs_ct_le m (R * C)
  induction n with
  | zero => intro k h1 h2; omega
  | succ n ih =>
    intro k h1 h2
    refine pk_le (gs_ct m (R * C)) k (fun h => ?_) (fun h => ?_)
    · have e : k = gs_ct m (R * C) := by omega
      rw [e, gs_ou_e]
      exact hp
    · have K := ih (k + 1) (by omega) (by omega)
      rw [← gs_in_T h] at K
      have G := gs_yms_i (post := post) (x1 := nI (gs_ct m (R * C))) (fn := fn) (fl := fl) hT hF (by omega) K (R * C + 1) 0 (by omega) (by omega)
      rw [gs_in_0] at G
      exact ⟨R * C + 1, G⟩
theorem gs_yms {post : Int32 → SY → Prop} {R C F : Nat} (hT : R * C ≤ 12) (hF : F ≤ 4) (hp : post (nI (gs_ct m (R * C))) (nI R, nI C, nI F, fn, nI (gs_ct m (R * C)), d, x, m, s, gs_so m d F o (R * C))) : wpY_maskSelect post (nI R, nI C, nI F, fn, fl, d, x, m, s, o) := by
  unfold wpY_maskSelect
  dsimp only
  refine gs_ymc hT ?_
  have K := gs_yms_l (fl := fl) hT hF hp (gs_ct m (R * C) + 1) 0 (by omega) (by omega)
  rw [gs_ou_0] at K
  exact ⟨_, K⟩
end
end
section
/-! take: content functions over out -/
theorem gs_cell {post : Int32 → Prop} {fr fn fl : Int32} {d x : Nat → Int64} {m s : Nat → Int32} {o : Nat → Int64} {C F r c : Nat} (h : F + r * C + c < 16) (hp : post (nI (F + r * C + c))) : wpY_cell post (fr, nI C, nI F, fn, fl, d, x, m, s, o) (nI r) (nI c) := by
  unfold wpY_cell
  dsimp only
  rw [pk_mul r C, nI_add F (r * C), nI_add (F + r * C) c, gs_a15 h]
  exact hp
theorem gs_dm {C k c : Nat} (hc : c < C) : (k * C + c) / C = k ∧ (k * C + c) % C = c := by
  have h0 : 0 < C := by omega
  constructor
  · rw [Nat.add_comm, Nat.add_mul_div_right _ _ h0, Nat.div_eq_of_lt hc, Nat.zero_add]
  · rw [Nat.add_comm, Nat.add_mul_mod_self_right, Nat.mod_eq_of_lt hc]
theorem gs_mb {a b A B : Nat} (ha : a ≤ A) (hb : b ≤ B) : a * b ≤ A * B := Nat.mul_le_mul ha hb
/-- column order: the cells of columns below k, and of column k the rows below r, are filled -/
def gs_fc (f : Nat → Int64) (R n k r : Nat) (o : Nat → Int64) : Nat → Int64 := fun j => if j < R * n ∧ (j % n < k ∨ (j % n = k ∧ j / n < r)) then f j else o j
theorem gs_rn {R n r k : Nat} (hr : r < R) (hk : k < n) : r * n + k < R * n := by
  have a : (r + 1) * n ≤ R * n := Nat.mul_le_mul_right n hr
  rw [Nat.succ_mul] at a
  omega
theorem gs_fc_s {f o : Nat → Int64} {R n k r : Nat} (hr : r < R) (hk : k < n) : vp_updL (gs_fc f R n k r o) (r * n + k) (f (r * n + k)) = gs_fc f R n k (r + 1) o := by
  funext j
  unfold vp_updL gs_fc
  obtain ⟨a, b⟩ := gs_dm (k := r) hk
  by_cases h : j = r * n + k
  · subst h
    rw [if_pos rfl, if_pos ⟨gs_rn hr hk, Or.inr ⟨b, by omega⟩⟩]
  · rw [if_neg h]
    by_cases c : j < R * n ∧ (j % n < k ∨ (j % n = k ∧ j / n < r))
    · rw [if_pos c, if_pos]
      refine ⟨c.1, ?_⟩
      rcases c.2 with c2 | c2
      · exact Or.inl c2
      · exact Or.inr ⟨c2.1, by omega⟩
    · rw [if_neg c, if_neg]
      intro z
      refine c ⟨z.1, ?_⟩
      rcases z.2 with c2 | c2
      · exact Or.inl c2
      · refine Or.inr ⟨c2.1, ?_⟩
        have q : ¬ j / n = r := by
          intro e
          apply h
          have := Nat.div_add_mod' j n
          rw [e, c2.1] at this
          exact this.symm
        have := c2.2
        omega
theorem gs_fc_n {f o : Nat → Int64} {R n k : Nat} (hn : 0 < n) : gs_fc f R n k R o = gs_fc f R n (k + 1) 0 o := by
  funext j
  have q : j < R * n → j / n < R := (Nat.div_lt_iff_lt_mul hn).mpr
  have A : (j < R * n ∧ (j % n < k ∨ (j % n = k ∧ j / n < R))) ↔ (j < R * n ∧ (j % n < k + 1 ∨ (j % n = k + 1 ∧ j / n < 0))) := by
    constructor
    · intro z
      refine ⟨z.1, Or.inl ?_⟩
      rcases z.2 with c2 | c2
      · omega
      · have := c2.1
        omega
    · intro z
      refine ⟨z.1, ?_⟩
      rcases z.2 with c2 | c2
      · by_cases e : j % n = k
        · exact Or.inr ⟨e, q z.1⟩
        · exact Or.inl (by omega)
      · exact absurd c2.2 (Nat.not_lt_zero _)
  exact ite_cond_congr (propext A)
theorem gs_fc_0 {f o : Nat → Int64} {R n : Nat} : gs_fc f R n 0 0 o = o := by
  funext j
  unfold gs_fc
  rw [if_neg]
  intro z
  rcases z.2 with c2 | c2
  · exact absurd c2 (Nat.not_lt_zero _)
  · exact absurd c2.2 (Nat.not_lt_zero _)
theorem gs_fc_e {f o : Nat → Int64} {R n : Nat} : gs_fc f R n n 0 o = gs_ou f o (R * n) := by
  funext j
  unfold gs_fc gs_ou
  by_cases c : j < R * n
  · have hn : 0 < n := by
      rcases Nat.eq_zero_or_pos n with e | e
      · subst e; rw [Nat.mul_zero] at c; omega
      · exact e
    rw [if_pos c, if_pos ⟨c, Or.inl (Nat.mod_lt j hn)⟩]
  · rw [if_neg c, if_neg]
    exact fun z => c z.1
def gs_fR (R C F : Nat) (d x : Nat → Int64) : Nat → Int64 := fun j => d (F + gs_w R (x (j / C)) * C + j % C)
def gs_fC (C F n : Nat) (d x : Nat → Int64) : Nat → Int64 := fun j => d (F + j / n * C + gs_w C (x (j % n)))
theorem gs_fR_at {R C F k c : Nat} {d x : Nat → Int64} (hc : c < C) : gs_fR R C F d x (k * C + c) = d (F + gs_w R (x k) * C + c) := by
  unfold gs_fR
  rw [(gs_dm hc).1, (gs_dm hc).2]
theorem gs_fC_at {C F n r k : Nat} {d x : Nat → Int64} (hk : k < n) : gs_fC C F n d x (r * n + k) = d (F + r * C + gs_w C (x k)) := by
  unfold gs_fC
  rw [(gs_dm hk).1, (gs_dm hk).2]
section
variable {fr fc fo fn fl x2 x3 : Int32} {d x : Nat → Int64} {m s : Nat → Int32} {o : Nat → Int64}
theorem gs_xt70 {post : Int32 → SX → Prop} {J : Int32 → (Nat → Int64) → (Nat → Int64) → (Nat → Int32) → (Nat → Int32) → (Nat → Int64) → Prop} {R C F k : Nat} (hC : C ≤ 4) (hR : R ≤ 3) (hF : F ≤ 4) (hk : k < 4) (g : gs_g R (x k)) (hJ : J (nI (k + 1)) d x m s (gs_ou (gs_fR R C F d x) o (k * C + C))) : ∀ n c : Nat, c ≤ C → C < n + c → wX_take_70 post J x2 x3 (nI k) (nI (gs_w R (x k))) fr (nI C) (nI F) fn fl n (nI c) d x m s (gs_ou (gs_fR R C F d x) o (k * C + c)) := by
  intro n
  have w := gs_w_lt g
  have b1 : gs_w R (x k) * C ≤ 2 * 4 := gs_mb (by omega) hC
  have b2 : k * C ≤ 3 * 4 := gs_mb (by omega) hC
  induction n with
  | zero => intro c h1 h2; omega
  | succ n ih =>
    intro c h1 h2
    refine pk_le C c (fun h => ?_) (fun h => ?_)
    · have e : c = C := by omega
      rw [e]
      exact nm_r (nI_1 k) hJ
    · have K := ih (c + 1) (by omega) (by omega)
      rw [← Nat.add_assoc, ← gs_ou_s, gs_fR_at h] at K
      rw [pk_mul (gs_w R (x k)) C, nI_add F (gs_w R (x k) * C), nI_add (F + gs_w R (x k) * C) c, pk_mul k C, nI_add (k * C) c, nI_clamp (n := F + gs_w R (x k) * C + c) (by omega), nI_clamp (n := k * C + c) (by omega)]
      exact ⟨vp_in_nI (by omega) (by omega), ⟨vp_in_nI (by omega) (by omega), nm_e (nm_r (nI_1 c) K)⟩⟩
theorem gs_xt52 {post : Int32 → SX → Prop} {R C F N : Nat} (hC : C ≤ 4) (hR : R ≤ 3) (hF : F ≤ 4) (hN : N ≤ 4) (g : gs_A R N x) (hp : post 0 (fr, nI C, nI F, fn, nI (N * C), d, x, m, s, gs_ou (gs_fR R C F d x) o (N * C))) : ∀ n k : Nat, k ≤ N → N < n + k → wX_take_52 post (nI R) (nI N) fr (nI C) (nI F) fn fl n (nI k) d x m s (gs_ou (gs_fR R C F d x) o (k * C)) := by
  intro n
  induction n with
  | zero => intro k h1 h2; omega
  | succ n ih =>
    intro k h1 h2
    refine pk_le N k (fun h => ?_) (fun h => ?_)
    · have e : k = N := by omega
      rw [e]
      exact nm_r (pk_mul N C) hp
    · have K := ih (k + 1) (by omega) (by omega)
      rw [Nat.succ_mul] at K
      exact gs_xw (by omega) (by omega) (g k h) ⟨C + 1, gs_xt70 hC hR hF (by omega) (g k h) K (C + 1) 0 (by omega) (by omega)⟩
theorem gs_xt160 {post : Int32 → SX → Prop} {J : Int32 → (Nat → Int64) → (Nat → Int64) → (Nat → Int32) → (Nat → Int32) → (Nat → Int64) → Prop} {R C F N k : Nat} (hC : C ≤ 4) (hR : R ≤ 3) (hF : F ≤ 4) (hN : N ≤ 4) (hk : k < N) (g : gs_g C (x k)) (hJ : J (nI (k + 1)) d x m s (gs_fc (gs_fC C F N d x) R N k R o)) : ∀ n r : Nat, r ≤ R → R < n + r → wX_take_160 post J x2 (nI N) (nI k) (nI (gs_w C (x k))) (nI R) (nI C) (nI F) fn fl n (nI r) d x m s (gs_fc (gs_fC C F N d x) R N k r o) := by
  intro n
  have w := gs_w_lt g
  induction n with
  | zero => intro c h1 h2; omega
  | succ n ih =>
    intro r h1 h2
    refine pk_le R r (fun h => ?_) (fun h => ?_)
    · have e : r = R := by omega
      rw [e]
      exact nm_r (nI_1 k) hJ
    · have b1 : r * C ≤ 2 * 4 := gs_mb (by omega) hC
      have b2 : r * N ≤ 2 * 4 := gs_mb (by omega) hN
      have K := ih (r + 1) (by omega) (by omega)
      rw [← gs_fc_s h hk, gs_fC_at hk] at K
      rw [pk_mul r C, nI_add F (r * C), nI_add (F + r * C) (gs_w C (x k)), pk_mul r N, nI_add (r * N) k, nI_clamp (n := F + r * C + gs_w C (x k)) (by omega), nI_clamp (n := r * N + k) (by omega)]
      exact ⟨vp_in_nI (by omega) (by omega), ⟨vp_in_nI (by omega) (by omega), nm_e (nm_r (nI_1 r) K)⟩⟩
theorem gs_xt142 {post : Int32 → SX → Prop} {R C F N : Nat} (hC : C ≤ 4) (hR : R ≤ 3) (hF : F ≤ 4) (hN : N ≤ 4) (g : gs_A C N x) (hp : post 0 (nI R, nI C, nI F, fn, nI (R * N), d, x, m, s, gs_ou (gs_fC C F N d x) o (R * N))) : ∀ n k : Nat, k ≤ N → N < n + k → wX_take_142 post (nI C) (nI N) (nI R) (nI C) (nI F) fn fl n (nI k) d x m s (gs_fc (gs_fC C F N d x) R N k 0 o) := by
  intro n
  induction n with
  | zero => intro k h1 h2; omega
  | succ n ih =>
    intro k h1 h2
    refine pk_le N k (fun h => ?_) (fun h => ?_)
    · have e : k = N := by omega
      rw [e, gs_fc_e]
      exact nm_r (pk_mul R N) hp
    · have K := ih (k + 1) (by omega) (by omega)
      rw [← gs_fc_n (by omega)] at K
      exact gs_xw (by omega) (by omega) (g k h) ⟨R + 1, gs_xt160 hC hR hF hN h (g k h) K (R + 1) 0 (by omega) (by omega)⟩
theorem gs_y134 {post : Int32 → SY → Prop} {J45 J68 : Int32 → Int32 → (Nat → Int64) → (Nat → Int64) → (Nat → Int32) → (Nat → Int32) → (Nat → Int64) → Prop} {x4 : Int32} {C F r c l y : Nat} (h : F + r * C + c < 16) (hl : l < 16) (hJ : J68 (nI (y + 1)) (nI (l + 1)) d x m s (vp_updL o l (d (F + r * C + c)))) : wY_take_134 post J45 J68 x2 x3 x4 (nI y) (nI r) (nI c) fr (nI C) (nI F) fn (nI l) d x m s o := by
  refine nm_r (nI_1 l) (gs_cell h ?_)
  rw [gs_a15 hl, nI_clamp (n := F + r * C + c) (by omega), nI_clamp (n := l) (by omega)]
  exact ⟨vp_in_nI h (by omega), ⟨vp_in_nI hl (by omega), nm_e (nm_r (nI_1 y) hJ)⟩⟩
theorem gs_y68R {post : Int32 → SY → Prop} {J : Int32 → Int32 → (Nat → Int64) → (Nat → Int64) → (Nat → Int32) → (Nat → Int32) → (Nat → Int64) → Prop} {R C F k : Nat} (hC : C ≤ 4) (hR : R ≤ 3) (hF : F ≤ 4) (hk : k < 4) (g : gs_g R (x k)) (hJ : J (nI (k + 1)) (nI (k * C + C)) d x m s (gs_ou (gs_fR R C F d x) o (k * C + C))) : ∀ n c : Nat, c ≤ C → C < n + c → wY_take_68 post J 0 (nI R) (nI k) fr (nI C) (nI F) fn n (nI c) (nI (k * C + c)) d x m s (gs_ou (gs_fR R C F d x) o (k * C + c)) := by
  intro n
  have w := gs_w_lt g
  have b1 : gs_w R (x k) * C ≤ 2 * 4 := gs_mb (by omega) hC
  have b2 : k * C ≤ 3 * 4 := gs_mb (by omega) hC
  induction n with
  | zero => intro c h1 h2; omega
  | succ n ih =>
    intro c h1 h2
    refine br_t rfl ?_
    refine pk_le C c (fun h => ?_) (fun h => ?_)
    · have e : c = C := by omega
      rw [e]
      exact nm_r (nI_1 k) hJ
    · have K := ih (c + 1) (by omega) (by omega)
      rw [← Nat.add_assoc, ← gs_ou_s, gs_fR_at h] at K
      refine br_t rfl ?_
      rw [gs_a3 (i := k) hk, nI_clamp (n := k) (by omega)]
      refine ⟨vp_in_nI hk (by omega), gs_place (by omega) (fun _ => ?_) (fun z => absurd g z)⟩
      exact br_t rfl (gs_y134 (by omega) (by omega) K)
theorem gs_y45R {post : Int32 → SY → Prop} {R C F N : Nat} (hC : C ≤ 4) (hR : R ≤ 3) (hF : F ≤ 4) (hN : N ≤ 4) (g : gs_A R N x) (hp : post 0 (fr, nI C, nI F, nI N, nI (N * C), d, x, m, s, gs_ou (gs_fR R C F d x) o (N * C))) : ∀ n k : Nat, k ≤ N → N < n + k → wY_take_45 post 0 (nI R) fr (nI C) (nI F) (nI N) n (nI k) (nI (k * C)) d x m s (gs_ou (gs_fR R C F d x) o (k * C)) := by
  intro n
  induction n with
  | zero => intro k h1 h2; omega
  | succ n ih =>
    intro k h1 h2
    refine br_t rfl ?_
    refine pk_le N k (fun h => ?_) (fun h => ?_)
    · have e : k = N := by omega
      rw [e]
      exact hp
    · have K := ih (k + 1) (by omega) (by omega)
      rw [Nat.succ_mul] at K
      exact ⟨C + 1, gs_y68R hC hR hF (by omega) (g k h) K (C + 1) 0 (by omega) (by omega)⟩
theorem gs_y68C {post : Int32 → SY → Prop} {J : Int32 → Int32 → (Nat → Int64) → (Nat → Int64) → (Nat → Int32) → (Nat → Int32) → (Nat → Int64) → Prop} {R C F N r : Nat} (hC : C ≤ 4) (hR : R ≤ 3) (hF : F ≤ 4) (hN : N ≤ 4) (hr : r < R) (g : gs_A C N x) (hJ : J (nI (r + 1)) (nI (r * N + N)) d x m s (gs_ou (gs_fC C F N d x) o (r * N + N))) : ∀ n k : Nat, k ≤ N → N < n + k → wY_take_68 post J 1 (nI C) (nI r) fr (nI C) (nI F) (nI N) n (nI k) (nI (r * N + k)) d x m s (gs_ou (gs_fC C F N d x) o (r * N + k)) := by
  intro n
  have b1 : r * C ≤ 2 * 4 := gs_mb (by omega) hC
  have b2 : r * N ≤ 2 * 4 := gs_mb (by omega) hN
  have n1 : ¬ (1 : Int32) = 0 := by decide
  induction n with
  | zero => intro k h1 h2; omega
  | succ n ih =>
    intro k h1 h2
    refine br_f n1 ?_
    refine pk_le N k (fun h => ?_) (fun h => ?_)
    · have e : k = N := by omega
      rw [e]
      exact nm_r (nI_1 r) hJ
    · have K := ih (k + 1) (by omega) (by omega)
      have w := gs_w_lt (g k h)
      rw [← Nat.add_assoc, ← gs_ou_s, gs_fC_at h] at K
      refine br_f n1 (br_f n1 ?_)
      rw [gs_a3 (i := k) (by omega), nI_clamp (n := k) (by omega)]
      refine ⟨vp_in_nI (by omega) (by omega), gs_place hC (fun _ => ?_) (fun z => absurd (g k h) z)⟩
      exact gs_y134 (by omega) (by omega) K
theorem gs_y45C {post : Int32 → SY → Prop} {R C F N : Nat} (hC : C ≤ 4) (hR : R ≤ 3) (hF : F ≤ 4) (hN : N ≤ 4) (g : gs_A C N x) (hp : post 0 (nI R, nI C, nI F, nI N, nI (R * N), d, x, m, s, gs_ou (gs_fC C F N d x) o (R * N))) : ∀ n r : Nat, r ≤ R → R < n + r → wY_take_45 post 1 (nI C) (nI R) (nI C) (nI F) (nI N) n (nI r) (nI (r * N)) d x m s (gs_ou (gs_fC C F N d x) o (r * N)) := by
  intro n
  have n1 : ¬ (1 : Int32) = 0 := by decide
  induction n with
  | zero => intro k h1 h2; omega
  | succ n ih =>
    intro r h1 h2
    refine br_f n1 ?_
    refine pk_le R r (fun h => ?_) (fun h => ?_)
    · have e : r = R := by omega
      rw [e]
      exact hp
    · have K := ih (r + 1) (by omega) (by omega)
      rw [Nat.succ_mul] at K
      exact ⟨N + 1, gs_y68C hC hR hF hN h g K (N + 1) 0 (by omega) (by omega)⟩
end
end
section
/-! scatter: gs_ev .. k p is the data's cell p after the first k indices -/
def gs_st (md : Int32) (a b : Int64) : Int64 := if md = 0 then b else a + b
def gs_ev (md : Int32) (ht : Nat → Nat → Bool) (u : Nat → Nat → Int64) (d : Nat → Int64) : Nat → Nat → Int64
  | 0 => d
  | k + 1 => fun p => if ht k p = true then gs_st md (gs_ev md ht u d k p) (u k p) else gs_ev md ht u d k p
/-- X within round k: the hit cells whose mark is below c are done -/
def gs_xp (md : Int32) (ht : Nat → Nat → Bool) (u : Nat → Nat → Int64) (d : Nat → Int64) (t : Nat → Nat) (k c : Nat) : Nat → Int64 := fun p => if ht k p = true ∧ t p < c then gs_ev md ht u d (k + 1) p else gs_ev md ht u d k p
/-- Y at cell P and index k: the cells below P are done, P has met the first k indices -/
def gs_yp (E : Nat → Nat → Int64) (n P k : Nat) : Nat → Int64 := fun p => E (if p < P then n else if p = P then k else 0) p
section
variable {md : Int32} {ht : Nat → Nat → Bool} {u : Nat → Nat → Int64} {d : Nat → Int64} {t : Nat → Nat} {E : Nat → Nat → Int64}
theorem gs_ev_h {k p : Nat} (h : ht k p = true) : gs_ev md ht u d (k + 1) p = gs_st md (gs_ev md ht u d k p) (u k p) := if_pos h
theorem gs_ev_n {k p : Nat} (h : ¬ ht k p = true) : gs_ev md ht u d (k + 1) p = gs_ev md ht u d k p := if_neg h
theorem gs_ev_o {p : Nat} (h : ∀ k, ¬ ht k p = true) : ∀ k, gs_ev md ht u d k p = d p := by
  intro k
  induction k with
  | zero => rfl
  | succ k ih => rw [gs_ev_n (h k), ih]
theorem gs_st_0 {a b : Int64} (h : md = 0) : gs_st md a b = b := if_pos h
theorem gs_st_1 {a b : Int64} (h : ¬ md = 0) : gs_st md a b = a + b := if_neg h
theorem gs_xp_0 {k : Nat} : gs_xp md ht u d t k 0 = gs_ev md ht u d k := by
  funext p
  exact if_neg (fun z => absurd z.2 (Nat.not_lt_zero _))
theorem gs_xp_e {k c : Nat} (h : ∀ p, ht k p = true → t p < c) : gs_xp md ht u d t k c = gs_ev md ht u d (k + 1) := by
  funext p
  unfold gs_xp
  by_cases z : ht k p = true
  · exact if_pos ⟨z, h p z⟩
  · rw [if_neg (fun y => z y.1), gs_ev_n z]
theorem gs_xp_at {k c p : Nat} (h : t p = c) : gs_xp md ht u d t k c p = gs_ev md ht u d k p := if_neg (fun z => absurd z.2 (by omega))
theorem gs_xp_s {k c q : Nat} (h : ht k q = true) (h1 : t q = c) (h2 : ∀ p, ht k p = true → t p = c → p = q) : vp_updL (gs_xp md ht u d t k c) q (gs_ev md ht u d (k + 1) q) = gs_xp md ht u d t k (c + 1) := by
  funext p
  unfold vp_updL gs_xp
  by_cases z : p = q
  · subst z
    rw [if_pos rfl, if_pos ⟨h, by omega⟩]
  · rw [if_neg z]
    by_cases y : ht k p = true ∧ t p < c
    · rw [if_pos y, if_pos ⟨y.1, by have := y.2; omega⟩]
    · rw [if_neg y, if_neg]
      intro w
      have a : ¬ t p = c := fun e => z (h2 p w.1 e)
      exact y ⟨w.1, by have := w.2; omega⟩
theorem gs_yp_n {n P : Nat} : gs_yp E n P n = gs_yp E n (P + 1) 0 := by
  funext p
  unfold gs_yp
  by_cases a : p < P
  · rw [if_pos a, if_pos (by omega)]
  · by_cases b : p = P
    · rw [if_neg a, if_pos b, if_pos (by omega)]
    · rw [if_neg a, if_neg b, if_neg (by omega), ite_self]
theorem gs_yp_at {n P k : Nat} : gs_yp E n P k P = E k P := by
  unfold gs_yp
  rw [if_neg (Nat.lt_irrefl P), if_pos rfl]
theorem gs_yp_ne {n P k j p : Nat} (h : ¬ p = P) : gs_yp E n P k p = gs_yp E n P j p := by
  unfold gs_yp
  rw [if_neg h, if_neg h]
theorem gs_yp_s {n P k : Nat} : vp_updL (gs_yp E n P k) P (E (k + 1) P) = gs_yp E n P (k + 1) := by
  funext p
  by_cases h : p = P
  · subst h
    rw [pk_uLs, gs_yp_at]
  · rw [pk_uLn h]
    exact gs_yp_ne h
theorem gs_yp_k {n P k : Nat} (e : E (k + 1) P = E k P) : gs_yp E n P (k + 1) = gs_yp E n P k := by
  funext p
  by_cases h : p = P
  · subst h
    rw [gs_yp_at, gs_yp_at, e]
  · exact gs_yp_ne h
theorem gs_yp_0 {n P : Nat} (h : ∀ p, p < P → E n p = E 0 p) : gs_yp E n P 0 = E 0 := by
  funext p
  unfold gs_yp
  by_cases a : p < P
  · rw [if_pos a]; exact h p a
  · rw [if_neg a, ite_self]
theorem gs_yp_e {n P : Nat} (h : ∀ p, P ≤ p → E n p = E 0 p) : gs_yp E n P 0 = E n := by
  funext p
  unfold gs_yp
  by_cases a : p < P
  · rw [if_pos a]
  · rw [if_neg a, ite_self]; exact (h p (by omega)).symm
theorem gs_yv_e {n P : Nat} (h : ∀ p, P ≤ p → ∀ k, ¬ ht k p = true) : gs_yp (gs_ev md ht u d) n P 0 = gs_ev md ht u d n := gs_yp_e (fun p q => (gs_ev_o (h p q) n).trans (gs_ev_o (h p q) 0).symm)
theorem gs_yv_s {n P : Nat} (h : ∀ p, p < P → ∀ k, ¬ ht k p = true) : gs_yp (gs_ev md ht u d) n P 0 = d := gs_yp_0 (fun p q => (gs_ev_o (h p q) n).trans (gs_ev_o (h p q) 0).symm)
end
section
variable {fr fc fo fn fl x3 x4 x5 : Int32} {d x : Nat → Int64} {m s : Nat → Int32} {o : Nat → Int64} {md : Int32} {ht : Nat → Nat → Bool} {u : Nat → Nat → Int64} {t : Nat → Nat}
theorem gs_xs83 {post : Int32 → SX → Prop} {J : Int32 → (Nat → Int64) → (Nat → Int64) → (Nat → Int32) → (Nat → Int32) → (Nat → Int64) → Prop} {C F k w : Nat} (hC : C ≤ 4) (hF : F ≤ 4) (hk : k < 4) (hw : w < 3) (h1 : ∀ c, c < C → ht k (F + w * C + c) = true ∧ t (F + w * C + c) = c ∧ u k (F + w * C + c) = (s (k * C + c)).toInt64) (h2 : ∀ c p, ht k p = true → t p = c → p = F + w * C + c) (h3 : ∀ p, ht k p = true → t p < C) (hJ : J (nI (k + 1)) (gs_ev md ht u d (k + 1)) x m s o) : ∀ n c : Nat, c ≤ C → C < n + c → wX_scatter_83 post J md x3 x4 x5 (nI k) (nI w) fr (nI C) (nI F) fn fl n (nI c) (gs_xp md ht u d t k c) x m s o := by
  intro n
  have b1 : w * C ≤ 2 * 4 := gs_mb (by omega) hC
  have b2 : k * C ≤ 3 * 4 := gs_mb (by omega) hC
  induction n with
  | zero => intro c g1 g2; omega
  | succ n ih =>
    intro c g1 g2
    refine pk_le C c (fun h => ?_) (fun h => ?_)
    · have e : c = C := by omega
      rw [e, gs_xp_e h3]
      exact nm_r (nI_1 k) hJ
    · have K := ih (c + 1) (by omega) (by omega)
      obtain ⟨q1, q2, q3⟩ := h1 c h
      have V := gs_ev_h (md := md) (u := u) (d := d) q1
      rw [q3, ← gs_xp_at (md := md) (ht := ht) (u := u) (d := d) (k := k) q2] at V
      have W := gs_xp_s (md := md) (u := u) (d := d) q1 q2 (h2 c)
      rw [V] at W
      rw [pk_mul k C, nI_add (k * C) c, pk_mul w C, nI_add F (w * C), nI_add (F + w * C) c, nI_clamp (n := k * C + c) (by omega)]
      refine ⟨vp_in_nI (by omega) (by omega), nm_e (nm_e ?_)⟩
      rw [nI_clamp (n := F + w * C + c) (by omega)]
      have hi : vp_in (nI (F + w * C + c)) 16 := vp_in_nI (by omega) (by omega)
      by_cases z : md = 0
      · rw [gs_st_0 z] at W
        exact br_t z ⟨hi, nm_r W (nm_r (nI_1 c) K)⟩
      · rw [gs_st_1 z] at W
        exact br_f z ⟨hi, ⟨hi, nm_r W (nm_r (nI_1 c) K)⟩⟩
theorem gs_xs172 {post : Int32 → SX → Prop} {J : Int32 → (Nat → Int64) → (Nat → Int64) → (Nat → Int32) → (Nat → Int32) → (Nat → Int64) → Prop} {R C F N k w : Nat} (hC : C ≤ 4) (hR : R ≤ 3) (hF : F ≤ 4) (hN : N ≤ 4) (hk : k < N) (hw : w < C) (h1 : ∀ r, r < R → ht k (F + r * C + w) = true ∧ t (F + r * C + w) = r ∧ u k (F + r * C + w) = (s (r * N + k)).toInt64) (h2 : ∀ r p, ht k p = true → t p = r → p = F + r * C + w) (h3 : ∀ p, ht k p = true → t p < R) (hJ : J (nI (k + 1)) (gs_ev md ht u d (k + 1)) x m s o) : ∀ n r : Nat, r ≤ R → R < n + r → wX_scatter_172 post J md x3 (nI N) x5 (nI k) (nI w) (nI R) (nI C) (nI F) fn fl n (nI r) (gs_xp md ht u d t k r) x m s o := by
  intro n
  induction n with
  | zero => intro r g1 g2; omega
  | succ n ih =>
    intro r g1 g2
    refine pk_le R r (fun h => ?_) (fun h => ?_)
    · have e : r = R := by omega
      rw [e, gs_xp_e h3]
      exact nm_r (nI_1 k) hJ
    · have K := ih (r + 1) (by omega) (by omega)
      have b1 : r * C ≤ 2 * 4 := gs_mb (by omega) hC
      have b2 : r * N ≤ 2 * 4 := gs_mb (by omega) hN
      obtain ⟨q1, q2, q3⟩ := h1 r h
      have V := gs_ev_h (md := md) (u := u) (d := d) q1
      rw [q3, ← gs_xp_at (md := md) (ht := ht) (u := u) (d := d) (k := k) q2] at V
      have W := gs_xp_s (md := md) (u := u) (d := d) q1 q2 (h2 r)
      rw [V] at W
      rw [pk_mul r N, nI_add (r * N) k, pk_mul r C, nI_add F (r * C), nI_add (F + r * C) w, nI_clamp (n := r * N + k) (by omega)]
      refine ⟨vp_in_nI (by omega) (by omega), nm_e (nm_e ?_)⟩
      rw [nI_clamp (n := F + r * C + w) (by omega)]
      have hi : vp_in (nI (F + r * C + w)) 16 := vp_in_nI (by omega) (by omega)
      by_cases z : md = 0
      · rw [gs_st_0 z] at W
        exact br_t z ⟨hi, nm_r W (nm_r (nI_1 r) K)⟩
      · rw [gs_st_1 z] at W
        exact br_f z ⟨hi, ⟨hi, nm_r W (nm_r (nI_1 r) K)⟩⟩
theorem gs_y145 {post : Int32 → SY → Prop} {J53 J65 J77 : Int32 → (Nat → Int64) → (Nat → Int64) → (Nat → Int32) → (Nat → Int32) → (Nat → Int64) → Prop} {C F r c k z : Nat} (hz : z < 16) (h : F + r * C + c < 16) (hJ : J77 (nI (k + 1)) (vp_updL d (F + r * C + c) (gs_st md (d (F + r * C + c)) (s z).toInt64)) x m s o) : wY_scatter_145 post J53 J65 J77 md x3 x4 (nI r) (nI c) (nI k) (nI z) fr (nI C) (nI F) fn fl d x m s o := by
  unfold wY_scatter_145
  rw [gs_a15 hz, nI_clamp (n := z) (by omega)]
  refine ⟨vp_in_nI hz (by omega), nm_e ?_⟩
  have hi : vp_in (nI (F + r * C + c)) 16 := vp_in_nI h (by omega)
  by_cases q : md = 0
  · rw [gs_st_0 q] at hJ
    refine br_t q (gs_cell h ?_)
    rw [nI_clamp (n := F + r * C + c) (by omega)]
    exact ⟨hi, nm_e (nm_r (nI_1 k) hJ)⟩
  · rw [gs_st_1 q] at hJ
    refine br_f q (gs_cell h ?_)
    rw [nI_clamp (n := F + r * C + c) (by omega)]
    exact ⟨hi, ⟨hi, nm_e (nm_r (nI_1 k) hJ)⟩⟩
theorem gs_y77R {post : Int32 → SY → Prop} {J53 J65 : Int32 → (Nat → Int64) → (Nat → Int64) → (Nat → Int32) → (Nat → Int32) → (Nat → Int64) → Prop} {R C F N r c : Nat} (hC : C ≤ 4) (hR : R ≤ 3) (hF : F ≤ 4) (hN : N ≤ 4) (hr : r < R) (hc : c < C) (g : gs_A R N x) (h1 : ∀ k, ht k (F + r * C + c) = true ↔ gs_w R (x k) = r) (h2 : ∀ k, u k (F + r * C + c) = (s (k * C + c)).toInt64) (hJ : J65 (nI (c + 1)) (gs_yp (gs_ev md ht u d) N (F + r * C + c) N) x m s o) : ∀ n k : Nat, k ≤ N → N < n + k → wY_scatter_77 post J53 J65 md 0 (nI R) (nI r) (nI c) fr (nI C) (nI F) (nI N) fl n (nI k) (gs_yp (gs_ev md ht u d) N (F + r * C + c) k) x m s o := by
  intro n
  have b1 : r * C ≤ 2 * 4 := gs_mb (by omega) hC
  induction n with
  | zero => intro k g1 g2; omega
  | succ n ih =>
    intro k g1 g2
    refine pk_le N k (fun h => ?_) (fun h => ?_)
    · have e : k = N := by omega
      rw [e]
      exact nm_r (nI_1 c) hJ
    · have K := ih (k + 1) (by omega) (by omega)
      have b2 : k * C ≤ 3 * 4 := gs_mb (by omega) hC
      have w := gs_w_lt (g k h)
      rw [gs_a3 (i := k) (by omega), nI_clamp (n := k) (by omega)]
      refine ⟨vp_in_nI (by omega) (by omega), gs_place (by omega) (fun _ => br_t rfl ?_) (fun z => absurd (g k h) z)⟩
      refine pk_eq (gs_w R (x k)) r (fun e => br_t rfl ?_) (fun e => ?_)
      · rw [pk_mul k C, nI_add (k * C) c]
        refine gs_y145 (by omega) (by omega) ?_
        rw [gs_yp_at, ← h2 k, ← gs_ev_h ((h1 k).mpr e), gs_yp_s]
        exact K
      · rw [gs_yp_k (gs_ev_n (fun y => e ((h1 k).mp y)))] at K
        exact nm_r (nI_1 k) K
theorem gs_y65R {post : Int32 → SY → Prop} {J53 : Int32 → (Nat → Int64) → (Nat → Int64) → (Nat → Int32) → (Nat → Int32) → (Nat → Int64) → Prop} {R C F N r : Nat} (hC : C ≤ 4) (hR : R ≤ 3) (hF : F ≤ 4) (hN : N ≤ 4) (hr : r < R) (g : gs_A R N x) (h1 : ∀ c, c < C → ∀ k, ht k (F + r * C + c) = true ↔ gs_w R (x k) = r) (h2 : ∀ c, c < C → ∀ k, u k (F + r * C + c) = (s (k * C + c)).toInt64) (hJ : J53 (nI (r + 1)) (gs_yp (gs_ev md ht u d) N (F + r * C + C) 0) x m s o) : ∀ n c : Nat, c ≤ C → C < n + c → wY_scatter_65 post J53 md 0 (nI R) (nI r) fr (nI C) (nI F) (nI N) fl n (nI c) (gs_yp (gs_ev md ht u d) N (F + r * C + c) 0) x m s o := by
  intro n
  induction n with
  | zero => intro k g1 g2; omega
  | succ n ih =>
    intro c g1 g2
    refine pk_le C c (fun h => ?_) (fun h => ?_)
    · have e : c = C := by omega
      rw [e]
      exact nm_r (nI_1 r) hJ
    · have K := ih (c + 1) (by omega) (by omega)
      rw [← Nat.add_assoc, ← gs_yp_n] at K
      exact ⟨N + 1, gs_y77R hC hR hF hN hr h g (h1 c h) (h2 c h) K (N + 1) 0 (by omega) (by omega)⟩
theorem gs_y53R {post : Int32 → SY → Prop} {R C F N : Nat} (hC : C ≤ 4) (hR : R ≤ 3) (hF : F ≤ 4) (hN : N ≤ 4) (g : gs_A R N x) (h1 : ∀ r, r < R → ∀ c, c < C → ∀ k, ht k (F + r * C + c) = true ↔ gs_w R (x k) = r) (h2 : ∀ r, r < R → ∀ c, c < C → ∀ k, u k (F + r * C + c) = (s (k * C + c)).toInt64) (h3 : ∀ p, F + R * C ≤ p → ∀ k, ¬ ht k p = true) (hp : post 0 (nI R, nI C, nI F, nI N, fl, gs_ev md ht u d N, x, m, s, o)) : ∀ n r : Nat, r ≤ R → R < n + r → wY_scatter_53 post md 0 (nI R) (nI R) (nI C) (nI F) (nI N) fl n (nI r) (gs_yp (gs_ev md ht u d) N (F + r * C) 0) x m s o := by
  intro n
  induction n with
  | zero => intro k g1 g2; omega
  | succ n ih =>
    intro r g1 g2
    refine pk_le R r (fun h => ?_) (fun h => ?_)
    · have e : r = R := by omega
      rw [e, gs_yv_e h3]
      exact hp
    · have K := ih (r + 1) (by omega) (by omega)
      rw [Nat.succ_mul, ← Nat.add_assoc] at K
      exact ⟨C + 1, gs_y65R hC hR hF hN h g (h1 r h) (h2 r h) K (C + 1) 0 (by omega) (by omega)⟩
theorem gs_y77C {post : Int32 → SY → Prop} {J53 J65 : Int32 → (Nat → Int64) → (Nat → Int64) → (Nat → Int32) → (Nat → Int32) → (Nat → Int64) → Prop} {R C F N r c : Nat} (hC : C ≤ 4) (hR : R ≤ 3) (hF : F ≤ 4) (hN : N ≤ 4) (hr : r < R) (hc : c < C) (g : gs_A C N x) (h1 : ∀ k, ht k (F + r * C + c) = true ↔ gs_w C (x k) = c) (h2 : ∀ k, u k (F + r * C + c) = (s (r * N + k)).toInt64) (hJ : J65 (nI (c + 1)) (gs_yp (gs_ev md ht u d) N (F + r * C + c) N) x m s o) : ∀ n k : Nat, k ≤ N → N < n + k → wY_scatter_77 post J53 J65 md 1 (nI C) (nI r) (nI c) fr (nI C) (nI F) (nI N) fl n (nI k) (gs_yp (gs_ev md ht u d) N (F + r * C + c) k) x m s o := by
  intro n
  have b1 : r * C ≤ 2 * 4 := gs_mb (by omega) hC
  have b2 : r * N ≤ 2 * 4 := gs_mb (by omega) hN
  have n1 : ¬ (1 : Int32) = 0 := by decide
  induction n with
  | zero => intro k g1 g2; omega
  | succ n ih =>
    intro k g1 g2
    refine pk_le N k (fun h => ?_) (fun h => ?_)
    · have e : k = N := by omega
      rw [e]
      exact nm_r (nI_1 c) hJ
    · have K := ih (k + 1) (by omega) (by omega)
      have w := gs_w_lt (g k h)
      rw [gs_a3 (i := k) (by omega), nI_clamp (n := k) (by omega)]
      refine ⟨vp_in_nI (by omega) (by omega), gs_place hC (fun _ => br_f n1 ?_) (fun z => absurd (g k h) z)⟩
      refine pk_eq (gs_w C (x k)) c (fun e => br_f n1 ?_) (fun e => ?_)
      · rw [pk_mul r N, nI_add (r * N) k]
        refine gs_y145 (by omega) (by omega) ?_
        rw [gs_yp_at, ← h2 k, ← gs_ev_h ((h1 k).mpr e), gs_yp_s]
        exact K
      · rw [gs_yp_k (gs_ev_n (fun y => e ((h1 k).mp y)))] at K
        exact nm_r (nI_1 k) K
theorem gs_y65C {post : Int32 → SY → Prop} {J53 : Int32 → (Nat → Int64) → (Nat → Int64) → (Nat → Int32) → (Nat → Int32) → (Nat → Int64) → Prop} {R C F N r : Nat} (hC : C ≤ 4) (hR : R ≤ 3) (hF : F ≤ 4) (hN : N ≤ 4) (hr : r < R) (g : gs_A C N x) (h1 : ∀ c, c < C → ∀ k, ht k (F + r * C + c) = true ↔ gs_w C (x k) = c) (h2 : ∀ c, c < C → ∀ k, u k (F + r * C + c) = (s (r * N + k)).toInt64) (hJ : J53 (nI (r + 1)) (gs_yp (gs_ev md ht u d) N (F + r * C + C) 0) x m s o) : ∀ n c : Nat, c ≤ C → C < n + c → wY_scatter_65 post J53 md 1 (nI C) (nI r) fr (nI C) (nI F) (nI N) fl n (nI c) (gs_yp (gs_ev md ht u d) N (F + r * C + c) 0) x m s o := by
  intro n
  induction n with
  | zero => intro k g1 g2; omega
  | succ n ih =>
    intro c g1 g2
    refine pk_le C c (fun h => ?_) (fun h => ?_)
    · have e : c = C := by omega
      rw [e]
      exact nm_r (nI_1 r) hJ
    · have K := ih (c + 1) (by omega) (by omega)
      rw [← Nat.add_assoc, ← gs_yp_n] at K
      exact ⟨N + 1, gs_y77C hC hR hF hN hr h g (h1 c h) (h2 c h) K (N + 1) 0 (by omega) (by omega)⟩
theorem gs_y53C {post : Int32 → SY → Prop} {R C F N : Nat} (hC : C ≤ 4) (hR : R ≤ 3) (hF : F ≤ 4) (hN : N ≤ 4) (g : gs_A C N x) (h1 : ∀ r, r < R → ∀ c, c < C → ∀ k, ht k (F + r * C + c) = true ↔ gs_w C (x k) = c) (h2 : ∀ r, r < R → ∀ c, c < C → ∀ k, u k (F + r * C + c) = (s (r * N + k)).toInt64) (h3 : ∀ p, F + R * C ≤ p → ∀ k, ¬ ht k p = true) (hp : post 0 (nI R, nI C, nI F, nI N, fl, gs_ev md ht u d N, x, m, s, o)) : ∀ n r : Nat, r ≤ R → R < n + r → wY_scatter_53 post md 1 (nI C) (nI R) (nI C) (nI F) (nI N) fl n (nI r) (gs_yp (gs_ev md ht u d) N (F + r * C) 0) x m s o := by
  intro n
  induction n with
  | zero => intro k g1 g2; omega
  | succ n ih =>
    intro r g1 g2
    refine pk_le R r (fun h => ?_) (fun h => ?_)
    · have e : r = R := by omega
      rw [e, gs_yv_e h3]
      exact hp
    · have K := ih (r + 1) (by omega) (by omega)
      rw [Nat.succ_mul, ← Nat.add_assoc] at K
      exact ⟨C + 1, gs_y65C hC hR hF hN h g (h1 r h) (h2 r h) K (C + 1) 0 (by omega) (by omega)⟩
end
end
section
/-! scatter's outer loops, then take and scatter whole -/
def gs_hR (R C F : Nat) (x : Nat → Int64) (k p : Nat) : Bool := decide (F ≤ p ∧ p < F + R * C ∧ gs_w R (x k) = (p - F) / C)
def gs_uR (C F : Nat) (s : Nat → Int32) (k p : Nat) : Int64 := (s (k * C + (p - F) % C)).toInt64
def gs_hC (R C F : Nat) (x : Nat → Int64) (k p : Nat) : Bool := decide (F ≤ p ∧ p < F + R * C ∧ gs_w C (x k) = (p - F) % C)
def gs_uC (C F N : Nat) (s : Nat → Int32) (k p : Nat) : Int64 := (s ((p - F) / C * N + k)).toInt64
theorem gs_pf {F r C c : Nat} (hc : c < C) : (F + r * C + c - F) / C = r ∧ (F + r * C + c - F) % C = c := by
  rw [show F + r * C + c - F = r * C + c by omega]
  exact gs_dm hc
section
variable {R C F N : Nat} {x : Nat → Int64} {s : Nat → Int32}
theorem gs_hR_i {r c : Nat} (hr : r < R) (hc : c < C) (k : Nat) : gs_hR R C F x k (F + r * C + c) = true ↔ gs_w R (x k) = r := by
  unfold gs_hR
  have a := gs_rn hr hc
  rw [decide_eq_true_iff, (gs_pf hc).1]
  exact ⟨fun z => z.2.2, fun z => ⟨by omega, by omega, z⟩⟩
theorem gs_hC_i {r c : Nat} (hr : r < R) (hc : c < C) (k : Nat) : gs_hC R C F x k (F + r * C + c) = true ↔ gs_w C (x k) = c := by
  unfold gs_hC
  have a := gs_rn hr hc
  rw [decide_eq_true_iff, (gs_pf hc).2]
  exact ⟨fun z => z.2.2, fun z => ⟨by omega, by omega, z⟩⟩
theorem gs_uR_i {r c : Nat} (hc : c < C) (k : Nat) : gs_uR C F s k (F + r * C + c) = (s (k * C + c)).toInt64 := by
  unfold gs_uR
  rw [(gs_pf hc).2]
theorem gs_uC_i {r c : Nat} (hc : c < C) (k : Nat) : gs_uC C F N s k (F + r * C + c) = (s (r * N + k)).toInt64 := by
  unfold gs_uC
  rw [(gs_pf hc).1]
theorem gs_hR_d {k p : Nat} (h : gs_hR R C F x k p = true) : F ≤ p ∧ p < F + R * C ∧ gs_w R (x k) = (p - F) / C := of_decide_eq_true h
theorem gs_hC_d {k p : Nat} (h : gs_hC R C F x k p = true) : F ≤ p ∧ p < F + R * C ∧ gs_w C (x k) = (p - F) % C := of_decide_eq_true h
theorem gs_hR_u {k c p : Nat} (h : gs_hR R C F x k p = true) (e : (p - F) % C = c) : p = F + gs_w R (x k) * C + c := by
  obtain ⟨a, _, b⟩ := gs_hR_d h
  have q := Nat.div_add_mod' (p - F) C
  rw [← b, e] at q
  omega
theorem gs_hC_u {k r p : Nat} (h : gs_hC R C F x k p = true) (e : (p - F) / C = r) : p = F + r * C + gs_w C (x k) := by
  obtain ⟨a, _, b⟩ := gs_hC_d h
  have q := Nat.div_add_mod' (p - F) C
  rw [← b, e] at q
  omega
theorem gs_hC_r {k p : Nat} (hC : 0 < C) (h : gs_hC R C F x k p = true) : (p - F) / C < R := by
  obtain ⟨a, b, _⟩ := gs_hC_d h
  exact (Nat.div_lt_iff_lt_mul hC).mpr (by omega)
end
section
variable {fr fc fo fn fl : Int32} {d x : Nat → Int64} {m s : Nat → Int32} {o : Nat → Int64} {md : Int32}
theorem gs_xs59R {post : Int32 → SX → Prop} {R C F N : Nat} (hC0 : 1 ≤ C) (hC : C ≤ 4) (hR : R ≤ 3) (hF : F ≤ 4) (hN : N ≤ 4) (g : gs_A R N x) (hp : post 0 (nI R, nI C, nI F, nI N, fl, gs_ev md (gs_hR R C F x) (gs_uR C F s) d N, x, m, s, o)) : ∀ n k : Nat, k ≤ N → N < n + k → wX_scatter_59 post md (nI R) (nI N) 1 (nI R) (nI C) (nI F) (nI N) fl n (nI k) (gs_ev md (gs_hR R C F x) (gs_uR C F s) d k) x m s o := by
  intro n
  have n1 : ¬ (1 : Int32) = 0 := by decide
  induction n with
  | zero => intro k g1 g2; omega
  | succ n ih =>
    intro k g1 g2
    refine pk_le N k (fun h => ?_) (fun h => ?_)
    · have e : k = N := by omega
      rw [e]
      exact hp
    · have K := ih (k + 1) (by omega) (by omega)
      have w := gs_w_lt (g k h)
      have G := gs_xs83 (post := post) (x3 := nI R) (x4 := nI N) (x5 := 1) (fr := nI R) (fn := nI N) (fl := fl) (t := fun p => (p - F) % C) (w := gs_w R (x k)) hC hF (by omega) (by omega) (fun c hc => ⟨(gs_hR_i w hc k).mpr rfl, (gs_pf hc).2, gs_uR_i hc k⟩) (fun c p a b => gs_hR_u a b) (fun p _ => Nat.mod_lt _ (by omega)) K (C + 1) 0 (by omega) (by omega)
      rw [gs_xp_0] at G
      exact gs_xw (by omega) (by omega) (g k h) (br_f n1 ⟨C + 1, G⟩)
theorem gs_xs59C {post : Int32 → SX → Prop} {R C F N : Nat} (hC0 : 1 ≤ C) (hC : C ≤ 4) (hR : R ≤ 3) (hF : F ≤ 4) (hN : N ≤ 4) (g : gs_A C N x) (hp : post 0 (nI R, nI C, nI F, nI N, fl, gs_ev md (gs_hC R C F x) (gs_uC C F N s) d N, x, m, s, o)) : ∀ n k : Nat, k ≤ N → N < n + k → wX_scatter_59 post md (nI C) (nI N) 0 (nI R) (nI C) (nI F) (nI N) fl n (nI k) (gs_ev md (gs_hC R C F x) (gs_uC C F N s) d k) x m s o := by
  intro n
  induction n with
  | zero => intro k g1 g2; omega
  | succ n ih =>
    intro k g1 g2
    refine pk_le N k (fun h => ?_) (fun h => ?_)
    · have e : k = N := by omega
      rw [e]
      exact hp
    · have K := ih (k + 1) (by omega) (by omega)
      have w := gs_w_lt (g k h)
      have G := gs_xs172 (post := post) (x3 := nI C) (x5 := 0) (fn := nI N) (fl := fl) (t := fun p => (p - F) / C) (w := gs_w C (x k)) hC hR hF hN h w (fun r hr => ⟨(gs_hC_i hr w k).mpr rfl, (gs_pf w).1, gs_uC_i w k⟩) (fun r p a b => gs_hC_u a b) (fun p a => gs_hC_r (by omega) a) K (R + 1) 0 (by omega) (by omega)
      rw [gs_xp_0] at G
      exact gs_xw (by omega) (by omega) (g k h) (br_t rfl ⟨R + 1, G⟩)
theorem gs_b2 {p a b : Int32} {A B : Prop} (h : p = a ∨ p = b) (k : A) : (p = a → A) ∧ (¬ p = a → ((p = b → A) ∧ (¬ p = b → B))) := by
  by_cases e : p = a
  · exact br_t e k
  · exact br_f e (br_t (h.resolve_left e) k)
theorem gs_ax (p : Int32) : (p = 0 ∨ p = -2) ∨ ((¬ p = 0 ∧ ¬ p = -2) ∧ (p = 1 ∨ p = -1)) ∨ ((¬ p = 0 ∧ ¬ p = -2) ∧ (¬ p = 1 ∧ ¬ p = -1)) := by
  by_cases a : p = 0
  · exact Or.inl (Or.inl a)
  · by_cases b : p = -2
    · exact Or.inl (Or.inr b)
    · by_cases c : p = 1
      · exact Or.inr (Or.inl ⟨⟨a, b⟩, Or.inl c⟩)
      · by_cases e : p = -1
        · exact Or.inr (Or.inl ⟨⟨a, b⟩, Or.inr e⟩)
        · exact Or.inr (Or.inr ⟨⟨a, b⟩, ⟨c, e⟩⟩)
theorem gs_xaR {post : Int32 → Prop} {p : Int32} (h : p = 0 ∨ p = -2) (hp : post fr) : wpX_axisDim post (fr, fc, fo, fn, fl, d, x, m, s, o) p := gs_b2 h hp
theorem gs_xaC {post : Int32 → Prop} {p : Int32} (h : ¬ p = 0 ∧ ¬ p = -2) (h2 : p = 1 ∨ p = -1) (hp : post fc) : wpX_axisDim post (fr, fc, fo, fn, fl, d, x, m, s, o) p := br_f h.1 (br_f h.2 (gs_b2 h2 hp))
theorem gs_xaN {post : Int32 → Prop} {p : Int32} (h : ¬ p = 0 ∧ ¬ p = -2) (h2 : ¬ p = 1 ∧ ¬ p = -1) (hp : post 0) : wpX_axisDim post (fr, fc, fo, fn, fl, d, x, m, s, o) p := br_f h.1 (br_f h.2 (br_f h2.1 (br_f h2.2 hp)))
theorem gs_ynR {post : Int32 → Prop} {p : Int32} (h : p = 0 ∨ p = -2) (hp : post 0) : wpY_norm post p := gs_b2 h hp
theorem gs_ynC {post : Int32 → Prop} {p : Int32} (h : ¬ p = 0 ∧ ¬ p = -2) (h2 : p = 1 ∨ p = -1) (hp : post 1) : wpY_norm post p := br_f h.1 (br_f h.2 (gs_b2 h2 hp))
theorem gs_ynN {post : Int32 → Prop} {p : Int32} (h : ¬ p = 0 ∧ ¬ p = -2) (h2 : ¬ p = 1 ∧ ¬ p = -1) (hp : post (-1)) : wpY_norm post p := br_f h.1 (br_f h.2 (br_f h2.1 (br_f h2.2 hp)))
end
end
section
/-! take, whole: one outcome for both sides -/
section
variable {R C F n l : Nat} {d x : Nat → Int64} {m s : Nat → Int32} {o : Nat → Int64}
theorem gs_tk_xR (hB : gs_B R C F n l) {p : Int32} (h : p = 0 ∨ p = -2) (a : gs_A R n x) {post : Int32 → SX → Prop} (hp : post 0 (nI R, nI C, nI F, nI n, nI (n * C), d, x, m, s, gs_ou (gs_fR R C F d x) o (n * C))) : wpX_take post (nI R, nI C, nI F, nI n, nI l, d, x, m, s, o) p := by
  obtain ⟨h1, h2, h3, h4, h5, h6, h7⟩ := hB
  have n1 : ¬ (1 : Int32) = 0 := by decide
  have K := gs_xt52 (fl := nI l) h4 h2 h5 h6 a hp (n + 1) 0 (by omega) (by omega)
  rw [Nat.zero_mul, gs_ou_0] at K
  unfold wpX_take
  dsimp only
  refine gs_xaR h (br_f (nI_ne0 (by omega) (by omega)) ?_)
  refine gs_xg (by omega) h6 (fun _ => br_f n1 ?_) (fun z => absurd a z)
  exact gs_b2 h (br_f n1 ⟨n + 1, K⟩)
theorem gs_tk_yR (hB : gs_B R C F n l) {p : Int32} (h : p = 0 ∨ p = -2) (a : gs_A R n x) {post : Int32 → SY → Prop} (hp : post 0 (nI R, nI C, nI F, nI n, nI (n * C), d, x, m, s, gs_ou (gs_fR R C F d x) o (n * C))) : wpY_take post (nI R, nI C, nI F, nI n, nI l, d, x, m, s, o) p := by
  obtain ⟨h1, h2, h3, h4, h5, h6, h7⟩ := hB
  have n1 : ¬ (1 : Int32) = 0 := by decide
  have K := gs_y45R h4 h2 h5 h6 a hp (n + 1) 0 (by omega) (by omega)
  rw [Nat.zero_mul, gs_ou_0] at K
  unfold wpY_take
  dsimp only
  refine gs_ynR h (br_t (by decide) (br_t rfl ?_))
  unfold wY_take_26
  exact gs_yg (by omega) h6 (fun _ => br_f n1 ⟨n + 1, K⟩) (fun z => absurd a z)
theorem gs_tk_xC (hB : gs_B R C F n l) {p : Int32} (h : ¬ p = 0 ∧ ¬ p = -2) (h' : p = 1 ∨ p = -1) (a : gs_A C n x) {post : Int32 → SX → Prop} (hp : post 0 (nI R, nI C, nI F, nI n, nI (R * n), d, x, m, s, gs_ou (gs_fC C F n d x) o (R * n))) : wpX_take post (nI R, nI C, nI F, nI n, nI l, d, x, m, s, o) p := by
  obtain ⟨h1, h2, h3, h4, h5, h6, h7⟩ := hB
  have n1 : ¬ (1 : Int32) = 0 := by decide
  have K := gs_xt142 (fl := nI l) h4 h2 h5 h6 a hp (n + 1) 0 (by omega) (by omega)
  rw [gs_fc_0] at K
  unfold wpX_take
  dsimp only
  refine gs_xaC h h' (br_f (nI_ne0 (by omega) (by omega)) ?_)
  refine gs_xg (by omega) h6 (fun _ => br_f n1 ?_) (fun z => absurd a z)
  exact br_f h.1 (br_f h.2 (br_t rfl ⟨n + 1, K⟩))
theorem gs_tk_yC (hB : gs_B R C F n l) {p : Int32} (h : ¬ p = 0 ∧ ¬ p = -2) (h' : p = 1 ∨ p = -1) (a : gs_A C n x) {post : Int32 → SY → Prop} (hp : post 0 (nI R, nI C, nI F, nI n, nI (R * n), d, x, m, s, gs_ou (gs_fC C F n d x) o (R * n))) : wpY_take post (nI R, nI C, nI F, nI n, nI l, d, x, m, s, o) p := by
  obtain ⟨h1, h2, h3, h4, h5, h6, h7⟩ := hB
  have n1 : ¬ (1 : Int32) = 0 := by decide
  have K := gs_y45C h4 h2 h5 h6 a hp (R + 1) 0 (by omega) (by omega)
  rw [Nat.zero_mul, gs_ou_0] at K
  unfold wpY_take
  dsimp only
  refine gs_ynC h h' (br_t (by decide) (br_f n1 ?_))
  unfold wY_take_26
  exact gs_yg (by omega) h6 (fun _ => br_f n1 ⟨R + 1, K⟩) (fun z => absurd a z)
theorem gs_tk (hB : gs_B R C F n l) (p : Int32) : ∃ (r : Int32) (l' : Nat) (o' : Nat → Int64), gs_B R C F n l' ∧ (∀ post : Int32 → SX → Prop, post r (nI R, nI C, nI F, nI n, nI l', d, x, m, s, o') → wpX_take post (nI R, nI C, nI F, nI n, nI l, d, x, m, s, o) p) ∧ (∀ post : Int32 → SY → Prop, post r (nI R, nI C, nI F, nI n, nI l', d, x, m, s, o') → wpY_take post (nI R, nI C, nI F, nI n, nI l, d, x, m, s, o) p) := by
  have hB' := hB
  obtain ⟨h1, h2, h3, h4, h5, h6, h7⟩ := hB
  have n1 : ¬ (1 : Int32) = 0 := by decide
  rcases gs_ax p with h | ⟨h, h'⟩ | ⟨h, h'⟩
  · by_cases a : gs_A R n x
    · have b : n * C ≤ 4 * 4 := gs_mb h6 h4
      exact ⟨0, n * C, _, ⟨h1, h2, h3, h4, h5, h6, by omega⟩, fun post hp => gs_tk_xR hB' h a hp, fun post hp => gs_tk_yR hB' h a hp⟩
    · refine ⟨3, l, o, hB', fun post hp => ?_, fun post hp => ?_⟩
      · unfold wpX_take
        dsimp only
        refine gs_xaR h (br_f (nI_ne0 (by omega) (by omega)) ?_)
        exact gs_xg (by omega) h6 (fun z => absurd z a) (fun _ => br_t rfl hp)
      · unfold wpY_take
        dsimp only
        refine gs_ynR h (br_t (by decide) (br_t rfl ?_))
        unfold wY_take_26
        exact gs_yg (by omega) h6 (fun z => absurd z a) (fun _ => br_t rfl hp)
  · by_cases a : gs_A C n x
    · have b : R * n ≤ 3 * 4 := gs_mb h2 h6
      exact ⟨0, R * n, _, ⟨h1, h2, h3, h4, h5, h6, by omega⟩, fun post hp => gs_tk_xC hB' h h' a hp, fun post hp => gs_tk_yC hB' h h' a hp⟩
    · refine ⟨3, l, o, hB', fun post hp => ?_, fun post hp => ?_⟩
      · unfold wpX_take
        dsimp only
        refine gs_xaC h h' (br_f (nI_ne0 (by omega) (by omega)) ?_)
        exact gs_xg (by omega) h6 (fun z => absurd z a) (fun _ => br_t rfl hp)
      · unfold wpY_take
        dsimp only
        refine gs_ynC h h' (br_t (by decide) (br_f n1 ?_))
        unfold wY_take_26
        exact gs_yg (by omega) h6 (fun z => absurd z a) (fun _ => br_t rfl hp)
  · refine ⟨1, l, o, hB', fun post hp => ?_, fun post hp => ?_⟩
    · unfold wpX_take
      dsimp only
      exact gs_xaN h h' (br_t rfl hp)
    · unfold wpY_take
      dsimp only
      exact gs_ynN h h' (br_f (by decide) hp)
end
end
section
/-! scatter, whole: one outcome for both sides -/
section
variable {R C F n l : Nat} {d x : Nat → Int64} {m s : Nat → Int32} {o : Nat → Int64}
theorem gs_sc_xR (hB : gs_B R C F n l) {p q : Int32} (h : p = 0 ∨ p = -2) (hq : q = 0 ∨ q = 1) (a : gs_A R n x) {post : Int32 → SX → Prop} (hp : post 0 (nI R, nI C, nI F, nI n, nI l, gs_ev q (gs_hR R C F x) (gs_uR C F s) d n, x, m, s, o)) : wpX_scatter post (nI R, nI C, nI F, nI n, nI l, d, x, m, s, o) p q := by
  obtain ⟨h1, h2, h3, h4, h5, h6, h7⟩ := hB
  have n1 : ¬ (1 : Int32) = 0 := by decide
  have K := gs_xs59R h3 h4 h2 h5 h6 a hp (n + 1) 0 (by omega) (by omega)
  unfold wpX_scatter
  dsimp only
  refine gs_xaR h (br_f (nI_ne0 (by omega) (by omega)) (gs_b2 hq ?_))
  unfold wX_scatter_23
  refine gs_xg (by omega) h6 (fun _ => br_f n1 ?_) (fun z => absurd a z)
  exact gs_b2 h ⟨n + 1, K⟩
theorem gs_sc_yR (hB : gs_B R C F n l) {p q : Int32} (h : p = 0 ∨ p = -2) (hq : q = 0 ∨ q = 1) (a : gs_A R n x) {post : Int32 → SY → Prop} (hp : post 0 (nI R, nI C, nI F, nI n, nI l, gs_ev q (gs_hR R C F x) (gs_uR C F s) d n, x, m, s, o)) : wpY_scatter post (nI R, nI C, nI F, nI n, nI l, d, x, m, s, o) p q := by
  obtain ⟨h1, h2, h3, h4, h5, h6, h7⟩ := hB
  have n1 : ¬ (1 : Int32) = 0 := by decide
  have K := gs_y53R h4 h2 h5 h6 a (fun r hr c hc k => gs_hR_i hr hc k) (fun r _ c hc k => gs_uR_i hc k) (fun p g k z => by have := (gs_hR_d z).2.1; omega) hp (R + 1) 0 (by omega) (by omega)
  rw [Nat.zero_mul, Nat.add_zero, gs_yv_s (fun p g k z => by have := (gs_hR_d z).1; omega)] at K
  unfold wpY_scatter
  dsimp only
  refine gs_ynR h (br_t (by decide) (gs_b2 hq ?_))
  unfold wY_scatter_22
  refine br_t rfl ?_
  unfold wY_scatter_37
  exact gs_yg (by omega) h6 (fun _ => br_f n1 ⟨R + 1, K⟩) (fun z => absurd a z)
theorem gs_sc_xC (hB : gs_B R C F n l) {p q : Int32} (h : ¬ p = 0 ∧ ¬ p = -2) (h' : p = 1 ∨ p = -1) (hq : q = 0 ∨ q = 1) (a : gs_A C n x) {post : Int32 → SX → Prop} (hp : post 0 (nI R, nI C, nI F, nI n, nI l, gs_ev q (gs_hC R C F x) (gs_uC C F n s) d n, x, m, s, o)) : wpX_scatter post (nI R, nI C, nI F, nI n, nI l, d, x, m, s, o) p q := by
  obtain ⟨h1, h2, h3, h4, h5, h6, h7⟩ := hB
  have n1 : ¬ (1 : Int32) = 0 := by decide
  have K := gs_xs59C h3 h4 h2 h5 h6 a hp (n + 1) 0 (by omega) (by omega)
  unfold wpX_scatter
  dsimp only
  refine gs_xaC h h' (br_f (nI_ne0 (by omega) (by omega)) (gs_b2 hq ?_))
  unfold wX_scatter_23
  refine gs_xg (by omega) h6 (fun _ => br_f n1 ?_) (fun z => absurd a z)
  exact br_f h.1 (br_f h.2 ⟨n + 1, K⟩)
theorem gs_sc_yC (hB : gs_B R C F n l) {p q : Int32} (h : ¬ p = 0 ∧ ¬ p = -2) (h' : p = 1 ∨ p = -1) (hq : q = 0 ∨ q = 1) (a : gs_A C n x) {post : Int32 → SY → Prop} (hp : post 0 (nI R, nI C, nI F, nI n, nI l, gs_ev q (gs_hC R C F x) (gs_uC C F n s) d n, x, m, s, o)) : wpY_scatter post (nI R, nI C, nI F, nI n, nI l, d, x, m, s, o) p q := by
  obtain ⟨h1, h2, h3, h4, h5, h6, h7⟩ := hB
  have n1 : ¬ (1 : Int32) = 0 := by decide
  have K := gs_y53C h4 h2 h5 h6 a (fun r hr c hc k => gs_hC_i hr hc k) (fun r _ c hc k => gs_uC_i hc k) (fun p g k z => by have := (gs_hC_d z).2.1; omega) hp (R + 1) 0 (by omega) (by omega)
  rw [Nat.zero_mul, Nat.add_zero, gs_yv_s (fun p g k z => by have := (gs_hC_d z).1; omega)] at K
  unfold wpY_scatter
  dsimp only
  refine gs_ynC h h' (br_t (by decide) (gs_b2 hq ?_))
  unfold wY_scatter_22
  refine br_f n1 ?_
  unfold wY_scatter_37
  exact gs_yg (by omega) h6 (fun _ => br_f n1 ⟨R + 1, K⟩) (fun z => absurd a z)
theorem gs_sc (hB : gs_B R C F n l) (p q : Int32) : ∃ (r : Int32) (d' : Nat → Int64), (∀ post : Int32 → SX → Prop, post r (nI R, nI C, nI F, nI n, nI l, d', x, m, s, o) → wpX_scatter post (nI R, nI C, nI F, nI n, nI l, d, x, m, s, o) p q) ∧ (∀ post : Int32 → SY → Prop, post r (nI R, nI C, nI F, nI n, nI l, d', x, m, s, o) → wpY_scatter post (nI R, nI C, nI F, nI n, nI l, d, x, m, s, o) p q) := by
  have hB' := hB
  obtain ⟨h1, h2, h3, h4, h5, h6, h7⟩ := hB
  have n1 : ¬ (1 : Int32) = 0 := by decide
  have q2 : (q = 0 ∨ q = 1) ∨ (¬ q = 0 ∧ ¬ q = 1) := by
    by_cases e : q = 0
    · exact Or.inl (Or.inl e)
    · by_cases e' : q = 1
      · exact Or.inl (Or.inr e')
      · exact Or.inr ⟨e, e'⟩
  rcases gs_ax p with h | ⟨h, h'⟩ | ⟨h, h'⟩
  · rcases q2 with hq | hq
    · by_cases a : gs_A R n x
      · exact ⟨0, _, fun post hp => gs_sc_xR hB' h hq a hp, fun post hp => gs_sc_yR hB' h hq a hp⟩
      · refine ⟨3, d, fun post hp => ?_, fun post hp => ?_⟩
        · unfold wpX_scatter
          dsimp only
          refine gs_xaR h (br_f (nI_ne0 (by omega) (by omega)) (gs_b2 hq ?_))
          unfold wX_scatter_23
          exact gs_xg (by omega) h6 (fun z => absurd z a) (fun _ => br_t rfl hp)
        · unfold wpY_scatter
          dsimp only
          refine gs_ynR h (br_t (by decide) (gs_b2 hq ?_))
          unfold wY_scatter_22
          refine br_t rfl ?_
          unfold wY_scatter_37
          exact gs_yg (by omega) h6 (fun z => absurd z a) (fun _ => br_t rfl hp)
    · refine ⟨2, d, fun post hp => ?_, fun post hp => ?_⟩
      · unfold wpX_scatter
        dsimp only
        exact gs_xaR h (br_f (nI_ne0 (by omega) (by omega)) (br_f hq.1 (br_f hq.2 hp)))
      · unfold wpY_scatter
        dsimp only
        exact gs_ynR h (br_t (by decide) (br_f hq.1 (br_f hq.2 hp)))
  · rcases q2 with hq | hq
    · by_cases a : gs_A C n x
      · exact ⟨0, _, fun post hp => gs_sc_xC hB' h h' hq a hp, fun post hp => gs_sc_yC hB' h h' hq a hp⟩
      · refine ⟨3, d, fun post hp => ?_, fun post hp => ?_⟩
        · unfold wpX_scatter
          dsimp only
          refine gs_xaC h h' (br_f (nI_ne0 (by omega) (by omega)) (gs_b2 hq ?_))
          unfold wX_scatter_23
          exact gs_xg (by omega) h6 (fun z => absurd z a) (fun _ => br_t rfl hp)
        · unfold wpY_scatter
          dsimp only
          refine gs_ynC h h' (br_t (by decide) (gs_b2 hq ?_))
          unfold wY_scatter_22
          refine br_f n1 ?_
          unfold wY_scatter_37
          exact gs_yg (by omega) h6 (fun z => absurd z a) (fun _ => br_t rfl hp)
    · refine ⟨2, d, fun post hp => ?_, fun post hp => ?_⟩
      · unfold wpX_scatter
        dsimp only
        exact gs_xaC h h' (br_f (nI_ne0 (by omega) (by omega)) (br_f hq.1 (br_f hq.2 hp)))
      · unfold wpY_scatter
        dsimp only
        exact gs_ynC h h' (br_t (by decide) (br_f hq.1 (br_f hq.2 hp)))
  · refine ⟨1, d, fun post hp => ?_, fun post hp => ?_⟩
    · unfold wpX_scatter
      dsimp only
      exact gs_xaN h h' (br_t rfl hp)
    · unfold wpY_scatter
      dsimp only
      exact gs_ynN h h' (br_f (by decide) hp)
end
end
section
/-! put and read, buffer by buffer (printed by gen_putread.py) -/
section
variable {R C F n l : Nat} {d x : Nat → Int64} {m s : Nat → Int32} {o : Nat → Int64}
theorem gs_ysz0 {post : Int32 → Prop} (hp : post (nI 16)) : wpY_size post (nI R, nI C, nI F, nI n, nI l, d, x, m, s, o) 0 := by
  unfold wpY_size
  dsimp only
  exact br_t rfl hp
theorem gs_ysz1 {post : Int32 → Prop} (hp : post (nI 4)) : wpY_size post (nI R, nI C, nI F, nI n, nI l, d, x, m, s, o) 1 := by
  unfold wpY_size
  dsimp only
  exact br_f (by decide) (br_f (by decide) (br_t rfl hp))
theorem gs_ysz2 {post : Int32 → Prop} (hp : post (nI (R * C))) : wpY_size post (nI R, nI C, nI F, nI n, nI l, d, x, m, s, o) 2 := by
  unfold wpY_size
  dsimp only
  rw [← pk_mul] at hp
  exact br_f (by decide) (br_f (by decide) (br_f (by decide) (br_t rfl hp)))
theorem gs_ysz3 {post : Int32 → Prop} (hp : post (nI 16)) : wpY_size post (nI R, nI C, nI F, nI n, nI l, d, x, m, s, o) 3 := by
  unfold wpY_size
  dsimp only
  exact br_f (by decide) (br_t rfl hp)
theorem gs_ysz4 {post : Int32 → Prop} (hp : post (nI 1)) : wpY_size post (nI R, nI C, nI F, nI n, nI l, d, x, m, s, o) 4 := by
  unfold wpY_size
  dsimp only
  exact br_f (by decide) (br_f (by decide) (br_f (by decide) (br_f (by decide) (br_t rfl hp))))
theorem gs_ysz5 {post : Int32 → Prop} (hp : post (nI l)) : wpY_size post (nI R, nI C, nI F, nI n, nI l, d, x, m, s, o) 5 := by
  unfold wpY_size
  dsimp only
  exact br_f (by decide) (br_f (by decide) (br_f (by decide) (br_f (by decide) (br_f (by decide) (br_f (by decide) (br_t rfl hp))))))
theorem gs_ysz6 {post : Int32 → Prop} (hp : post (nI 1)) : wpY_size post (nI R, nI C, nI F, nI n, nI l, d, x, m, s, o) 6 := by
  unfold wpY_size
  dsimp only
  exact br_f (by decide) (br_f (by decide) (br_f (by decide) (br_f (by decide) (br_f (by decide) (br_t rfl hp)))))
theorem gs_yszN {post : Int32 → Prop} {p : Int32} (h : p < 0 ∨ ¬ p ≤ 6) (hp : post 0) : wpY_size post (nI R, nI C, nI F, nI n, nI l, d, x, m, s, o) p := by
  have e : ∀ c : Int32, ¬ c < 0 → c ≤ 6 → ¬ p = c := by
    intro c a b z
    subst z
    exact h.elim a (fun y => y b)
  unfold wpY_size
  dsimp only
  exact br_f (e 0 (by decide) (by decide)) (br_f (e 3 (by decide) (by decide)) (br_f (e 1 (by decide) (by decide)) (br_f (e 2 (by decide) (by decide)) (br_f (e 4 (by decide) (by decide)) (br_f (e 6 (by decide) (by decide)) (br_f (e 5 (by decide) (by decide)) (hp)))))))
theorem gs_px0 {post : Int32 → SX → Prop} {p : Int32} {v : Int64} (K : wX_put_67 post 0 p v (nI 16) (nI R) (nI C) (nI F) (nI n) (nI l) d x m s o) : wpX_put post (nI R, nI C, nI F, nI n, nI l, d, x, m, s, o) 0 p v := by
  unfold wpX_put
  dsimp only
  exact br_f (by decide) (br_t (by decide) (br_t rfl (K)))
theorem gs_px1 {post : Int32 → SX → Prop} {p : Int32} {v : Int64} (K : wX_put_67 post 1 p v (nI 4) (nI R) (nI C) (nI F) (nI n) (nI l) d x m s o) : wpX_put post (nI R, nI C, nI F, nI n, nI l, d, x, m, s, o) 1 p v := by
  unfold wpX_put
  dsimp only
  exact br_f (by decide) (br_t (by decide) (br_f (by decide) (br_t rfl (K))))
theorem gs_px2 {post : Int32 → SX → Prop} {p : Int32} {v : Int64} (K : wX_put_67 post 2 p v (nI (R * C)) (nI R) (nI C) (nI F) (nI n) (nI l) d x m s o) : wpX_put post (nI R, nI C, nI F, nI n, nI l, d, x, m, s, o) 2 p v := by
  unfold wpX_put
  dsimp only
  exact br_f (by decide) (br_t (by decide) (br_f (by decide) (br_f (by decide) (br_t rfl (nm_r (pk_mul R C) K)))))
theorem gs_px3 {post : Int32 → SX → Prop} {p : Int32} {v : Int64} (K : wX_put_67 post 3 p v (nI 16) (nI R) (nI C) (nI F) (nI n) (nI l) d x m s o) : wpX_put post (nI R, nI C, nI F, nI n, nI l, d, x, m, s, o) 3 p v := by
  unfold wpX_put
  dsimp only
  exact br_f (by decide) (br_t (by decide) (br_f (by decide) (br_f (by decide) (br_f (by decide) (br_t rfl (K))))))
theorem gs_px4 {post : Int32 → SX → Prop} {p : Int32} {v : Int64} (K : wX_put_67 post 4 p v (nI 1) (nI R) (nI C) (nI F) (nI n) (nI l) d x m s o) : wpX_put post (nI R, nI C, nI F, nI n, nI l, d, x, m, s, o) 4 p v := by
  unfold wpX_put
  dsimp only
  exact br_f (by decide) (br_t (by decide) (br_f (by decide) (br_f (by decide) (br_f (by decide) (br_f (by decide) (K))))))
def gs_PO (R C F n l : Nat) (d x : Nat → Int64) (m s : Nat → Int32) (o : Nat → Int64) (b p : Int32) (v : Int64) : Prop := ∃ (r : Int32) (n' : Nat) (d' x' : Nat → Int64) (m' s' : Nat → Int32), gs_B R C F n' l ∧ (∀ post : Int32 → SX → Prop, post r (nI R, nI C, nI F, nI n', nI l, d', x', m', s', o) → wpX_put post (nI R, nI C, nI F, nI n, nI l, d, x, m, s, o) b p v) ∧ (∀ post : Int32 → SY → Prop, post r (nI R, nI C, nI F, nI n', nI l, d', x', m', s', o) → wpY_put post (nI R, nI C, nI F, nI n, nI l, d, x, m, s, o) b p v)
theorem gs_put_bad {J p : Int32} {v : Int64} {Z : Nat} (hB : gs_B R C F n l) (hX : ∀ post : Int32 → SX → Prop, wX_put_67 post J p v (nI Z) (nI R) (nI C) (nI F) (nI n) (nI l) d x m s o → wpX_put post (nI R, nI C, nI F, nI n, nI l, d, x, m, s, o) J p v) (hY : ∀ post : Int32 → Prop, post (nI Z) → wpY_size post (nI R, nI C, nI F, nI n, nI l, d, x, m, s, o) J) (h0 : ¬ J < 0) (h4 : J ≤ 4) (hb : p < 0 ∨ ¬ p < nI Z) : gs_PO R C F n l d x m s o J p v := by
  refine ⟨5, n, d, x, m, s, hB, fun post hp => hX post ?_, fun post hp => ?_⟩
  · by_cases h : p < 0
    · exact br_t h hp
    · exact br_f h (br_f (hb.resolve_left h) hp)
  · unfold wpY_put
    dsimp only
    refine br_f h0 (br_t h4 ?_)
    by_cases h : p < 0
    · exact br_t h hp
    · exact br_f h (hY _ (br_f (hb.resolve_left h) hp))
theorem gs_put_n {J p : Int32} {v : Int64} (hB : gs_B R C F n l) (h : J < 0 ∨ ¬ J ≤ 4) : gs_PO R C F n l d x m s o J p v := by
  refine ⟨4, n, d, x, m, s, hB, fun post hp => ?_, fun post hp => ?_⟩
  · unfold wpX_put
    dsimp only
    by_cases a : J < 0
    · exact br_t a hp
    · exact br_f a (br_f (h.resolve_left a) hp)
  · unfold wpY_put
    dsimp only
    by_cases a : J < 0
    · exact br_t a hp
    · exact br_f a (br_f (h.resolve_left a) hp)
theorem gs_put0 {p : Int32} {v : Int64} (hB : gs_B R C F n l) : gs_PO R C F n l d x m s o 0 p v := by
  have hT := gs_B_T hB
  by_cases hb : p < 0 ∨ ¬ p < nI 16
  · exact gs_put_bad hB (fun post K => gs_px0 K) (fun post K => gs_ysz0 K) (by decide) (by decide) hb
  · have h1 : ¬ p < 0 := fun z => hb (Or.inl z)
    have h2 : p < nI 16 := Decidable.byContradiction (fun z => hb (Or.inr z))
    obtain ⟨j, hj, rfl⟩ := nI_of h1
    have h3 : j < 16 := (nI_ltI hj (by omega)).mp h2
    refine ⟨0, n, vp_updL d (nI j).toNatClampNeg v, x, m, s, hB, fun post hp => gs_px0 (br_f h1 (br_t h2 ?_)), fun post hp => ?_⟩
    · exact br_f (by decide) (br_t rfl ⟨vp_in_nI (by omega) (by omega), nm_e hp⟩)
    · unfold wpY_put
      dsimp only
      refine br_f (by decide) (br_t (by decide) (br_f h1 (gs_ysz0 (br_t h2 ?_))))
      exact br_f (by decide) (br_t rfl ⟨vp_in_nI (by omega) (by omega), nm_e hp⟩)
theorem gs_put1 {p : Int32} {v : Int64} (hB : gs_B R C F n l) : gs_PO R C F n l d x m s o 1 p v := by
  have hT := gs_B_T hB
  by_cases hb : p < 0 ∨ ¬ p < nI 4
  · exact gs_put_bad hB (fun post K => gs_px1 K) (fun post K => gs_ysz1 K) (by decide) (by decide) hb
  · have h1 : ¬ p < 0 := fun z => hb (Or.inl z)
    have h2 : p < nI 4 := Decidable.byContradiction (fun z => hb (Or.inr z))
    obtain ⟨j, hj, rfl⟩ := nI_of h1
    have h3 : j < 4 := (nI_ltI hj (by omega)).mp h2
    refine ⟨0, n, d, vp_updL x (nI j).toNatClampNeg v, m, s, hB, fun post hp => gs_px1 (br_f h1 (br_t h2 ?_)), fun post hp => ?_⟩
    · exact br_f (by decide) (br_f (by decide) (br_t rfl ⟨vp_in_nI (by omega) (by omega), nm_e hp⟩))
    · unfold wpY_put
      dsimp only
      refine br_f (by decide) (br_t (by decide) (br_f h1 (gs_ysz1 (br_t h2 ?_))))
      exact br_f (by decide) (br_f (by decide) (br_t rfl ⟨vp_in_nI (by omega) (by omega), nm_e hp⟩))
theorem gs_put2 {p : Int32} {v : Int64} (hB : gs_B R C F n l) : gs_PO R C F n l d x m s o 2 p v := by
  have hT := gs_B_T hB
  by_cases hb : p < 0 ∨ ¬ p < nI (R * C)
  · exact gs_put_bad hB (fun post K => gs_px2 K) (fun post K => gs_ysz2 K) (by decide) (by decide) hb
  · have h1 : ¬ p < 0 := fun z => hb (Or.inl z)
    have h2 : p < nI (R * C) := Decidable.byContradiction (fun z => hb (Or.inr z))
    obtain ⟨j, hj, rfl⟩ := nI_of h1
    have h3 : j < (R * C) := (nI_ltI hj (by omega)).mp h2
    by_cases z : v = 0
    · refine ⟨0, n, d, x, upd m (nI j).toNatClampNeg (vp_nar .boolean 0), s, hB, fun post hp => gs_px2 (br_f h1 (br_t h2 ?_)), fun post hp => ?_⟩
      · exact br_f (by decide) (br_f (by decide) (br_f (by decide) (br_t rfl (br_t z ⟨vp_in_nI (by omega) (by omega), nm_e hp⟩))))
      · unfold wpY_put
        dsimp only
        refine br_f (by decide) (br_t (by decide) (br_f h1 (gs_ysz2 (br_t h2 ?_))))
        exact br_f (by decide) (br_f (by decide) (br_f (by decide) (br_t rfl (br_t z ⟨vp_in_nI (by omega) (by omega), nm_e hp⟩))))
    · refine ⟨0, n, d, x, upd m (nI j).toNatClampNeg (vp_nar .boolean 1), s, hB, fun post hp => gs_px2 (br_f h1 (br_t h2 ?_)), fun post hp => ?_⟩
      · exact br_f (by decide) (br_f (by decide) (br_f (by decide) (br_t rfl (br_f z ⟨vp_in_nI (by omega) (by omega), nm_e hp⟩))))
      · unfold wpY_put
        dsimp only
        refine br_f (by decide) (br_t (by decide) (br_f h1 (gs_ysz2 (br_t h2 ?_))))
        exact br_f (by decide) (br_f (by decide) (br_f (by decide) (br_t rfl (br_f z ⟨vp_in_nI (by omega) (by omega), nm_e hp⟩))))
theorem gs_put3 {p : Int32} {v : Int64} (hB : gs_B R C F n l) : gs_PO R C F n l d x m s o 3 p v := by
  have hT := gs_B_T hB
  by_cases hb : p < 0 ∨ ¬ p < nI 16
  · exact gs_put_bad hB (fun post K => gs_px3 K) (fun post K => gs_ysz3 K) (by decide) (by decide) hb
  · have h1 : ¬ p < 0 := fun z => hb (Or.inl z)
    have h2 : p < nI 16 := Decidable.byContradiction (fun z => hb (Or.inr z))
    obtain ⟨j, hj, rfl⟩ := nI_of h1
    have h3 : j < 16 := (nI_ltI hj (by omega)).mp h2
    refine ⟨0, n, d, x, m, upd s (nI j).toNatClampNeg (vp_nar .short v.toInt32.toInt16.toInt32), hB, fun post hp => gs_px3 (br_f h1 (br_t h2 ?_)), fun post hp => ?_⟩
    · exact br_f (by decide) (br_f (by decide) (br_f (by decide) (br_f (by decide) (⟨vp_in_nI (by omega) (by omega), nm_e hp⟩))))
    · unfold wpY_put
      dsimp only
      refine br_f (by decide) (br_t (by decide) (br_f h1 (gs_ysz3 (br_t h2 ?_))))
      exact br_f (by decide) (br_f (by decide) (br_f (by decide) (br_f (by decide) (br_t rfl ⟨vp_in_nI (by omega) (by omega), nm_e hp⟩))))
theorem gs_put4 {p : Int32} {v : Int64} (hB : gs_B R C F n l) : gs_PO R C F n l d x m s o 4 p v := by
  have hT := gs_B_T hB
  by_cases hb : p < 0 ∨ ¬ p < nI 1
  · exact gs_put_bad hB (fun post K => gs_px4 K) (fun post K => gs_ysz4 K) (by decide) (by decide) hb
  · have h1 : ¬ p < 0 := fun z => hb (Or.inl z)
    have h2 : p < nI 1 := Decidable.byContradiction (fun z => hb (Or.inr z))
    obtain ⟨j, hj, rfl⟩ := nI_of h1
    have h3 : j < 1 := (nI_ltI hj (by omega)).mp h2
    by_cases a : v < 0
    · refine ⟨6, n, d, x, m, s, hB, fun post hp => gs_px4 (br_f h1 (br_t h2 (br_t rfl (br_t a hp)))), fun post hp => ?_⟩
      unfold wpY_put
      dsimp only
      refine br_f (by decide) (br_t (by decide) (br_f h1 (gs_ysz4 (br_t h2 ?_))))
      exact br_t rfl (br_t a hp)
    · by_cases b : v ≤ 4
      · have z0 : (0 : Int64).toInt = 0 := by decide
        have z4 : (4 : Int64).toInt = 4 := by decide
        have a1 := a
        have b1 := b
        rw [Int64.lt_iff_toInt_lt, z0] at a1
        rw [Int64.le_iff_toInt_le, z4] at b1
        have e : v.toInt32 = nI v.toInt.toNat := gs_lw (by omega) (by omega)
        obtain ⟨g1, g2, g3, g4, g5, g6, g7⟩ := hB
        refine ⟨0, v.toInt.toNat, d, x, m, s, ⟨g1, g2, g3, g4, g5, by omega, g7⟩, fun post hp => gs_px4 (br_f h1 (br_t h2 ?_)), fun post hp => ?_⟩
        · rw [← e] at hp
          exact br_t rfl (br_f a (br_t b hp))
        · rw [← e] at hp
          unfold wpY_put
          dsimp only
          refine br_f (by decide) (br_t (by decide) (br_f h1 (gs_ysz4 (br_t h2 ?_))))
          exact br_t rfl (br_f a (br_t b (br_f (by decide) (br_f (by decide) (br_f (by decide) (br_f (by decide) (hp)))))))
      · refine ⟨6, n, d, x, m, s, hB, fun post hp => gs_px4 (br_f h1 (br_t h2 (br_t rfl (br_f a (br_f b hp))))), fun post hp => ?_⟩
        unfold wpY_put
        dsimp only
        refine br_f (by decide) (br_t (by decide) (br_f h1 (gs_ysz4 (br_t h2 ?_))))
        exact br_t rfl (br_f a (br_f b hp))
theorem gs_put (hB : gs_B R C F n l) (b p : Int32) (v : Int64) : gs_PO R C F n l d x m s o b p v := by
  by_cases h : b < 0 ∨ ¬ b ≤ 4
  · exact gs_put_n hB h
  · have h1 : ¬ b < 0 := fun z => h (Or.inl z)
    have h2 : b ≤ 4 := Decidable.byContradiction (fun z => h (Or.inr z))
    obtain ⟨j, hj, rfl⟩ := nI_of2 (M := 4) (n := 4) (by decide) h1 h2
    have c : j = 0 ∨ j = 1 ∨ j = 2 ∨ j = 3 ∨ j = 4 := by omega
    rcases c with rfl | rfl | rfl | rfl | rfl
    · exact gs_put0 hB
    · exact gs_put1 hB
    · exact gs_put2 hB
    · exact gs_put3 hB
    · exact gs_put4 hB
theorem gs_rx0 {post : Int64 → Prop} {p : Int32} (h : 0 ≤ p) (K : wX_read_103 post 0 p (-9223372036854775808) (nI 16) (nI R) (nI C) (nI F) (nI n) (nI l) d x m s o) : wpX_read post (nI R, nI C, nI F, nI n, nI l, d, x, m, s, o) 0 p := by
  unfold wpX_read
  dsimp only
  exact br_f (by decide) (br_t (by decide) (br_t h (br_t rfl (K))))
theorem gs_rx1 {post : Int64 → Prop} {p : Int32} (h : 0 ≤ p) (K : wX_read_103 post 1 p (-9223372036854775808) (nI 4) (nI R) (nI C) (nI F) (nI n) (nI l) d x m s o) : wpX_read post (nI R, nI C, nI F, nI n, nI l, d, x, m, s, o) 1 p := by
  unfold wpX_read
  dsimp only
  exact br_f (by decide) (br_t (by decide) (br_t h (br_f (by decide) (br_t rfl (K)))))
theorem gs_rx2 {post : Int64 → Prop} {p : Int32} (h : 0 ≤ p) (K : wX_read_103 post 2 p (-9223372036854775808) (nI (R * C)) (nI R) (nI C) (nI F) (nI n) (nI l) d x m s o) : wpX_read post (nI R, nI C, nI F, nI n, nI l, d, x, m, s, o) 2 p := by
  unfold wpX_read
  dsimp only
  exact br_f (by decide) (br_t (by decide) (br_t h (br_f (by decide) (br_f (by decide) (br_t rfl (nm_r (pk_mul R C) K))))))
theorem gs_rx3 {post : Int64 → Prop} {p : Int32} (h : 0 ≤ p) (K : wX_read_103 post 3 p (-9223372036854775808) (nI 16) (nI R) (nI C) (nI F) (nI n) (nI l) d x m s o) : wpX_read post (nI R, nI C, nI F, nI n, nI l, d, x, m, s, o) 3 p := by
  unfold wpX_read
  dsimp only
  exact br_f (by decide) (br_t (by decide) (br_t h (br_f (by decide) (br_f (by decide) (br_f (by decide) (br_t rfl (K)))))))
theorem gs_rx4 {post : Int64 → Prop} {p : Int32} (h : 0 ≤ p) (K : wX_read_103 post 4 p (-9223372036854775808) (nI 1) (nI R) (nI C) (nI F) (nI n) (nI l) d x m s o) : wpX_read post (nI R, nI C, nI F, nI n, nI l, d, x, m, s, o) 4 p := by
  unfold wpX_read
  dsimp only
  exact br_f (by decide) (br_t (by decide) (br_t h (br_f (by decide) (br_f (by decide) (br_f (by decide) (br_f (by decide) (br_t rfl (K))))))))
theorem gs_rx5 {post : Int64 → Prop} {p : Int32} (h : 0 ≤ p) (K : wX_read_103 post 5 p (-9223372036854775808) (nI l) (nI R) (nI C) (nI F) (nI n) (nI l) d x m s o) : wpX_read post (nI R, nI C, nI F, nI n, nI l, d, x, m, s, o) 5 p := by
  unfold wpX_read
  dsimp only
  exact br_f (by decide) (br_t (by decide) (br_t h (br_f (by decide) (br_f (by decide) (br_f (by decide) (br_f (by decide) (br_f (by decide) (br_t rfl (K)))))))))
theorem gs_rx6 {post : Int64 → Prop} {p : Int32} (h : 0 ≤ p) (K : wX_read_103 post 6 p (-9223372036854775808) (nI 1) (nI R) (nI C) (nI F) (nI n) (nI l) d x m s o) : wpX_read post (nI R, nI C, nI F, nI n, nI l, d, x, m, s, o) 6 p := by
  unfold wpX_read
  dsimp only
  exact br_f (by decide) (br_t (by decide) (br_t h (br_f (by decide) (br_f (by decide) (br_f (by decide) (br_f (by decide) (br_f (by decide) (br_f (by decide) (K)))))))))
def gs_RO (R C F n l : Nat) (d x : Nat → Int64) (m s : Nat → Int32) (o : Nat → Int64) (b p : Int32) : Prop := ∃ r : Int64, (∀ post : Int64 → Prop, post r → wpX_read post (nI R, nI C, nI F, nI n, nI l, d, x, m, s, o) b p) ∧ (∀ post : Int64 → Prop, post r → wpY_read post (nI R, nI C, nI F, nI n, nI l, d, x, m, s, o) b p)
theorem gs_read_m {J p : Int32} (h : p < 0) : gs_RO R C F n l d x m s o J p := by
  have h0 : ¬ 0 ≤ p := Int32.not_le.mpr h
  refine ⟨(-9223372036854775808), fun post hp => ?_, fun post hp => ?_⟩
  · unfold wpX_read
    dsimp only
    exact br_c (fun _ => hp) (fun _ => br_c (fun _ => br_f h0 hp) (fun _ => hp))
  · unfold wpY_read
    dsimp only
    exact br_t h hp
theorem gs_read_n {J p : Int32} (h1 : ¬ p < 0) (h : J < 0 ∨ ¬ J ≤ 6) : gs_RO R C F n l d x m s o J p := by
  refine ⟨(-9223372036854775808), fun post hp => ?_, fun post hp => ?_⟩
  · unfold wpX_read
    dsimp only
    by_cases a : J < 0
    · exact br_t a hp
    · exact br_f a (br_f (h.resolve_left a) hp)
  · unfold wpY_read
    dsimp only
    exact br_f h1 (gs_yszN h (br_f h1 hp))
theorem gs_read_b {J p : Int32} {Z : Nat} (hX : ∀ post : Int64 → Prop, wX_read_103 post J p (-9223372036854775808) (nI Z) (nI R) (nI C) (nI F) (nI n) (nI l) d x m s o → wpX_read post (nI R, nI C, nI F, nI n, nI l, d, x, m, s, o) J p) (hY : ∀ post : Int32 → Prop, post (nI Z) → wpY_size post (nI R, nI C, nI F, nI n, nI l, d, x, m, s, o) J) (h1 : ¬ p < 0) (h2 : ¬ p < nI Z) : gs_RO R C F n l d x m s o J p := by
  refine ⟨(-9223372036854775808), fun post hp => hX post (br_f h2 hp), fun post hp => ?_⟩
  unfold wpY_read
  dsimp only
  exact br_f h1 (hY _ (br_f h2 hp))
theorem gs_read0 {p : Int32} (hB : gs_B R C F n l) (h1 : ¬ p < 0) : gs_RO R C F n l d x m s o 0 p := by
  have hT := gs_B_T hB
  have hl : l ≤ 16 := hB.2.2.2.2.2.2
  have h0 : 0 ≤ p := Int32.not_lt.mp h1
  by_cases h2 : p < nI 16
  · obtain ⟨j, hj, rfl⟩ := nI_of h1
    have h3 : j < 16 := (nI_ltI hj (by omega)).mp h2
    refine ⟨d (nI j).toNatClampNeg, fun post hp => gs_rx0 h0 (br_t h2 ?_), fun post hp => ?_⟩
    · exact br_t rfl ⟨vp_in_nI (by omega) (by omega), hp⟩
    · unfold wpY_read
      dsimp only
      refine br_f h1 (gs_ysz0 (br_t h2 ?_))
      exact br_t rfl ⟨vp_in_nI (by omega) (by omega), hp⟩
  · exact gs_read_b (fun post K => gs_rx0 h0 K) (fun post K => gs_ysz0 K) h1 h2
theorem gs_read1 {p : Int32} (hB : gs_B R C F n l) (h1 : ¬ p < 0) : gs_RO R C F n l d x m s o 1 p := by
  have hT := gs_B_T hB
  have hl : l ≤ 16 := hB.2.2.2.2.2.2
  have h0 : 0 ≤ p := Int32.not_lt.mp h1
  by_cases h2 : p < nI 4
  · obtain ⟨j, hj, rfl⟩ := nI_of h1
    have h3 : j < 4 := (nI_ltI hj (by omega)).mp h2
    refine ⟨x (nI j).toNatClampNeg, fun post hp => gs_rx1 h0 (br_t h2 ?_), fun post hp => ?_⟩
    · exact br_f (by decide) (br_t rfl ⟨vp_in_nI (by omega) (by omega), hp⟩)
    · unfold wpY_read
      dsimp only
      refine br_f h1 (gs_ysz1 (br_t h2 ?_))
      exact br_f (by decide) (br_t rfl ⟨vp_in_nI (by omega) (by omega), hp⟩)
  · exact gs_read_b (fun post K => gs_rx1 h0 K) (fun post K => gs_ysz1 K) h1 h2
theorem gs_read2 {p : Int32} (hB : gs_B R C F n l) (h1 : ¬ p < 0) : gs_RO R C F n l d x m s o 2 p := by
  have hT := gs_B_T hB
  have hl : l ≤ 16 := hB.2.2.2.2.2.2
  have h0 : 0 ≤ p := Int32.not_lt.mp h1
  by_cases h2 : p < nI (R * C)
  · obtain ⟨j, hj, rfl⟩ := nI_of h1
    have h3 : j < (R * C) := (nI_ltI hj (by omega)).mp h2
    by_cases z : m (nI j).toNatClampNeg = 0
    · skip
      refine ⟨0, fun post hp => gs_rx2 h0 (br_t h2 ?_), fun post hp => ?_⟩
      · exact br_f (by decide) (br_f (by decide) (br_t rfl ⟨vp_in_nI (by omega) (by omega), br_t z hp⟩))
      · unfold wpY_read
        dsimp only
        refine br_f h1 (gs_ysz2 (br_t h2 ?_))
        exact br_f (by decide) (br_f (by decide) (br_t rfl ⟨vp_in_nI (by omega) (by omega), br_t z hp⟩))
    · skip
      refine ⟨1, fun post hp => gs_rx2 h0 (br_t h2 ?_), fun post hp => ?_⟩
      · exact br_f (by decide) (br_f (by decide) (br_t rfl ⟨vp_in_nI (by omega) (by omega), br_f z hp⟩))
      · unfold wpY_read
        dsimp only
        refine br_f h1 (gs_ysz2 (br_t h2 ?_))
        exact br_f (by decide) (br_f (by decide) (br_t rfl ⟨vp_in_nI (by omega) (by omega), br_f z hp⟩))
  · exact gs_read_b (fun post K => gs_rx2 h0 K) (fun post K => gs_ysz2 K) h1 h2
theorem gs_read3 {p : Int32} (hB : gs_B R C F n l) (h1 : ¬ p < 0) : gs_RO R C F n l d x m s o 3 p := by
  have hT := gs_B_T hB
  have hl : l ≤ 16 := hB.2.2.2.2.2.2
  have h0 : 0 ≤ p := Int32.not_lt.mp h1
  by_cases h2 : p < nI 16
  · obtain ⟨j, hj, rfl⟩ := nI_of h1
    have h3 : j < 16 := (nI_ltI hj (by omega)).mp h2
    refine ⟨(s (nI j).toNatClampNeg).toInt64, fun post hp => gs_rx3 h0 (br_t h2 ?_), fun post hp => ?_⟩
    · exact br_f (by decide) (br_f (by decide) (br_f (by decide) (br_t rfl ⟨vp_in_nI (by omega) (by omega), hp⟩)))
    · unfold wpY_read
      dsimp only
      refine br_f h1 (gs_ysz3 (br_t h2 ?_))
      exact br_f (by decide) (br_f (by decide) (br_f (by decide) (br_t rfl ⟨vp_in_nI (by omega) (by omega), hp⟩)))
  · exact gs_read_b (fun post K => gs_rx3 h0 K) (fun post K => gs_ysz3 K) h1 h2
theorem gs_read4 {p : Int32} (hB : gs_B R C F n l) (h1 : ¬ p < 0) : gs_RO R C F n l d x m s o 4 p := by
  have hT := gs_B_T hB
  have hl : l ≤ 16 := hB.2.2.2.2.2.2
  have h0 : 0 ≤ p := Int32.not_lt.mp h1
  by_cases h2 : p < nI 1
  · obtain ⟨j, hj, rfl⟩ := nI_of h1
    have h3 : j < 1 := (nI_ltI hj (by omega)).mp h2
    refine ⟨(nI n).toInt64, fun post hp => gs_rx4 h0 (br_t h2 ?_), fun post hp => ?_⟩
    · exact br_f (by decide) (br_f (by decide) (br_f (by decide) (br_f (by decide) (br_t rfl hp))))
    · unfold wpY_read
      dsimp only
      refine br_f h1 (gs_ysz4 (br_t h2 ?_))
      exact br_f (by decide) (br_f (by decide) (br_f (by decide) (br_f (by decide) (br_t rfl hp))))
  · exact gs_read_b (fun post K => gs_rx4 h0 K) (fun post K => gs_ysz4 K) h1 h2
theorem gs_read5 {p : Int32} (hB : gs_B R C F n l) (h1 : ¬ p < 0) : gs_RO R C F n l d x m s o 5 p := by
  have hT := gs_B_T hB
  have hl : l ≤ 16 := hB.2.2.2.2.2.2
  have h0 : 0 ≤ p := Int32.not_lt.mp h1
  by_cases h2 : p < nI l
  · obtain ⟨j, hj, rfl⟩ := nI_of h1
    have h3 : j < l := (nI_ltI hj (by omega)).mp h2
    refine ⟨o (nI j).toNatClampNeg, fun post hp => gs_rx5 h0 (br_t h2 ?_), fun post hp => ?_⟩
    · exact br_f (by decide) (br_f (by decide) (br_f (by decide) (br_f (by decide) (br_f (by decide) (br_t rfl ⟨vp_in_nI (by omega) (by omega), hp⟩)))))
    · unfold wpY_read
      dsimp only
      refine br_f h1 (gs_ysz5 (br_t h2 ?_))
      exact br_f (by decide) (br_f (by decide) (br_f (by decide) (br_f (by decide) (br_f (by decide) (br_t rfl ⟨vp_in_nI (by omega) (by omega), hp⟩)))))
  · exact gs_read_b (fun post K => gs_rx5 h0 K) (fun post K => gs_ysz5 K) h1 h2
theorem gs_read6 {p : Int32} (hB : gs_B R C F n l) (h1 : ¬ p < 0) : gs_RO R C F n l d x m s o 6 p := by
  have hT := gs_B_T hB
  have hl : l ≤ 16 := hB.2.2.2.2.2.2
  have h0 : 0 ≤ p := Int32.not_lt.mp h1
  by_cases h2 : p < nI 1
  · obtain ⟨j, hj, rfl⟩ := nI_of h1
    have h3 : j < 1 := (nI_ltI hj (by omega)).mp h2
    refine ⟨(nI l).toInt64, fun post hp => gs_rx6 h0 (br_t h2 ?_), fun post hp => ?_⟩
    · exact br_f (by decide) (br_f (by decide) (br_f (by decide) (br_f (by decide) (br_f (by decide) (br_f (by decide) (hp))))))
    · unfold wpY_read
      dsimp only
      refine br_f h1 (gs_ysz6 (br_t h2 ?_))
      exact br_f (by decide) (br_f (by decide) (br_f (by decide) (br_f (by decide) (br_f (by decide) (br_f (by decide) (hp))))))
  · exact gs_read_b (fun post K => gs_rx6 h0 K) (fun post K => gs_ysz6 K) h1 h2
theorem gs_read (hB : gs_B R C F n l) (b p : Int32) : gs_RO R C F n l d x m s o b p := by
  by_cases h1 : p < 0
  · exact gs_read_m h1
  · by_cases h : b < 0 ∨ ¬ b ≤ 6
    · exact gs_read_n h1 h
    · have g1 : ¬ b < 0 := fun z => h (Or.inl z)
      have g2 : b ≤ 6 := Decidable.byContradiction (fun z => h (Or.inr z))
      obtain ⟨j, hj, rfl⟩ := nI_of2 (M := 6) (n := 6) (by decide) g1 g2
      have c : j = 0 ∨ j = 1 ∨ j = 2 ∨ j = 3 ∨ j = 4 ∨ j = 5 ∨ j = 6 := by omega
      rcases c with rfl | rfl | rfl | rfl | rfl | rfl | rfl
      · exact gs_read0 hB h1
      · exact gs_read1 hB h1
      · exact gs_read2 hB h1
      · exact gs_read3 hB h1
      · exact gs_read4 hB h1
      · exact gs_read5 hB h1
      · exact gs_read6 hB h1
end
end
section
/-! what is owed -/
theorem i_vc_put {k : Nat} {u : SX} {v : SY} (I : i_Rel k u v) (hk : k + 5 ≤ 2563) (v1 : Int32) (v2 : Int32) (a2 : Int64) : wpX_put (fun r u' => wpY_put (fun r' v' => r' = r ∧ i_Rel (k + 5) u' v') v v1 v2 a2) u v1 v2 a2 := by
  obtain ⟨R, C, F, n, l, d, x, m, s, o, hB, rfl, rfl⟩ := I
  obtain ⟨r, n', d', x', m', s', hB', hX, hY⟩ := gs_put (d := d) (x := x) (m := m) (s := s) (o := o) hB v1 v2 a2
  exact hX _ (hY _ ⟨rfl, gs_R (k + 5) hB'⟩)
theorem i_vc_take {k : Nat} {u : SX} {v : SY} (I : i_Rel k u v) (hk : k + 5 ≤ 2563) (v1 : Int32) : wpX_take (fun r u' => wpY_take (fun r' v' => r' = r ∧ i_Rel (k + 5) u' v') v v1) u v1 := by
  obtain ⟨R, C, F, n, l, d, x, m, s, o, hB, rfl, rfl⟩ := I
  obtain ⟨r, l', o', hB', hX, hY⟩ := gs_tk (d := d) (x := x) (m := m) (s := s) (o := o) hB v1
  exact hX _ (hY _ ⟨rfl, gs_R (k + 5) hB'⟩)
theorem i_vc_scatter {k : Nat} {u : SX} {v : SY} (I : i_Rel k u v) (hk : k + 5 ≤ 2563) (v1 : Int32) (v2 : Int32) : wpX_scatter (fun r u' => wpY_scatter (fun r' v' => r' = r ∧ i_Rel (k + 5) u' v') v v1 v2) u v1 v2 := by
  obtain ⟨R, C, F, n, l, d, x, m, s, o, hB, rfl, rfl⟩ := I
  obtain ⟨r, d', hX, hY⟩ := gs_sc (d := d) (x := x) (m := m) (s := s) (o := o) hB v1 v2
  exact hX _ (hY _ ⟨rfl, gs_R (k + 5) hB⟩)
theorem i_vc_maskCount {k : Nat} {u : SX} {v : SY} (I : i_Rel k u v) (hk : k + 5 ≤ 2563) : wpX_maskCount (fun r => wpY_maskCount (fun r' => r' = r ∧ i_Rel (k + 5) u v) v) u := by
  obtain ⟨R, C, F, n, l, d, x, m, s, o, hB, rfl, rfl⟩ := I
  exact gs_xmc (gs_B_T hB) (gs_ymc (gs_B_T hB) ⟨rfl, gs_R (k + 5) hB⟩)
theorem i_vc_maskSelect {k : Nat} {u : SX} {v : SY} (I : i_Rel k u v) (hk : k + 5 ≤ 2563) : wpX_maskSelect (fun r u' => wpY_maskSelect (fun r' v' => r' = r ∧ i_Rel (k + 5) u' v') v) u := by
  obtain ⟨R, C, F, n, l, d, x, m, s, o, hB, rfl, rfl⟩ := I
  have hT := gs_B_T hB
  have hc := gs_ct_le m (R * C)
  obtain ⟨g1, g2, g3, g4, g5, g6, g7⟩ := hB
  have hB' : gs_B R C F n (gs_ct m (R * C)) := ⟨g1, g2, g3, g4, g5, g6, by omega⟩
  exact gs_xms hT g5 (gs_yms hT g5 ⟨rfl, gs_R (k + 5) hB'⟩)
theorem i_vc_read {k : Nat} {u : SX} {v : SY} (I : i_Rel k u v) (hk : k + 5 ≤ 2563) (v1 : Int32) (v2 : Int32) : wpX_read (fun r => wpY_read (fun r' => r' = r ∧ i_Rel (k + 5) u v) v v1 v2) u v1 v2 := by
  obtain ⟨R, C, F, n, l, d, x, m, s, o, hB, rfl, rfl⟩ := I
  obtain ⟨r, hX, hY⟩ := gs_read (d := d) (x := x) (m := m) (s := s) (o := o) hB v1 v2
  exact hX _ (hY _ ⟨rfl, gs_R (k + 5) hB⟩)
end
