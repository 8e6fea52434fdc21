section
/-! numbers: rows of the kit's rows to paste (pk_, ek_) -/
theorem pk_us {f : Nat → Int32} {k : Nat} {x : Int32} : upd f k x k = x := if_pos rfl
theorem pk_un {f : Nat → Int32} {k j : Nat} {x : Int32} (h : j ≠ k) : upd f k x j = f j := if_neg h
theorem pk_sub {a b : Nat} (h : b ≤ a) : nI a - nI b = nI (a - b) := by
  obtain ⟨c, rfl⟩ : ∃ c, a = c + b := ⟨a - b, by omega⟩
  rw [← nI_add, Int32.add_sub_cancel, Nat.add_sub_cancel]
theorem pk_m1 (n : Nat) : nI (n + 1) + (-1) = nI n := by
  rw [← nI_1, Int32.add_assoc, show (1 : Int32) + (-1) = 0 from rfl, Int32.add_zero]
theorem pk_mul (a b : Nat) : nI a * nI b = nI (a * b) := (Int32.ofNat_mul a b).symm
theorem pk_div {a d : Nat} (ha : a < 2 ^ 31) (h0 : 0 < d) (hd : d < 2 ^ 31) : nI a / nI d = nI (a / d) := by
  apply Int32.toInt_inj.mp
  rw [lg_idiv_nonneg (by rw [nI_toInt ha]; omega) (by rw [nI_toInt hd]; omega), nI_toInt ha, nI_toInt hd, nI_toInt (Nat.lt_of_le_of_lt (Nat.div_le_self a d) ha)]
  first | rfl | exact (Int.natCast_ediv _ _).symm
theorem pk_rem {a d : Nat} (ha : a < 2 ^ 31) (h0 : 0 < d) (hd : d < 2 ^ 31) : nI a - nI a / nI d * nI d = nI (a % d) := by
  rw [pk_div ha h0 hd, pk_mul, pk_sub (Nat.div_mul_le_self a d)]
  exact congrArg nI (by have := Nat.div_add_mod' a d; omega)
theorem pk_ix (x : Int32) {n : Nat} (hn : n < 2 ^ 31) : x < 0 ∨ nI n ≤ x ∨ ∃ j : Nat, j < n ∧ x = nI j := by
  by_cases h : x < 0
  · exact Or.inl h
  · obtain ⟨j, hj, rfl⟩ := nI_of h
    by_cases h2 : j < n
    · exact Or.inr (Or.inr ⟨j, h2, rfl⟩)
    · exact Or.inr (Or.inl (nI_le (by omega) hj))
theorem pk_le {x y : Int32} {A B : Prop} (a b : Nat) (f : a ≤ b → A) (g : b < a → B) (hx : x = nI a := by rfl) (hy : y = nI b := by rfl) (ha : a < 2 ^ 31 := by omega) (hb : b < 2 ^ 31 := by omega) : (x ≤ y → A) ∧ (¬ x ≤ y → B) := by
  subst hx hy
  rw [nI_leI ha hb]
  exact ⟨f, fun z => g (by omega)⟩
theorem pk_lt {x y : Int32} {A B : Prop} (a b : Nat) (f : a < b → A) (g : b ≤ a → B) (hx : x = nI a := by rfl) (hy : y = nI b := by rfl) (ha : a < 2 ^ 31 := by omega) (hb : b < 2 ^ 31 := by omega) : (x < y → A) ∧ (¬ x < y → B) := by
  subst hx hy
  rw [nI_ltI ha hb]
  exact ⟨f, fun z => g (by omega)⟩
theorem pk_eq {x y : Int32} {A B : Prop} (a b : Nat) (f : a = b → A) (g : a ≠ b → B) (hx : x = nI a := by rfl) (hy : y = nI b := by rfl) (ha : a < 2 ^ 31 := by omega) (hb : b < 2 ^ 31 := by omega) : (x = y → A) ∧ (¬ x = y → B) := by
  subst hx hy
  rw [nI_eq ha hb]
  exact ⟨f, g⟩
theorem pk_in {x : Int32} (n N : Nat) (h : n < N) (hx : x = nI n := by rfl) (hN : N < 2 ^ 31 := by omega) : vp_in x N := by
  subst hx
  exact vp_in_nI h hN
theorem pk_cl {x : Int32} (n : Nat) (hx : x = nI n := by rfl) (h : n < 2 ^ 31 := by omega) : x.toNatClampNeg = n := by
  subst hx
  exact nI_clamp h
theorem pk_tn {n : Nat} (h : n < 2 ^ 32) : (nI n).toBitVec.toNat = n := Nat.mod_eq_of_lt h
theorem pk_shr (a s : Int32) (k : Nat) (hs : (s.toBitVec.smod 32).toNat = k) : (a >>> s).toInt = a.toInt >>> k := by
  show (a.toBitVec.sshiftRight (s.toBitVec.smod 32).toNat).toInt = _
  rw [hs, BitVec.toInt_sshiftRight]
  rfl
theorem pk_shrN {n : Nat} (h : n < 2 ^ 31) (s : Int32) (k : Nat) (hs : (s.toBitVec.smod 32).toNat = k) : nI n >>> s = nI (n / 2 ^ k) := by
  apply Int32.toInt_inj.mp
  have h2 : n / 2 ^ k ≤ n := Nat.div_le_self _ _
  rw [pk_shr _ _ k hs, nI_toInt h, nI_toInt (by omega), Int.shiftRight_eq_div_pow]
  rfl
theorem pk_least (P : Nat → Prop) (h : ∃ k, P k) : ∃ k, P k ∧ ∀ j, j < k → ¬ P j := by
  obtain ⟨k, hk⟩ := h
  induction k using Nat.strongRecOn with
  | ind k ih =>
    by_cases e : ∃ j, j < k ∧ P j
    · obtain ⟨j, hj, pj⟩ := e
      exact ih j hj pj
    · exact ⟨k, hk, fun j hj pj => e ⟨j, hj, pj⟩⟩
theorem ek_if {c d A B : Prop} (e : c ↔ d) (f : d → A) (g : ¬ d → B) : (c → A) ∧ (¬ c → B) :=
  ⟨fun z => f (e.mp z), fun z => g (fun y => z (e.mpr y))⟩
theorem ek_v {α : Sort _} {P : α → Prop} {a b : α} (e : a = b) (h : P b) : P a := e ▸ h
/-! sets of jobs: masks below 64 -/
def ht_rm (R j : Nat) : Nat := R &&& (63 ^^^ (1 <<< j))
def ht_ad (R j : Nat) : Nat := R ||| (1 <<< j)
def ht_df (m R : Nat) : Nat := m &&& (63 ^^^ R)
def ht_bn (b : Bool) : Nat := if b = true then 1 else 0
def ht_pc (R : Nat) : Nat := ht_bn (R.testBit 0) + ht_bn (R.testBit 1) + ht_bn (R.testBit 2) + ht_bn (R.testBit 3) + ht_bn (R.testBit 4) + ht_bn (R.testBit 5)
def ht_ge (R a : Nat) : Nat := ht_bn (R.testBit 0 && decide (a ≤ 0)) + ht_bn (R.testBit 1 && decide (a ≤ 1)) + ht_bn (R.testBit 2 && decide (a ≤ 2)) + ht_bn (R.testBit 3 && decide (a ≤ 3)) + ht_bn (R.testBit 4 && decide (a ≤ 4)) + ht_bn (R.testBit 5 && decide (a ≤ 5))
def ht_nth (R i : Nat) : Nat := ((List.range 6).filter (fun j => R.testBit j)).getD i 0
theorem ht_b64 {m j : Nat} (hm : m < 64) (h : m.testBit j = true) : j < 6 := by
  apply Classical.byContradiction
  intro hj
  have h2 : m < 2 ^ j := Nat.lt_of_lt_of_le hm (Nat.pow_le_pow_right (n := 2) (i := 6) (by decide) (by omega))
  rw [Nat.testBit_lt_two_pow h2] at h
  exact absurd h (by decide)
theorem ht_bit0' : ∀ m, m < 64 → ∀ j, j < 6 → (((nI m >>> (nI j &&& 31)) &&& 1) = 0 ↔ m.testBit j = false) := by decide +kernel
theorem ht_bit1' : ∀ m, m < 64 → ∀ j, j < 6 → (((nI m >>> (nI j &&& 31)) &&& 1) = 1 ↔ m.testBit j = true) := by decide +kernel
theorem ht_bitn' : ∀ m, m < 64 → ∀ j, j < 6 → ((nI m >>> (nI j &&& 31)) &&& 1) = nI (ht_bn (m.testBit j)) := by decide +kernel
theorem ht_rmI' : ∀ m, m < 64 → ∀ j, j < 6 → nI m &&& (((1 : Int32) <<< (nI j &&& 31)) ^^^ (-1)) = nI (ht_rm m j) := by decide +kernel
theorem ht_adI' : ∀ m, m < 64 → ∀ j, j < 6 → nI m ||| ((1 : Int32) <<< (nI j &&& 31)) = nI (ht_ad m j) := by decide +kernel
theorem ht_ad64' : ∀ m, m < 64 → ∀ j, j < 6 → ht_ad m j < 64 := by decide +kernel
theorem ht_rmB' : ∀ m, m < 64 → ∀ j, j < 6 → ∀ i, i < 6 → (ht_rm m j).testBit i = (m.testBit i && decide (i ≠ j)) := by decide +kernel
theorem ht_adB' : ∀ m, m < 64 → ∀ j, j < 6 → ∀ i, i < 6 → (ht_ad m j).testBit i = (m.testBit i || decide (i = j)) := by decide +kernel
theorem ht_pcrm' : ∀ m, m < 64 → ∀ j, j < 6 → m.testBit j = true → ht_pc (ht_rm m j) + 1 = ht_pc m := by decide +kernel
theorem ht_pc0' : ∀ m, m < 64 → ht_pc m = 0 → m = 0 := by decide +kernel
theorem ht_pcle' : ∀ m, m < 64 → ht_pc m ≤ 6 := by decide +kernel
theorem ht_geS' : ∀ m, m < 64 → ∀ j, j < 6 → ∀ a, a < 6 → a ≤ j → m.testBit j = true → ht_ge m (j + 1) + 1 ≤ ht_ge m a := by decide +kernel
theorem ht_ge0' : ∀ m, m < 64 → ht_ge m 0 = ht_pc m := by decide +kernel
theorem ht_dfI' : ∀ m, m < 64 → ∀ R, R < 64 → R &&& m = R → nI m &&& (nI (ht_df m R) ^^^ (-1)) = nI R := by decide +kernel
theorem ht_dfB' : ∀ m, m < 64 → ∀ R, R < 64 → ∀ j, j < 6 → (ht_df m R).testBit j = (m.testBit j && !R.testBit j) := by decide +kernel
theorem ht_dfad' : ∀ m, m < 64 → ∀ R, R < 64 → ∀ j, j < 6 → R &&& m = R → R.testBit j = true → ht_ad (ht_df m R) j = ht_df m (ht_rm R j) := by decide +kernel
theorem ht_dfrm' : ∀ m, m < 64 → ∀ R, R < 64 → ∀ j, j < 6 → R &&& m = R → R.testBit j = true → ht_rm (ht_df m (ht_rm R j)) j = ht_df m R := by decide +kernel
theorem ht_sbrm' : ∀ m, m < 64 → ∀ R, R < 64 → ∀ j, j < 6 → R &&& m = R → ht_rm R j &&& m = ht_rm R j := by decide +kernel
theorem ht_sbB' : ∀ m, m < 64 → ∀ R, R < 64 → ∀ j, j < 6 → R &&& m = R → R.testBit j = true → m.testBit j = true := by decide +kernel
theorem ht_dfm' : ∀ m, m < 64 → ht_df m m = 0 ∧ m &&& m = m := by decide +kernel
theorem ht_nthB' : ∀ R, R < 64 → ∀ i, i < 6 → i < ht_pc R → R.testBit (ht_nth R i) = true ∧ ht_nth R i < 6 := by decide +kernel
theorem ht_nthE' : ∀ R, R < 64 → ∀ j, j < 6 → R.testBit j = true → ht_pc R - ht_ge R j < ht_pc R ∧ ht_nth R (ht_pc R - ht_ge R j) = j := by decide +kernel
theorem ht_nthM' : ∀ R, R < 64 → ∀ i, i < 6 → ∀ k, k < 6 → i < k → k < ht_pc R → ht_nth R i < ht_nth R k := by decide +kernel
theorem ht_byte' : ∀ j, j < 8 → vp_nar .byte (nI j).toInt8.toInt32 = nI j := by decide +kernel
theorem ht_bm1 : vp_nar .byte (-1) = -1 := by decide +kernel
theorem ht_short' : ∀ v, v < 512 → vp_nar .short (nI v).toInt16.toInt32 = nI v := by decide +kernel
theorem ht_shortn' : ∀ v, v < 512 → vp_nar .short (nI v) = nI v := by decide +kernel
theorem ht_short0 : vp_nar .short 0 = 0 := by decide +kernel
theorem ht_rm64 {m j : Nat} (hm : m < 64) : ht_rm m j < 64 := Nat.lt_of_le_of_lt Nat.and_le_left hm
theorem ht_df64 {m R : Nat} (hm : m < 64) : ht_df m R < 64 := Nat.lt_of_le_of_lt Nat.and_le_left hm
theorem ht_rmB {m j i : Nat} (hm : m < 64) (hj : j < 6) : (ht_rm m j).testBit i = true ↔ (m.testBit i = true ∧ i ≠ j) := by
  by_cases hi : i < 6
  · rw [ht_rmB' m hm j hj i hi]; simp
  · constructor
    · intro h; exact absurd (ht_b64 (ht_rm64 hm) h) hi
    · intro h; exact absurd (ht_b64 hm h.1) hi
theorem ht_nthB {R i : Nat} (hR : R < 64) (h : i < ht_pc R) : R.testBit (ht_nth R i) = true ∧ ht_nth R i < 6 :=
  ht_nthB' R hR i (Nat.lt_of_lt_of_le h (ht_pcle' R hR)) h
theorem ht_nthE {R j : Nat} (hR : R < 64) (h : R.testBit j = true) : ∃ i, i < ht_pc R ∧ ht_nth R i = j :=
  ⟨_, ht_nthE' R hR j (ht_b64 hR h) h⟩
theorem ht_nthM {R i k : Nat} (hR : R < 64) (h : i < k) (hk : k < ht_pc R) : ht_nth R i < ht_nth R k :=
  ht_nthM' R hR i (by have := ht_pcle' R hR; omega) k (by have := ht_pcle' R hR; omega) h hk
theorem ht_pcrm {m j : Nat} (hm : m < 64) (h : m.testBit j = true) : ht_pc (ht_rm m j) + 1 = ht_pc m := ht_pcrm' m hm j (ht_b64 hm h) h
/-! sums over the six jobs -/
def ht_sm (g : Nat → Nat) : Nat := g 0 + g 1 + g 2 + g 3 + g 4 + g 5
theorem ht_6 {P : Nat → Prop} (h0 : P 0) (h1 : P 1) (h2 : P 2) (h3 : P 3) (h4 : P 4) (h5 : P 5) : ∀ j, j < 6 → P j := by
  intro j hj
  match j, hj with
  | 0, _ => exact h0
  | 1, _ => exact h1
  | 2, _ => exact h2
  | 3, _ => exact h3
  | 4, _ => exact h4
  | 5, _ => exact h5
theorem ht_smU {g g' : Nat → Nat} {j : Nat} (hj : j < 6) (h : ∀ i, i < 6 → i ≠ j → g i = g' i) : ht_sm g + g' j = ht_sm g' + g j := by
  have a0 := h 0 (by decide)
  have a1 := h 1 (by decide)
  have a2 := h 2 (by decide)
  have a3 := h 3 (by decide)
  have a4 := h 4 (by decide)
  have a5 := h 5 (by decide)
  unfold ht_sm
  revert hj
  revert a0 a1 a2 a3 a4 a5
  clear h
  revert j
  intro j a0 a1 a2 a3 a4 a5 hj
  match j, hj with
  | 0, _ => have := a1 (by decide); have := a2 (by decide); have := a3 (by decide); have := a4 (by decide); have := a5 (by decide); omega
  | 1, _ => have := a0 (by decide); have := a2 (by decide); have := a3 (by decide); have := a4 (by decide); have := a5 (by decide); omega
  | 2, _ => have := a0 (by decide); have := a1 (by decide); have := a3 (by decide); have := a4 (by decide); have := a5 (by decide); omega
  | 3, _ => have := a0 (by decide); have := a1 (by decide); have := a2 (by decide); have := a4 (by decide); have := a5 (by decide); omega
  | 4, _ => have := a0 (by decide); have := a1 (by decide); have := a2 (by decide); have := a3 (by decide); have := a5 (by decide); omega
  | 5, _ => have := a0 (by decide); have := a1 (by decide); have := a2 (by decide); have := a3 (by decide); have := a4 (by decide); omega
theorem ht_smE {g g' : Nat → Nat} (h : ∀ i, i < 6 → g i = g' i) : ht_sm g = ht_sm g' := by
  unfold ht_sm
  rw [h 0 (by decide), h 1 (by decide), h 2 (by decide), h 3 (by decide), h 4 (by decide), h 5 (by decide)]
theorem ht_smL {g g' : Nat → Nat} (h : ∀ i, i < 6 → g i ≤ g' i) : ht_sm g ≤ ht_sm g' := by
  unfold ht_sm
  have a0 := h 0 (by decide)
  have a1 := h 1 (by decide)
  have a2 := h 2 (by decide)
  have a3 := h 3 (by decide)
  have a4 := h 4 (by decide)
  have a5 := h 5 (by decide)
  omega
theorem ht_sm1 {g : Nat → Nat} {j : Nat} (hj : j < 6) : g j ≤ ht_sm g := by
  unfold ht_sm
  match j, hj with
  | 0, _ => omega
  | 1, _ => omega
  | 2, _ => omega
  | 3, _ => omega
  | 4, _ => omega
  | 5, _ => omega
theorem ht_sm0 {g : Nat → Nat} (h : ∀ i, i < 6 → g i = 0) : ht_sm g = 0 := by
  unfold ht_sm
  rw [h 0 (by decide), h 1 (by decide), h 2 (by decide), h 3 (by decide), h 4 (by decide), h 5 (by decide)]
end
section
/-! orders: lengths, completions, lower bounds, numbers of orders -/
def ht_ln (r p q : Nat → Nat) : Nat → Nat → List Nat → Nat
  | _, l, [] => l
  | t, l, j :: s => ht_ln r p q (max t (r j) + p j) (max l (max t (r j) + p j + q j)) s
def ht_cp (f g : Nat) : Nat → List Nat → Prop
  | R, [] => R = 0
  | R, j :: s => R.testBit j = true ∧ ¬ (j = g ∧ R.testBit f = true) ∧ ht_cp f g (ht_rm R j) s
def ht_bs (A : Nat → Prop) (b b' : Nat) : Prop := b' ≤ b ∧ (∀ x, A x → b' ≤ x) ∧ (b' = b ∨ A b')
def ht_vs (r p q : Nat → Nat) (f g R t l : Nat) : Nat → Prop := fun x => ∃ s, ht_cp f g R s ∧ x = ht_ln r p q t l s
def ht_va (r p q : Nat → Nat) (f g R t l a : Nat) : Nat → Prop := fun x => ∃ j s, a ≤ j ∧ ht_cp f g R (j :: s) ∧ x = ht_ln r p q t l (j :: s)
theorem ht_lnc (r p q : Nat → Nat) (t l j : Nat) (s : List Nat) : ht_ln r p q t l (j :: s) = ht_ln r p q (max t (r j) + p j) (max l (max t (r j) + p j + q j)) s := rfl
theorem ht_lnL (r p q : Nat → Nat) : ∀ (s : List Nat) (t l : Nat), l ≤ ht_ln r p q t l s := by
  intro s
  induction s with
  | nil => intro t l; exact Nat.le_refl _
  | cons j s ih =>
    intro t l
    rw [ht_lnc]
    have := ih (max t (r j) + p j) (max l (max t (r j) + p j + q j))
    omega
theorem ht_lnM (r r' p q q' : Nat → Nat) (hr : ∀ j, r j ≤ r' j) (hq : ∀ j, q j ≤ q' j) : ∀ (s : List Nat) (t t' l l' : Nat), t ≤ t' → l ≤ l' → ht_ln r p q t l s ≤ ht_ln r' p q' t' l' s := by
  intro s
  induction s with
  | nil => intro t t' l l' _ h; exact h
  | cons j s ih =>
    intro t t' l l' ht hl
    rw [ht_lnc, ht_lnc]
    have h1 := hr j
    have h2 := hq j
    exact ih _ _ _ _ (by omega) (by omega)
theorem ht_lnJ (r p q : Nat → Nat) (f g : Nat) : ∀ (s : List Nat) (R t l j : Nat), R < 64 → ht_cp f g R s → R.testBit j = true → r j + q j ≤ ht_ln r p q t l s := by
  intro s
  induction s with
  | nil =>
    intro R t l j _ hc hj
    have h0 : R = 0 := hc
    rw [h0, Nat.zero_testBit] at hj
    exact absurd hj (by decide)
  | cons i s ih =>
    intro R t l j hR hc hj
    obtain ⟨h1, _, h3⟩ := hc
    rw [ht_lnc]
    by_cases e : j = i
    · have := ht_lnL r p q s (max t (r i) + p i) (max l (max t (r i) + p i + q i))
      rw [e]
      omega
    · exact ih _ _ _ _ (ht_rm64 hR) h3 ((ht_rmB hR (ht_b64 hR h1)).mpr ⟨hj, e⟩)
theorem ht_lnU (r p q : Nat → Nat) (f g : Nat) (hB : ∀ j, j < 6 → r j ≤ 200 ∧ p j ≤ 12 ∧ q j ≤ 200) : ∀ (s : List Nat) (R t l : Nat), R < 64 → ht_cp f g R s → ht_ln r p q t l s ≤ max l (max t 200 + 12 * ht_pc R + 200) := by
  intro s
  induction s with
  | nil =>
    intro R t l _ _
    show l ≤ _
    omega
  | cons i s ih =>
    intro R t l hR hc
    obtain ⟨h1, _, h3⟩ := hc
    rw [ht_lnc]
    have a := ih _ (max t (r i) + p i) (max l (max t (r i) + p i + q i)) (ht_rm64 hR) h3
    have b := ht_pcrm hR h1
    obtain ⟨b1, b2, b3⟩ := hB i (ht_b64 hR h1)
    omega
theorem ht_lb (r p q : Nat → Nat) (f g : Nat) (D : Nat → Bool) (κ : Nat) : ∀ (s : List Nat) (R t l τ : Nat), R < 64 → ht_cp f g R s → (∃ j, R.testBit j = true ∧ D j = true) → (∀ j, R.testBit j = true → D j = true → κ ≤ q j) → (∀ j, R.testBit j = true → D j = true → τ ≤ max t (r j)) → τ + ht_sm (fun j => if R.testBit j = true ∧ D j = true then p j else 0) + κ ≤ ht_ln r p q t l s := by
  intro s
  induction s with
  | nil =>
    intro R t l τ _ hc hx _ _
    obtain ⟨j, hj, _⟩ := hx
    have h0 : R = 0 := hc
    rw [h0, Nat.zero_testBit] at hj
    exact absurd hj (by decide)
  | cons i s ih =>
    intro R t l τ hR hc hx hk ht
    obtain ⟨h1, _, h3⟩ := hc
    have hi : i < 6 := ht_b64 hR h1
    have hS := ht_smU (g := fun j => if (ht_rm R i).testBit j = true ∧ D j = true then p j else 0) (g' := fun j => if R.testBit j = true ∧ D j = true then p j else 0) hi (by
      intro k _ ne
      have e : ((ht_rm R i).testBit k = true ∧ D k = true) ↔ (R.testBit k = true ∧ D k = true) := by
        rw [ht_rmB hR hi]
        exact ⟨fun z => ⟨z.1.1, z.2⟩, fun z => ⟨⟨z.1, ne⟩, z.2⟩⟩
      try dsimp only
      by_cases c : (ht_rm R i).testBit k = true ∧ D k = true
      · rw [if_pos c, if_pos (e.mp c)]
      · rw [if_neg c, if_neg (fun z => c (e.mpr z))])
    have hg : (if (ht_rm R i).testBit i = true ∧ D i = true then p i else 0) = 0 := if_neg (fun z => ((ht_rmB hR hi).mp z.1).2 rfl)
    try dsimp only at hS
    rw [hg] at hS
    rw [ht_lnc]
    have hk' : ∀ j, (ht_rm R i).testBit j = true → D j = true → κ ≤ q j := fun j a b => hk j ((ht_rmB hR hi).mp a).1 b
    have ih' := ih (ht_rm R i) (max t (r i) + p i) (max l (max t (r i) + p i + q i))
    by_cases di : D i = true
    · rw [if_pos ⟨h1, di⟩] at hS
      have hti := ht i h1 di
      have hki := hk i h1 di
      by_cases ex : ∃ j, (ht_rm R i).testBit j = true ∧ D j = true
      · have := ih' (τ + p i) (ht_rm64 hR) h3 ex hk' (by intro j _ _; omega)
        omega
      · have z : ht_sm (fun j => if (ht_rm R i).testBit j = true ∧ D j = true then p j else 0) = 0 := ht_sm0 (by
          intro k _
          exact if_neg (fun w => ex ⟨k, w⟩))
        have := ht_lnL r p q s (max t (r i) + p i) (max l (max t (r i) + p i + q i))
        omega
    · rw [if_neg (fun z => di z.2)] at hS
      have ex : ∃ j, (ht_rm R i).testBit j = true ∧ D j = true := by
        obtain ⟨j, hj, dj⟩ := hx
        exact ⟨j, (ht_rmB hR hi).mpr ⟨hj, fun e => di (e ▸ dj)⟩, dj⟩
      have := ih' τ (ht_rm64 hR) h3 ex hk' (by
        intro j a b
        have := ht j ((ht_rmB hR hi).mp a).1 b
        omega)
      omega
/-! the least of values -/
theorem ht_bs_u {A : Nat → Prop} {b x y : Nat} (hx : ht_bs A b x) (hy : ht_bs A b y) : x = y := by
  obtain ⟨a1, a2, a3⟩ := hx
  obtain ⟨b1, b2, b3⟩ := hy
  have h1 : x ≤ y := by
    rcases b3 with e | e
    · omega
    · exact a2 y e
  have h2 : y ≤ x := by
    rcases a3 with e | e
    · omega
    · exact b2 x e
  omega
theorem ht_bs_e {A A' : Nat → Prop} {b x : Nat} (e : ∀ y, A y ↔ A' y) (h : ht_bs A b x) : ht_bs A' b x := by
  obtain ⟨a1, a2, a3⟩ := h
  exact ⟨a1, fun y hy => a2 y ((e y).mpr hy), a3.imp id (e x).mp⟩
theorem ht_bs_s {A : Nat → Prop} {b : Nat} (h : ∀ x, A x → b ≤ x) : ht_bs A b b := ⟨Nat.le_refl _, h, Or.inl rfl⟩
theorem ht_bs_2 {A A1 A2 : Nat → Prop} {b b1 b2 : Nat} (e : ∀ y, A y ↔ (A1 y ∨ A2 y)) (h1 : ht_bs A1 b b1) (h2 : ht_bs A2 b1 b2) : ht_bs A b b2 := by
  obtain ⟨a1, a2, a3⟩ := h1
  obtain ⟨c1, c2, c3⟩ := h2
  refine ⟨by omega, ?_, ?_⟩
  · intro x hx
    rcases (e x).mp hx with z | z
    · have := a2 x z
      omega
    · exact c2 x z
  · rcases c3 with z | z
    · rcases a3 with w | w
      · left; omega
      · right; rw [z]; exact (e b1).mpr (Or.inl w)
    · right; exact (e b2).mpr (Or.inr z)
theorem ht_bs_at {A : Nat → Prop} {b b' x : Nat} (h : ht_bs A b b') (hx : A x) (hb : x < b) : A b' := by
  obtain ⟨a1, a2, a3⟩ := h
  rcases a3 with e | e
  · have := a2 x hx
    omega
  · exact e
section
variable {r p q : Nat → Nat} {f g R t l a b b1 b2 j : Nat}
theorem ht_va0 (h : R ≠ 0) (x : Nat) : ht_va r p q f g R t l 0 x ↔ ht_vs r p q f g R t l x := by
  constructor
  · rintro ⟨j, s, _, hc, e⟩
    exact ⟨j :: s, hc, e⟩
  · rintro ⟨s, hc, e⟩
    cases s with
    | nil => exact absurd hc h
    | cons j s => exact ⟨j, s, Nat.zero_le _, hc, e⟩
theorem ht_vs0 (x : Nat) : ht_vs r p q f g 0 t l x ↔ x = l := by
  constructor
  · rintro ⟨s, hc, e⟩
    cases s with
    | nil => exact e
    | cons j s =>
      have := hc.1
      rw [Nat.zero_testBit] at this
      exact absurd this (by decide)
  · intro e
    exact ⟨[], rfl, e⟩
theorem ht_va_n (h : ∀ j, a ≤ j → R.testBit j = true → ¬ ¬ (j = g ∧ R.testBit f = true)) : ht_bs (ht_va r p q f g R t l a) b b := by
  apply ht_bs_s
  rintro x ⟨j, s, hj, hc, _⟩
  exact absurd hc.2.1 (h j hj hc.1)
theorem ht_va_s (ha : a ≤ j) (hj : R.testBit j = true) (hal : ¬ (j = g ∧ R.testBit f = true)) (hn : ∀ i, a ≤ i → i < j → R.testBit i = true → ¬ ¬ (i = g ∧ R.testBit f = true))
    (h1 : ht_bs (ht_vs r p q f g (ht_rm R j) (max t (r j) + p j) (max l (max t (r j) + p j + q j))) b b1) (h2 : ht_bs (ht_va r p q f g R t l (j + 1)) b1 b2) : ht_bs (ht_va r p q f g R t l a) b b2 := by
  refine ht_bs_2 ?_ h1 h2
  intro x
  constructor
  · rintro ⟨i, s, hi, hc, e⟩
    by_cases c : i = j
    · left
      rw [c] at hc e
      exact ⟨s, hc.2.2, e⟩
    · right
      refine ⟨i, s, ?_, hc, e⟩
      apply Classical.byContradiction
      intro z
      exact hn i hi (by omega) hc.1 hc.2.1
  · rintro (⟨s, hc, e⟩ | ⟨i, s, hi, hc, e⟩)
    · exact ⟨j, s, ha, ⟨hj, hal, hc⟩, e⟩
    · exact ⟨i, s, by omega, hc, e⟩
end
end
section
/-! the orders by their numbers -/
def ht_fc : Nat → Nat
  | 0 => 1
  | d + 1 => (d + 1) * ht_fc d
def ht_od : Nat → Nat → Nat → List Nat
  | 0, _, _ => []
  | d + 1, R, c => ht_nth R (c / ht_fc d) :: ht_od d (ht_rm R (ht_nth R (c / ht_fc d))) (c % ht_fc d)
theorem ht_fcp : ∀ d, 0 < ht_fc d := by
  intro d
  induction d with
  | zero => exact Nat.one_pos
  | succ d ih => exact Nat.mul_pos (Nat.succ_pos d) ih
theorem ht_fcs (d : Nat) : ht_fc (d + 1) = (d + 1) * ht_fc d := rfl
theorem ht_fcl : ∀ d, d ≤ 6 → ht_fc d ≤ 720 := by decide
theorem ht_fcd {d c : Nat} (h : c < ht_fc (d + 1)) : c / ht_fc d < d + 1 := by
  rw [ht_fcs, Nat.mul_comm] at h
  exact Nat.div_lt_of_lt_mul h
theorem ht_fcm (d c : Nat) : c % ht_fc d < ht_fc d := Nat.mod_lt _ (ht_fcp d)
theorem ht_dm {F i c : Nat} (h : c < F) : (i * F + c) / F = i ∧ (i * F + c) % F = c := by
  rw [Nat.mul_comm i F]
  constructor
  · rw [Nat.mul_add_div (by omega), Nat.div_eq_of_lt h, Nat.add_zero]
  · rw [Nat.mul_add_mod, Nat.mod_eq_of_lt h]
theorem ht_n6 {R : Nat} (hR : R < 64) (j g : Nat) : ¬ (j = g ∧ R.testBit 6 = true) := fun z => absurd (ht_b64 hR z.2) (by decide)
theorem ht_odcp : ∀ d R c, R < 64 → ht_pc R = d → c < ht_fc d → ht_cp 6 0 R (ht_od d R c) := by
  intro d
  induction d with
  | zero => intro R c hR hp _; exact ht_pc0' R hR hp
  | succ d ih =>
    intro R c hR hp hc
    have h1 := ht_fcd hc
    rw [← hp] at h1
    have h2 := ht_nthB hR h1
    exact ⟨h2.1, ht_n6 hR _ _, ih _ _ (ht_rm64 hR) (by have := ht_pcrm hR h2.1; omega) (ht_fcm d c)⟩
theorem ht_odl : ∀ d R c, (ht_od d R c).length = d := by
  intro d
  induction d with
  | zero => intro R c; rfl
  | succ d ih => intro R c; exact congrArg (· + 1) (ih _ _)
theorem ht_odx : ∀ d s R, R < 64 → ht_pc R = d → ht_cp 6 0 R s → ∃ c, c < ht_fc d ∧ ht_od d R c = s := by
  intro d
  induction d with
  | zero =>
    intro s R hR hp hc
    cases s with
    | nil => exact ⟨0, Nat.one_pos, rfl⟩
    | cons j s =>
      have := ht_pcrm hR hc.1
      omega
  | succ d ih =>
    intro s R hR hp hc
    cases s with
    | nil =>
      have h0 : R = 0 := hc
      rw [h0] at hp
      exact absurd hp (by show ¬ 0 = d + 1; omega)
    | cons j s =>
      obtain ⟨i, hi, ei⟩ := ht_nthE hR hc.1
      obtain ⟨c, hc1, ec⟩ := ih s (ht_rm R j) (ht_rm64 hR) (by have := ht_pcrm hR hc.1; omega) hc.2.2
      have hd := ht_dm (i := i) hc1
      refine ⟨i * ht_fc d + c, ?_, ?_⟩
      · rw [ht_fcs]
        have : (i + 1) * ht_fc d ≤ (d + 1) * ht_fc d := Nat.mul_le_mul_right _ (by omega)
        rw [Nat.succ_mul] at this
        omega
      · show ht_nth R ((i * ht_fc d + c) / ht_fc d) :: ht_od d (ht_rm R (ht_nth R ((i * ht_fc d + c) / ht_fc d))) ((i * ht_fc d + c) % ht_fc d) = j :: s
        rw [hd.1, hd.2, ei, ec]
/-- s is the first best order, place by place -/
def ht_gr (r p q : Nat → Nat) (v : Nat) : Nat → Nat → Nat → List Nat → Prop
  | R, _, l, [] => R = 0 ∧ l = v
  | R, t, l, j :: s => R.testBit j = true ∧ (∀ i s', i < j → R.testBit i = true → ht_cp 6 0 (ht_rm R i) s' → ht_ln r p q t l (i :: s') ≠ v) ∧ ht_gr r p q v (ht_rm R j) (max t (r j) + p j) (max l (max t (r j) + p j + q j)) s
theorem ht_grcp {r p q : Nat → Nat} {v : Nat} : ∀ (s : List Nat) (R t l : Nat), R < 64 → ht_gr r p q v R t l s → ht_cp 6 0 R s := by
  intro s
  induction s with
  | nil => intro R t l _ h; exact h.1
  | cons j s ih => intro R t l hR h; exact ⟨h.1, ht_n6 hR _ _, ih _ _ _ (ht_rm64 hR) h.2.2⟩
theorem ht_grv {r p q : Nat → Nat} {v : Nat} : ∀ (s : List Nat) (R t l : Nat), ht_gr r p q v R t l s → ht_ln r p q t l s = v := by
  intro s
  induction s with
  | nil => intro R t l h; exact h.2
  | cons j s ih => intro R t l h; exact ih _ _ _ h.2.2
theorem ht_cpl {f g : Nat} : ∀ (s : List Nat) (R : Nat), R < 64 → ht_cp f g R s → s.length = ht_pc R := by
  intro s
  induction s with
  | nil =>
    intro R _ h
    have h0 : R = 0 := h
    rw [h0]
    rfl
  | cons j s ih =>
    intro R hR h
    have a := ih _ (ht_rm64 hR) h.2.2
    have b := ht_pcrm hR h.1
    show s.length + 1 = _
    omega
theorem ht_grod {r p q : Nat → Nat} {v : Nat} : ∀ d s R t l, R < 64 → ht_pc R = d → ht_gr r p q v R t l s → ∃ c, c < ht_fc d ∧ ht_od d R c = s ∧ ∀ c', c' < c → ht_ln r p q t l (ht_od d R c') ≠ v := by
  intro d
  induction d with
  | zero =>
    intro s R t l hR hp hc
    cases s with
    | nil => exact ⟨0, Nat.one_pos, rfl, fun c' h => absurd h (Nat.not_lt_zero _)⟩
    | cons j s =>
      have := ht_pcrm hR hc.1
      omega
  | succ d ih =>
    intro s R t l hR hp hc
    cases s with
    | nil =>
      have h0 : R = 0 := hc.1
      rw [h0] at hp
      exact absurd hp (by show ¬ 0 = d + 1; omega)
    | cons j s =>
      obtain ⟨hj, hn, hg⟩ := hc
      obtain ⟨i, hi, ei⟩ := ht_nthE hR hj
      obtain ⟨c, hc1, ec, hm⟩ := ih s (ht_rm R j) _ _ (ht_rm64 hR) (by have := ht_pcrm hR hj; omega) hg
      have hd := ht_dm (i := i) hc1
      refine ⟨i * ht_fc d + c, ?_, ?_, ?_⟩
      · rw [ht_fcs]
        have : (i + 1) * ht_fc d ≤ (d + 1) * ht_fc d := Nat.mul_le_mul_right _ (by omega)
        rw [Nat.succ_mul] at this
        omega
      · show ht_nth R ((i * ht_fc d + c) / ht_fc d) :: ht_od d (ht_rm R (ht_nth R ((i * ht_fc d + c) / ht_fc d))) ((i * ht_fc d + c) % ht_fc d) = j :: s
        rw [hd.1, hd.2, ei, ec]
      · intro c' hlt
        show ht_ln r p q t l (ht_nth R (c' / ht_fc d) :: ht_od d (ht_rm R (ht_nth R (c' / ht_fc d))) (c' % ht_fc d)) ≠ v
        have hle : c' / ht_fc d ≤ i := by
          have := Nat.div_le_div_right (c := ht_fc d) (Nat.le_of_lt hlt)
          rw [hd.1] at this
          exact this
        have hpos : c' / ht_fc d < ht_pc R := by omega
        have hb := ht_nthB hR hpos
        by_cases e : c' / ht_fc d = i
        · rw [e, ei]
          have h1 := Nat.div_add_mod' c' (ht_fc d)
          rw [e] at h1
          exact hm _ (by omega)
        · have h1 : ht_nth R (c' / ht_fc d) < j := by
            rw [← ei]
            exact ht_nthM hR (by omega) hi
          exact hn _ _ h1 hb.1 (ht_odcp d _ _ (ht_rm64 hR) (by have := ht_pcrm hR hb.1; omega) (ht_fcm d c'))
/-! places in an order, begins -/
def ht_at (x : Nat) : List Nat → Nat → Nat → Nat
  | [], _, a => a
  | j :: s, k, a => ht_at x s (k + 1) (if j = x then k else a)
def ht_st (r p : Nat → Nat) : Nat → List Nat → Nat → Nat
  | _, [], _ => 0
  | t, j :: s, x => if j = x then max t (r j) else ht_st r p (max t (r j) + p j) s x
theorem ht_at_n {f g x : Nat} : ∀ (s : List Nat) (R k a : Nat), R < 64 → ht_cp f g R s → ¬ R.testBit x = true → ht_at x s k a = a := by
  intro s
  induction s with
  | nil => intro R k a _ _ _; rfl
  | cons j s ih =>
    intro R k a hR hc hx
    have e : ¬ j = x := fun e => hx (e ▸ hc.1)
    show ht_at x s (k + 1) (if j = x then k else a) = a
    rw [if_neg e]
    exact ih _ _ _ (ht_rm64 hR) hc.2.2 (fun z => hx ((ht_rmB hR (ht_b64 hR hc.1)).mp z).1)
theorem ht_at_g {f g x : Nat} : ∀ (s : List Nat) (R k a : Nat), R < 64 → ht_cp f g R s → R.testBit x = true → k ≤ ht_at x s k a := by
  intro s
  induction s with
  | nil =>
    intro R k a _ hc hx
    have h0 : R = 0 := hc
    rw [h0, Nat.zero_testBit] at hx
    exact absurd hx (by decide)
  | cons j s ih =>
    intro R k a hR hc hx
    have hB := ht_rmB (i := x) hR (ht_b64 hR hc.1)
    show k ≤ ht_at x s (k + 1) (if j = x then k else a)
    by_cases e : j = x
    · rw [if_pos e, ht_at_n s _ _ _ (ht_rm64 hR) hc.2.2 (fun z => (hB.mp z).2 e.symm)]
      exact Nat.le_refl _
    · rw [if_neg e]
      have := ih (ht_rm R j) (k + 1) a (ht_rm64 hR) hc.2.2 (hB.mpr ⟨hx, fun z => e z.symm⟩)
      omega
theorem ht_cp_d {f g : Nat} : ∀ (s : List Nat) (R : Nat), R < 64 → ¬ R.testBit f = true → (ht_cp f g R s ↔ ht_cp 6 0 R s) := by
  intro s
  induction s with
  | nil => intro R _ _; exact Iff.rfl
  | cons j s ih =>
    intro R hR hf
    constructor
    · intro h
      exact ⟨h.1, ht_n6 hR _ _, (ih _ (ht_rm64 hR) (fun z => hf ((ht_rmB hR (ht_b64 hR h.1)).mp z).1)).mp h.2.2⟩
    · intro h
      exact ⟨h.1, fun z => hf z.2, (ih _ (ht_rm64 hR) (fun z => hf ((ht_rmB hR (ht_b64 hR h.1)).mp z).1)).mpr h.2.2⟩
theorem ht_cp_at {f g : Nat} (hfg : f ≠ g) : ∀ (s : List Nat) (R k a a' : Nat), R < 64 → R.testBit f = true → R.testBit g = true → (ht_cp f g R s ↔ (ht_cp 6 0 R s ∧ ht_at f s k a < ht_at g s k a')) := by
  intro s
  induction s with
  | nil =>
    intro R k a a' _ hf _
    constructor
    · intro hc
      have h0 : R = 0 := hc
      rw [h0, Nat.zero_testBit] at hf
      exact absurd hf (by decide)
    · intro hc
      have h0 : R = 0 := hc.1
      rw [h0, Nat.zero_testBit] at hf
      exact absurd hf (by decide)
  | cons j s ih =>
    intro R k a a' hR hf hg
    have key : R.testBit j = true → ht_cp 6 0 (ht_rm R j) s → ((¬ (j = g ∧ R.testBit f = true) ∧ ht_cp f g (ht_rm R j) s) ↔ ht_at f (j :: s) k a < ht_at g (j :: s) k a') := by
      intro hj hs
      have hj6 := ht_b64 hR hj
      have hR' := ht_rm64 (j := j) hR
      show _ ↔ ht_at f s (k + 1) (if j = f then k else a) < ht_at g s (k + 1) (if j = g then k else a')
      by_cases e1 : j = f
      · have e2 : ¬ j = g := fun e => hfg (e1.symm.trans e)
        have nf : ¬ (ht_rm R j).testBit f = true := fun z => ((ht_rmB hR hj6).mp z).2 e1.symm
        have h1 := ht_at_n s _ (k + 1) k hR' hs nf
        have h2 := ht_at_g s _ (k + 1) a' hR' hs ((ht_rmB hR hj6).mpr ⟨hg, fun e => e2 e.symm⟩)
        rw [if_pos e1, if_neg e2, h1]
        constructor
        · intro _; omega
        · intro _
          exact ⟨fun z => e2 z.1, (ht_cp_d s _ hR' nf).mpr hs⟩
      · by_cases e2 : j = g
        · have ng : ¬ (ht_rm R j).testBit g = true := fun z => ((ht_rmB hR hj6).mp z).2 e2.symm
          have h1 := ht_at_n s _ (k + 1) k hR' hs ng
          have h2 := ht_at_g s _ (k + 1) a hR' hs ((ht_rmB hR hj6).mpr ⟨hf, fun e => e1 e.symm⟩)
          rw [if_neg e1, if_pos e2, h1]
          constructor
          · intro z; exact absurd ⟨e2, hf⟩ z.1
          · intro z; omega
        · rw [if_neg e1, if_neg e2]
          have := ih (ht_rm R j) (k + 1) a a' hR' ((ht_rmB hR hj6).mpr ⟨hf, fun e => e1 e.symm⟩) ((ht_rmB hR hj6).mpr ⟨hg, fun e => e2 e.symm⟩)
          constructor
          · intro z; exact (this.mp z.2).2
          · intro z; exact ⟨fun w => e2 w.1, this.mpr ⟨hs, z⟩⟩
    constructor
    · intro h
      have hs : ht_cp 6 0 (ht_rm R j) s := by
        by_cases c : (ht_rm R j).testBit f = true
        · by_cases c2 : (ht_rm R j).testBit g = true
          · exact ((ih _ 0 0 0 (ht_rm64 hR) c c2).mp h.2.2).1
          · have e : j = g := by
              apply Classical.byContradiction
              intro ne
              exact c2 ((ht_rmB hR (ht_b64 hR h.1)).mpr ⟨hg, fun e => ne e.symm⟩)
            exact absurd ⟨e, hf⟩ h.2.1
        · exact (ht_cp_d s _ (ht_rm64 hR) c).mp h.2.2
      exact ⟨⟨h.1, ht_n6 hR _ _, hs⟩, (key h.1 hs).mp ⟨h.2.1, h.2.2⟩⟩
    · intro h
      have := (key h.1.1 h.1.2.2).mpr h.2
      exact ⟨h.1.1, this.1, this.2⟩
end
section
/-! the plan with interruptions: what every round keeps -/
def ht_up (g : Nat → Nat) (j v : Nat) : Nat → Nat := fun i => if i = j then v else g i
theorem ht_ups {g : Nat → Nat} {j v : Nat} : ht_up g j v j = v := if_pos rfl
theorem ht_upn {g : Nat → Nat} {j v i : Nat} (h : i ≠ j) : ht_up g j v i = g i := if_neg h
theorem ht_smLt {g g' : Nat → Nat} {j : Nat} (h : ∀ i, i < 6 → g i ≤ g' i) (hj : j < 6) (hl : g j < g' j) : ht_sm g + 1 ≤ ht_sm g' := by
  have a0 := h 0 (by decide)
  have a1 := h 1 (by decide)
  have a2 := h 2 (by decide)
  have a3 := h 3 (by decide)
  have a4 := h 4 (by decide)
  have a5 := h 5 (by decide)
  unfold ht_sm
  match j, hj with
  | 0, _ => omega
  | 1, _ => omega
  | 2, _ => omega
  | 3, _ => omega
  | 4, _ => omega
  | 5, _ => omega
def ht_H (pp r q : Nat → Nat) (fr B : Nat) : Prop := ∀ κ τ, (∃ j, j < 6 ∧ 0 < pp j ∧ κ ≤ q j ∧ τ ≤ max fr (r j)) → τ + ht_sm (fun j => if κ ≤ q j ∧ τ ≤ max fr (r j) then pp j else 0) + κ ≤ B
def ht_I1 (pp r q : Nat → Nat) (fr : Nat) (lf : Nat → Nat) (t : Nat) : Prop := ∀ κ, ∃ τ, τ ≤ t ∧ (∀ j, j < 6 → 0 < lf j → κ ≤ q j → r j ≤ t → τ ≤ max fr (r j)) ∧ t ≤ τ + ht_sm (fun j => if κ ≤ q j ∧ τ ≤ max fr (r j) then pp j - lf j else 0)
def ht_I2 (pp r q : Nat → Nat) (fr len : Nat) : Prop := ∀ B, ht_H pp r q fr B → len ≤ B
def ht_I3 (pp r : Nat → Nat) (fr : Nat) (lf : Nat → Nat) (t : Nat) : Prop := ∀ (D : Nat → Bool) (ρ : Nat), (∀ j, j < 6 → D j = true → ρ ≤ max fr (r j)) → ht_sm (fun j => if D j = true then pp j - lf j else 0) + ρ ≤ max t ρ
def ht_I4 (pp r q : Nat → Nat) (fr : Nat) (lf : Nat → Nat) (len : Nat) : Prop := ∀ (D : Nat → Bool) (ρ κ : Nat), (∀ j, j < 6 → D j = true → ρ ≤ max fr (r j)) → (∀ j, j < 6 → D j = true → κ ≤ q j) → (∃ j, j < 6 ∧ D j = true ∧ 0 < pp j) → (∀ j, j < 6 → D j = true → lf j = 0) → ρ + ht_sm (fun j => if D j = true then pp j else 0) + κ ≤ len
def ht_I5 (pp : Nat → Nat) (fr : Nat) (lf : Nat → Nat) (t len : Nat) : Prop := fr ≤ t ∧ (∀ j, j < 6 → lf j ≤ pp j) ∧ t + ht_sm lf ≤ 400 ∧ len ≤ 600
def ht_J (pp r q : Nat → Nat) (fr : Nat) (lf : Nat → Nat) (t len : Nat) : Prop := ht_I1 pp r q fr lf t ∧ ht_I2 pp r q fr len ∧ ht_I3 pp r fr lf t ∧ ht_I4 pp r q fr lf len ∧ ht_I5 pp fr lf t len
def ht_mu (r lf : Nat → Nat) (t : Nat) : Nat := ht_sm (fun j => if 0 < lf j then (if t < r j then 2 else 1) else 0)
section
variable {pp r q lf : Nat → Nat} {fr t len : Nat}
theorem ht_J0 (hf : fr ≤ 300) (hp : ht_sm pp ≤ 100) : ht_J pp r q fr pp fr 0 := by
  refine ⟨?_, ?_, ?_, ?_, ?_⟩
  · intro κ
    exact ⟨fr, Nat.le_refl _, fun j _ _ _ _ => Nat.le_max_left _ _, Nat.le_add_right _ _⟩
  · intro B _
    exact Nat.zero_le _
  · intro D ρ _
    have z : ht_sm (fun j => if D j = true then pp j - pp j else 0) = 0 := ht_sm0 (by
      intro i _
      try dsimp only
      split
      · exact Nat.sub_self _
      · rfl)
    rw [z]
    omega
  · intro D ρ κ _ _ hx hz
    obtain ⟨j, hj, dj, pj⟩ := hx
    have := hz j hj dj
    omega
  · exact ⟨Nat.le_refl _, fun j _ => Nat.le_refl _, by omega, by omega⟩
/-- an idle round -/
theorem ht_idle {ν : Nat} (h : ht_J pp r q fr lf t len) (hv : t < ν) (hn : ∀ i, i < 6 → 0 < lf i → ν ≤ r i) (h2 : ν ≤ 200) (hp : ht_sm pp ≤ 100) : ht_J pp r q fr lf ν len := by
  obtain ⟨_, i2, i3, i4, i5, i6, i7, i8⟩ := h
  refine ⟨?_, i2, ?_, i4, ?_⟩
  · intro κ
    refine ⟨ν, Nat.le_refl _, ?_, Nat.le_add_right _ _⟩
    intro j hj h0 _ _
    have := hn j hj h0
    omega
  · intro D ρ hD
    have := i3 D ρ hD
    omega
  · have := ht_smL (g := lf) (g' := pp) i6
    exact ⟨by omega, i6, by omega, i8⟩
/-- a round of work -/
theorem ht_wk1 {j w : Nat} (h : ht_I1 pp r q fr lf t) (hle : ∀ i, i < 6 → lf i ≤ pp i) (hj : j < 6) (h0 : 0 < lf j) (hr : r j ≤ t) (hq : ∀ i, i < 6 → 0 < lf i → r i ≤ t → q i ≤ q j) (hwl : w ≤ lf j) (hn : ∀ i, i < 6 → 0 < lf i → t < r i → t + w ≤ r i) : ht_I1 pp r q fr (ht_up lf j (lf j - w)) (t + w) := by
  intro κ
  have hlf : ∀ i, i < 6 → 0 < ht_up lf j (lf j - w) i → 0 < lf i := by
    intro i _ z
    by_cases e : i = j
    · rw [e]; exact h0
    · rw [ht_upn e] at z; exact z
  by_cases c : κ ≤ q j
  · obtain ⟨τ, h1, h2, h3⟩ := h κ
    refine ⟨τ, by omega, ?_, ?_⟩
    · intro i hi z hk hri
      by_cases e : r i ≤ t
      · exact h2 i hi (hlf i hi z) hk e
      · omega
    · have hjt := h2 j hj h0 c hr
      have hS := ht_smU (g := fun i => if κ ≤ q i ∧ τ ≤ max fr (r i) then pp i - ht_up lf j (lf j - w) i else 0) (g' := fun i => if κ ≤ q i ∧ τ ≤ max fr (r i) then pp i - lf i else 0) hj (by
        intro i _ ne
        try dsimp only
        rw [ht_upn ne])
      try dsimp only at hS
      rw [if_pos ⟨c, hjt⟩, if_pos ⟨c, hjt⟩, ht_ups] at hS
      have := hle j hj
      omega
  · refine ⟨t + w, Nat.le_refl _, ?_, Nat.le_add_right _ _⟩
    intro i hi z hk hri
    have z' := hlf i hi z
    by_cases e : r i ≤ t
    · have := hq i hi z' e
      omega
    · have := hn i hi z' (by omega)
      omega
theorem ht_wk2 {j w : Nat} (h1 : ht_I1 pp r q fr lf t) (h : ht_I2 pp r q fr len) (hle : ∀ i, i < 6 → lf i ≤ pp i) (hj : j < 6) (h0 : 0 < lf j) (hr : r j ≤ t) (hw : w = lf j) : ht_I2 pp r q fr (max len (t + w + q j)) := by
  intro B hB
  have hl := h B hB
  obtain ⟨τ, a1, a2, a3⟩ := h1 (q j)
  have hjt := a2 j hj h0 (Nat.le_refl _) hr
  have hB' := hB (q j) τ ⟨j, hj, by have := hle j hj; omega, Nat.le_refl _, hjt⟩
  have hS := ht_smU (g := fun i => if q j ≤ q i ∧ τ ≤ max fr (r i) then pp i - ht_up lf j 0 i else 0) (g' := fun i => if q j ≤ q i ∧ τ ≤ max fr (r i) then pp i - lf i else 0) hj (by
    intro i _ ne
    try dsimp only
    rw [ht_upn ne])
  try dsimp only at hS
  rw [if_pos ⟨Nat.le_refl _, hjt⟩, if_pos ⟨Nat.le_refl _, hjt⟩, ht_ups] at hS
  have hL := ht_smL (g := fun i => if q j ≤ q i ∧ τ ≤ max fr (r i) then pp i - ht_up lf j 0 i else 0) (g' := fun i => if q j ≤ q i ∧ τ ≤ max fr (r i) then pp i else 0) (by
    intro i _
    try dsimp only
    split
    · exact Nat.sub_le _ _
    · exact Nat.le_refl _)
  have := hle j hj
  omega
theorem ht_wk3 {j w : Nat} (h : ht_I3 pp r fr lf t) (hle : ∀ i, i < 6 → lf i ≤ pp i) (hft : fr ≤ t) (hj : j < 6) (hr : r j ≤ t) (hwl : w ≤ lf j) : ht_I3 pp r fr (ht_up lf j (lf j - w)) (t + w) := by
  intro D ρ hD
  have h1 := h D ρ hD
  have hS := ht_smU (g := fun i => if D i = true then pp i - ht_up lf j (lf j - w) i else 0) (g' := fun i => if D i = true then pp i - lf i else 0) hj (by
    intro i _ ne
    try dsimp only
    rw [ht_upn ne])
  try dsimp only at hS
  by_cases c : D j = true
  · rw [if_pos c, if_pos c, ht_ups] at hS
    have := hle j hj
    have := hD j hj c
    omega
  · rw [if_neg c, if_neg c] at hS
    omega
theorem ht_wk4 {j w : Nat} (hj : j < 6) (h : ht_I4 pp r q fr lf len) (h3 : ht_I3 pp r fr (ht_up lf j (lf j - w)) (t + w)) (hwl : w ≤ lf j) : ht_I4 pp r q fr (ht_up lf j (lf j - w)) (if lf j = w then max len (t + w + q j) else len) := by
  intro D ρ κ hD hk hx hz
  by_cases c : D j = true
  · by_cases e : lf j = w
    · rw [if_pos e]
      have a := h3 D ρ hD
      have b : ht_sm (fun i => if D i = true then pp i - ht_up lf j (lf j - w) i else 0) = ht_sm (fun i => if D i = true then pp i else 0) := ht_smE (by
        intro i hi
        try dsimp only
        by_cases d : D i = true
        · rw [if_pos d, if_pos d, hz i hi d, Nat.sub_zero]
        · rw [if_neg d, if_neg d])
      rw [b] at a
      obtain ⟨i, hi, di, pi⟩ := hx
      have hi1 := ht_sm1 (g := fun i => if D i = true then pp i else 0) hi
      try dsimp only at hi1
      rw [if_pos di] at hi1
      have := hk _ hj c
      omega
    · have := hz j hj c
      rw [ht_ups] at this
      omega
  · have := h D ρ κ hD hk hx (by
      intro i hi di
      have := hz i hi di
      rw [ht_upn (show i ≠ j from fun e => c (e ▸ di))] at this
      exact this)
    split
    · omega
    · exact this
theorem ht_wk {j w : Nat} (h : ht_J pp r q fr lf t len) (hqb : q j ≤ 200) (hj : j < 6) (h0 : 0 < lf j) (hr : r j ≤ t) (hq : ∀ i, i < 6 → 0 < lf i → r i ≤ t → q i ≤ q j) (hwl : w ≤ lf j) (hn : ∀ i, i < 6 → 0 < lf i → t < r i → t + w ≤ r i) : ht_J pp r q fr (ht_up lf j (lf j - w)) (t + w) (if lf j = w then max len (t + w + q j) else len) := by
  obtain ⟨i1, i2, i3, i4, i5, i6, i7, i8⟩ := h
  have k3 := ht_wk3 i3 i6 i5 hj hr hwl
  have hS := ht_smU (g := ht_up lf j (lf j - w)) (g' := lf) hj (fun i _ ne => ht_upn ne)
  rw [ht_ups] at hS
  have hs1 := ht_sm1 (g := lf) hj
  refine ⟨ht_wk1 i1 i6 hj h0 hr hq hwl hn, ?_, k3, ht_wk4 hj i4 k3 hwl, by omega, ?_, by omega, ?_⟩
  · split
    · exact ht_wk2 i1 i2 i6 hj h0 hr (by omega)
    · exact i2
  · intro i hi
    by_cases e : i = j
    · rw [e, ht_ups]
      have := i6 j hj
      omega
    · rw [ht_upn e]
      exact i6 i hi
  · split
    · omega
    · exact i8
/-- what a round leaves to do -/
theorem ht_mu_le (r lf : Nat → Nat) (t : Nat) : ht_mu r lf t ≤ 12 := by
  have := ht_smL (g := fun j => if 0 < lf j then (if t < r j then 2 else 1) else 0) (g' := fun _ => 2) (by
    intro i _
    try dsimp only
    split
    · split
      · exact Nat.le_refl _
      · decide
    · decide)
  exact this
theorem ht_mu0 (h : ht_mu r lf t = 0) : ∀ i, i < 6 → lf i = 0 := by
  intro i hi
  have := ht_sm1 (g := fun j => if 0 < lf j then (if t < r j then 2 else 1) else 0) hi
  try dsimp only at this
  unfold ht_mu at h
  rw [h] at this
  apply Classical.byContradiction
  intro z
  rw [if_pos (by omega)] at this
  split at this
  · omega
  · omega
theorem ht_muz (h : ∀ i, i < 6 → lf i = 0) : ht_mu r lf t = 0 := ht_sm0 (by
  intro i hi
  try dsimp only
  rw [if_neg (by have := h i hi; omega)])
theorem ht_mui {ν j : Nat} (hv : t < ν) (hj : j < 6) (h0 : 0 < lf j) (hr : r j = ν) : ht_mu r lf ν + 1 ≤ ht_mu r lf t := by
  apply ht_smLt (j := j) ?_ hj
  · try dsimp only
    rw [if_pos h0, if_pos h0, if_neg (by omega), if_pos (by omega)]
    decide
  · intro i _
    try dsimp only
    by_cases a : 0 < lf i
    · rw [if_pos a, if_pos a]
      by_cases b : ν < r i
      · rw [if_pos b, if_pos (by omega)]
        exact Nat.le_refl _
      · rw [if_neg b]
        split
        · decide
        · exact Nat.le_refl _
    · rw [if_neg a, if_neg a]
      exact Nat.le_refl _
theorem ht_muw {j w : Nat} (hj : j < 6) (h0 : 0 < lf j) (hr : r j ≤ t) (h : w = lf j ∨ ∃ i, i < 6 ∧ 0 < lf i ∧ r i = t + w ∧ t < r i) : ht_mu r (ht_up lf j (lf j - w)) (t + w) + 1 ≤ ht_mu r lf t := by
  have hle : ∀ i, i < 6 → (if 0 < ht_up lf j (lf j - w) i then (if t + w < r i then 2 else 1) else 0) ≤ (if 0 < lf i then (if t < r i then 2 else 1) else 0) := by
    intro i _
    by_cases a : 0 < ht_up lf j (lf j - w) i
    · have a' : 0 < lf i := by
        by_cases e : i = j
        · rw [e]; exact h0
        · rw [ht_upn e] at a; exact a
      rw [if_pos a, if_pos a']
      by_cases b : t + w < r i
      · rw [if_pos b, if_pos (by omega)]
        exact Nat.le_refl _
      · rw [if_neg b]
        split
        · decide
        · exact Nat.le_refl _
    · rw [if_neg a]
      exact Nat.zero_le _
  rcases h with e | ⟨i, hi, a, b, c⟩
  · refine ht_smLt (j := j) hle hj ?_
    try dsimp only
    rw [ht_ups, if_neg (by omega), if_pos h0]
    split
    · decide
    · decide
  · refine ht_smLt (j := i) hle hi ?_
    try dsimp only
    have ne : i ≠ j := fun e => by rw [e] at c; omega
    rw [ht_upn ne, if_pos a, if_pos a, if_neg (by omega), if_pos c]
    decide
end
end
section
/-! the component's small methods -/
def ht_E (r p q : Nat → Nat) (aR aP aQ : Nat → Int32) : Prop := ∀ j, j < 6 → aR j = nI (r j) ∧ aP j = nI (p j) ∧ aQ j = nI (q j) ∧ r j ≤ 200 ∧ p j ≤ 12 ∧ q j ≤ 200
theorem ht_rd {a : Nat → Int32} {j v : Nat} (hj : j < 8) (h : a j = nI v) : a (nI j).toNatClampNeg = nI v := by rw [nI_clamp (by omega)]; exact h
theorem ht_tf {b : Bool} (h : ¬ b = true) : b = false := by cases b <;> simp_all
theorem ht_ft {b : Bool} (h : ¬ b = false) : b = true := by cases b <;> simp_all
theorem ht_inj {a b : Nat} (ha : a < 1000) (hb : b < 1000) (h : nI a = nI b) : a = b := (nI_eq (by omega) (by omega)).mp h
section
variable {m : Nat} {r p q : Nat → Nat} {kn ll : Int32} {aR aP aQ aL aT aD aG aB : Nat → Int32}
theorem ht_hasG {post : Int32 → Prop} {x : Int32} (hm : m < 64) (h1 : ∀ j, j < 6 → x = nI j → m.testBit j = true → post 1) (h0 : (∀ j, j < 6 → x = nI j → m.testBit j = false) → post 0) : wpX_has post (nI m, kn, ll, aR, aP, aQ, aL, aT, aD, aG, aB) x := by
  rcases pk_ix x (n := 6) (by decide) with h | h | ⟨j, hj, e⟩
  · exact br_t h (h0 (fun j hj e => absurd h (by rw [e]; exact nI_pos (by omega))))
  · have h2 : ¬ x < 0 := Int32.not_lt.mpr (Int32.le_trans (nI_pos' (n := 6) (by decide)) h)
    exact br_f h2 (br_t h (h0 (fun j hj e => absurd h (by rw [e]; exact nI_ge (by omega) (by omega)))))
  · subst e
    refine br_f (nI_pos (by omega)) (br_f (nI_ge (b := 6) hj (by decide)) (ek_if (ht_bit0' m hm j hj) (fun z => h0 ?_) (fun z => h1 j hj rfl (ht_ft z))))
    intro i hi e
    rw [ht_inj (by omega) (by omega) e] at z
    exact z
theorem ht_has {post : Int32 → Prop} {j : Nat} (hm : m < 64) (hj : j < 6) (h1 : m.testBit j = true → post 1) (h0 : m.testBit j = false → post 0) : wpX_has post (nI m, kn, ll, aR, aP, aQ, aL, aT, aD, aG, aB) (nI j) :=
  ht_hasG hm (fun i hi e z => by rw [ht_inj (by omega) (by omega) e] at h1; exact h1 z) (fun z => h0 (z j hj rfl))
theorem ht_cntS {post : Int32 → Prop} (hm : m < 64) {a k n : Nat} (hk : k < 6) (h : wX_count_4 post (nI m) kn ll aR aP aQ aL aT aD aG aB n (nI (a + ht_bn (m.testBit k))) (nI (k + 1))) : wX_count_4 post (nI m) kn ll aR aP aQ aL aT aD aG aB (n + 1) (nI a) (nI k) :=
  br_f (nI_ge (b := 6) hk (by decide)) (nm_r (e' := nI (a + ht_bn (m.testBit k))) (by rw [ht_bitn' m hm k hk, nI_add]) (nm_r (nI_1 k) h))
theorem ht_cnt {post : Int32 → Prop} (hm : m < 64) (h : post (nI (ht_pc m))) : wpX_count post (nI m, kn, ll, aR, aP, aQ, aL, aT, aD, aG, aB) := by
  refine ⟨7, ?_⟩
  show wX_count_4 post (nI m) kn ll aR aP aQ aL aT aD aG aB 7 (nI 0) (nI 0)
  refine ht_cntS hm (by decide) (ht_cntS hm (by decide) (ht_cntS hm (by decide) (ht_cntS hm (by decide) (ht_cntS hm (by decide) (ht_cntS hm (by decide) (br_t (nI_le (b := 6) (by decide) (by decide)) ?_))))))
  have e : 0 + ht_bn (m.testBit 0) + ht_bn (m.testBit (0 + 1)) + ht_bn (m.testBit (0 + 1 + 1)) + ht_bn (m.testBit (0 + 1 + 1 + 1)) + ht_bn (m.testBit (0 + 1 + 1 + 1 + 1)) + ht_bn (m.testBit (0 + 1 + 1 + 1 + 1 + 1)) = ht_pc m := by
    rw [Nat.zero_add]
    rfl
  rw [e]
  exact h
/-! the next release, the most urgent job -/
def ht_F (lf : Nat → Nat) (aL : Nat → Int32) : Prop := ∀ j, j < 6 → aL j = nI (lf j) ∧ lf j ≤ 100
def ht_nr (r lf : Nat → Nat) (t k : Nat) (x : Int32) : Prop := (x = -1 ∧ ∀ i, i < k → 0 < lf i → r i ≤ t) ∨ (∃ ν, x = nI ν ∧ ν ≤ 200 ∧ t < ν ∧ (∃ i, i < k ∧ 0 < lf i ∧ r i = ν) ∧ ∀ i, i < k → 0 < lf i → t < r i → ν ≤ r i)
def ht_mo (r q lf : Nat → Nat) (t k : Nat) (x : Int32) : Prop := (x = -1 ∧ ∀ i, i < k → 0 < lf i → ¬ r i ≤ t) ∨ (∃ j, x = nI j ∧ j < k ∧ 0 < lf j ∧ r j ≤ t ∧ ∀ i, i < k → 0 < lf i → r i ≤ t → q i ≤ q j)
theorem ht_nr_s {lf : Nat → Nat} {t k : Nat} {x : Int32} (h : ht_nr r lf t k x) (hk : 0 < lf k → r k ≤ t) : ht_nr r lf t (k + 1) x := by
  rcases h with ⟨e, h⟩ | ⟨ν, e, h2, h3, ⟨i, h4, h5, h6⟩, h⟩
  · exact Or.inl ⟨e, lt_s h hk⟩
  · exact Or.inr ⟨ν, e, h2, h3, ⟨i, by omega, h5, h6⟩, lt_s h (fun a b => by have := hk a; omega)⟩
theorem ht_nrL {post : Int32 → Prop} {lf : Nat → Nat} {t : Nat} (hE : ht_E r p q aR aP aQ) (hF : ht_F lf aL) (ht : t ≤ 1000) (h : ∀ x, ht_nr r lf t 6 x → post x) : ∀ d k, k + d = 6 → ∀ x, ht_nr r lf t k x → wX_nextRelease_4 post (nI t) (nI m) kn ll aR aP aQ aL aT aD aG aB (d + 1) x (nI k) := by
  intro d
  induction d with
  | zero =>
    intro k hk x hx
    have e : k = 6 := hk
    subst e
    exact br_t (nI_le (b := 6) (by decide) (by decide)) (h x hx)
  | succ d ih =>
    intro k hk x hx
    have k6 : k < 6 := by omega
    obtain ⟨eR, _, _, bR, _, _⟩ := hE k k6
    obtain ⟨eL, bL⟩ := hF k k6
    have hi : vp_in (nI k) 6 := vp_in_nI k6 (by decide)
    refine br_f (nI_ge (b := 6) k6 (by decide)) ⟨hi, pk_le (lf k) 0 (fun z => ?_) (fun z => ⟨hi, pk_le (r k) t (fun z2 => ?_) (fun z2 => ?_) (ht_rd (by omega) eR)⟩) (ht_rd (by omega) eL)⟩
    · exact nm_r (nI_1 k) (ih (k + 1) (by omega) x (ht_nr_s hx (fun a => by omega)))
    · exact nm_r (nI_1 k) (ih (k + 1) (by omega) x (ht_nr_s hx (fun _ => z2)))
    · rcases hx with ⟨e, hx⟩ | ⟨ν, e, h2, h3, ⟨i, h4, h5, h6⟩, hx⟩
      · subst e
        refine br_t (by decide) ⟨hi, nm_r (ht_rd (by omega) eR) (nm_r (nI_1 k) (ih (k + 1) (by omega) _ (Or.inr ⟨r k, rfl, bR, z2, ⟨k, by omega, z, rfl⟩, lt_s ?_ (fun _ _ => Nat.le_refl _)⟩)))⟩
        intro i hi a b
        have := hx i hi a
        omega
      · subst e
        refine br_f (nI_pos (by omega)) ⟨hi, pk_le ν (r k) (fun z3 => ?_) (fun z3 => ?_) rfl (ht_rd (by omega) eR)⟩
        · exact nm_r (nI_1 k) (ih (k + 1) (by omega) _ (Or.inr ⟨ν, rfl, h2, h3, ⟨i, by omega, h5, h6⟩, lt_s hx (fun _ _ => z3)⟩))
        · refine ⟨hi, nm_r (ht_rd (by omega) eR) (nm_r (nI_1 k) (ih (k + 1) (by omega) _ (Or.inr ⟨r k, rfl, bR, z2, ⟨k, by omega, z, rfl⟩, lt_s ?_ (fun _ _ => Nat.le_refl _)⟩)))⟩
          intro i hi a b
          have := hx i hi a b
          omega
theorem ht_nrW {post : Int32 → Prop} {lf : Nat → Nat} {t : Nat} (hE : ht_E r p q aR aP aQ) (hF : ht_F lf aL) (ht : t ≤ 1000) (h : ∀ x, ht_nr r lf t 6 x → post x) : wpX_nextRelease post (nI m, kn, ll, aR, aP, aQ, aL, aT, aD, aG, aB) (nI t) :=
  ⟨7, ht_nrL hE hF ht h 6 0 rfl (-1) (Or.inl ⟨rfl, fun i hi => absurd hi (Nat.not_lt_zero _)⟩)⟩
theorem ht_mo_s {lf : Nat → Nat} {t k : Nat} {x : Int32} (h : ht_mo r q lf t k x) (hk : 0 < lf k → ¬ r k ≤ t) : ht_mo r q lf t (k + 1) x := by
  rcases h with ⟨e, h⟩ | ⟨j, e, h2, h3, h4, h⟩
  · exact Or.inl ⟨e, lt_s h hk⟩
  · exact Or.inr ⟨j, e, by omega, h3, h4, lt_s h (fun a b => absurd b (hk a))⟩
theorem ht_moL {post : Int32 → Prop} {lf : Nat → Nat} {t : Nat} (hE : ht_E r p q aR aP aQ) (hF : ht_F lf aL) (ht : t ≤ 1000) (h : ∀ x, ht_mo r q lf t 6 x → post x) : ∀ d k, k + d = 6 → ∀ x, ht_mo r q lf t k x → wX_mostUrgent_4 post (nI t) (nI m) kn ll aR aP aQ aL aT aD aG aB (d + 1) x (nI k) := by
  intro d
  induction d with
  | zero =>
    intro k hk x hx
    have e : k = 6 := hk
    subst e
    exact br_t (nI_le (b := 6) (by decide) (by decide)) (h x hx)
  | succ d ih =>
    intro k hk x hx
    have k6 : k < 6 := by omega
    obtain ⟨eR, _, eQ, bR, _, bQ⟩ := hE k k6
    obtain ⟨eL, bL⟩ := hF k k6
    have hi : vp_in (nI k) 6 := vp_in_nI k6 (by decide)
    refine br_f (nI_ge (b := 6) k6 (by decide)) ⟨hi, pk_le (lf k) 0 (fun z => ?_) (fun z => ⟨hi, pk_lt t (r k) (fun z2 => ?_) (fun z2 => ?_) rfl (ht_rd (by omega) eR)⟩) (ht_rd (by omega) eL)⟩
    · exact nm_r (nI_1 k) (ih (k + 1) (by omega) x (ht_mo_s hx (fun a => by omega)))
    · exact nm_r (nI_1 k) (ih (k + 1) (by omega) x (ht_mo_s hx (fun _ => by omega)))
    · rcases hx with ⟨e, hx⟩ | ⟨j, e, h2, h3, h4, hx⟩
      · subst e
        exact br_t (by decide) (nm_r (nI_1 k) (ih (k + 1) (by omega) _ (Or.inr ⟨k, rfl, by omega, z, z2, lt_s (fun i hi a b => absurd b (hx i hi a)) (fun _ _ => Nat.le_refl _)⟩)))
      · subst e
        obtain ⟨_, _, eQ', _, _, bQ'⟩ := hE j (by omega)
        refine br_f (nI_pos (by omega)) ⟨hi, vp_in_nI (by omega) (by decide), pk_le (q k) (q j) (fun z3 => ?_) (fun z3 => ?_) (ht_rd (by omega) eQ) (ht_rd (by omega) eQ')⟩
        · exact nm_r (nI_1 k) (ih (k + 1) (by omega) _ (Or.inr ⟨j, rfl, by omega, h3, h4, lt_s hx (fun _ _ => z3)⟩))
        · refine nm_r (nI_1 k) (ih (k + 1) (by omega) _ (Or.inr ⟨k, rfl, by omega, z, z2, lt_s ?_ (fun _ _ => Nat.le_refl _)⟩))
          intro i hi a b
          have := hx i hi a b
          omega
theorem ht_moW {post : Int32 → Prop} {lf : Nat → Nat} {t : Nat} (hE : ht_E r p q aR aP aQ) (hF : ht_F lf aL) (ht : t ≤ 1000) (h : ∀ x, ht_mo r q lf t 6 x → post x) : wpX_mostUrgent post (nI m, kn, ll, aR, aP, aQ, aL, aT, aD, aG, aB) (nI t) :=
  ⟨7, ht_moL hE hF ht h 6 0 rfl (-1) (Or.inl ⟨rfl, fun i hi => absurd hi (Nat.not_lt_zero _)⟩)⟩
end
end
section
/-! the component's plan with interruptions -/
def ht_Sp (pp r q : Nat → Nat) (fr len : Nat) : Prop := ht_I2 pp r q fr len ∧ ht_I4 pp r q fr (fun _ => 0) len ∧ len ≤ 600
def ht_pp (p : Nat → Nat) (R : Nat) : Nat → Nat := fun j => if R.testBit j = true then p j else 0
theorem ht_I4z {pp r q lf : Nat → Nat} {fr len : Nat} (h : ht_I4 pp r q fr lf len) (hz : ∀ i, i < 6 → lf i = 0) : ht_I4 pp r q fr (fun _ => 0) len := fun D ρ κ a b c _ => h D ρ κ a b c (fun j hj _ => hz j hj)
section
variable {m : Nat} {r p q : Nat → Nat} {kn ll : Int32} {aR aP aQ aL aT aD aG aB : Nat → Int32}
theorem ht_101 {post : Int32 → SX → Prop} {K : Int32 → Int32 → Int32 → (Nat → Int32) → (Nat → Int32) → (Nat → Int32) → (Nat → Int32) → (Nat → Int32) → (Nat → Int32) → (Nat → Int32) → (Nat → Int32) → Prop} {lf : Nat → Nat} {t len i j w : Nat} (hE : ht_E r p q aR aP aQ) (hF : ht_F lf aL) (hj : j < 6) (hw : w ≤ lf j) (ht : t ≤ 1000) (hlen : len ≤ 1000) (hi : i < 100)
    (h : K (nI (t + w)) (nI (if lf j = w then max len (t + w + q j) else len)) (nI (i + 1)) aR aP aQ (upd aL j (nI (lf j - w))) aT aD aG aB) : wX_interruptedLength_101 post K (nI t) (nI len) (nI i) (nI j) (nI w) (nI m) kn ll aR aP aQ aL aT aD aG aB := by
  obtain ⟨_, _, eQ, _, _, bQ⟩ := hE j hj
  obtain ⟨eL, bL⟩ := hF j hj
  have hin : vp_in (nI j) 6 := vp_in_nI hj (by decide)
  have hc : (nI j).toNatClampNeg = j := nI_clamp (by omega)
  refine ⟨hin, hin, nm_r (e' := upd aL j (nI (lf j - w))) ?_ (nm_r (nI_add t w) ⟨hin, nm_r (e' := nI (t + w + q j)) ?_ ⟨hin, ?_⟩⟩)⟩
  · rw [hc, eL, pk_sub hw, ht_short' _ (by omega)]
  · rw [hc, eQ, nI_add]
  · refine pk_eq (lf j - w) 0 (fun z => ?_) (fun z => ?_) (by rw [hc]; exact pk_us) rfl
    · have e : lf j = w := by omega
      rw [if_pos e] at h
      refine pk_le (t + w + q j) len (fun z2 => ?_) (fun z2 => ?_)
      · rw [Nat.max_eq_left z2] at h
        exact nm_r (nI_1 i) h
      · rw [Nat.max_eq_right (by omega)] at h
        exact nm_r (nI_1 i) h
    · rw [if_neg (by omega)] at h
      exact nm_r (nI_1 i) h
theorem ht_Fu {lf : Nat → Nat} {j v : Nat} (hF : ht_F lf aL) (hv : v ≤ 100) : ht_F (ht_up lf j v) (upd aL j (nI v)) := by
  intro i hi
  by_cases e : i = j
  · rw [e, pk_us, ht_ups]
    exact ⟨rfl, hv⟩
  · rw [pk_un e, ht_upn e]
    exact hF i hi
theorem ht_46 {post : Int32 → SX → Prop} {pp : Nat → Nat} {fr : Nat} (hE : ht_E r p q aR aP aQ) (hp : ht_sm pp ≤ 100) (h : ∀ len aL', ht_Sp pp r q fr len → post (nI len) (nI m, kn, ll, aR, aP, aQ, aL', aT, aD, aG, aB)) : ∀ d i, i + d = 18 → ∀ lf t len aL, ht_F lf aL → ht_J pp r q fr lf t len → (ht_mu r lf t + i ≤ 12 ∨ ht_mu r lf t = 0) → wX_interruptedLength_46 post (nI m) kn ll (d + 1) (nI t) (nI len) (nI i) aR aP aQ aL aT aD aG aB := by
  intro d
  induction d with
  | zero =>
    intro i hi lf t len aL hF hJ hmu
    have e : i = 18 := hi
    subst e
    obtain ⟨i1, i2, i3, i4, i5, i6, i7, i8⟩ := hJ
    exact br_t (nI_le (b := 18) (by decide) (by decide)) (h len aL ⟨i2, ht_I4z i4 (ht_mu0 (r := r) (t := t) (by omega)), i8⟩)
  | succ d ih =>
    intro i hi lf t len aL hF hJ hmu
    have hb := hJ.2.2.2.2
    have ht : t ≤ 1000 := by have := hb.2.2.1; omega
    have hl : len ≤ 1000 := by have := hb.2.2.2; omega
    refine br_f (nI_ge (b := 18) (by omega) (by decide)) (ht_nrW hE hF ht (fun x hx => ht_moW hE hF ht (fun y hy => ?_)))
    rcases hy with ⟨ey, hy⟩ | ⟨j, ey, h2, h3, h4, hy⟩
    · subst ey
      refine br_t (by decide) ?_
      rcases hx with ⟨ex, hx⟩ | ⟨ν, ex, v2, v3, ⟨c, v4, v5, v6⟩, hx⟩
      · subst ex
        refine br_t (by decide) (nm_r (nI_1 i) (ih (i + 1) (by omega) lf t len aL hF hJ (Or.inr (ht_muz ?_))))
        intro k hk
        apply Classical.byContradiction
        intro z
        exact hy k hk (by omega) (hx k hk (by omega))
      · subst ex
        refine br_f (nI_pos (by omega)) (nm_r (nI_1 i) (ih (i + 1) (by omega) lf ν len aL hF (ht_idle hJ v3 ?_ v2 hp) ?_))
        · intro k hk z
          exact hx k hk z (by have := hy k hk z; omega)
        · have := ht_mui (r := r) (lf := lf) v3 v4 v5 v6
          omega
    · subst ey
      obtain ⟨_, _, _, _, _, bQ⟩ := hE j h2
      obtain ⟨eL, bL⟩ := hF j h2
      have step : ∀ w, w ≤ lf j → (∀ k, k < 6 → 0 < lf k → t < r k → t + w ≤ r k) → (w = lf j ∨ ∃ c, c < 6 ∧ 0 < lf c ∧ r c = t + w ∧ t < r c) → wX_interruptedLength_101 post (wX_interruptedLength_46 post (nI m) kn ll (d + 1)) (nI t) (nI len) (nI i) (nI j) (nI w) (nI m) kn ll aR aP aQ aL aT aD aG aB := by
        intro w hw hn hm
        have := ht_muw (r := r) (lf := lf) h2 h3 h4 hm
        exact ht_101 hE hF h2 hw ht hl (by omega) (ih (i + 1) (by omega) _ _ _ _ (ht_Fu hF (by omega)) (ht_wk hJ bQ h2 h3 h4 hy hw hn) (by omega))
      refine br_f (nI_pos (by omega)) ⟨vp_in_nI h2 (by decide), nm_r (ht_rd (by omega) eL) ?_⟩
      rcases hx with ⟨ex, hx⟩ | ⟨ν, ex, v2, v3, ⟨c, v4, v5, v6⟩, hx⟩
      · subst ex
        exact br_t (by decide) (step (lf j) (Nat.le_refl _) (fun k hk a b => by have := hx k hk a; omega) (Or.inl rfl))
      · subst ex
        refine br_f (nI_pos (by omega)) (pk_le (t + lf j) ν (fun z => ?_) (fun z => ?_) (nI_add _ _))
        · exact step (lf j) (Nat.le_refl _) (fun k hk a b => by have := hx k hk a b; omega) (Or.inl rfl)
        · refine nm_r (pk_sub (by omega)) (step (ν - t) (by omega) (fun k hk a b => by have := hx k hk a b; omega) (Or.inr ⟨c, v4, v5, by omega, by omega⟩))
theorem ht_i2 {post : Int32 → SX → Prop} {R fr : Nat} (hE : ht_E r p q aR aP aQ) (hR : R < 64) (h : ∀ aL', ht_F (ht_pp p R) aL' → ∃ n, wX_interruptedLength_46 post (nI m) kn ll n (nI fr) 0 0 aR aP aQ aL' aT aD aG aB) : ∀ d k, k + d = 6 → ∀ aL, (∀ i, i < k → aL i = nI (ht_pp p R i) ∧ ht_pp p R i ≤ 100) → wX_interruptedLength_2 post (nI R) (nI fr) (nI m) kn ll (d + 1) (nI k) aR aP aQ aL aT aD aG aB := by
  intro d
  induction d with
  | zero =>
    intro k hk aL hL
    have e : k = 6 := hk
    subst e
    exact br_t (nI_le (b := 6) (by decide) (by decide)) (h aL hL)
  | succ d ih =>
    intro k hk aL hL
    have k6 : k < 6 := by omega
    obtain ⟨_, eP, _, _, bP, _⟩ := hE k k6
    have hi : vp_in (nI k) 6 := vp_in_nI k6 (by decide)
    have hc : (nI k).toNatClampNeg = k := nI_clamp (by omega)
    have go : ∀ v, ht_pp p R k = v → v ≤ 100 → ∀ i, i < k + 1 → upd aL k (nI v) i = nI (ht_pp p R i) ∧ ht_pp p R i ≤ 100 := by
      intro v e hv
      refine lt_s (fun i hi => ?_) ?_
      · rw [pk_un (by omega)]
        exact hL i hi
      · rw [pk_us, e]
        exact ⟨rfl, hv⟩
    refine br_f (nI_ge (b := 6) k6 (by decide)) (ek_if (ht_bit0' R hR k k6) (fun z => ⟨hi, nm_r (e' := upd aL k (nI 0)) ?_ (nm_r (nI_1 k) (ih (k + 1) (by omega) _ (go 0 ?_ (by omega))))⟩) (fun z => ⟨hi, hi, nm_r (e' := upd aL k (nI (p k))) ?_ (nm_r (nI_1 k) (ih (k + 1) (by omega) _ (go (p k) ?_ (by omega))))⟩))
    · rw [hc, ht_short0]
      rfl
    · exact if_neg (by rw [z]; decide)
    · rw [hc, eP, ht_shortn' _ (by omega)]
    · exact if_pos (ht_ft z)
theorem ht_ppS (hE : ht_E r p q aR aP aQ) (R : Nat) : ht_sm (ht_pp p R) ≤ 100 := by
  have := ht_smL (g := ht_pp p R) (g' := fun _ => 12) (by
    intro i hi
    have := (hE i hi).2.2.2.2.1
    unfold ht_pp
    split
    · exact this
    · exact Nat.zero_le _)
  have e : ht_sm (fun _ => 12) = 72 := rfl
  omega
theorem ht_intW {post : Int32 → SX → Prop} {R fr : Nat} (hE : ht_E r p q aR aP aQ) (hR : R < 64) (hf : fr ≤ 300) (h : ∀ len aL', ht_Sp (ht_pp p R) r q fr len → post (nI len) (nI m, kn, ll, aR, aP, aQ, aL', aT, aD, aG, aB)) : wpX_interruptedLength post (nI m, kn, ll, aR, aP, aQ, aL, aT, aD, aG, aB) (nI R) (nI fr) := by
  refine ⟨7, ht_i2 hE hR (fun aL' hF => ⟨19, ?_⟩) 6 0 rfl aL (fun i hi => absurd hi (Nat.not_lt_zero _))⟩
  exact ht_46 hE (ht_ppS hE R) h 18 0 rfl _ _ _ _ hF (ht_J0 hf (ht_ppS hE R)) (Or.inl (ht_mu_le _ _ _))
end
end
section
/-! the component's place, nextJob, boundFor -/
def ht_fs (m f g : Nat) (x2 x3 : Int32) : Prop := (x2 = -1 ∧ f = 6) ∨ (f < 6 ∧ g < 6 ∧ x2 = nI f ∧ x3 = nI g ∧ m.testBit f = true)
theorem ht_spB {r p q : Nat → Nat} {R t l len f g : Nat} {s : List Nat} (hR : R < 64) (h : ht_Sp (ht_pp p R) r q t len) (hc : ht_cp f g R s) : len ≤ ht_ln r p q t l s := by
  apply h.1
  intro κ τ hx
  have hx' : ∃ j, R.testBit j = true ∧ decide (κ ≤ q j ∧ τ ≤ max t (r j)) = true := by
    obtain ⟨j, _, h0, h1⟩ := hx
    refine ⟨j, ?_, decide_eq_true h1⟩
    apply Classical.byContradiction
    intro z
    unfold ht_pp at h0
    rw [if_neg z] at h0
    exact absurd h0 (Nat.lt_irrefl _)
  have := ht_lb r p q f g (fun j => decide (κ ≤ q j ∧ τ ≤ max t (r j))) κ s R t l τ hR hc hx' (fun j _ z => (of_decide_eq_true z).1) (fun j _ z => (of_decide_eq_true z).2)
  have e : ht_sm (fun j => if κ ≤ q j ∧ τ ≤ max t (r j) then ht_pp p R j else 0) = ht_sm (fun j => if R.testBit j = true ∧ decide (κ ≤ q j ∧ τ ≤ max t (r j)) = true then p j else 0) := ht_smE (by
    intro i _
    try dsimp only
    unfold ht_pp
    by_cases a : κ ≤ q i ∧ τ ≤ max t (r i)
    · by_cases b : R.testBit i = true
      · rw [if_pos a, if_pos b, if_pos ⟨b, decide_eq_true a⟩]
      · rw [if_pos a, if_neg b, if_neg (fun z => b z.1)]
    · rw [if_neg a, if_neg (fun z => a (of_decide_eq_true z.2))])
  rw [e]
  exact this
theorem ht_sp0 {r p q : Nat → Nat} {t len : Nat} (h : ht_Sp (ht_pp p 0) r q t len) : len = 0 := by
  have := h.1 0 (by
    rintro κ τ ⟨j, _, h0, _⟩
    unfold ht_pp at h0
    rw [if_neg (by rw [Nat.zero_testBit]; decide)] at h0
    exact absurd h0 (Nat.lt_irrefl _))
  omega
section
variable {m : Nat} {r p q : Nat → Nat} {kn ll : Int32} {aR aP aQ aL aT aD aG aB : Nat → Int32}
theorem ht_pl38 {post : SX → Prop} {k j z l : Nat} (hE : ht_E r p q aR aP aQ) (hk : k < 7) (hj : j < 6) (eG : aG k = nI l) (hz : z ≤ 1000) (hl : l ≤ 2000) (h : post (nI m, kn, ll, aR, aP, aQ, aL, aT, upd aD (k + 1) (nI (z + p j)), upd aG (k + 1) (nI (max l (z + p j + q j))), aB)) : wX_place_38 post (nI k) (nI j) (nI z) (nI m) kn ll aR aP aQ aL aT aD aG aB := by
  obtain ⟨_, eP, eQ, _, bP, bQ⟩ := hE j hj
  have hin : vp_in (nI j) 6 := vp_in_nI hj (by decide)
  have hik : vp_in (nI k) 8 := vp_in_nI (by omega) (by decide)
  have hik1 : vp_in (nI k + 1) 8 := by rw [nI_1 k]; exact vp_in_nI (by omega) (by decide)
  have hc : (nI j).toNatClampNeg = j := nI_clamp (by omega)
  have hck : (nI k).toNatClampNeg = k := nI_clamp (by omega)
  have hck1 : (nI k + 1).toNatClampNeg = k + 1 := by rw [nI_1 k]; exact nI_clamp (by omega)
  refine ⟨hin, nm_r (e' := nI (z + p j)) (by rw [hc, eP, nI_add]) ⟨hin, nm_r (e' := nI (z + p j + q j)) (by rw [hc, eQ, nI_add]) ⟨hik1, nm_r (e' := upd aD (k + 1) (nI (z + p j))) (by rw [hck1]) ⟨hik, pk_le (z + p j + q j) l (fun c => ?_) (fun c => ?_) rfl (by rw [hck, eG])⟩⟩⟩⟩
  · refine ⟨hik, hik1, nm_r (e' := upd aG (k + 1) (nI (max l (z + p j + q j)))) ?_ h⟩
    rw [hck1, hck, eG, Nat.max_eq_left c]
  · refine ⟨hik1, nm_r (e' := upd aG (k + 1) (nI (max l (z + p j + q j)))) ?_ h⟩
    rw [hck1, Nat.max_eq_right (by omega)]
theorem ht_plW {post : SX → Prop} {k j t l : Nat} (hE : ht_E r p q aR aP aQ) (hk : k < 7) (hj : j < 6) (eD : aD k = nI t) (eG : aG k = nI l) (ht : t ≤ 1000) (hl : l ≤ 2000) (h : post (nI m, kn, ll, aR, aP, aQ, aL, upd aT k (nI j), upd aD (k + 1) (nI (max t (r j) + p j)), upd aG (k + 1) (nI (max l (max t (r j) + p j + q j))), aB)) : wpX_place post (nI m, kn, ll, aR, aP, aQ, aL, aT, aD, aG, aB) (nI k) (nI j) := by
  obtain ⟨eR, _, _, bR, _, _⟩ := hE j hj
  have hin : vp_in (nI j) 6 := vp_in_nI hj (by decide)
  have hik : vp_in (nI k) 8 := vp_in_nI (by omega) (by decide)
  have hc : (nI j).toNatClampNeg = j := nI_clamp (by omega)
  have hck : (nI k).toNatClampNeg = k := nI_clamp (by omega)
  refine ⟨hik, nm_r (e' := upd aT k (nI j)) (by rw [hck, ht_byte' j (by omega)]) ⟨hik, hin, pk_le t (r j) (fun c => ⟨hin, ?_⟩) (fun c => ⟨hik, ?_⟩) (by rw [hck, eD]) (by rw [hc, eR])⟩⟩
  · rw [hc, eR]
    rw [Nat.max_eq_right c] at h
    exact ht_pl38 hE hk hj eG (by omega) hl h
  · rw [hck, eD]
    rw [Nat.max_eq_left (by omega)] at h
    exact ht_pl38 hE hk hj eG (by omega) hl h
theorem ht_bfW {post : Int32 → SX → Prop} {k R t l : Nat} (hE : ht_E r p q aR aP aQ) (hR : R < 64) (hk : k < 8) (eD : aD k = nI t) (eG : aG k = nI l) (ht : t ≤ 300) (hl : l ≤ 1000) (h : ∀ bd aL', (∀ f g s, ht_cp f g R s → bd ≤ ht_ln r p q t l s) → (R = 0 → bd = l) → bd ≤ 1000 → post (nI bd) (nI m, kn, ll, aR, aP, aQ, aL', aT, aD, aG, aB)) : wpX_boundFor post (nI m, kn, ll, aR, aP, aQ, aL, aT, aD, aG, aB) (nI k) (nI R) := by
  have hik : vp_in (nI k) 8 := vp_in_nI hk (by decide)
  have hck : (nI k).toNatClampNeg = k := nI_clamp (by omega)
  refine ⟨hik, ?_⟩
  rw [hck, eD]
  refine ht_intW hE hR ht (fun len aL' hS => ⟨hik, pk_le len l (fun c => ⟨hik, ?_⟩) (fun c => ?_) rfl eG (by have := hS.2.2; omega)⟩)
  · rw [eG]
    exact h l aL' (fun f g s _ => ht_lnL r p q s t l) (fun _ => rfl) hl
  · refine h len aL' (fun f g s hc => ht_spB hR hS hc) (fun e => ?_) (by have := hS.2.2; omega)
    subst e
    have := ht_sp0 hS
    omega
theorem ht_nj34 {post : Int32 → Prop} {J : Int32 → Prop} {R k : Nat} {x3 x4 : Int32} (hm : m < 64) (hR : R < 64) (hs : R &&& m = R) (hk : k < 6) (h1 : R.testBit k = true → post (nI k)) (h0 : ¬ R.testBit k = true → J (nI (k + 1))) : wX_nextJob_34 post J (nI (ht_df m R)) x3 x4 (nI k) 0 (nI m) kn ll aR aP aQ aL aT aD aG aB := by
  have hB := ht_dfB' m hm R hR k hk
  refine ht_has hm hk (fun z => br_f (by decide) (ek_if (ht_bit0' _ (ht_df64 hm) k hk) (fun w => br_t rfl (h1 ?_)) (fun w => nm_r (nI_1 k) (h0 ?_)))) (fun z => br_t rfl (nm_r (nI_1 k) (h0 ?_)))
  · rw [hB, z] at w
    simpa using w
  · rw [hB, z] at w
    simpa using w
  · intro w
    rw [ht_sbB' m hm R hR k hk hs w] at z
    exact absurd z (by decide)
theorem ht_nj341 {post : Int32 → Prop} {J : Int32 → Prop} {R k : Nat} {x3 x4 : Int32} (hm : m < 64) (hk : k < 6) (h0 : J (nI (k + 1))) : wX_nextJob_34 post J (nI (ht_df m R)) x3 x4 (nI k) 1 (nI m) kn ll aR aP aQ aL aT aD aG aB :=
  ht_has hm hk (fun _ => br_f (by decide) (ek_if (ht_bit0' _ (ht_df64 hm) k hk) (fun _ => br_f (by decide) (nm_r (nI_1 k) h0)) (fun _ => nm_r (nI_1 k) h0))) (fun _ => br_t rfl (nm_r (nI_1 k) h0))
theorem ht_njL {post : Int32 → Prop} {R f g a : Nat} {x2 x3 : Int32} (hm : m < 64) (hR : R < 64) (hs : R &&& m = R) (hfs : ht_fs m f g x2 x3) (h1 : ∀ j, a ≤ j → j < 6 → R.testBit j = true → ¬ (j = g ∧ R.testBit f = true) → (∀ i, a ≤ i → i < j → R.testBit i = true → ¬ ¬ (i = g ∧ R.testBit f = true)) → post (nI j)) (h0 : (∀ i, a ≤ i → R.testBit i = true → ¬ ¬ (i = g ∧ R.testBit f = true)) → post (-1)) : ∀ d k, k + d = 6 → a ≤ k → (∀ i, a ≤ i → i < k → R.testBit i = true → ¬ ¬ (i = g ∧ R.testBit f = true)) → wX_nextJob_3 post (nI (ht_df m R)) x2 x3 (nI m) kn ll aR aP aQ aL aT aD aG aB (d + 1) (nI k) := by
  intro d
  induction d with
  | zero =>
    intro k hk _ hn
    have e : k = 6 := hk
    subst e
    exact br_t (nI_le (b := 6) (by decide) (by decide)) (h0 (fun i a b => hn i a (ht_b64 hR b) b))
  | succ d ih =>
    intro k hk ha hn
    have k6 : k < 6 := by omega
    have nx : (R.testBit k = true → ¬ ¬ (k = g ∧ R.testBit f = true)) → wX_nextJob_3 post (nI (ht_df m R)) x2 x3 (nI m) kn ll aR aP aQ aL aT aD aG aB (d + 1) (nI (k + 1)) := by
      intro hk2
      refine ih (k + 1) (by omega) (by omega) (fun i a b c => ?_)
      by_cases e : i = k
      · rw [e] at c ⊢
        exact hk2 c
      · exact hn i a (by omega) c
    have w0 : ¬ (k = g ∧ R.testBit f = true) → wX_nextJob_34 post (wX_nextJob_3 post (nI (ht_df m R)) x2 x3 (nI m) kn ll aR aP aQ aL aT aD aG aB (d + 1)) (nI (ht_df m R)) x2 x3 (nI k) 0 (nI m) kn ll aR aP aQ aL aT aD aG aB :=
      fun hal => ht_nj34 hm hR hs k6 (fun z => h1 k ha k6 z hal hn) (fun z => nx (fun w => absurd w z))
    refine br_f (nI_ge (b := 6) k6 (by decide)) ?_
    rcases hfs with ⟨e2, ef⟩ | ⟨hf, hg, e2, e3, mf⟩
    · subst e2
      refine br_t (by decide) (w0 ?_)
      rw [ef]
      exact ht_n6 hR _ _
    · subst e2 e3
      refine br_f (nI_pos (by omega)) (pk_eq k g (fun e => ek_if (ht_bit0' _ (ht_df64 hm) f hf) (fun w => ?_) (fun w => ?_)) (fun e => w0 (fun z => e z.1)))
      · refine ht_nj341 hm k6 (nx (fun _ z => z ⟨e, ?_⟩))
        rw [ht_dfB' m hm R hR f hf, mf] at w
        simpa using w
      · refine w0 (fun z => w ?_)
        rw [ht_dfB' m hm R hR f hf, mf, z.2]
        rfl
theorem ht_njW {post : Int32 → Prop} {R f g a : Nat} {x2 x3 : Int32} (hm : m < 64) (hR : R < 64) (hs : R &&& m = R) (hfs : ht_fs m f g x2 x3) (ha : a ≤ 6) (h1 : ∀ j, a ≤ j → j < 6 → R.testBit j = true → ¬ (j = g ∧ R.testBit f = true) → (∀ i, a ≤ i → i < j → R.testBit i = true → ¬ ¬ (i = g ∧ R.testBit f = true)) → post (nI j)) (h0 : (∀ i, a ≤ i → R.testBit i = true → ¬ ¬ (i = g ∧ R.testBit f = true)) → post (-1)) : wpX_nextJob post (nI m, kn, ll, aR, aP, aQ, aL, aT, aD, aG, aB) (nI a) (nI (ht_df m R)) x2 x3 :=
  ⟨6 - a + 1, ht_njL hm hR hs hfs h1 h0 (6 - a) a (by omega) (Nat.le_refl _) (fun i a b => by omega)⟩
end
end
section
/-! the component's search -/
def ht_fr (k : Nat) (aT aD aG aT' aD' aG' : Nat → Int32) : Prop := (∀ i, i < k → aT' i = aT i) ∧ (∀ i, i ≤ k → aD' i = aD i) ∧ (∀ i, i ≤ k → aG' i = aG i)
def ht_C : Nat → Nat
  | 0 => 0
  | d + 1 => (d + 1) * (1 + ht_C d) + 1
def ht_us (aT : Nat → Int32) : Nat → Int32
  | 0 => 0
  | k + 1 => ht_us aT k ||| ((1 : Int32) <<< (aT k &&& 31))
theorem ht_usE {aT aT' : Nat → Int32} : ∀ k, (∀ i, i < k → aT' i = aT i) → ht_us aT' k = ht_us aT k := by
  intro k
  induction k with
  | zero => intro _; rfl
  | succ k ih =>
    intro h
    show ht_us aT' k ||| _ = ht_us aT k ||| _
    rw [ih (fun i hi => h i (by omega)), h k (by omega)]
theorem ht_frR {k : Nat} {aT aD aG : Nat → Int32} : ht_fr k aT aD aG aT aD aG := ⟨fun _ _ => rfl, fun _ _ => rfl, fun _ _ => rfl⟩
theorem ht_frT {k k' : Nat} {aT aD aG aT' aD' aG' aT2 aD2 aG2 : Nat → Int32} (h1 : ht_fr k aT aD aG aT' aD' aG') (h2 : ht_fr k' aT' aD' aG' aT2 aD2 aG2) (hk : k ≤ k') : ht_fr k aT aD aG aT2 aD2 aG2 :=
  ⟨fun i hi => (h2.1 i (by omega)).trans (h1.1 i hi), fun i hi => (h2.2.1 i (by omega)).trans (h1.2.1 i hi), fun i hi => (h2.2.2 i (by omega)).trans (h1.2.2 i hi)⟩
theorem ht_frP {k : Nat} {aT aD aG : Nat → Int32} {x y z : Int32} : ht_fr k aT aD aG (upd aT k x) (upd aD (k + 1) y) (upd aG (k + 1) z) :=
  ⟨fun i hi => pk_un (by omega), fun i hi => pk_un (by omega), fun i hi => pk_un (by omega)⟩
theorem ht_frP2 {k k' : Nat} {aT aD aG : Nat → Int32} {x : Int32} (h : k ≤ k') : ht_fr k aT aD aG (upd aT k' x) aD aG :=
  ⟨fun i hi => pk_un (by omega), fun _ _ => rfl, fun _ _ => rfl⟩
theorem ht_m1a : ∀ k, k < 8 → nI k + (-1) < nI k := by decide +kernel
theorem ht_C6 : ∀ d, d < 6 → (d + 1) * (1 + ht_C d) ≤ 3192 := by decide +kernel
section
variable {m : Nat} {r p q : Nat → Nat} {kn ll : Int32} {aR aP aQ aL aT aD aG aB : Nat → Int32}
/-- a round that leaves a place: no job stands for it any more -/
theorem ht_leave {post : Int32 → SX → Prop} {f g fx R k n ρ b a : Nat} {x2 x3 : Int32} (hm : m < 64) (hR : R < 64) (hs : R &&& m = R) (hfs : ht_fs m f g x2 x3) (hk : k < 7) (hfk : fx ≤ k) (hfa : fx < ht_pc m) (hρ : ρ < 4096) (ha : a ≤ 6) (eT : aT k + 1 = nI a) (hn : ∀ i, a ≤ i → R.testBit i = true → ¬ ¬ (i = g ∧ R.testBit f = true))
    (h1 : k = fx → wX_search_71 post (nI fx) x2 x3 (nI (ht_pc m)) n (nI (ht_df m R)) (nI b) (nI k + (-1)) (nI (ρ + 1)) (nI m) kn ll aR aP aQ aL aT aD aG aB)
    (h2 : ∀ c, k = c + 1 → fx ≤ c → wX_search_71 post (nI fx) x2 x3 (nI (ht_pc m)) n (nI (ht_df m R) &&& (((1 : Int32) <<< (aT c &&& 31)) ^^^ (-1))) (nI b) (nI c) (nI (ρ + 1)) (nI m) kn ll aR aP aQ aL aT aD aG aB) :
    wX_search_71 post (nI fx) x2 x3 (nI (ht_pc m)) (n + 1) (nI (ht_df m R)) (nI b) (nI k) (nI ρ) (nI m) kn ll aR aP aQ aL aT aD aG aB := by
  have hp := ht_pcle' m hm
  have hck : (nI k).toNatClampNeg = k := nI_clamp (by omega)
  refine br_f (nI_ge (b := 4096) hρ (by decide)) (br_f (nI_nlt hfk (by omega)) (br_f (nI_ge hfa (by omega)) ⟨vp_in_nI (by omega) (by decide), ?_⟩))
  rw [hck, eT]
  refine ht_njW hm hR hs hfs ha (fun j a1 a2 a3 a4 _ => absurd a4 (hn j a1 a3)) (fun _ => br_f (by decide) ?_)
  by_cases e : k = fx
  · refine nm_e (br_t ?_ (nm_r (nI_1 ρ) (h1 e)))
    rw [← e]
    exact ht_m1a k (by omega)
  · obtain ⟨c, rfl⟩ : ∃ c, k = c + 1 := ⟨k - 1, by omega⟩
    have hcc : (nI c).toNatClampNeg = c := nI_clamp (by omega)
    refine nm_r (pk_m1 c) (br_f (nI_nlt (by omega) (by omega)) ⟨vp_in_nI (by omega) (by decide), nm_r (e' := nI (ht_df m R) &&& (((1 : Int32) <<< (aT c &&& 31)) ^^^ (-1))) (by rw [hcc]) (nm_r (nI_1 ρ) (h2 c rfl (by omega)))⟩)
/-- a round that tries job j on place k -/
theorem ht_try {post : Int32 → SX → Prop} {f g fx R k n ρ b a j t l : Nat} {x2 x3 : Int32} (hE : ht_E r p q aR aP aQ) (hm : m < 64) (hR : R < 64) (hs : R &&& m = R) (hfs : ht_fs m f g x2 x3) (hk : k < 6) (hfk : fx ≤ k) (hfa : fx < ht_pc m) (hρ : ρ < 4096) (ha : a ≤ 6) (hb : b ≤ 100000) (ht : t ≤ 200 + 12 * k) (hl : l ≤ 400 + 12 * k) (eD : aD k = nI t) (eG : aG k = nI l) (eT : aT k + 1 = nI a)
    (haj : a ≤ j) (hj : R.testBit j = true) (hal : ¬ (j = g ∧ R.testBit f = true)) (hn : ∀ i, a ≤ i → i < j → R.testBit i = true → ¬ ¬ (i = g ∧ R.testBit f = true))
    (h1 : ∀ aL' b1, ht_bs (ht_vs r p q f g (ht_rm R j) (max t (r j) + p j) (max l (max t (r j) + p j + q j))) b b1 → wX_search_71 post (nI fx) x2 x3 (nI (ht_pc m)) n (nI (ht_df m R)) (nI b1) (nI k) (nI (ρ + 1)) (nI m) kn ll aR aP aQ aL' (upd aT k (nI j)) (upd aD (k + 1) (nI (max t (r j) + p j))) (upd aG (k + 1) (nI (max l (max t (r j) + p j + q j)))) aB)
    (h2 : ∀ aL', ht_rm R j ≠ 0 → wX_search_71 post (nI fx) x2 x3 (nI (ht_pc m)) n (nI (ht_df m (ht_rm R j))) (nI b) (nI (k + 1)) (nI (ρ + 1)) (nI m) kn ll aR aP aQ aL' (upd (upd aT k (nI j)) (k + 1) (-1)) (upd aD (k + 1) (nI (max t (r j) + p j))) (upd aG (k + 1) (nI (max l (max t (r j) + p j + q j)))) aB) :
    wX_search_71 post (nI fx) x2 x3 (nI (ht_pc m)) (n + 1) (nI (ht_df m R)) (nI b) (nI k) (nI ρ) (nI m) kn ll aR aP aQ aL aT aD aG aB := by
  have hp := ht_pcle' m hm
  have hj6 := ht_b64 hR hj
  have hck : (nI k).toNatClampNeg = k := nI_clamp (by omega)
  obtain ⟨_, _, _, bR, bP, bQ⟩ := hE j hj6
  refine br_f (nI_ge (b := 4096) hρ (by decide)) (br_f (nI_nlt hfk (by omega)) (br_f (nI_ge hfa (by omega)) ⟨vp_in_nI (by omega) (by decide), ?_⟩))
  rw [hck, eT]
  refine ht_njW hm hR hs hfs ha (fun i a1 a2 a3 a4 a5 => ?_) (fun z => absurd hal (z j haj hj))
  have e : i = j := by
    apply Classical.byContradiction
    intro ne
    by_cases c : i < j
    · exact hn i a1 c a3 a4
    · exact a5 j haj (by omega) hj hal
  subst e
  refine br_t (nI_pos' (by omega)) (ht_plW hE (by omega) hj6 eD eG (by omega) (by omega) (nm_r (e' := nI (ht_rm R i)) (by rw [ht_dfI' m hm R hR hs, ht_rmI' R hR i hj6]) ?_))
  rw [nI_1 k]
  refine ht_bfW hE (ht_rm64 hR) (by omega) pk_us pk_us (by omega) (by omega) (fun bd aL' hbd hb0 hb1 => ?_)
  refine pk_le b bd (fun z => ?_) (fun z => pk_eq (ht_rm R i) 0 (fun z0 => ?_) (fun z0 => ?_) rfl rfl (by have := ht_rm64 (j := i) hR; omega))
  · exact br_t (nI_le z (by omega)) (nm_r (nI_1 ρ) (h1 aL' b (ht_bs_s (by
      rintro x ⟨s, hc, e⟩
      have := hbd f g s hc
      omega))))
  · refine nm_r (nI_1 ρ) (h1 aL' bd ?_)
    have e := hb0 z0
    rw [z0]
    refine ⟨by omega, fun x hx => ?_, Or.inr ?_⟩
    · rw [(ht_vs0 x).mp hx]
      omega
    · exact (ht_vs0 bd).mpr e
  · refine br_f (nI_ge z (by omega)) (nm_r (e' := nI (ht_df m (ht_rm R i))) (by rw [ht_adI' _ (ht_df64 hm) i hj6, ht_dfad' m hm R hR i hj6 hs hj]) (nm_r (nI_1 k) ⟨vp_in_nI (by omega) (by decide), nm_r (e' := upd (upd aT k (nI i)) (k + 1) (-1)) (by rw [nI_clamp (by omega), ht_bm1]) (nm_r (nI_1 ρ) (h2 aL' z0))⟩))
theorem ht_node {post : Int32 → SX → Prop} {f g fx : Nat} {x2 x3 : Int32} (hE : ht_E r p q aR aP aQ) (hm : m < 64) (hfs : ht_fs m f g x2 x3) :
    ∀ d R, ht_pc R = d + 1 → R < 64 → R &&& m = R → ∀ k, k + (d + 1) = ht_pc m → fx ≤ k → ∀ e a, 6 ≤ a + e → a ≤ 6 → ∀ n ρ b t l aL aT aD aG, n + ρ = 4097 → ρ + ht_ge R a * (1 + ht_C d) ≤ 4095 → b ≤ 100000 → t ≤ 200 + 12 * k → l ≤ 400 + 12 * k → aD k = nI t → aG k = nI l → aT k + 1 = nI a →
    (∀ n' ρ' b' aL' aT' aD' aG' a', n' + ρ' = 4097 → ρ' ≤ ρ + ht_ge R a * (1 + ht_C d) → ht_bs (ht_va r p q f g R t l a) b b' → ht_fr k aT aD aG aT' aD' aG' → aT' k + 1 = nI a' → a' ≤ 6 → (∀ i, a' ≤ i → R.testBit i = true → ¬ ¬ (i = g ∧ R.testBit f = true)) → wX_search_71 post (nI fx) x2 x3 (nI (ht_pc m)) n' (nI (ht_df m R)) (nI b') (nI k) (nI ρ') (nI m) kn ll aR aP aQ aL' aT' aD' aG' aB) →
    wX_search_71 post (nI fx) x2 x3 (nI (ht_pc m)) n (nI (ht_df m R)) (nI b) (nI k) (nI ρ) (nI m) kn ll aR aP aQ aL aT aD aG aB := by
  intro d
  have hp := ht_pcle' m hm
  induction d with
  | zero =>
    intro R hpc hR hs k hk hfk e
    induction e with
    | zero =>
      intro a ha ha' n ρ b t l aL aT aD aG hn hρ hb ht hl eD eG eT h
      refine h n ρ b aL aT aD aG a hn (by omega) (ht_va_n ?_) ht_frR eT ha' ?_
      · intro j hj z
        have := ht_b64 hR z
        omega
      · intro j hj z
        have := ht_b64 hR z
        omega
    | succ e ihe =>
      intro a ha ha' n ρ b t l aL aT aD aG hn hρ hb ht hl eD eG eT h
      by_cases hx : ∃ j, a ≤ j ∧ R.testBit j = true ∧ ¬ (j = g ∧ R.testBit f = true)
      · obtain ⟨j, ⟨haj, hj, hal⟩, hmin⟩ := pk_least _ hx
        have hj6 := ht_b64 hR hj
        have hge := ht_geS' R hR j hj6 a (by omega) haj hj
        have hmul : (ht_ge R (j + 1) + 1) * (1 + ht_C 0) ≤ ht_ge R a * (1 + ht_C 0) := Nat.mul_le_mul_right _ hge
        rw [Nat.succ_mul] at hmul
        obtain ⟨_, _, _, bR, bP, bQ⟩ := hE j hj6
        have hmin' : ∀ i, a ≤ i → i < j → R.testBit i = true → ¬ ¬ (i = g ∧ R.testBit f = true) := fun i a1 a2 a3 a4 => hmin i a2 ⟨a1, a3, a4⟩
        obtain ⟨n1, rfl⟩ : ∃ n1, n = n1 + 1 := ⟨n - 1, by omega⟩
        refine ht_try hE hm hR hs hfs (by omega) hfk (by omega) (by omega) ha' hb ht hl eD eG eT haj hj hal hmin' (fun aL' b1 hb1 => ?_) (fun aL' hne => ?_)
        · refine ihe (j + 1) (by omega) (by omega) n1 (ρ + 1) b1 t l _ _ _ _ (by omega) (by omega) (by have := hb1.1; omega) ht hl ?_ ?_ ?_ ?_
          · rw [pk_un (by omega)]; exact eD
          · rw [pk_un (by omega)]; exact eG
          · rw [pk_us]; exact nI_1 j
          · intro n' ρ' b' aL2 aT2 aD2 aG2 a' c1 c2 c3 c4 c5 c6 c7
            exact h n' ρ' b' aL2 aT2 aD2 aG2 a' c1 (by omega) (ht_va_s haj hj hal hmin' hb1 c3) (ht_frT ht_frP c4 (Nat.le_refl _)) c5 c6 c7
        · have := ht_pcrm hR hj
          exact absurd (ht_pc0' _ (ht_rm64 hR) (by omega)) hne
      · have hno : ∀ i, a ≤ i → R.testBit i = true → ¬ ¬ (i = g ∧ R.testBit f = true) := fun i a1 a2 a3 => hx ⟨i, a1, a2, a3⟩
        exact h n ρ b aL aT aD aG a hn (by omega) (ht_va_n hno) ht_frR eT ha' hno
  | succ d ih =>
    intro R hpc hR hs k hk hfk e
    induction e with
    | zero =>
      intro a ha ha' n ρ b t l aL aT aD aG hn hρ hb ht hl eD eG eT h
      refine h n ρ b aL aT aD aG a hn (by omega) (ht_va_n ?_) ht_frR eT ha' ?_
      · intro j hj z
        have := ht_b64 hR z
        omega
      · intro j hj z
        have := ht_b64 hR z
        omega
    | succ e ihe =>
      intro a ha ha' n ρ b t l aL aT aD aG hn hρ hb ht hl eD eG eT h
      by_cases hx : ∃ j, a ≤ j ∧ R.testBit j = true ∧ ¬ (j = g ∧ R.testBit f = true)
      · obtain ⟨j, ⟨haj, hj, hal⟩, hmin⟩ := pk_least _ hx
        have hj6 := ht_b64 hR hj
        have hge := ht_geS' R hR j hj6 a (by omega) haj hj
        have hmul : (ht_ge R (j + 1) + 1) * (1 + ht_C (d + 1)) ≤ ht_ge R a * (1 + ht_C (d + 1)) := Nat.mul_le_mul_right _ hge
        rw [Nat.succ_mul] at hmul
        obtain ⟨_, _, _, bR, bP, bQ⟩ := hE j hj6
        have hmin' : ∀ i, a ≤ i → i < j → R.testBit i = true → ¬ ¬ (i = g ∧ R.testBit f = true) := fun i a1 a2 a3 a4 => hmin i a2 ⟨a1, a3, a4⟩
        obtain ⟨n1, rfl⟩ : ∃ n1, n = n1 + 1 := ⟨n - 1, by omega⟩
        have cont : ∀ n2 ρ2 b1 aL' aT' aD' aG', n2 + ρ2 = 4097 → ρ2 ≤ ρ + (1 + ht_C (d + 1)) → ht_bs (ht_vs r p q f g (ht_rm R j) (max t (r j) + p j) (max l (max t (r j) + p j + q j))) b b1 → ht_fr k aT aD aG aT' aD' aG' → aT' k = nI j → wX_search_71 post (nI fx) x2 x3 (nI (ht_pc m)) n2 (nI (ht_df m R)) (nI b1) (nI k) (nI ρ2) (nI m) kn ll aR aP aQ aL' aT' aD' aG' aB := by
          intro n2 ρ2 b1 aL' aT' aD' aG' hn2 hρ2 hb1 hfr eT'
          refine ihe (j + 1) (by omega) (by omega) n2 ρ2 b1 t l _ _ _ _ hn2 (by omega) (by have := hb1.1; omega) ht hl ?_ ?_ ?_ ?_
          · rw [hfr.2.1 k (Nat.le_refl _)]; exact eD
          · rw [hfr.2.2 k (Nat.le_refl _)]; exact eG
          · rw [eT']; exact nI_1 j
          · intro n' ρ' b' aL2 aT2 aD2 aG2 a' c1 c2 c3 c4 c5 c6 c7
            exact h n' ρ' b' aL2 aT2 aD2 aG2 a' c1 (by omega) (ht_va_s haj hj hal hmin' hb1 c3) (ht_frT hfr c4 (Nat.le_refl _)) c5 c6 c7
        refine ht_try hE hm hR hs hfs (by omega) hfk (by omega) (by omega) ha' hb ht hl eD eG eT haj hj hal hmin' (fun aL' b1 hb1 => ?_) (fun aL' hne => ?_)
        · exact cont n1 (ρ + 1) b1 _ _ _ _ (by omega) (by omega) hb1 ht_frP pk_us
        · have hpr := ht_pcrm hR hj
          have hge0 := ht_ge0' _ (ht_rm64 (j := j) hR)
          have hpd : ht_pc (ht_rm R j) = d + 1 := by omega
          have hcost : ht_ge (ht_rm R j) 0 * (1 + ht_C d) + 1 = ht_C (d + 1) := by rw [hge0, hpd]; rfl
          refine ih (ht_rm R j) hpd (ht_rm64 hR) (ht_sbrm' m hm R hR j hj6 hs) (k + 1) (by omega) (by omega) 6 0 (by decide) (by decide) n1 (ρ + 1) b (max t (r j) + p j) (max l (max t (r j) + p j + q j)) _ _ _ _ (by omega) (by omega) hb (by omega) (by omega) pk_us pk_us ?_ ?_
          · rw [pk_us]; rfl
          · intro n' ρ' b' aL2 aT2 aD2 aG2 a' c1 c2 c3 c4 c5 c6 c7
            obtain ⟨n3, rfl⟩ : ∃ n3, n' = n3 + 1 := ⟨n' - 1, by omega⟩
            have eTk : aT2 k = nI j := by
              rw [c4.1 k (by omega), pk_un (by omega), pk_us]
            refine ht_leave hm (ht_rm64 hR) (ht_sbrm' m hm R hR j hj6 hs) hfs (by omega) (by omega) (by omega) (by omega) c6 c5 c7 (fun e0 => by omega) (fun c e1 _ => ?_)
            have ec : c = k := by omega
            subst ec
            rw [eTk, ht_rmI' _ (ht_df64 hm) j hj6, ht_dfrm' m hm R hR j hj6 hs hj]
            exact cont n3 (ρ' + 1) b' _ _ _ _ (by omega) (by omega) (ht_bs_e (ht_va0 hne) c3) (ht_frT (ht_frT ht_frP (ht_frP2 (k := c) (k' := c + 1) (by omega)) (Nat.le_refl _)) c4 (by omega)) eTk
      · have hno : ∀ i, a ≤ i → R.testBit i = true → ¬ ¬ (i = g ∧ R.testBit f = true) := fun i a1 a2 a3 => hx ⟨i, a1, a2, a3⟩
        exact h n ρ b aL aT aD aG a hn (by omega) (ht_va_n hno) ht_frR eT ha' hno
end
end
section
/-! the component's search as a whole, its first best order -/
section
variable {m : Nat} {r p q : Nat → Nat} {kn ll : Int32} {aR aP aQ aL aT aD aG aB : Nat → Int32}
theorem ht_se71 {post : Int32 → SX → Prop} {f g fx R t l b : Nat} {x2 x3 : Int32} (hE : ht_E r p q aR aP aQ) (hm : m < 64) (hfs : ht_fs m f g x2 x3) (hR : R < 64) (hs : R &&& m = R) (hpc : fx + ht_pc R = ht_pc m) (eD : aD fx = nI t) (eG : aG fx = nI l) (ht : t ≤ 200 + 12 * fx) (hl : l ≤ 400 + 12 * fx) (hb : (ht_pc R = 0 → b = l) ∧ (ht_pc R ≠ 0 → b = 100000)) (eT : aT fx = -1)
    (h : ∀ b aL' aT' aD' aG', ht_bs (ht_vs r p q f g R t l) 100000 b → ht_fr fx aT aD aG aT' aD' aG' → post (nI b) (nI m, kn, ll, aR, aP, aQ, aL', aT', aD', aG', aB)) : wX_search_71 post (nI fx) x2 x3 (nI (ht_pc m)) 4097 (nI (ht_df m R)) (nI b) (nI fx) (nI 0) (nI m) kn ll aR aP aQ aL aT aD aG aB := by
  have hp := ht_pcle' m hm
  by_cases e : ht_pc R = 0
  · have hR0 := ht_pc0' R hR e
    refine br_f (nI_ge (b := 4096) (by decide) (by decide)) (br_f (nI_nlt (Nat.le_refl _) (by omega)) (br_t (nI_le (by omega) (by omega)) (h b _ _ _ _ ?_ ht_frR)))
    have eb := hb.1 e
    rw [hR0]
    refine ⟨by omega, fun x hx => ?_, Or.inr ((ht_vs0 b).mpr eb)⟩
    rw [(ht_vs0 x).mp hx]
    omega
  · obtain ⟨d, hd⟩ : ∃ d, ht_pc R = d + 1 := ⟨ht_pc R - 1, by omega⟩
    have eb := hb.2 e
    have hge : ht_ge R 0 * (1 + ht_C d) ≤ 3192 := by
      rw [ht_ge0' R hR, hd]
      exact ht_C6 d (by omega)
    refine ht_node hE hm hfs d R hd hR hs fx (by omega) (Nat.le_refl _) 6 0 (by decide) (by decide) 4097 0 b t l _ _ _ _ rfl (by omega) (by omega) ht hl eD eG (by rw [eT]; rfl) ?_
    intro n' ρ' b' aL2 aT2 aD2 aG2 a' c1 c2 c3 c4 c5 c6 c7
    obtain ⟨n3, rfl⟩ : ∃ n3, n' = n3 + 1 := ⟨n' - 1, by omega⟩
    refine ht_leave hm hR hs hfs (by omega) (Nat.le_refl _) (by omega) (by omega) c6 c5 c7 (fun _ => ?_) (fun c e1 e2 => by omega)
    obtain ⟨n4, rfl⟩ : ∃ n4, n3 = n4 + 1 := ⟨n3 - 1, by omega⟩
    refine br_f (nI_ge (b := 4096) (by omega) (by decide)) (br_t (ht_m1a fx (by omega)) (h b' _ _ _ _ ?_ c4))
    rw [eb] at c3
    refine ht_bs_e (ht_va0 (fun z => e ?_)) c3
    rw [z]
    rfl
theorem ht_se12 {post : Int32 → SX → Prop} {fx : Nat} {x2 x3 x4 : Int32} (hfx : fx ≤ 6) (h : wX_search_12 post (nI fx) x2 x3 x4 (nI m) kn ll aR aP aQ aL aT aD aG aB 1 (ht_us aT fx) (nI fx)) : ∀ d k, k + d = fx → wX_search_12 post (nI fx) x2 x3 x4 (nI m) kn ll aR aP aQ aL aT aD aG aB (d + 1) (ht_us aT k) (nI k) := by
  intro d
  induction d with
  | zero =>
    intro k hk
    have e : k = fx := hk
    rw [e]
    exact h
  | succ d ih =>
    intro k hk
    have hck : (nI k).toNatClampNeg = k := nI_clamp (by omega)
    exact br_f (nI_ge (by omega) (by omega)) ⟨vp_in_nI (by omega) (by decide), nm_r (e' := ht_us aT (k + 1)) (by rw [hck]; rfl) (nm_r (nI_1 k) (ih (k + 1) (by omega)))⟩
theorem ht_seW {post : Int32 → SX → Prop} {f g fx R t l : Nat} {x2 x3 : Int32} (hE : ht_E r p q aR aP aQ) (hm : m < 64) (hfs : ht_fs m f g x2 x3) (hR : R < 64) (hs : R &&& m = R) (hpc : fx + ht_pc R = ht_pc m) (hu : ht_us aT fx = nI (ht_df m R)) (eD : aD fx = nI t) (eG : aG fx = nI l) (ht : t ≤ 200 + 12 * fx) (hl : l ≤ 400 + 12 * fx)
    (h : ∀ b aL' aT' aD' aG', ht_bs (ht_vs r p q f g R t l) 100000 b → ht_fr fx aT aD aG aT' aD' aG' → post (nI b) (nI m, kn, ll, aR, aP, aQ, aL', aT', aD', aG', aB)) : wpX_search post (nI m, kn, ll, aR, aP, aQ, aL, aT, aD, aG, aB) (nI fx) x2 x3 := by
  have hp := ht_pcle' m hm
  have hin : vp_in (nI fx) 8 := vp_in_nI (by omega) (by decide)
  have hck : (nI fx).toNatClampNeg = fx := nI_clamp (by omega)
  refine ht_cnt hm ⟨fx + 1, ?_⟩
  have go : ∀ b, ((ht_pc R = 0 → b = l) ∧ (ht_pc R ≠ 0 → b = 100000)) → wX_search_55 post (nI fx) x2 x3 (nI (ht_pc m)) (nI (ht_df m R)) (nI b) (nI m) kn ll aR aP aQ aL aT aD aG aB := by
    intro b hb
    refine ⟨hin, nm_r (e' := upd aT fx (-1)) (by rw [hck, ht_bm1]) ⟨4097, ?_⟩⟩
    exact ht_se71 hE hm hfs hR hs hpc eD eG ht hl hb pk_us (fun b' aL' aT' aD' aG' c1 c2 => h b' aL' aT' aD' aG' c1 (ht_frT (ht_frP2 (Nat.le_refl _)) c2 (Nat.le_refl _)))
  refine ht_se12 (by omega) ?_ fx 0 (by omega)
  refine br_t (nI_le (Nat.le_refl _) (by omega)) (pk_eq fx (ht_pc m) (fun e => ⟨hin, ?_⟩) (fun e => ?_))
  · rw [hck, eG, hu]
    exact go l ⟨fun _ => rfl, fun z => absurd (show ht_pc R = 0 by omega) z⟩
  · rw [hu]
    exact go 100000 ⟨fun z => by omega, fun _ => rfl⟩
theorem ht_fs6 (m : Nat) (x3 : Int32) : ht_fs m 6 0 (-1) x3 := Or.inl ⟨rfl, rfl⟩
/-- firstFitting: the least job with which v can still be reached -/
theorem ht_ffL {post : Int32 → SX → Prop} {R k t l v : Nat} (hE : ht_E r p q aR aP aQ) (hm : m < 64) (hR : R < 64) (hs : R &&& m = R) (hpc : k + ht_pc R = ht_pc m) (hR0 : R ≠ 0) (hk : k < 6) (ht : t ≤ 200 + 12 * k) (hl : l ≤ 400 + 12 * k) (hv : v < 100000)
    (hlo : ∀ s, ht_cp 6 0 R s → v ≤ ht_ln r p q t l s) (hx : ∃ s, ht_cp 6 0 R s ∧ ht_ln r p q t l s = v)
    (h : ∀ j aL' aT' aD' aG', R.testBit j = true → (∀ i s', i < j → R.testBit i = true → ht_cp 6 0 (ht_rm R i) s' → ht_ln r p q t l (i :: s') ≠ v) → (∃ s, ht_cp 6 0 (ht_rm R j) s ∧ ht_ln r p q t l (j :: s) = v) → ht_us aT' k = nI (ht_df m R) → aD' k = nI t → aG' k = nI l → post (nI j) (nI m, kn, nI v, aR, aP, aQ, aL', aT', aD', aG', aB)) :
    ∀ d j, j + d = 6 → (∀ i s', i < j → R.testBit i = true → ht_cp 6 0 (ht_rm R i) s' → ht_ln r p q t l (i :: s') ≠ v) → ∀ aL aT aD aG, ht_us aT k = nI (ht_df m R) → aD k = nI t → aG k = nI l → wX_firstFitting_2 post (nI k) (nI (ht_df m R)) (d + 1) (nI j) (nI m) kn (nI v) aR aP aQ aL aT aD aG aB := by
  intro d
  induction d with
  | zero =>
    intro j hj hno aL aT aD aG hu eD eG
    have e : j = 6 := hj
    subst e
    obtain ⟨s, hc, ev⟩ := hx
    cases s with
    | nil => exact absurd hc hR0
    | cons i s => exact absurd ev (hno i s (ht_b64 hR hc.1) hc.1 hc.2.2)
  | succ d ih =>
    intro j hj hno aL aT aD aG hu eD eG
    have j6 : j < 6 := by omega
    have hp := ht_pcle' m hm
    obtain ⟨_, _, _, bR, bP, bQ⟩ := hE j j6
    have hB := ht_dfB' m hm R hR j j6
    have nx : ¬ R.testBit j = true → wX_firstFitting_2 post (nI k) (nI (ht_df m R)) (d + 1) (nI (j + 1)) (nI m) kn (nI v) aR aP aQ aL aT aD aG aB := by
      intro z
      refine ih (j + 1) (by omega) (fun i s' hi a b => ?_) aL aT aD aG hu eD eG
      by_cases e : i = j
      · exact absurd (e ▸ a) z
      · exact hno i s' (by omega) a b
    refine br_f (nI_ge (b := 6) j6 (by decide)) (ht_has hm j6 (fun z => br_f (by decide) (ek_if (ht_bit0' _ (ht_df64 hm) j j6) (fun w => ?_) (fun w => nm_r (nI_1 j) (nx ?_)))) (fun z => br_t rfl (nm_r (nI_1 j) (nx ?_))))
    · have hj : R.testBit j = true := by
        rw [hB, z] at w
        simpa using w
      have hpr := ht_pcrm hR hj
      refine ht_plW hE (by omega) j6 eD eG (by omega) (by omega) ?_
      rw [nI_1 k]
      refine ht_seW hE hm (ht_fs6 m _) (ht_rm64 hR) (ht_sbrm' m hm R hR j j6 hs) (by omega) ?_ pk_us pk_us (by omega) (by omega) (fun b aL' aT' aD' aG' c1 c2 => ?_)
      · show ht_us (upd aT k (nI j)) k ||| ((1 : Int32) <<< (upd aT k (nI j) k &&& 31)) = _
        rw [pk_us, ht_usE k (fun i hi => pk_un (by omega)), hu, ht_adI' _ (ht_df64 hm) j j6, ht_dfad' m hm R hR j j6 hs hj]
      · have hu' : ht_us aT' k = nI (ht_df m R) := by
          rw [ht_usE (aT := upd aT k (nI j)) k (fun i hi => c2.1 i (by omega)), ht_usE k (fun i hi => pk_un (by omega)), hu]
        have eD' : aD' k = nI t := by rw [c2.2.1 k (by omega), pk_un (by omega), eD]
        have eG' : aG' k = nI l := by rw [c2.2.2 k (by omega), pk_un (by omega), eG]
        have hb := c1.1
        refine pk_eq b v (fun e => ?_) (fun e => ?_)
        · refine h j aL' aT' aD' aG' hj hno ?_ hu' eD' eG'
          rcases c1.2.2 with z1 | ⟨s, hc, es⟩
          · omega
          · exact ⟨s, hc, by rw [ht_lnc, ← es]; exact e⟩
        · refine nm_r (nI_1 j) (ih (j + 1) (by omega) (fun i s' hi a b1 => ?_) aL' aT' aD' aG' hu' eD' eG')
          by_cases ei : i = j
          · subst ei
            intro ev
            have h1 := c1.2.1 v ⟨s', b1, ev.symm⟩
            rcases c1.2.2 with z1 | ⟨s, hc, es⟩
            · omega
            · have h2 := hlo (i :: s) ⟨hj, ht_n6 hR _ _, hc⟩
              rw [ht_lnc, ← es] at h2
              omega
          · exact hno i s' (by omega) a b1
    · rw [hB, z] at w
      simpa using w
    · intro w
      rw [ht_sbB' m hm R hR j j6 hs w] at z
      exact absurd z (by decide)
theorem ht_leL {post : SX → Prop} {v : Nat} (hE : ht_E r p q aR aP aQ) (hm : m < 64) (hv : v < 100000) :
    ∀ d k R t l aL aT aD aG aB, ht_pc R = d → R < 64 → R &&& m = R → k + d = ht_pc m → t ≤ 200 + 12 * k → l ≤ 400 + 12 * k → (∀ s, ht_cp 6 0 R s → v ≤ ht_ln r p q t l s) → (∃ s, ht_cp 6 0 R s ∧ ht_ln r p q t l s = v) → ht_us aT k = nI (ht_df m R) → aD k = nI t → aG k = nI l →
    (∀ s aL' aT' aD' aG' aB', ht_gr r p q v R t l s → (∀ i, i < k → aB' i = aB i) → (∀ i, i < d → aB' (k + i) = nI (s.getD i 0)) → post (nI m, kn, nI v, aR, aP, aQ, aL', aT', aD', aG', aB')) →
    wX_learn_37 post (nI (ht_pc m)) (d + 1) (nI (ht_df m R)) (nI k) (nI m) kn (nI v) aR aP aQ aL aT aD aG aB := by
  intro d
  have hp := ht_pcle' m hm
  induction d with
  | zero =>
    intro k R t l aL aT aD aG aB hpc hR hs hk ht hl hlo hx hu eD eG h
    have hR0 := ht_pc0' R hR hpc
    refine br_t (nI_le (by omega) (by omega)) (h [] aL aT aD aG aB ?_ (fun _ _ => rfl) (fun i hi => absurd hi (Nat.not_lt_zero _)))
    obtain ⟨s, hc, ev⟩ := hx
    cases s with
    | nil => exact ⟨hR0, ev⟩
    | cons j s =>
      have := ht_pcrm hR hc.1
      omega
  | succ d ih =>
    intro k R t l aL aT aD aG aB hpc hR hs hk ht hl hlo hx hu eD eG h
    have hck : (nI k).toNatClampNeg = k := nI_clamp (by omega)
    refine br_f (nI_ge (by omega) (by omega)) ⟨7, ht_ffL hE hm hR hs (by omega) ?_ (by omega) ht hl hv hlo hx (fun j aL' aT' aD' aG' hj hno hx' hu' eD' eG' => ⟨vp_in_nI (by omega) (by decide), ?_⟩) 6 0 rfl (fun i s' hi => absurd hi (Nat.not_lt_zero _)) aL aT aD aG hu eD eG⟩
    · intro e
      rw [e] at hpc
      exact absurd hpc (by show ¬ 0 = d + 1; omega)
    · have j6 := ht_b64 hR hj
      obtain ⟨_, _, _, bR, bP, bQ⟩ := hE j j6
      have hpr := ht_pcrm hR hj
      refine nm_r (e' := upd aB k (nI j)) (by rw [hck, ht_byte' j (by omega)]) (nm_r (e' := nI (ht_df m (ht_rm R j))) (by rw [ht_adI' _ (ht_df64 hm) j j6, ht_dfad' m hm R hR j j6 hs hj]) (ht_plW hE (by omega) j6 eD' eG' (by omega) (by omega) (nm_r (nI_1 k) ?_)))
      refine ih (k + 1) (ht_rm R j) (max t (r j) + p j) (max l (max t (r j) + p j + q j)) _ _ _ _ _ (by omega) (ht_rm64 hR) (ht_sbrm' m hm R hR j j6 hs) (by omega) (by omega) (by omega) (fun s hc => hlo (j :: s) ⟨hj, ht_n6 hR _ _, hc⟩) hx' ?_ pk_us pk_us ?_
      · show ht_us (upd aT' k (nI j)) k ||| ((1 : Int32) <<< (upd aT' k (nI j) k &&& 31)) = _
        rw [pk_us, ht_usE k (fun i hi => pk_un (by omega)), hu', ht_adI' _ (ht_df64 hm) j j6, ht_dfad' m hm R hR j j6 hs hj]
      · intro s aL2 aT2 aD2 aG2 aB2 hg hB1 hB2
        refine h (j :: s) aL2 aT2 aD2 aG2 aB2 ⟨hj, hno, hg⟩ (fun i hi => ?_) (fun i hi => ?_)
        · rw [hB1 i (by omega), pk_un (by omega)]
        · cases i with
          | zero =>
            rw [Nat.add_zero, hB1 k (by omega), pk_us]
            rfl
          | succ i =>
            have := hB2 i (by omega)
            rw [show k + 1 + i = k + (i + 1) by omega] at this
            rw [this]
            rfl
/-- what is known: the least length and the first best order -/
def ht_K (m : Nat) (r p q : Nat → Nat) (ll : Int32) (aB : Nat → Int32) : Prop := ∃ v s, ll = nI v ∧ v < 100000 ∧ ht_bs (ht_vs r p q 6 0 m 0 0) 100000 v ∧ ht_gr r p q v m 0 0 s ∧ ∀ i, i < ht_pc m → aB i = nI (s.getD i 0)
theorem ht_E3 (hE : ht_E r p q aR aP aQ) : ∀ j, j < 6 → r j ≤ 200 ∧ p j ≤ 12 ∧ q j ≤ 200 := fun j hj => (hE j hj).2.2.2
theorem ht_vx (hB : ∀ j, j < 6 → r j ≤ 200 ∧ p j ≤ 12 ∧ q j ≤ 200) (hm : m < 64) : ∃ x, ht_vs r p q 6 0 m 0 0 x ∧ x < 1000 := by
  have hc := ht_odcp (ht_pc m) m 0 hm rfl (ht_fcp _)
  refine ⟨_, ⟨_, hc, rfl⟩, ?_⟩
  have := ht_lnU r p q 6 0 hB _ m 0 0 hm hc
  have hp := ht_pcle' m hm
  omega
theorem ht_usm (hm : m < 64) : ht_us aT 0 = nI (ht_df m m) := by
  rw [(ht_dfm' m hm).1]
  rfl
theorem ht_plain {post : Int32 → SX → Prop} (hE : ht_E r p q aR aP aQ) (hm : m < 64) {f g : Nat} {x2 x3 : Int32} (hfs : ht_fs m f g x2 x3)
    (h : ∀ b aL' aT' aD' aG', ht_bs (ht_vs r p q f g m 0 0) 100000 b → aD' 0 = nI 0 → aG' 0 = nI 0 → post (nI b) (nI m, kn, ll, aR, aP, aQ, aL', aT', aD', aG', aB)) : wpX_begin (fun u => wpX_search post u 0 x2 x3) (nI m, kn, ll, aR, aP, aQ, aL, aT, aD, aG, aB) := by
  refine nm_e (nm_e ?_)
  refine ht_seW (fx := 0) hE hm hfs hm (ht_dfm' m hm).2 (by omega) (ht_usm hm) (t := 0) (l := 0) pk_us pk_us (by omega) (by omega) (fun b aL' aT' aD' aG' c1 c2 => h b aL' aT' aD' aG' c1 ?_ ?_)
  · rw [c2.2.1 0 (by omega), pk_us]
    rfl
  · rw [c2.2.2 0 (by omega), pk_us]
    rfl
theorem ht_leW {post : SX → Prop} (hE : ht_E r p q aR aP aQ) (hm : m < 64) (hk : kn = 0 ∨ (kn = 1 ∧ ht_K m r p q ll aB)) (h : ∀ ll' aL' aT' aD' aG' aB', ht_K m r p q ll' aB' → post (nI m, 1, ll', aR, aP, aQ, aL', aT', aD', aG', aB')) : wpX_learn post (nI m, kn, ll, aR, aP, aQ, aL, aT, aD, aG, aB) := by
  rcases hk with e | ⟨e, hK⟩
  · subst e
    refine br_t rfl (ht_plain hE hm (ht_fs6 m _) (fun v aL' aT' aD' aG' c1 c2 c3 => ?_))
    refine ht_cnt hm ⟨ht_pc m + 1, ?_⟩
    obtain ⟨x, hx, hx1⟩ := ht_vx (ht_E3 hE) hm
    have hvx := c1.2.1 x hx
    obtain ⟨s, hc, es⟩ := ht_bs_at c1 hx (by omega)
    have hd := ht_dfm' m hm
    have := ht_leL (kn := 1) (post := post) hE hm (show v < 100000 by omega) (ht_pc m) 0 m 0 0 aL' aT' aD' aG' aB rfl hm hd.2 (by omega) (by omega) (by omega) (fun s hc => c1.2.1 _ ⟨s, hc, rfl⟩) ⟨s, hc, es.symm⟩ (ht_usm hm) c2 c3 (fun s aL2 aT2 aD2 aG2 aB2 hg _ hB => h (nI v) aL2 aT2 aD2 aG2 aB2 ⟨v, s, rfl, by omega, c1, hg, fun i hi => by have := hB i hi; rw [Nat.zero_add] at this; exact this⟩)
    rw [hd.1] at this
    exact this
  · subst e
    exact br_f (by decide) (h ll aL aT aD aG aB hK)
end
end
section
/-! the reference's small methods -/
def ht_EY (m : Nat) (r p q : Nat → Nat) (aH aC : Nat → Int32) : Prop := ∀ j, j < 6 → aH j = nI (ht_bn (m.testBit j)) ∧ aC (3 * j) = nI (r j) ∧ aC (3 * j + 1) = nI (p j) ∧ aC (3 * j + 2) = nI (q j) ∧ r j ≤ 200 ∧ p j ≤ 12 ∧ q j ≤ 200
theorem ht_jb1' : ∀ m, m < 64 → ∀ k, k < 6 → m.testBit k = true → nI (m % 2 ^ k) ||| ((1 : Int32) <<< (nI k &&& 31)) = nI (m % 2 ^ (k + 1)) := by decide +kernel
theorem ht_jb0' : ∀ m, m < 64 → ∀ k, k < 6 → m.testBit k = false → nI (m % 2 ^ k) ||| 0 = nI (m % 2 ^ (k + 1)) := by decide +kernel
theorem ht_pcs' : ∀ m, m < 64 → ∀ k, k < 6 → ht_pc (m % 2 ^ (k + 1)) = ht_pc (m % 2 ^ k) + ht_bn (m.testBit k) := by decide +kernel
theorem ht_nths' : ∀ m, m < 64 → ∀ k, k < 6 → m.testBit k = true → ht_nth m (ht_pc (m % 2 ^ k)) = k := by decide +kernel
theorem ht_m26 {m : Nat} (hm : m < 64) : m % 2 ^ 6 = m := Nat.mod_eq_of_lt hm
theorem ht_3 (j : Nat) : (3 : Int32) * nI j = nI (3 * j) := pk_mul 3 j
theorem ht_31 (j : Nat) : (3 : Int32) * nI j + 1 = nI (3 * j + 1) := by rw [ht_3, nI_1]
theorem ht_32 (j : Nat) : (3 : Int32) * nI j + 2 = nI (3 * j + 2) := by rw [ht_3]; exact nI_add _ 2
theorem ht_bn0 {b : Bool} : nI (ht_bn b) = 0 ↔ b = false := by cases b <;> decide
section
variable {m : Nat} {r p q : Nat → Nat} {fn fo : Int32} {aH aC aI aS : Nat → Int32}
theorem ht_isG {post : Int32 → Prop} {x : Int32} (hY : ht_EY m r p q aH aC) (h1 : ∀ j, j < 6 → x = nI j → m.testBit j = true → post 1) (h0 : (∀ j, j < 6 → x = nI j → m.testBit j = false) → post 0) : wpY_is post (fn, fo, aH, aC, aI, aS) x := by
  rcases pk_ix x (n := 6) (by decide) with h | h | ⟨j, hj, e⟩
  · exact br_t h (h0 (fun j hj e => absurd h (by rw [e]; exact nI_pos (by omega))))
  · have h2 : ¬ x < 0 := Int32.not_lt.mpr (Int32.le_trans (nI_pos' (n := 6) (by decide)) h)
    exact br_f h2 (br_t h (h0 (fun j hj e => absurd h (by rw [e]; exact nI_ge (by omega) (by omega)))))
  · subst e
    have eH := (hY j hj).1
    have e1 : aH (nI j).toNatClampNeg = 0 ↔ m.testBit j = false := by
      rw [nI_clamp (by omega), eH]
      exact ht_bn0
    refine br_f (nI_pos (by omega)) (br_f (nI_ge (b := 6) hj (by decide)) ⟨vp_in_nI hj (by decide), ek_if e1 (fun z => h0 ?_) (fun z => h1 j hj rfl (ht_ft z))⟩)
    intro i hi e
    rw [ht_inj (by omega) (by omega) e] at z
    exact z
theorem ht_jobL {post : Int32 → Prop} (hm : m < 64) (hY : ht_EY m r p q aH aC) (h : post (nI m)) : ∀ d k, k + d = 6 → wY_jobs_4 post fn fo aH aC aI aS (d + 1) (nI (m % 2 ^ k)) (nI k) := by
  intro d
  induction d with
  | zero =>
    intro k hk
    have e : k = 6 := hk
    subst e
    rw [ht_m26 hm]
    exact br_t (nI_le (b := 6) (by decide) (by decide)) h
  | succ d ih =>
    intro k hk
    have k6 : k < 6 := by omega
    have e1 : aH (nI k).toNatClampNeg = 0 ↔ m.testBit k = false := by
      rw [nI_clamp (by omega), (hY k k6).1]
      exact ht_bn0
    exact br_f (nI_ge (b := 6) k6 (by decide)) ⟨vp_in_nI k6 (by decide), ek_if e1 (fun z => nm_r (ht_jb0' m hm k k6 z) (nm_r (nI_1 k) (ih (k + 1) (by omega)))) (fun z => nm_r (ht_jb1' m hm k k6 (ht_ft z)) (nm_r (nI_1 k) (ih (k + 1) (by omega))))⟩
theorem ht_jobW {post : Int32 → Prop} (hm : m < 64) (hY : ht_EY m r p q aH aC) (h : post (nI m)) : wpY_jobs post (fn, fo, aH, aC, aI, aS) := by
  refine ⟨7, ?_⟩
  have := ht_jobL (fn := fn) (fo := fo) (aI := aI) (aS := aS) hm hY h 6 0 rfl
  rw [Nat.pow_zero, Nat.mod_one] at this
  exact this
theorem ht_ycL {post : SY → Prop} (hm : m < 64) (hY : ht_EY m r p q aH aC) (h : post (nI (ht_pc m), nI (ht_fc (ht_pc m)), aH, aC, aI, aS)) : ∀ d k, k + d = 6 → wY_count_12 post aH aC aI aS (d + 1) (nI k) (nI (ht_pc (m % 2 ^ k))) (nI (ht_fc (ht_pc (m % 2 ^ k)))) := by
  intro d
  induction d with
  | zero =>
    intro k hk
    have e : k = 6 := hk
    subst e
    rw [ht_m26 hm]
    exact br_t (nI_le (b := 6) (by decide) (by decide)) h
  | succ d ih =>
    intro k hk
    have k6 : k < 6 := by omega
    have e1 : aH (nI k).toNatClampNeg = 0 ↔ m.testBit k = false := by
      rw [nI_clamp (by omega), (hY k k6).1]
      exact ht_bn0
    have hin : vp_in (nI k) 6 := vp_in_nI k6 (by decide)
    have ihk := ih (k + 1) (by omega)
    have es := ht_pcs' m hm k k6
    refine br_f (nI_ge (b := 6) k6 (by decide)) ⟨hin, ek_if e1 (fun z => ?_) (fun z => ?_)⟩
    · rw [es, z] at ihk
      exact nm_r (nI_add _ 0) ⟨hin, ek_if e1 (fun _ => nm_r (nI_1 k) ihk) (fun z' => absurd z z')⟩
    · rw [es, ht_ft z] at ihk
      refine nm_r (nI_add _ 1) ⟨hin, ek_if e1 (fun z' => absurd z' z) (fun _ => nm_r (e' := nI (ht_fc (ht_pc (m % 2 ^ k) + 1))) ?_ (nm_r (nI_1 k) ihk))⟩
      rw [pk_mul, ht_fcs, Nat.mul_comm]
theorem ht_ycW {post : SY → Prop} (hm : m < 64) (hY : ht_EY m r p q aH aC) (h : post (nI (ht_pc m), nI (ht_fc (ht_pc m)), aH, aC, aI, aS)) : wpY_count post (fn, fo, aH, aC, aI, aS) := by
  refine ⟨7, ?_⟩
  have := ht_ycL (aI := aI) (aS := aS) hm hY h 6 0 rfl
  rw [Nat.pow_zero, Nat.mod_one] at this
  exact this
theorem ht_nthL {post : Int32 → Prop} {R i : Nat} (hR : R < 64) (hi : i < ht_pc R) (h : post (nI (ht_nth R i))) : ∀ d k, k + d = 6 → ht_pc (R % 2 ^ k) ≤ i → wY_nth_5 post (nI R) (nI i) fn fo aH aC aI aS (d + 1) (nI (ht_pc (R % 2 ^ k))) (nI k) := by
  have hp := ht_pcle' R hR
  intro d
  induction d with
  | zero =>
    intro k hk hle
    have e : k = 6 := hk
    subst e
    rw [ht_m26 hR] at hle
    omega
  | succ d ih =>
    intro k hk hle
    have k6 : k < 6 := by omega
    have es := ht_pcs' R hR k k6
    have ihk := ih (k + 1) (by omega)
    refine br_f (nI_ge (b := 6) k6 (by decide)) (ek_if (ht_bit1' R hR k k6) (fun z => pk_eq (ht_pc (R % 2 ^ k)) i (fun e => ?_) (fun e => ?_)) (fun z => ?_))
    · have := ht_nths' R hR k k6 z
      rw [e] at this
      rw [this] at h
      exact h
    · rw [es, z] at ihk
      exact nm_r (nI_1 _) (nm_r (nI_1 k) (ihk (by show ht_pc (R % 2 ^ k) + 1 ≤ i; omega)))
    · rw [es, ht_tf z] at ihk
      exact nm_r (nI_1 k) (ihk hle)
theorem ht_nthW {post : Int32 → Prop} {R i : Nat} (hR : R < 64) (hi : i < ht_pc R) (h : post (nI (ht_nth R i))) : wpY_nth post (fn, fo, aH, aC, aI, aS) (nI R) (nI i) := by
  refine ⟨7, ?_⟩
  have := ht_nthL (fn := fn) (fo := fo) (aH := aH) (aC := aC) (aI := aI) (aS := aS) hR hi h 6 0 rfl
  rw [Nat.pow_zero, Nat.mod_one] at this
  exact this (Nat.zero_le _)
/-! spell -/
theorem ht_sp130 {post : Int32 → SY → Prop} {J : Int32 → Int32 → Int32 → Int32 → Int32 → Int32 → (Nat → Int32) → (Nat → Int32) → (Nat → Int32) → (Nat → Int32) → Prop} {x2 x3 x4 : Int32} {l k j z : Nat} (hY : ht_EY m r p q aH aC) (hj : j < 6) (hz : z ≤ 1000) (hl : l ≤ 2000)
    (h : J x2 x3 x4 (nI (z + p j)) (nI (max l (z + p j + q j))) (nI (k + 1)) aH aC aI (upd aS j (nI z))) : wY_spell_130 post J x2 x3 x4 (nI l) (nI k) (nI j) (nI z) (nI j) fn fo aH aC aI aS := by
  obtain ⟨_, _, eP, eQ, _, bP, bQ⟩ := hY j hj
  have hin : vp_in (nI j) 6 := vp_in_nI hj (by decide)
  have hc : (nI j).toNatClampNeg = j := nI_clamp (by omega)
  have hi1 : vp_in ((3 : Int32) * nI j + 1) 18 := by rw [ht_31]; exact vp_in_nI (by omega) (by decide)
  have hi2 : vp_in ((3 : Int32) * nI j + 2) 18 := by rw [ht_32]; exact vp_in_nI (by omega) (by decide)
  have hc1 : ((3 : Int32) * nI j + 1).toNatClampNeg = 3 * j + 1 := by rw [ht_31]; exact nI_clamp (by omega)
  have hc2 : ((3 : Int32) * nI j + 2).toNatClampNeg = 3 * j + 2 := by rw [ht_32]; exact nI_clamp (by omega)
  refine ⟨hin, nm_r (e' := upd aS j (nI z)) (by rw [hc]) ⟨hin, hi1, nm_r (e' := nI (z + p j)) (by rw [hc, hc1, pk_us, eP, nI_add]) ⟨hi2, pk_le (z + p j + q j) l (fun c => ?_) (fun c => ⟨hi2, nm_r (e' := nI (z + p j + q j)) (by rw [hc2, eQ, nI_add]) ?_⟩) (by rw [hc2, eQ, nI_add])⟩⟩⟩
  · rw [Nat.max_eq_left c] at h
    exact nm_r (nI_1 k) h
  · rw [Nat.max_eq_right (by omega)] at h
    exact nm_r (nI_1 k) h
theorem ht_spL {post : Int32 → SY → Prop} (hm : m < 64) (hY : ht_EY m r p q aH aC) (efn : fn = nI (ht_pc m)) : ∀ d k R c t l aI aS, ht_pc R = d → R < 64 → c < ht_fc d → k + d = ht_pc m → t ≤ 200 + 12 * k → l ≤ 400 + 12 * k →
    (∀ aI' aS', (∀ i, i < k → aI' i = aI i) → (∀ i, i < d → aI' (k + i) = nI ((ht_od d R c).getD i 0)) → (∀ x, ¬ R.testBit x = true → aS' x = aS x) → (∀ x, R.testBit x = true → aS' x = nI (ht_st r p t (ht_od d R c) x)) → post (nI (ht_ln r p q t l (ht_od d R c))) (fn, fo, aH, aC, aI', aS')) →
    wY_spell_22 post fn fo (d + 1) (nI c) (nI (ht_fc d)) (nI R) (nI t) (nI l) (nI k) aH aC aI aS := by
  have hp := ht_pcle' m hm
  subst efn
  intro d
  induction d with
  | zero =>
    intro k R c t l aI aS hpc hR hc hk ht hl h
    have hR0 := ht_pc0' R hR hpc
    refine br_t (nI_le (by omega) (by omega)) (h aI aS (fun _ _ => rfl) (fun i hi => absurd hi (Nat.not_lt_zero _)) (fun _ _ => rfl) (fun x hx => ?_))
    rw [hR0, Nat.zero_testBit] at hx
    exact absurd hx (by decide)
  | succ d ih =>
    intro k R c t l aI aS hpc hR hc hk ht hl h
    have hd := ht_fcd hc
    have hn := ht_nthB hR (show c / ht_fc d < ht_pc R by omega)
    have hF := ht_fcp d
    have hF6 := ht_fcl d (by omega)
    have hF7 := ht_fcl (d + 1) (by omega)
    have hck : (nI k).toNatClampNeg = k := nI_clamp (by omega)
    have h0 : ¬ nI (ht_fc d) = 0 := nI_ne0 hF (by omega)
    have hsub : nI (ht_pc m) - nI k = nI (d + 1) := by rw [pk_sub (by omega)]; exact congrArg nI (by omega)
    refine br_f (nI_ge (by omega) (by omega)) ⟨by rw [hsub]; exact nI_ne0 (by omega) (by omega), nm_r (e' := nI (ht_fc d)) ?_ (br_f (nI_nle hF (by omega)) ⟨h0, br_f (nI_nle hF (by omega)) ⟨h0, ?_⟩⟩)⟩
    · rw [hsub, pk_div (by omega) (by omega) (by omega), ht_fcs, Nat.mul_div_cancel_left _ (by omega)]
    · rw [pk_rem (by omega) hF (by omega), pk_div (by omega) hF (by omega)]
      refine ht_nthW hR (by omega) ?_
      have ihk := ih (k + 1) (ht_rm R (ht_nth R (c / ht_fc d))) (c % ht_fc d)
      generalize hj : ht_nth R (c / ht_fc d) = j at hn ihk
      obtain ⟨_, eR, _, _, bR, bP, bQ⟩ := hY j hn.2
      have hpr := ht_pcrm hR hn.1
      have hi0 : vp_in ((3 : Int32) * nI j) 18 := by rw [ht_3]; exact vp_in_nI (by omega) (by decide)
      have hc0 : ((3 : Int32) * nI j).toNatClampNeg = 3 * j := by rw [ht_3]; exact nI_clamp (by omega)
      have go := ihk (max t (r j) + p j) (max l (max t (r j) + p j + q j)) (upd aI k (nI j)) (upd aS j (nI (max t (r j)))) (by omega) (ht_rm64 hR) (ht_fcm d c) (by omega) (by omega) (by omega) (by
        intro aI' aS' b1 b2 b3 b4
        have eo : ht_od (d + 1) R c = j :: ht_od d (ht_rm R j) (c % ht_fc d) := by
          show ht_nth R (c / ht_fc d) :: ht_od d (ht_rm R (ht_nth R (c / ht_fc d))) (c % ht_fc d) = _
          rw [hj]
        rw [eo] at h
        refine h aI' aS' (fun i hi => ?_) (fun i hi => ?_) (fun x hx => ?_) (fun x hx => ?_)
        · rw [b1 i (by omega), pk_un (by omega)]
        · cases i with
          | zero =>
            rw [Nat.add_zero, b1 k (by omega), pk_us]
            rfl
          | succ i =>
            have := b2 i (by omega)
            rw [show k + 1 + i = k + (i + 1) by omega] at this
            rw [this]
            rfl
        · rw [b3 x (fun z => hx ((ht_rmB hR hn.2).mp z).1), pk_un (show x ≠ j from fun e => hx (e ▸ hn.1))]
        · show _ = nI (if j = x then max t (r j) else ht_st r p (max t (r j) + p j) (ht_od d (ht_rm R j) (c % ht_fc d)) x)
          by_cases e : j = x
          · rw [if_pos e, b3 x (fun z => ((ht_rmB hR hn.2).mp z).2 e.symm), ← e, pk_us]
          · rw [if_neg e]
            exact b4 x ((ht_rmB hR hn.2).mpr ⟨hx, fun z => e z.symm⟩))
      refine nm_r (e' := nI (ht_rm R j)) (ht_rmI' R hR j hn.2) ⟨vp_in_nI (by omega) (by decide), nm_r (e' := upd aI k (nI j)) (by rw [hck]) ⟨hi0, pk_le (r j) t (fun z => ?_) (fun z => ⟨hi0, ?_⟩) (by rw [hc0, eR])⟩⟩
      · rw [Nat.max_eq_left z] at go
        exact ht_sp130 hY hn.2 (by omega) (by omega) go
      · rw [hc0, eR]
        rw [Nat.max_eq_right (by omega)] at go
        exact ht_sp130 hY hn.2 (by omega) (by omega) go
theorem ht_spW {post : Int32 → SY → Prop} {c : Nat} (hm : m < 64) (hY : ht_EY m r p q aH aC) (efn : fn = nI (ht_pc m)) (efo : fo = nI (ht_fc (ht_pc m))) (hc : c < ht_fc (ht_pc m))
    (h : ∀ aI' aS', (∀ i, i < ht_pc m → aI' i = nI ((ht_od (ht_pc m) m c).getD i 0)) → (∀ x, m.testBit x = true → aS' x = nI (ht_st r p 0 (ht_od (ht_pc m) m c) x)) → post (nI (ht_ln r p q 0 0 (ht_od (ht_pc m) m c))) (fn, fo, aH, aC, aI', aS')) : wpY_spell post (fn, fo, aH, aC, aI, aS) (nI c) := by
  refine ht_jobW hm hY ⟨ht_pc m + 1, ?_⟩
  have := ht_spL (fo := fo) (post := post) hm hY efn (ht_pc m) 0 m c 0 0 aI aS rfl hm hc (by omega) (by omega) (by omega) (fun aI' aS' b1 b2 b3 b4 => h aI' aS' (fun i hi => by have := b2 i hi; rw [Nat.zero_add] at this; exact this) b4)
  rw [← efo] at this
  exact this
end
end
section
/-! the reference's loops over all orders -/
theorem ht_cp6 {f g : Nat} : ∀ (s : List Nat) (R : Nat), R < 64 → ht_cp f g R s → ∀ j, j ∈ s → j < 6 := by
  intro s
  induction s with
  | nil => intro R _ _ j hj; exact absurd hj (by simp)
  | cons i s ih =>
    intro R hR hc j hj
    rcases List.mem_cons.mp hj with e | e
    · rw [e]; exact ht_b64 hR hc.1
    · exact ih _ (ht_rm64 hR) hc.2.2 j e
section
variable {m : Nat} {r p q : Nat → Nat} {fn fo : Int32} {aH aC aI aS : Nat → Int32}
theorem ht_ypL {post : Int32 → Prop} {x N : Nat} (hx : x < 6) (hN : N ≤ 6) : ∀ (s : List Nat) (k a : Nat), k + s.length = N → (∀ j, j ∈ s → j < 6) → (∀ i, i < s.length → aI (k + i) = nI (s.getD i 0)) → post (nI (ht_at x s k a)) → wY_place_5 post (nI x) (nI N) fo aH aC aI aS (s.length + 1) (nI a) (nI k) := by
  intro s
  induction s with
  | nil =>
    intro k a hk _ _ h
    have hk' : k + 0 = N := hk
    exact br_t (nI_le (by omega) (by omega)) h
  | cons j s ih =>
    intro k a hk h6 hI h
    have hk' : k + (s.length + 1) = N := hk
    have hj := h6 j (List.mem_cons_self)
    have e0 : aI k = nI j := hI 0 (Nat.succ_pos _)
    have go : ∀ a', ht_at x (j :: s) k a = ht_at x s (k + 1) a' → wY_place_5 post (nI x) (nI N) fo aH aC aI aS (s.length + 1) (nI a') (nI (k + 1)) := by
      intro a' e
      rw [e] at h
      refine ih (k + 1) a' (by omega) (fun i hi => h6 i (List.mem_cons_of_mem _ hi)) (fun i hi => ?_) h
      have := hI (i + 1) (Nat.succ_lt_succ hi)
      rw [show k + 1 + i = k + (i + 1) by omega, this]
      rfl
    refine br_f (nI_ge (by omega) (by omega)) ⟨vp_in_nI (by omega) (by decide), pk_eq j x (fun z => nm_r (nI_1 k) (go k ?_)) (fun z => nm_r (nI_1 k) (go a ?_)) (by rw [nI_clamp (by omega)]; exact e0)⟩
    · show ht_at x s (k + 1) (if j = x then k else a) = _
      rw [if_pos z]
    · show ht_at x s (k + 1) (if j = x then k else a) = _
      rw [if_neg z]
theorem ht_ypW {post : Int32 → Prop} {x : Nat} {s : List Nat} (hm : m < 64) (hx : x < 6) (hc : ht_cp 6 0 m s) (hI : ∀ i, i < ht_pc m → aI i = nI (s.getD i 0)) (h : post (nI (ht_at x s 0 6))) : wpY_place post (nI (ht_pc m), fo, aH, aC, aI, aS) (nI x) := by
  have hl := ht_cpl s m hm hc
  refine ⟨s.length + 1, ht_ypL hx (ht_pcle' m hm) s 0 6 (by omega) (ht_cp6 s m hm hc) (fun i hi => ?_) h⟩
  rw [Nat.zero_add]
  exact hI i (by omega)
/-- the values of the orders below number c that satisfy P -/
def ht_vc (m : Nat) (r p q : Nat → Nat) (P : List Nat → Prop) (c : Nat) : Nat → Prop := fun y => ∃ i, i < c ∧ P (ht_od (ht_pc m) m i) ∧ y = ht_ln r p q 0 0 (ht_od (ht_pc m) m i)
theorem ht_vcS {P : List Nat → Prop} {c : Nat} (y : Nat) : ht_vc m r p q P (c + 1) y ↔ (ht_vc m r p q P c y ∨ (P (ht_od (ht_pc m) m c) ∧ y = ht_ln r p q 0 0 (ht_od (ht_pc m) m c))) := by
  constructor
  · rintro ⟨i, hi, h⟩
    by_cases e : i = c
    · rw [e] at h; exact Or.inr h
    · exact Or.inl ⟨i, by omega, h⟩
  · rintro (⟨i, hi, h⟩ | h)
    · exact ⟨i, by omega, h⟩
    · exact ⟨c, by omega, h⟩
theorem ht_vcN {P : List Nat → Prop} {c b : Nat} (h : ht_bs (ht_vc m r p q P c) 100000 b) (hn : P (ht_od (ht_pc m) m c) → b ≤ ht_ln r p q 0 0 (ht_od (ht_pc m) m c)) : ht_bs (ht_vc m r p q P (c + 1)) 100000 b :=
  ht_bs_2 ht_vcS h (ht_bs_s (fun x hx => by rw [hx.2]; exact hn hx.1))
theorem ht_vcY {P : List Nat → Prop} {c b : Nat} (h : ht_bs (ht_vc m r p q P c) 100000 b) (hp : P (ht_od (ht_pc m) m c)) (hb : ht_ln r p q 0 0 (ht_od (ht_pc m) m c) ≤ b) : ht_bs (ht_vc m r p q P (c + 1)) 100000 (ht_ln r p q 0 0 (ht_od (ht_pc m) m c)) :=
  ht_bs_2 ht_vcS h ⟨hb, fun x hx => by rw [hx.2]; exact Nat.le_refl _, Or.inr ⟨hp, rfl⟩⟩
theorem ht_vc0 {P : List Nat → Prop} : ht_bs (ht_vc m r p q P 0) 100000 100000 := ht_bs_s (fun x hx => by
  obtain ⟨i, hi, _⟩ := hx
  exact absurd hi (Nat.not_lt_zero _))
theorem ht_vcA {P : List Nat → Prop} (hm : m < 64) (y : Nat) : ht_vc m r p q P (ht_fc (ht_pc m)) y ↔ ∃ s, ht_cp 6 0 m s ∧ P s ∧ y = ht_ln r p q 0 0 s := by
  constructor
  · rintro ⟨i, hi, h1, h2⟩
    exact ⟨_, ht_odcp _ m i hm rfl hi, h1, h2⟩
  · rintro ⟨s, hc, h1, h2⟩
    obtain ⟨i, hi, e⟩ := ht_odx _ s m hm rfl hc
    subst e
    exact ⟨i, hi, h1, h2⟩
theorem ht_ylb (hB : ∀ j, j < 6 → r j ≤ 200 ∧ p j ≤ 12 ∧ q j ≤ 200) (hm : m < 64) {s : List Nat} (hc : ht_cp 6 0 m s) : ht_ln r p q 0 0 s < 1000 := by
  have := ht_lnU r p q 6 0 hB _ m 0 0 hm hc
  have hp := ht_pcle' m hm
  omega
theorem ht_EY3 (hY : ht_EY m r p q aH aC) : ∀ j, j < 6 → r j ≤ 200 ∧ p j ≤ 12 ∧ q j ≤ 200 := fun j hj => (hY j hj).2.2.2.2
def ht_bf (f g : Nat) (s : List Nat) : Prop := f = g ∨ ht_at f s 0 6 < ht_at g s 0 6
theorem ht_at6 {x : Nat} : ∀ (s : List Nat) (k a : Nat), ht_at x s k a ≤ max a (k + s.length) := by
  intro s
  induction s with
  | nil => intro k a; show a ≤ _; omega
  | cons j s ih =>
    intro k a
    show ht_at x s (k + 1) (if j = x then k else a) ≤ max a (k + (s.length + 1))
    have := ih (k + 1) (if j = x then k else a)
    split at this
    · rw [if_pos (by assumption)]; omega
    · rw [if_neg (by assumption)]; omega
theorem ht_loL {post : Int32 → SY → Prop} {f g : Nat} (hm : m < 64) (hY : ht_EY m r p q aH aC) (hf : f < 6) (hg : g < 6)
    (h : ∀ b aI' aS', ht_bs (ht_vc m r p q (ht_bf f g) (ht_fc (ht_pc m))) 100000 b → post (nI b) (nI (ht_pc m), nI (ht_fc (ht_pc m)), aH, aC, aI', aS')) :
    ∀ d c, c + d = ht_fc (ht_pc m) → ∀ b aI aS, ht_bs (ht_vc m r p q (ht_bf f g) c) 100000 b → wY_leastOf_10 post (nI f) (nI g) (d + 1) (nI b) (nI c) (nI (ht_pc m)) (nI (ht_fc (ht_pc m))) aH aC aI aS := by
  have hp := ht_pcle' m hm
  have hF := ht_fcl (ht_pc m) hp
  intro d
  induction d with
  | zero =>
    intro c hc b aI aS hb
    have e : c = ht_fc (ht_pc m) := hc
    rw [e] at hb ⊢
    exact br_t (nI_le (Nat.le_refl _) (by omega)) (h b aI aS hb)
  | succ d ih =>
    intro c hc b aI aS hb
    have hlt : c < ht_fc (ht_pc m) := by omega
    have hcp := ht_odcp _ m c hm rfl hlt
    have hlb := ht_ylb (ht_EY3 hY) hm hcp
    have hb1 := hb.1
    refine br_f (nI_ge (by omega) (by omega)) (br_f (nI_ge (b := 720) (by omega) (by decide)) (ht_spW hm hY rfl rfl hlt (fun aI' aS' c1 c2 => ?_)))
    have hlen := ht_odl (ht_pc m) m c
    have vN := ht_vcN (P := ht_bf f g) hb
    have vY := ht_vcY (P := ht_bf f g) hb
    generalize hs : ht_od (ht_pc m) m c = s at hcp hlb c1 c2 vN vY hlen ⊢
    have a1 := ht_at6 (x := f) s 0 6
    have a2 := ht_at6 (x := g) s 0 6
    refine pk_le b (ht_ln r p q 0 0 s) (fun z => nm_r (nI_1 c) (ih (c + 1) (by omega) _ _ _ (vN (fun _ => z)))) (fun z => pk_eq f g (fun e => ?_) (fun e => ?_))
    · exact nm_r (nI_1 c) (ih (c + 1) (by omega) _ _ _ (vY (Or.inl e) (by omega)))
    · refine ht_ypW hm hf hcp c1 (ht_ypW hm hg hcp c1 (pk_le (ht_at g s 0 6) (ht_at f s 0 6) (fun w => ?_) (fun w => ?_)))
      · refine nm_r (nI_1 c) (ih (c + 1) (by omega) _ _ _ (vN (fun w2 => ?_)))
        rcases w2 with w2 | w2
        · exact absurd w2 e
        · omega
      · exact nm_r (nI_1 c) (ih (c + 1) (by omega) _ _ _ (vY (Or.inr w) (by omega)))
theorem ht_loW {post : Int32 → SY → Prop} {f g : Nat} (hm : m < 64) (hY : ht_EY m r p q aH aC) (hf : f < 6) (hg : g < 6)
    (h : ∀ b aI' aS', ht_bs (ht_vc m r p q (ht_bf f g) (ht_fc (ht_pc m))) 100000 b → post (nI b) (nI (ht_pc m), nI (ht_fc (ht_pc m)), aH, aC, aI', aS')) : wpY_leastOf post (fn, fo, aH, aC, aI, aS) (nI f) (nI g) :=
  ht_ycW (fn := fn) (fo := fo) hm hY ⟨ht_fc (ht_pc m) + 1, ht_loL hm hY hf hg h _ 0 (Nat.zero_add _) 100000 aI aS ht_vc0⟩
theorem ht_lo0 {b : Nat} (hm : m < 64) {f : Nat} (h : ht_bs (ht_vc m r p q (ht_bf f f) (ht_fc (ht_pc m))) 100000 b) : ht_bs (ht_vs r p q 6 0 m 0 0) 100000 b := by
  refine ht_bs_e (fun y => ?_) h
  rw [ht_vcA hm]
  constructor
  · rintro ⟨s, a, _, c⟩; exact ⟨s, a, c⟩
  · rintro ⟨s, a, c⟩; exact ⟨s, a, Or.inl rfl, c⟩
theorem ht_lofg {b f g : Nat} (hm : m < 64) (hfg : f ≠ g) (mf : m.testBit f = true) (mg : m.testBit g = true) (h : ht_bs (ht_vc m r p q (ht_bf f g) (ht_fc (ht_pc m))) 100000 b) : ht_bs (ht_vs r p q f g m 0 0) 100000 b := by
  refine ht_bs_e (fun y => ?_) h
  rw [ht_vcA hm]
  constructor
  · rintro ⟨s, a, b, c⟩
    rcases b with e | e
    · exact absurd e hfg
    · exact ⟨s, (ht_cp_at hfg s m 0 6 6 hm mf mg).mpr ⟨a, e⟩, c⟩
  · rintro ⟨s, a, c⟩
    have := (ht_cp_at hfg s m 0 6 6 hm mf mg).mp a
    exact ⟨s, this.1, Or.inr this.2, c⟩
/-! the first best order -/
theorem ht_beL {post : SY → Prop} {v c0 : Nat} (hm : m < 64) (hY : ht_EY m r p q aH aC) (hv : v < 100000) (h0 : c0 < ht_fc (ht_pc m)) (hv0 : ht_ln r p q 0 0 (ht_od (ht_pc m) m c0) = v) (hno : ∀ c, c < c0 → ht_ln r p q 0 0 (ht_od (ht_pc m) m c) ≠ v)
    (h : ∀ aI' aS', (∀ i, i < ht_pc m → aI' i = nI ((ht_od (ht_pc m) m c0).getD i 0)) → (∀ x, m.testBit x = true → aS' x = nI (ht_st r p 0 (ht_od (ht_pc m) m c0) x)) → post (nI (ht_pc m), nI (ht_fc (ht_pc m)), aH, aC, aI', aS')) :
    ∀ d c, c + d = c0 → ∀ aI aS, wY_best_9 post (nI v) (d + 1) (nI c) (nI (ht_pc m)) (nI (ht_fc (ht_pc m))) aH aC aI aS := by
  have hp := ht_pcle' m hm
  have hF := ht_fcl (ht_pc m) hp
  intro d
  induction d with
  | zero =>
    intro c hc aI aS
    have e : c = c0 := hc
    subst e
    refine br_f (nI_ge (b := 720) (by omega) (by decide)) (ht_spW hm hY rfl rfl h0 (fun aI' aS' c1 c2 => br_t ?_ (h aI' aS' c1 c2)))
    rw [hv0]
  | succ d ih =>
    intro c hc aI aS
    have hlt : c < ht_fc (ht_pc m) := by omega
    have hlb := ht_ylb (ht_EY3 hY) hm (ht_odcp _ m c hm rfl hlt)
    refine br_f (nI_ge (b := 720) (by omega) (by decide)) (ht_spW hm hY rfl rfl hlt (fun aI' aS' c1 c2 => pk_eq (ht_ln r p q 0 0 (ht_od (ht_pc m) m c)) v (fun z => absurd z (hno c (by omega))) (fun z => nm_r (nI_1 c) (ih (c + 1) (by omega) aI' aS'))))
theorem ht_beW {post : SY → Prop} {v : Nat} {s : List Nat} (hm : m < 64) (hY : ht_EY m r p q aH aC) (hv : v < 100000) (hb : ht_bs (ht_vs r p q 6 0 m 0 0) 100000 v) (hg : ht_gr r p q v m 0 0 s)
    (h : ∀ aI' aS', (∀ i, i < ht_pc m → aI' i = nI (s.getD i 0)) → (∀ x, m.testBit x = true → aS' x = nI (ht_st r p 0 s x)) → post (nI (ht_pc m), nI (ht_fc (ht_pc m)), aH, aC, aI', aS')) : wpY_best post (fn, fo, aH, aC, aI, aS) := by
  refine ht_loW (fn := fn) (fo := fo) (f := 0) (g := 0) hm hY (by decide) (by decide) (fun b aI' aS' c1 => ?_)
  have e := ht_bs_u (ht_lo0 hm c1) hb
  subst e
  obtain ⟨c0, h0, e0, hno⟩ := ht_grod (ht_pc m) s m 0 0 hm rfl hg
  subst e0
  exact ⟨c0 + 1, ht_beL hm hY hv h0 (ht_grv _ _ _ _ hg) hno h c0 0 (Nat.zero_add _) aI' aS'⟩
/-! the orders that begin with a job -/
theorem ht_lfL {post : Int32 → SY → Prop} {j : Nat} (hm : m < 64) (hY : ht_EY m r p q aH aC) (hj : j < 6) (h0 : 0 < ht_pc m)
    (h : ∀ b aI' aS', ht_bs (ht_vc m r p q (fun s => s.getD 0 0 = j) (ht_fc (ht_pc m))) 100000 b → post (nI b) (nI (ht_pc m), nI (ht_fc (ht_pc m)), aH, aC, aI', aS')) :
    ∀ d c, c + d = ht_fc (ht_pc m) → ∀ b aI aS, ht_bs (ht_vc m r p q (fun s => s.getD 0 0 = j) c) 100000 b → wY_leastFirst_19 post (nI j) (d + 1) (nI b) (nI c) (nI (ht_pc m)) (nI (ht_fc (ht_pc m))) aH aC aI aS := by
  have hp := ht_pcle' m hm
  have hF := ht_fcl (ht_pc m) hp
  intro d
  induction d with
  | zero =>
    intro c hc b aI aS hb
    have e : c = ht_fc (ht_pc m) := hc
    rw [e] at hb ⊢
    exact br_t (nI_le (Nat.le_refl _) (by omega)) (h b aI aS hb)
  | succ d ih =>
    intro c hc b aI aS hb
    have hlt : c < ht_fc (ht_pc m) := by omega
    have hcp := ht_odcp _ m c hm rfl hlt
    have hlb := ht_ylb (ht_EY3 hY) hm hcp
    have hb1 := hb.1
    have hlen := ht_odl (ht_pc m) m c
    refine br_f (nI_ge (by omega) (by omega)) (br_f (nI_ge (b := 720) (by omega) (by decide)) (ht_spW hm hY rfl rfl hlt (fun aI' aS' c1 c2 => ?_)))
    have vN := ht_vcN (P := fun s => s.getD 0 0 = j) hb
    have vY := ht_vcY (P := fun s => s.getD 0 0 = j) hb
    have h6 := ht_cp6 _ m hm hcp
    generalize hs : ht_od (ht_pc m) m c = s at hcp hlb c1 c2 vN vY hlen h6 ⊢
    have hs6 : s.getD 0 0 < 6 := by
      cases s with
      | nil => decide
      | cons i s => exact h6 i List.mem_cons_self
    refine pk_eq (s.getD 0 0) j (fun z => pk_le b (ht_ln r p q 0 0 s) (fun w => ?_) (fun w => ?_)) (fun z => ?_) (c1 0 h0)
    · exact nm_r (nI_1 c) (ih (c + 1) (by omega) _ _ _ (vN (fun _ => w)))
    · exact nm_r (nI_1 c) (ih (c + 1) (by omega) _ _ _ (vY z (by omega)))
    · exact nm_r (nI_1 c) (ih (c + 1) (by omega) _ _ _ (vN (fun w => absurd w z)))
theorem ht_lf0 {b j : Nat} (hm : m < 64) (mj : m.testBit j = true) (h : ht_bs (ht_vc m r p q (fun s => s.getD 0 0 = j) (ht_fc (ht_pc m))) 100000 b) : ht_bs (ht_vs r p q 6 0 (ht_rm m j) (max 0 (r j) + p j) (max 0 (max 0 (r j) + p j + q j))) 100000 b := by
  refine ht_bs_e (fun y => ?_) h
  rw [ht_vcA hm]
  constructor
  · rintro ⟨s, a, b, c⟩
    cases s with
    | nil =>
      have h0 : m = 0 := a
      rw [h0, Nat.zero_testBit] at mj
      exact absurd mj (by decide)
    | cons i s =>
      have e : i = j := b
      subst e
      exact ⟨s, a.2.2, c⟩
  · rintro ⟨s, a, c⟩
    exact ⟨j :: s, ⟨mj, ht_n6 hm _ _, a⟩, rfl, c⟩
end
end
section
/-! the reference's bounds of sets -/
def ht_ps (g : Nat → Nat) : Nat → Nat
  | 0 => 0
  | k + 1 => ht_ps g k + g k
theorem ht_ps6 (g : Nat → Nat) : ht_ps g 6 = ht_sm g := by
  show 0 + g 0 + g 1 + g 2 + g 3 + g 4 + g 5 = _
  rw [Nat.zero_add]
  rfl
theorem ht_psB {g : Nat → Nat} {B : Nat} (h : ∀ i, i < 6 → g i ≤ B) : ∀ k, k ≤ 6 → ht_ps g k ≤ k * B := by
  intro k
  induction k with
  | zero => intro _; exact Nat.zero_le _
  | succ k ih =>
    intro hk
    have a := ih (by omega)
    have b := h k (by omega)
    show ht_ps g k + g k ≤ (k + 1) * B
    rw [Nat.succ_mul]
    omega
def ht_lm (g : Nat → Nat) (S k x : Nat) : Prop := (∀ i, i < k → S.testBit i = true → x ≤ g i) ∧ (x = 100 ∨ ∃ i, i < k ∧ S.testBit i = true ∧ g i = x)
theorem ht_lm1 {g : Nat → Nat} {S k x : Nat} (h : ht_lm g S k x) (hk : S.testBit k = true) : ht_lm g S (k + 1) (min x (g k)) := by
  refine ⟨lt_s (fun i hi z => ?_) (fun _ => Nat.min_le_right _ _), ?_⟩
  · have := h.1 i hi z
    omega
  · by_cases c : x ≤ g k
    · rw [Nat.min_eq_left c]
      rcases h.2 with e | ⟨i, a, b⟩
      · exact Or.inl e
      · exact Or.inr ⟨i, by omega, b⟩
    · rw [Nat.min_eq_right (by omega)]
      exact Or.inr ⟨k, by omega, hk, rfl⟩
theorem ht_lm0 {g : Nat → Nat} {S k x : Nat} (h : ht_lm g S k x) (hk : ¬ S.testBit k = true) : ht_lm g S (k + 1) x := by
  refine ⟨lt_s h.1 (fun z => absurd z hk), ?_⟩
  rcases h.2 with e | ⟨i, a, b⟩
  · exact Or.inl e
  · exact Or.inr ⟨i, by omega, b⟩
theorem ht_lmB {g : Nat → Nat} {S k x : Nat} (h : ht_lm g S k x) (hk : k ≤ 6) (hB : ∀ i, i < 6 → g i ≤ 200) : x ≤ 200 := by
  rcases h.2 with e | ⟨i, a, _, c⟩
  · omega
  · have := hB i (by omega)
    omega
theorem ht_sub' : ∀ S, S < 64 → ∀ m, m < 64 → (nI S &&& (nI m ^^^ (-1)) = 0 ↔ S &&& m = S) := by decide +kernel
theorem ht_ne0 {S : Nat} (hS : S < 64) (h0 : S ≠ 0) : ∃ i, i < 6 ∧ S.testBit i = true := by
  have hp : 0 < ht_pc S := by
    apply Classical.byContradiction
    intro z
    exact h0 (ht_pc0' S hS (by omega))
  exact ⟨_, (ht_nthB hS hp).2, (ht_nthB hS hp).1⟩
def ht_U (m : Nat) (r p q : Nat → Nat) (S μ : Nat) : Prop := ∀ S', 1 ≤ S' → S' < S → S' &&& m = S' → ∀ ρ κ, (∀ i, S'.testBit i = true → ρ ≤ r i) → (∀ i, S'.testBit i = true → κ ≤ q i) → ρ + ht_sm (ht_pp p S') + κ ≤ μ
def ht_V (m : Nat) (r p q : Nat → Nat) (μ : Nat) : Prop := μ = 0 ∨ ∃ S' ρ κ, S' < 64 ∧ S' ≠ 0 ∧ S' &&& m = S' ∧ (∀ i, S'.testBit i = true → ρ ≤ r i) ∧ (∀ i, S'.testBit i = true → κ ≤ q i) ∧ μ = ρ + ht_sm (ht_pp p S') + κ
section
variable {m : Nat} {r p q : Nat → Nat} {fn fo : Int32} {aH aC aI aS : Nat → Int32}
theorem ht_b55 {post : Int32 → Prop} {J : Int32 → Int32 → Int32 → Int32 → Prop} {x1 z0 : Int32} {σ κ k : Nat} (hY : ht_EY m r p q aH aC) (hk : k < 6) (hσ : σ ≤ 1000) (hκ : κ ≤ 1000) (h : J z0 (nI (σ + p k)) (nI (min κ (q k))) (nI (k + 1))) : wY_bound_55 post J x1 (nI σ) (nI κ) (nI k) z0 fn fo aH aC aI aS := by
  obtain ⟨_, _, eP, eQ, _, bP, bQ⟩ := hY k hk
  have hi1 : vp_in ((3 : Int32) * nI k + 1) 18 := by rw [ht_31]; exact vp_in_nI (by omega) (by decide)
  have hi2 : vp_in ((3 : Int32) * nI k + 2) 18 := by rw [ht_32]; exact vp_in_nI (by omega) (by decide)
  have hc1 : ((3 : Int32) * nI k + 1).toNatClampNeg = 3 * k + 1 := by rw [ht_31]; exact nI_clamp (by omega)
  have hc2 : ((3 : Int32) * nI k + 2).toNatClampNeg = 3 * k + 2 := by rw [ht_32]; exact nI_clamp (by omega)
  refine ⟨hi1, nm_r (e' := nI (σ + p k)) (by rw [hc1, eP, nI_add]) ⟨hi2, pk_le κ (q k) (fun z => ?_) (fun z => ⟨hi2, nm_r (e' := nI (q k)) (by rw [hc2, eQ]) ?_⟩) rfl (by rw [hc2, eQ])⟩⟩
  · rw [Nat.min_eq_left z] at h
    exact nm_r (nI_1 k) h
  · rw [Nat.min_eq_right (by omega)] at h
    exact nm_r (nI_1 k) h
theorem ht_bdL {post : Int32 → Prop} {S : Nat} (hS : S < 64) (hY : ht_EY m r p q aH aC) (h : ∀ ρ κ, ht_lm r S 6 ρ → ht_lm q S 6 κ → post (nI (ρ + ht_sm (ht_pp p S) + κ))) : ∀ d k, k + d = 6 → ∀ ρ κ, ht_lm r S k ρ → ht_lm q S k κ → wY_bound_12 post (nI S) fn fo aH aC aI aS (d + 1) (nI ρ) (nI (ht_ps (ht_pp p S) k)) (nI κ) (nI k) := by
  have h3 := ht_EY3 hY
  intro d
  induction d with
  | zero =>
    intro k hk ρ κ hρ hκ
    have e : k = 6 := hk
    subst e
    have := h ρ κ hρ hκ
    rw [← nI_add, ← nI_add, ← ht_ps6] at this
    exact br_t (nI_le (b := 6) (by decide) (by decide)) this
  | succ d ih =>
    intro k hk ρ κ hρ hκ
    have k6 : k < 6 := by omega
    obtain ⟨_, eR, _, _, bR, bP, bQ⟩ := hY k k6
    have b1 := ht_lmB hρ (by omega) (fun i hi => (h3 i hi).1)
    have b2 := ht_lmB hκ (by omega) (fun i hi => (h3 i hi).2.2)
    have b3 := ht_psB (g := ht_pp p S) (B := 12) (by
      intro i hi
      have := (h3 i hi).2.1
      unfold ht_pp
      split
      · exact this
      · exact Nat.zero_le _) k (by omega)
    have hi0 : vp_in ((3 : Int32) * nI k) 18 := by rw [ht_3]; exact vp_in_nI (by omega) (by decide)
    have hc0 : ((3 : Int32) * nI k).toNatClampNeg = 3 * k := by rw [ht_3]; exact nI_clamp (by omega)
    refine br_f (nI_ge (b := 6) k6 (by decide)) (ek_if (ht_bit1' S hS k k6) (fun z => ⟨hi0, ?_⟩) (fun z => nm_r (nI_1 k) ?_))
    · have ihk := ih (k + 1) (by omega) (min ρ (r k)) (min κ (q k)) (ht_lm1 hρ z) (ht_lm1 hκ z)
      have ep : ht_ps (ht_pp p S) (k + 1) = ht_ps (ht_pp p S) k + p k := by
        show ht_ps (ht_pp p S) k + (if S.testBit k = true then p k else 0) = _
        rw [if_pos z]
      rw [ep] at ihk
      refine pk_le ρ (r k) (fun c => ?_) (fun c => ⟨hi0, ?_⟩) rfl (by rw [hc0, eR])
      · rw [Nat.min_eq_left c] at ihk
        exact ht_b55 hY k6 (by omega) (by omega) ihk
      · rw [Nat.min_eq_right (by omega)] at ihk
        rw [hc0, eR]
        exact ht_b55 hY k6 (by omega) (by omega) ihk
    · have ihk := ih (k + 1) (by omega) ρ κ (ht_lm0 hρ z) (ht_lm0 hκ z)
      have ep : ht_ps (ht_pp p S) (k + 1) = ht_ps (ht_pp p S) k := by
        show ht_ps (ht_pp p S) k + (if S.testBit k = true then p k else 0) = _
        rw [if_neg z]
        rfl
      rw [ep] at ihk
      exact ihk
theorem ht_bdW {post : Int32 → Prop} {S : Nat} (hS : S < 64) (hY : ht_EY m r p q aH aC) (h : ∀ ρ κ, ht_lm r S 6 ρ → ht_lm q S 6 κ → post (nI (ρ + ht_sm (ht_pp p S) + κ))) : wpY_bound post (fn, fo, aH, aC, aI, aS) (nI S) :=
  ⟨7, ht_bdL hS hY h 6 0 rfl 100 100 ⟨fun i hi => absurd hi (Nat.not_lt_zero _), Or.inl rfl⟩ ⟨fun i hi => absurd hi (Nat.not_lt_zero _), Or.inl rfl⟩⟩
theorem ht_yiL {post : Int32 → Prop} (hm : m < 64) (hY : ht_EY m r p q aH aC) (h40 : ∀ j, j < 6 → r j ≤ 40 ∧ q j ≤ 40) (h : ∀ μ, ht_U m r p q 64 μ → ht_V m r p q μ → post (nI μ)) : ∀ d S, S + d = 64 → 1 ≤ S → ∀ μ, μ ≤ 1000 → ht_U m r p q S μ → ht_V m r p q μ → wY_interrupted_4 post fn fo aH aC aI aS (d + 1) (nI μ) (nI S) := by
  have h3 := ht_EY3 hY
  intro d
  induction d with
  | zero =>
    intro S hS _ μ _ hU hV
    have e : S = 64 := hS
    subst e
    exact br_t (nI_le (b := 64) (by decide) (by decide)) (h μ hU hV)
  | succ d ih =>
    intro S hS h1 μ hμ hU hV
    have s6 : S < 64 := by omega
    have nx : ∀ μ', μ' ≤ 1000 → μ ≤ μ' → ht_V m r p q μ' → (S &&& m = S → ∀ ρ κ, (∀ i, S.testBit i = true → ρ ≤ r i) → (∀ i, S.testBit i = true → κ ≤ q i) → ρ + ht_sm (ht_pp p S) + κ ≤ μ') → wY_interrupted_4 post fn fo aH aC aI aS (d + 1) (nI μ') (nI (S + 1)) := by
      intro μ' a1 a2 a3 a4
      refine ih (S + 1) (by omega) (by omega) μ' a1 ?_ a3
      intro S' c1 c2 c3 ρ κ c4 c5
      by_cases e : S' = S
      · subst e
        exact a4 c3 ρ κ c4 c5
      · have := hU S' c1 (by omega) c3 ρ κ c4 c5
        omega
    refine br_f (nI_ge (b := 64) s6 (by decide)) (ht_bdW s6 hY (fun ρ0 κ0 hρ hκ => ht_jobW hm hY (ek_if (ht_sub' S s6 m hm) (fun z => ?_) (fun z => nm_r (nI_1 S) (nx μ hμ (Nat.le_refl _) hV (fun z' => absurd z' z))))))
    obtain ⟨i0, i6, hi0⟩ := ht_ne0 s6 (by omega)
    have e1 : ∃ i, S.testBit i = true ∧ r i = ρ0 := by
      rcases hρ.2 with e | ⟨i, _, b, c⟩
      · have := hρ.1 i0 i6 hi0
        have := (h40 i0 i6).1
        omega
      · exact ⟨i, b, c⟩
    have e2 : ∃ i, S.testBit i = true ∧ q i = κ0 := by
      rcases hκ.2 with e | ⟨i, _, b, c⟩
      · have := hκ.1 i0 i6 hi0
        have := (h40 i0 i6).2
        omega
      · exact ⟨i, b, c⟩
    have up : ∀ ρ κ, (∀ i, S.testBit i = true → ρ ≤ r i) → (∀ i, S.testBit i = true → κ ≤ q i) → ρ + ht_sm (ht_pp p S) + κ ≤ ρ0 + ht_sm (ht_pp p S) + κ0 := by
      intro ρ κ a b
      obtain ⟨i, ai, bi⟩ := e1
      obtain ⟨j, aj, bj⟩ := e2
      have := a i ai
      have := b j aj
      omega
    have b1 := ht_lmB hρ (by omega) (fun i hi => (h3 i hi).1)
    have b2 := ht_lmB hκ (by omega) (fun i hi => (h3 i hi).2.2)
    have b3 := ht_psB (g := ht_pp p S) (B := 12) (by
      intro i hi
      have := (h3 i hi).2.1
      unfold ht_pp
      split
      · exact this
      · exact Nat.zero_le _) 6 (by omega)
    rw [ht_ps6] at b3
    refine pk_le (ρ0 + ht_sm (ht_pp p S) + κ0) μ (fun c => ?_) (fun c => ?_)
    · refine nm_r (nI_1 S) (nx μ hμ (Nat.le_refl _) hV (fun _ ρ κ a b => ?_))
      have := up ρ κ a b
      omega
    · refine nm_r (nI_1 S) (nx _ (by omega) (by omega) (Or.inr ⟨S, ρ0, κ0, s6, by omega, z, ?_, ?_, rfl⟩) (fun _ => up))
      · intro i hi
        exact hρ.1 i (ht_b64 s6 hi) hi
      · intro i hi
        exact hκ.1 i (ht_b64 s6 hi) hi
theorem ht_yiW {post : Int32 → Prop} (hm : m < 64) (hY : ht_EY m r p q aH aC) (h40 : ∀ j, j < 6 → r j ≤ 40 ∧ q j ≤ 40) (h : ∀ μ, ht_U m r p q 64 μ → ht_V m r p q μ → post (nI μ)) : wpY_interrupted post (fn, fo, aH, aC, aI, aS) :=
  ⟨64, ht_yiL hm hY h40 h 63 1 rfl (Nat.le_refl _) 0 (by omega) (fun S' a b => by omega) (Or.inl rfl)⟩
end
/-! both sides' plans with interruptions have one length -/
def ht_mk (D : Nat → Bool) : Nat := ht_bn (D 0) + 2 * ht_bn (D 1) + 4 * ht_bn (D 2) + 8 * ht_bn (D 3) + 16 * ht_bn (D 4) + 32 * ht_bn (D 5)
theorem ht_mkA' : ∀ b0 b1 b2 b3 b4 b5 : Bool, ht_bn b0 + 2 * ht_bn b1 + 4 * ht_bn b2 + 8 * ht_bn b3 + 16 * ht_bn b4 + 32 * ht_bn b5 < 64 ∧ (ht_bn b0 + 2 * ht_bn b1 + 4 * ht_bn b2 + 8 * ht_bn b3 + 16 * ht_bn b4 + 32 * ht_bn b5).testBit 0 = b0 ∧ (ht_bn b0 + 2 * ht_bn b1 + 4 * ht_bn b2 + 8 * ht_bn b3 + 16 * ht_bn b4 + 32 * ht_bn b5).testBit 1 = b1 ∧ (ht_bn b0 + 2 * ht_bn b1 + 4 * ht_bn b2 + 8 * ht_bn b3 + 16 * ht_bn b4 + 32 * ht_bn b5).testBit 2 = b2 ∧ (ht_bn b0 + 2 * ht_bn b1 + 4 * ht_bn b2 + 8 * ht_bn b3 + 16 * ht_bn b4 + 32 * ht_bn b5).testBit 3 = b3 ∧ (ht_bn b0 + 2 * ht_bn b1 + 4 * ht_bn b2 + 8 * ht_bn b3 + 16 * ht_bn b4 + 32 * ht_bn b5).testBit 4 = b4 ∧ (ht_bn b0 + 2 * ht_bn b1 + 4 * ht_bn b2 + 8 * ht_bn b3 + 16 * ht_bn b4 + 32 * ht_bn b5).testBit 5 = b5 := by decide +kernel
theorem ht_mk64 (D : Nat → Bool) : ht_mk D < 64 := (ht_mkA' _ _ _ _ _ _).1
theorem ht_mkB (D : Nat → Bool) : ∀ j, j < 6 → (ht_mk D).testBit j = D j := by
  have h := ht_mkA' (D 0) (D 1) (D 2) (D 3) (D 4) (D 5)
  exact ht_6 h.2.1 h.2.2.1 h.2.2.2.1 h.2.2.2.2.1 h.2.2.2.2.2.1 h.2.2.2.2.2.2
theorem ht_sbX' : ∀ m, m < 64 → ∀ R, R < 64 → (∀ j, j < 6 → R.testBit j = true → m.testBit j = true) → R &&& m = R := by decide +kernel
theorem ht_same {m : Nat} {r p q : Nat → Nat} {len μ : Nat} (hm : m < 64) (hp : ∀ j, j < 6 → m.testBit j = true → 1 ≤ p j) (hS : ht_Sp (ht_pp p m) r q 0 len) (hU : ht_U m r p q 64 μ) (hV : ht_V m r p q μ) : len = μ := by
  have h1 : len ≤ μ := by
    apply hS.1
    intro κ τ hx
    have hB := ht_mkB (fun j => m.testBit j && decide (κ ≤ q j ∧ τ ≤ max 0 (r j)))
    have h64 := ht_mk64 (fun j => m.testBit j && decide (κ ≤ q j ∧ τ ≤ max 0 (r j)))
    generalize ht_mk (fun j => m.testBit j && decide (κ ≤ q j ∧ τ ≤ max 0 (r j))) = S at hB h64
    have hB2 : ∀ j, S.testBit j = true → m.testBit j = true ∧ κ ≤ q j ∧ τ ≤ max 0 (r j) := by
      intro j hj
      have := hB j (ht_b64 h64 hj)
      rw [hj] at this
      have h2 := this.symm
      simp only [Bool.and_eq_true, decide_eq_true_eq] at h2
      exact h2
    have e : ht_sm (fun j => if κ ≤ q j ∧ τ ≤ max 0 (r j) then ht_pp p m j else 0) = ht_sm (ht_pp p S) := ht_smE (by
      intro i hi
      have hb := hB i hi
      unfold ht_pp
      by_cases a : m.testBit i = true
      · by_cases b : κ ≤ q i ∧ τ ≤ max 0 (r i)
        · rw [if_pos b, if_pos a, if_pos (by rw [hb, a, decide_eq_true b]; rfl)]
        · rw [if_neg b, if_neg (by rw [hb, decide_eq_false b, Bool.and_false]; decide)]
      · have hn : ¬ S.testBit i = true := fun z => a (hB2 i z).1
        rw [if_neg a, if_neg hn]
        split <;> rfl)
    rw [e]
    refine hU S ?_ h64 (ht_sbX' m hm S h64 (fun j _ z => (hB2 j z).1)) τ κ (fun i hi => ?_) (fun i hi => (hB2 i hi).2.1)
    · obtain ⟨j, hj, h0, h2⟩ := hx
      apply Classical.byContradiction
      intro z
      have e0 : S = 0 := by omega
      have hb := hB j hj
      rw [e0, Nat.zero_testBit, decide_eq_true h2, Bool.and_true] at hb
      unfold ht_pp at h0
      rw [if_neg (by rw [← hb]; decide)] at h0
      exact absurd h0 (Nat.lt_irrefl _)
    · have := (hB2 i hi).2.2
      omega
  have h2 : μ ≤ len := by
    rcases hV with e | ⟨S, ρ, κ, h64, hne, hs, hρ, hκ, e⟩
    · omega
    · obtain ⟨i0, i6, hi0⟩ := ht_ne0 h64 hne
      have hmi := ht_sbB' m hm S h64 i0 i6 hs hi0
      have := hS.2.1 (fun j => S.testBit j) ρ κ (fun j hj z => by have := hρ j z; omega) (fun j hj z => hκ j z) ⟨i0, i6, hi0, by unfold ht_pp; rw [if_pos hmi]; exact hp i0 i6 hmi⟩ (fun _ _ _ => rfl)
      have e2 : ht_sm (fun j => if S.testBit j = true then ht_pp p m j else 0) = ht_sm (ht_pp p S) := ht_smE (by
        intro i hi
        unfold ht_pp
        by_cases a : S.testBit i = true
        · rw [if_pos a, if_pos a, if_pos (ht_sbB' m hm S h64 i hi hs a)]
        · rw [if_neg a, if_neg a])
      rw [e2] at this
      omega
  omega
end
section
/-! the greatest part of a job for which a limit is kept: both sides -/
/-- some order of the jobs m is within the limit -/
def ht_ok (m : Nat) (lim : Int32) (r p q : Nat → Nat) : Prop := ∃ s, ht_cp 6 0 m s ∧ ¬ lim < nI (ht_ln r p q 0 0 s)
/-- x is the greatest number up to 200 that satisfies A, or -1 -/
def ht_gt (A : Nat → Prop) (x : Int32) : Prop := (x = -1 ∧ ∀ v, v ≤ 200 → ¬ A v) ∨ (∃ v, v ≤ 200 ∧ x = nI v ∧ A v ∧ ∀ v', v < v' → v' ≤ 200 → ¬ A v')
theorem ht_gt_u {A : Nat → Prop} {x y : Int32} (hx : ht_gt A x) (hy : ht_gt A y) : x = y := by
  rcases hx with ⟨e, h⟩ | ⟨v, hv, e, a, h⟩
  · rcases hy with ⟨e', h'⟩ | ⟨v', hv', e', a', h'⟩
    · rw [e, e']
    · exact absurd a' (h v' hv')
  · rcases hy with ⟨e', h'⟩ | ⟨v', hv', e', a', h'⟩
    · exact absurd a (h' v hv)
    · have : v = v' := by
        apply Classical.byContradiction
        intro ne
        by_cases c : v < v'
        · exact h v' c hv' a'
        · exact h' v (by omega) hv a
      rw [e, e', this]
theorem ht_uu {f : Nat → Int32} {i : Nat} {x y : Int32} : upd (upd f i x) i y = upd f i y := by
  funext j
  unfold upd
  split <;> rfl
theorem ht_ui {f : Nat → Int32} {i : Nat} {x : Int32} (h : f i = x) : upd f i x = f := by
  funext j
  unfold upd
  split
  · rename_i e; rw [e]; exact h.symm
  · rfl
section
variable {m : Nat} {r p q : Nat → Nat} {fn fo : Int32} {aH aC aI aS : Nat → Int32}
theorem ht_g70 {post : Int32 → SY → Prop} {J : Int32 → Int32 → Int32 → Int32 → (Nat → Int32) → (Nat → Int32) → (Nat → Int32) → (Nat → Int32) → Prop} {lim x1 x2 old : Int32} {v : Nat} (hv : v ≤ 200) (hm : m < 64) (hY : ht_EY m r p q aH aC)
    (hF : ∀ aI' aS', ht_ok m lim r p q → J (nI v) (nI v + (-1)) (nI (ht_pc m)) (nI (ht_fc (ht_pc m))) aH aC aI' aS')
    (hN : ∀ aI' aS', ¬ ht_ok m lim r p q → J (-1) (nI v + (-1)) (nI (ht_pc m)) (nI (ht_fc (ht_pc m))) aH aC aI' aS') :
    ∀ d c, c + d = ht_fc (ht_pc m) → (∀ i, i < c → lim < nI (ht_ln r p q 0 0 (ht_od (ht_pc m) m i))) → ∀ aI aS, wY_greatest_70 post J x1 x2 lim old (nI v) (d + 1) (-1) (nI c) (nI (ht_pc m)) (nI (ht_fc (ht_pc m))) aH aC aI aS := by
  have hp := ht_pcle' m hm
  have hF6 := ht_fcl (ht_pc m) hp
  intro d
  induction d with
  | zero =>
    intro c hc hno aI aS
    have e : c = ht_fc (ht_pc m) := hc
    refine br_t (by rw [e]; exact nI_le (Nat.le_refl _) (by omega)) (nm_e (hN aI aS ?_))
    rintro ⟨s, hs, hl⟩
    obtain ⟨i, hi, es⟩ := ht_odx _ s m hm rfl hs
    subst es
    exact hl (hno i (by omega))
  | succ d ih =>
    intro c hc hno aI aS
    have hlt : c < ht_fc (ht_pc m) := by omega
    have hcp := ht_odcp _ m c hm rfl hlt
    refine br_f (nI_ge (by omega) (by omega)) (br_f (nI_ge (b := 720) (by omega) (by decide)) (br_f (by decide) (ht_spW hm hY rfl rfl hlt (fun aI' aS' c1 c2 => br_c (fun z => ?_) (fun z => ?_)))))
    · refine nm_r (nI_1 c) (ih (c + 1) (by omega) (lt_s hno z) aI' aS')
    · have hok : ht_ok m lim r p q := ⟨_, hcp, z⟩
      have hJ := hF aI' aS' hok
      refine nm_r (nI_1 c) (br_c (fun _ => nm_e hJ) (fun _ => br_c (fun _ => nm_e hJ) (fun _ => br_t (nI_pos' (by omega)) (nm_e hJ))))
theorem ht_g123 {post : Int32 → SY → Prop} {x1 x2 old x5 : Int32} {i : Nat} {aC' : Nat → Int32} (hi : i < 18) (ex : (3 * x1) + x2 = nI i) (hold : aC i = old) (hC : ∀ y, upd aC' i y = upd aC i y) (h : post x5 (fn, fo, aH, aC, aI, aS)) : wY_greatest_123 post x1 x2 old x5 fn fo aH aC' aI aS := by
  refine ⟨by rw [ex]; exact vp_in_nI hi (by decide), nm_r (e' := aC) ?_ h⟩
  rw [ex, nI_clamp (by omega), hC, ht_ui hold]
theorem ht_g45 {post : Int32 → SY → Prop} {rv qv : Nat → Nat → Nat} {lim x1 x2 old : Int32} {i : Nat} (hm : m < 64) (hi : i < 18) (ex : (3 * x1) + x2 = nI i) (hold : aC i = old) (hY : ∀ v, v ≤ 200 → ht_EY m (rv v) p (qv v) aH (upd aC i (nI v)))
    (h : ∀ x aI' aS', ht_gt (fun v => ht_ok m lim (rv v) p (qv v)) x → post x (nI (ht_pc m), nI (ht_fc (ht_pc m)), aH, aC, aI', aS')) :
    ∀ v, v ≤ 200 → (∀ v', v < v' → v' ≤ 200 → ¬ ht_ok m lim (rv v') p (qv v')) → ∀ aC' aI aS, (∀ y, upd aC' i y = upd aC i y) → wY_greatest_45 post x1 x2 lim old (v + 2) (-1) (nI v) (nI (ht_pc m)) (nI (ht_fc (ht_pc m))) aH aC' aI aS := by
  intro v
  induction v with
  | zero =>
    intro hv hno aC' aI aS hC
    refine br_f (nI_pos (by decide)) (br_f (by decide) ⟨by rw [ex]; exact vp_in_nI hi (by decide), nm_r (e' := upd aC i (nI 0)) (by rw [ex, nI_clamp (by omega), hC]) ⟨_, ht_g70 (v := 0) hv hm (hY 0 hv) (fun aI' aS' hok => ?_) (fun aI' aS' hok => ?_) _ 0 (Nat.zero_add _) (fun i hi => absurd hi (Nat.not_lt_zero _)) aI aS⟩⟩)
    · have := h (nI 0) aI' aS' (Or.inr ⟨0, hv, rfl, hok, hno⟩)
      exact br_c (fun _ => ht_g123 hi ex hold (fun y => ht_uu) this) (fun _ => br_t (nI_pos' (by decide)) (ht_g123 hi ex hold (fun y => ht_uu) this))
    · refine br_t (by decide) (ht_g123 hi ex hold (fun y => ht_uu) (h (-1) aI' aS' (Or.inl ⟨rfl, fun v' hv' => ?_⟩)))
      by_cases e : v' = 0
      · rw [e]; exact hok
      · exact hno v' (by omega) hv'
  | succ v ih =>
    intro hv hno aC' aI aS hC
    refine br_f (nI_pos (by omega)) (br_f (by decide) ⟨by rw [ex]; exact vp_in_nI hi (by decide), nm_r (e' := upd aC i (nI (v + 1))) (by rw [ex, nI_clamp (by omega), hC]) ⟨_, ht_g70 (v := v + 1) hv hm (hY (v + 1) hv) (fun aI' aS' hok => ?_) (fun aI' aS' hok => ?_) _ 0 (Nat.zero_add _) (fun i hi => absurd hi (Nat.not_lt_zero _)) aI aS⟩⟩)
    · have := h (nI (v + 1)) aI' aS' (Or.inr ⟨v + 1, hv, rfl, hok, hno⟩)
      exact br_c (fun _ => ht_g123 hi ex hold (fun y => ht_uu) this) (fun _ => br_t (nI_pos' (by omega)) (ht_g123 hi ex hold (fun y => ht_uu) this))
    · rw [pk_m1 v]
      refine ih (by omega) (fun v' hv' hv2 => ?_) _ aI' aS' (fun y => ht_uu)
      by_cases e : v' = v + 1
      · rw [e]; exact hok
      · exact hno v' (by omega) hv2
theorem ht_gW {post : Int32 → SY → Prop} {rv qv : Nat → Nat → Nat} {lim x2 : Int32} {i j : Nat} (hm : m < 64) (hY0 : ht_EY m r p q aH aC) (hj : j < 6) (mj : m.testBit j = true) (hi : i < 18) (ex : (3 * nI j) + x2 = nI i) (hY : ∀ v, v ≤ 200 → ht_EY m (rv v) p (qv v) aH (upd aC i (nI v)))
    (hge : ∀ v s, v ≤ 200 → ht_cp 6 0 m s → v ≤ ht_ln (rv v) p (qv v) 0 0 s)
    (h : ∀ x aI' aS', ht_gt (fun v => ht_ok m lim (rv v) p (qv v)) x → post x (nI (ht_pc m), nI (ht_fc (ht_pc m)), aH, aC, aI', aS')) : wpY_greatest post (fn, fo, aH, aC, aI, aS) (nI j) x2 lim := by
  unfold wpY_greatest
  dsimp only
  refine ht_isG hY0 (fun _ _ _ _ => br_f (by decide) ?_) (fun z => absurd mj (by rw [z j hj rfl]; decide))
  refine ht_ycW (fn := fn) (fo := fo) hm hY0 ⟨by rw [ex]; exact vp_in_nI hi (by decide), nm_r (e' := aC i) (by rw [ex, nI_clamp (by omega)]) (br_c (fun z => ⟨_, ht_g45 hm hi ex rfl hY h 200 (by omega) (fun v' a b => by omega) aC aI aS (fun _ => rfl)⟩) (fun z => ?_))⟩
  have hbd : ∀ v s, v ≤ 200 → ht_cp 6 0 m s → ht_ln (rv v) p (qv v) 0 0 s < 1000 := fun v s hv hs => ht_ylb (ht_EY3 (hY v hv)) hm hs
  by_cases c : lim < 0
  · refine ⟨1, br_t c (ht_g123 hi ex rfl (fun _ => rfl) (h (-1) aI aS (Or.inl ⟨rfl, ?_⟩)))⟩
    rintro v hv ⟨s, hs, hl⟩
    have := hbd v s hv hs
    exact hl (Int32.lt_of_lt_of_le c (nI_pos' (by omega)))
  · obtain ⟨v0, hv0, e0⟩ := nI_of c
    subst e0
    have hv2 : v0 < 200 := by
      apply Classical.byContradiction
      intro w
      exact z (nI_le (a := 200) (by omega) hv0)
    refine ⟨_, ht_g45 hm hi ex rfl hY h v0 (by omega) ?_ aC aI aS (fun _ => rfl)⟩
    rintro v' a b ⟨s, hs, hl⟩
    have h1 := hge v' s b hs
    have h2 := hbd v' s b hs
    exact hl (nI_lt (by omega) (by omega))
end
theorem ht_lowI {a : Nat} (ha : a < 1000) : (nI a + (-1)).toInt = (a : Int) - 1 := by
  cases a with
  | zero => decide +kernel
  | succ a => rw [pk_m1, nI_toInt (by omega)]; omega
theorem ht_lowL {a b : Nat} (ha : a < 1000) (hb : b < 1000) : nI a + (-1) ≤ nI b + (-1) ↔ a ≤ b := by
  rw [Int32.le_iff_toInt_le, ht_lowI ha, ht_lowI hb]
  omega
theorem ht_mid (l h : Nat) : (nI l + (-1)) + nI h + 1 = nI (l + h) := by
  rw [← nI_add, Int32.add_assoc, Int32.add_assoc, ← Int32.add_assoc (-1), Int32.add_comm (-1) (nI h), Int32.add_assoc, show (-1 : Int32) + 1 = 0 from rfl, Int32.add_zero]
section
variable {m : Nat} {r p q : Nat → Nat} {kn ll : Int32} {aR aP aQ aL aT aD aG aB : Nat → Int32}
theorem ht_plq {post : Int32 → SX → Prop} (hE : ht_E r p q aR aP aQ) (hm : m < 64) (h : ∀ b aL' aT' aD' aG', ht_bs (ht_vs r p q 6 0 m 0 0) 100000 b → post (nI b) (nI m, kn, ll, aR, aP, aQ, aL', aT', aD', aG', aB)) : wpX_plainLeast post (nI m, kn, ll, aR, aP, aQ, aL, aT, aD, aG, aB) :=
  ht_plain hE hm (ht_fs6 m _) (fun b aL' aT' aD' aG' c1 _ _ => h b aL' aT' aD' aG' c1)
theorem ht_okb {lim : Int32} {b : Nat} (hB : ∀ j, j < 6 → r j ≤ 200 ∧ p j ≤ 12 ∧ q j ≤ 200) (hm : m < 64) (hb : ht_bs (ht_vs r p q 6 0 m 0 0) 100000 b) : ht_ok m lim r p q ↔ ¬ lim < nI b := by
  constructor
  · rintro ⟨s, hs, hl⟩ z
    have h1 := hb.2.1 _ ⟨s, hs, rfl⟩
    have h2 := ht_ylb hB hm hs
    exact hl (Int32.lt_of_lt_of_le z (nI_le h1 (by omega)))
  · intro z
    obtain ⟨x, hx, hx1⟩ := ht_vx hB hm
    obtain ⟨s, hc, es⟩ := ht_bs_at hb hx (by omega)
    exact ⟨s, hc, by rw [← es]; exact z⟩
theorem ht_tf89 {post : Int32 → SX → Prop} {A : Nat → Prop} {j l1 v0 : Nat} {aQ' : Nat → Int32} (hj : j < 6) (hl : l1 ≤ 201) (hq : aQ j = nI v0) (hv0 : v0 ≤ 200) (hC : ∀ y, upd aQ' j y = upd aQ j y) (h1 : l1 = 0 ∨ A (l1 - 1)) (h2 : ∀ v, l1 ≤ v → v ≤ 200 → ¬ A v) (h : ∀ x, ht_gt A x → post x (nI m, kn, ll, aR, aP, aQ, aL, aT, aD, aG, aB)) : wX_tailFor_89 post (nI j) (nI v0) (nI l1 + (-1)) (nI m) kn ll aR aP aQ' aL aT aD aG aB := by
  refine ⟨vp_in_nI hj (by decide), nm_r (e' := aQ) (by rw [nI_clamp (by omega), ht_shortn' _ (by omega), hC, ht_ui hq]) ?_⟩
  cases l1 with
  | zero => exact br_f (by decide) (h _ (Or.inl ⟨rfl, fun v hv => h2 v (Nat.zero_le _) hv⟩))
  | succ l =>
    rw [pk_m1 l]
    refine br_t (nI_pos' (by omega)) (h _ (Or.inr ⟨l, by omega, rfl, ?_, fun v' a b => h2 v' (by omega) b⟩))
    rcases h1 with e | e
    · omega
    · exact e
theorem ht_tfL {post : Int32 → SX → Prop} {rv qv : Nat → Nat → Nat} {lim : Int32} {j v0 : Nat} (hm : m < 64) (hj : j < 6) (hq : aQ j = nI v0) (hv0 : v0 ≤ 200) (hE : ∀ v, v ≤ 200 → ht_E (rv v) p (qv v) aR aP (upd aQ j (nI v))) (hmo : ∀ v v', v ≤ v' → v' ≤ 200 → ht_ok m lim (rv v') p (qv v') → ht_ok m lim (rv v) p (qv v))
    (h : ∀ x aL' aT' aD' aG', ht_gt (fun v => ht_ok m lim (rv v) p (qv v)) x → post x (nI m, kn, ll, aR, aP, aQ, aL', aT', aD', aG', aB)) :
    ∀ d i, i + d = 9 → ∀ l1 h1, l1 ≤ h1 → h1 ≤ 201 → h1 - l1 < 2 ^ d → (l1 = 0 ∨ ht_ok m lim (rv (l1 - 1)) p (qv (l1 - 1))) → (∀ v, h1 ≤ v → v ≤ 200 → ¬ ht_ok m lim (rv v) p (qv v)) → ∀ aQ' aL aT aD aG, (∀ y, upd aQ' j y = upd aQ j y) → wX_tailFor_28 post (nI j) lim (nI v0) (d + 1) (nI l1 + (-1)) (nI h1 + (-1)) (nI i) (nI m) kn ll aR aP aQ' aL aT aD aG aB := by
  intro d
  induction d with
  | zero =>
    intro i hi l1 h1 hle hh hs a1 a2 aQ' aL aT aD aG hC
    have e : i = 9 := hi
    have e2 : l1 = h1 := by
      have : (2 : Nat) ^ 0 = 1 := rfl
      omega
    subst e e2
    exact br_t (nI_le (b := 9) (by decide) (by decide)) (ht_tf89 hj hh hq hv0 hC a1 a2 (fun x hx => h x aL aT aD aG hx))
  | succ d ih =>
    intro i hi l1 h1 hle hh hs a1 a2 aQ' aL aT aD aG hC
    refine br_f (nI_ge (b := 9) (by omega) (by decide)) ?_
    by_cases e : l1 = h1
    · subst e
      exact br_t ((ht_lowL (by omega) (by omega)).mpr (Nat.le_refl _)) (ht_tf89 hj hh hq hv0 hC a1 a2 (fun x hx => h x aL aT aD aG hx))
    · obtain ⟨h0, rfl⟩ : ∃ h0, h1 = h0 + 1 := ⟨h1 - 1, by omega⟩
      have hpow : (2 : Nat) ^ (d + 1) = 2 * 2 ^ d := by rw [Nat.pow_succ, Nat.mul_comm]
      rw [hpow] at hs
      have hmid : (l1 + h0) / 2 ≤ 200 := by omega
      refine br_f (fun z => absurd ((ht_lowL (by omega) (by omega)).mp z) (by omega)) (nm_r (e' := nI ((l1 + h0) / 2)) ?_ ⟨vp_in_nI hj (by decide), nm_r (e' := upd aQ j (nI ((l1 + h0) / 2))) (by rw [nI_clamp (by omega), ht_short' _ (by omega), hC]) (ht_plq (hE _ hmid) hm (fun b aL' aT' aD' aG' c1 => br_c (fun z => ?_) (fun z => ?_)))⟩)
      · rw [pk_m1 h0, ht_mid, pk_shrN (by omega) _ 1 (by decide)]
      · have hno : ¬ ht_ok m lim (rv ((l1 + h0) / 2)) p (qv ((l1 + h0) / 2)) := fun w => (ht_okb (ht_E3 (hE _ hmid)) hm c1).mp w z
        refine nm_r (Int32.sub_eq_add_neg _ _) (nm_r (nI_1 i) (ih (i + 1) (by omega) l1 ((l1 + h0) / 2) (by omega) (by omega) (by omega) a1 (fun v hv hv2 w => hno (hmo _ _ hv hv2 w)) _ _ _ _ _ (fun y => ht_uu)))
      · have hyes : ht_ok m lim (rv ((l1 + h0) / 2)) p (qv ((l1 + h0) / 2)) := (ht_okb (ht_E3 (hE _ hmid)) hm c1).mpr z
        refine nm_r (nI_1 i) ?_
        have := ih (i + 1) (by omega) ((l1 + h0) / 2 + 1) (h0 + 1) (by omega) (by omega) (by omega) (Or.inr hyes) a2 _ aL' aT' aD' aG' (fun y => ht_uu (x := nI ((l1 + h0) / 2)))
        rw [pk_m1 ((l1 + h0) / 2)] at this
        exact this
theorem ht_tfW {post : Int32 → SX → Prop} {lim : Int32} {j : Nat} (hm : m < 64) (hE : ht_E r p q aR aP aQ) (hj : j < 6) (mj : m.testBit j = true)
    (h : ∀ x aL' aT' aD' aG', ht_gt (fun v => ht_ok m lim r p (ht_up q j v)) x → post x (nI m, kn, ll, aR, aP, aQ, aL', aT', aD', aG', aB)) : wpX_tailFor post (nI m, kn, ll, aR, aP, aQ, aL, aT, aD, aG, aB) (nI j) lim := by
  obtain ⟨_, _, eQ, _, _, bQ⟩ := hE j hj
  have hE' : ∀ v, v ≤ 200 → ht_E r p (ht_up q j v) aR aP (upd aQ j (nI v)) := by
    intro v hv i hi
    obtain ⟨x1, x2, x3, x4, x5, x6⟩ := hE i hi
    by_cases e : i = j
    · rw [e, pk_us, ht_ups, ← e]
      exact ⟨x1, x2, rfl, x4, x5, hv⟩
    · rw [pk_un e, ht_upn e]
      exact ⟨x1, x2, x3, x4, x5, x6⟩
  unfold wpX_tailFor
  dsimp only
  refine ht_has hm hj (fun _ => br_f (by decide) ⟨vp_in_nI hj (by decide), nm_r (e' := nI (q j)) (by rw [nI_clamp (by omega), eQ]) ⟨10, ?_⟩⟩) (fun z => absurd mj (by rw [z]; decide))
  refine ht_tfL (rv := fun _ => r) (qv := fun v => ht_up q j v) hm hj eQ bQ hE' ?_ h 9 0 rfl 0 201 (by omega) (by omega) (by decide) (Or.inl rfl) (fun v a b => by omega) aQ aL aT aD aG (fun _ => rfl)
  rintro v v' hv hv' ⟨s, hs, hl⟩
  have h1 := ht_lnM r r p (ht_up q j v) (ht_up q j v') (fun _ => Nat.le_refl _) (fun i => by
    by_cases e : i = j
    · rw [e, ht_ups, ht_ups]; exact hv
    · rw [ht_upn e, ht_upn e]; exact Nat.le_refl _) s 0 0 0 0 (Nat.le_refl _) (Nat.le_refl _)
  have h2 := ht_ylb (ht_E3 (hE' v' hv')) hm hs
  exact ⟨s, hs, fun z => hl (Int32.lt_of_lt_of_le z (nI_le h1 (by omega)))⟩
theorem ht_rf89 {post : Int32 → SX → Prop} {A : Nat → Prop} {j l1 v0 : Nat} {aR' : Nat → Int32} (hj : j < 6) (hl : l1 ≤ 201) (hq : aR j = nI v0) (hv0 : v0 ≤ 200) (hC : ∀ y, upd aR' j y = upd aR j y) (h1 : l1 = 0 ∨ A (l1 - 1)) (h2 : ∀ v, l1 ≤ v → v ≤ 200 → ¬ A v) (h : ∀ x, ht_gt A x → post x (nI m, kn, ll, aR, aP, aQ, aL, aT, aD, aG, aB)) : wX_releaseFor_89 post (nI j) (nI v0) (nI l1 + (-1)) (nI m) kn ll aR' aP aQ aL aT aD aG aB := by
  refine ⟨vp_in_nI hj (by decide), nm_r (e' := aR) (by rw [nI_clamp (by omega), ht_shortn' _ (by omega), hC, ht_ui hq]) ?_⟩
  cases l1 with
  | zero => exact br_f (by decide) (h _ (Or.inl ⟨rfl, fun v hv => h2 v (Nat.zero_le _) hv⟩))
  | succ l =>
    rw [pk_m1 l]
    refine br_t (nI_pos' (by omega)) (h _ (Or.inr ⟨l, by omega, rfl, ?_, fun v' a b => h2 v' (by omega) b⟩))
    rcases h1 with e | e
    · omega
    · exact e
theorem ht_rfL {post : Int32 → SX → Prop} {rv qv : Nat → Nat → Nat} {lim : Int32} {j v0 : Nat} (hm : m < 64) (hj : j < 6) (hq : aR j = nI v0) (hv0 : v0 ≤ 200) (hE : ∀ v, v ≤ 200 → ht_E (rv v) p (qv v) (upd aR j (nI v)) aP aQ) (hmo : ∀ v v', v ≤ v' → v' ≤ 200 → ht_ok m lim (rv v') p (qv v') → ht_ok m lim (rv v) p (qv v))
    (h : ∀ x aL' aT' aD' aG', ht_gt (fun v => ht_ok m lim (rv v) p (qv v)) x → post x (nI m, kn, ll, aR, aP, aQ, aL', aT', aD', aG', aB)) :
    ∀ d i, i + d = 9 → ∀ l1 h1, l1 ≤ h1 → h1 ≤ 201 → h1 - l1 < 2 ^ d → (l1 = 0 ∨ ht_ok m lim (rv (l1 - 1)) p (qv (l1 - 1))) → (∀ v, h1 ≤ v → v ≤ 200 → ¬ ht_ok m lim (rv v) p (qv v)) → ∀ aR' aL aT aD aG, (∀ y, upd aR' j y = upd aR j y) → wX_releaseFor_28 post (nI j) lim (nI v0) (d + 1) (nI l1 + (-1)) (nI h1 + (-1)) (nI i) (nI m) kn ll aR' aP aQ aL aT aD aG aB := by
  intro d
  induction d with
  | zero =>
    intro i hi l1 h1 hle hh hs a1 a2 aR' aL aT aD aG hC
    have e : i = 9 := hi
    have e2 : l1 = h1 := by
      have : (2 : Nat) ^ 0 = 1 := rfl
      omega
    subst e e2
    exact br_t (nI_le (b := 9) (by decide) (by decide)) (ht_rf89 hj hh hq hv0 hC a1 a2 (fun x hx => h x aL aT aD aG hx))
  | succ d ih =>
    intro i hi l1 h1 hle hh hs a1 a2 aR' aL aT aD aG hC
    refine br_f (nI_ge (b := 9) (by omega) (by decide)) ?_
    by_cases e : l1 = h1
    · subst e
      exact br_t ((ht_lowL (by omega) (by omega)).mpr (Nat.le_refl _)) (ht_rf89 hj hh hq hv0 hC a1 a2 (fun x hx => h x aL aT aD aG hx))
    · obtain ⟨h0, rfl⟩ : ∃ h0, h1 = h0 + 1 := ⟨h1 - 1, by omega⟩
      have hpow : (2 : Nat) ^ (d + 1) = 2 * 2 ^ d := by rw [Nat.pow_succ, Nat.mul_comm]
      rw [hpow] at hs
      have hmid : (l1 + h0) / 2 ≤ 200 := by omega
      refine br_f (fun z => absurd ((ht_lowL (by omega) (by omega)).mp z) (by omega)) (nm_r (e' := nI ((l1 + h0) / 2)) ?_ ⟨vp_in_nI hj (by decide), nm_r (e' := upd aR j (nI ((l1 + h0) / 2))) (by rw [nI_clamp (by omega), ht_short' _ (by omega), hC]) (ht_plq (hE _ hmid) hm (fun b aL' aT' aD' aG' c1 => br_c (fun z => ?_) (fun z => ?_)))⟩)
      · rw [pk_m1 h0, ht_mid, pk_shrN (by omega) _ 1 (by decide)]
      · have hno : ¬ ht_ok m lim (rv ((l1 + h0) / 2)) p (qv ((l1 + h0) / 2)) := fun w => (ht_okb (ht_E3 (hE _ hmid)) hm c1).mp w z
        refine nm_r (Int32.sub_eq_add_neg _ _) (nm_r (nI_1 i) (ih (i + 1) (by omega) l1 ((l1 + h0) / 2) (by omega) (by omega) (by omega) a1 (fun v hv hv2 w => hno (hmo _ _ hv hv2 w)) _ _ _ _ _ (fun y => ht_uu)))
      · have hyes : ht_ok m lim (rv ((l1 + h0) / 2)) p (qv ((l1 + h0) / 2)) := (ht_okb (ht_E3 (hE _ hmid)) hm c1).mpr z
        refine nm_r (nI_1 i) ?_
        have := ih (i + 1) (by omega) ((l1 + h0) / 2 + 1) (h0 + 1) (by omega) (by omega) (by omega) (Or.inr hyes) a2 _ aL' aT' aD' aG' (fun y => ht_uu (x := nI ((l1 + h0) / 2)))
        rw [pk_m1 ((l1 + h0) / 2)] at this
        exact this
theorem ht_rfW {post : Int32 → SX → Prop} {lim : Int32} {j : Nat} (hm : m < 64) (hE : ht_E r p q aR aP aQ) (hj : j < 6) (mj : m.testBit j = true)
    (h : ∀ x aL' aT' aD' aG', ht_gt (fun v => ht_ok m lim (ht_up r j v) p q) x → post x (nI m, kn, ll, aR, aP, aQ, aL', aT', aD', aG', aB)) : wpX_releaseFor post (nI m, kn, ll, aR, aP, aQ, aL, aT, aD, aG, aB) (nI j) lim := by
  obtain ⟨eR, _, _, bR, _, _⟩ := hE j hj
  have hE' : ∀ v, v ≤ 200 → ht_E (ht_up r j v) p q (upd aR j (nI v)) aP aQ := by
    intro v hv i hi
    obtain ⟨x1, x2, x3, x4, x5, x6⟩ := hE i hi
    by_cases e : i = j
    · rw [e, pk_us, ht_ups, ← e]
      exact ⟨rfl, x2, x3, hv, x5, x6⟩
    · rw [pk_un e, ht_upn e]
      exact ⟨x1, x2, x3, x4, x5, x6⟩
  unfold wpX_releaseFor
  dsimp only
  refine ht_has hm hj (fun _ => br_f (by decide) ⟨vp_in_nI hj (by decide), nm_r (e' := nI (r j)) (by rw [nI_clamp (by omega), eR]) ⟨10, ?_⟩⟩) (fun z => absurd mj (by rw [z]; decide))
  refine ht_rfL (rv := fun v => ht_up r j v) (qv := fun _ => q) hm hj eR bR hE' ?_ h 9 0 rfl 0 201 (by omega) (by omega) (by decide) (Or.inl rfl) (fun v a b => by omega) aR aL aT aD aG (fun _ => rfl)
  rintro v v' hv hv' ⟨s, hs, hl⟩
  have h1 := ht_lnM (ht_up r j v) (ht_up r j v') p q q (fun i => by
    by_cases e : i = j
    · rw [e, ht_ups, ht_ups]; exact hv
    · rw [ht_upn e, ht_upn e]; exact Nat.le_refl _) (fun _ => Nat.le_refl _) s 0 0 0 0 (Nat.le_refl _) (Nat.le_refl _)
  have h2 := ht_ylb (ht_E3 (hE' v' hv')) hm hs
  exact ⟨s, hs, fun z => hl (Int32.lt_of_lt_of_le z (nI_le h1 (by omega)))⟩
end
end
section
/-! the relation -/
def ht_R (m : Nat) (r p q : Nat → Nat) (kn ll : Int32) (aR aP aQ aB aH aC : Nat → Int32) : Prop :=
  m < 64 ∧ (∀ j, j < 6 → aR j = nI (r j) ∧ aP j = nI (p j) ∧ aQ j = nI (q j) ∧ aH j = nI (ht_bn (m.testBit j)) ∧ aC (3 * j) = nI (r j) ∧ aC (3 * j + 1) = nI (p j) ∧ aC (3 * j + 2) = nI (q j) ∧ r j ≤ 40 ∧ p j ≤ 12 ∧ q j ≤ 40 ∧ (m.testBit j = true → 1 ≤ p j)) ∧ (kn = 0 ∨ (kn = 1 ∧ ht_K m r p q ll aB))
/-- the relation at the head of a turn: one set of jobs, one table of parts; what is known is the least length and the first best order -/
def i_Rel (_k : Nat) (u : SX) (v : SY) : Prop := match u, v with
  | (f_present, f_known, f_leastLength, a_releases, a_lengths, a_tails, _, _, _, _, a_bestOrder), (_, _, a_there, a_parts, _, _) => ∃ m r p q, f_present = nI m ∧ ht_R m r p q f_known f_leastLength a_releases a_lengths a_tails a_bestOrder a_there a_parts
theorem i_up {k : Nat} {u : SX} {v : SY} (h : i_Rel k u v) : i_Rel (k + 5) u v := h
theorem i_vc0 : wpX_init (fun u => wpY_init (fun v => i_Rel 0 u v)) := by
  refine ⟨0, fun _ => 0, fun _ => 0, fun _ => 0, rfl, by decide, ?_, Or.inl rfl⟩
  intro j hj
  refine ⟨rfl, rfl, rfl, ?_, rfl, rfl, rfl, Nat.zero_le _, Nat.zero_le _, Nat.zero_le _, ?_⟩
  · rw [Nat.zero_testBit]
    rfl
  · rw [Nat.zero_testBit]
    intro z
    exact absurd z (by decide)
section
variable {m : Nat} {r p q : Nat → Nat} {kn ll : Int32} {aR aP aQ aL aT aD aG aB : Nat → Int32} {fn fo : Int32} {aH aC aI aS : Nat → Int32}
theorem ht_mkR {k : Nat} (h : ht_R m r p q kn ll aR aP aQ aB aH aC) : i_Rel k (nI m, kn, ll, aR, aP, aQ, aL, aT, aD, aG, aB) (fn, fo, aH, aC, aI, aS) := ⟨m, r, p, q, rfl, h⟩
theorem ht_RE (h : ht_R m r p q kn ll aR aP aQ aB aH aC) : ht_E r p q aR aP aQ := fun j hj => by
  obtain ⟨a, b, c, _, _, _, _, d, e, f, _⟩ := h.2.1 j hj
  exact ⟨a, b, c, by omega, by omega, by omega⟩
theorem ht_RY (h : ht_R m r p q kn ll aR aP aQ aB aH aC) : ht_EY m r p q aH aC := fun j hj => by
  obtain ⟨_, _, _, a, b, c, g, d, e, f, _⟩ := h.2.1 j hj
  exact ⟨a, b, c, g, by omega, by omega, by omega⟩
theorem ht_el {P : SX → SY → Prop} {k : Nat} {u : SX} {v : SY} (h : ∀ (m : Nat) (r p q : Nat → Nat) (kn ll : Int32) (aR aP aQ aL aT aD aG aB : Nat → Int32) (fn fo : Int32) (aH aC aI aS : Nat → Int32), ht_R m r p q kn ll aR aP aQ aB aH aC → P (nI m, kn, ll, aR, aP, aQ, aL, aT, aD, aG, aB) (fn, fo, aH, aC, aI, aS)) (I : i_Rel k u v) : P u v := by
  obtain ⟨fp, kn, ll, aR, aP, aQ, aL, aT, aD, aG, aB⟩ := u
  obtain ⟨fn, fo, aH, aC, aI, aS⟩ := v
  obtain ⟨m, r, p, q, e, hR⟩ := I
  subst e
  exact h m r p q kn ll aR aP aQ aL aT aD aG aB fn fo aH aC aI aS hR
/-! numbers within their bounds -/
def ht_nb (x1 x2 x3 : Int32) : Prop := ¬ x1 < 0 ∧ ¬ 40 < x1 ∧ ¬ x2 < 1 ∧ ¬ 12 < x2 ∧ ¬ x3 < 0 ∧ ¬ 40 < x3
theorem ht_nbX {post : Int32 → Prop} {x1 x2 x3 : Int32} (h1 : ht_nb x1 x2 x3 → post 1) (h0 : ¬ ht_nb x1 x2 x3 → post 0) : wpX_numbersOk post x1 x2 x3 :=
  br_c (fun z => h0 (fun w => w.1 z)) (fun a => br_c (fun z => h0 (fun w => w.2.1 z)) (fun b => br_c (fun z => h0 (fun w => w.2.2.1 z)) (fun c => br_c (fun z => h0 (fun w => w.2.2.2.1 z)) (fun d => br_c (fun z => h0 (fun w => w.2.2.2.2.1 z)) (fun e => br_c (fun z => h0 (fun w => w.2.2.2.2.2 z)) (fun f => h1 ⟨a, b, c, d, e, f⟩))))))
theorem ht_nbY {post : Int32 → Prop} {x1 x2 x3 : Int32} (h1 : ht_nb x1 x2 x3 → post 1) (h0 : ¬ ht_nb x1 x2 x3 → post 0) : wpY_good post (fn, fo, aH, aC, aI, aS) x1 x2 x3 :=
  br_c (fun z => h0 (fun w => w.1 z)) (fun a => br_c (fun z => h0 (fun w => w.2.1 z)) (fun b => br_c (fun z => h0 (fun w => w.2.2.1 z)) (fun c => br_c (fun z => h0 (fun w => w.2.2.2.1 z)) (fun d => br_c (fun z => h0 (fun w => w.2.2.2.2.1 z)) (fun e => br_c (fun z => h0 (fun w => w.2.2.2.2.2 z)) (fun f => h1 ⟨a, b, c, d, e, f⟩))))))
theorem ht_nbN {x1 x2 x3 : Int32} (h : ht_nb x1 x2 x3) : ∃ a b c, x1 = nI a ∧ x2 = nI b ∧ x3 = nI c ∧ a ≤ 40 ∧ 1 ≤ b ∧ b ≤ 12 ∧ c ≤ 40 := by
  obtain ⟨h1, h2, h3, h4, h5, h6⟩ := h
  obtain ⟨a, ha, ea⟩ := nI_of2 (M := 40) (n := 40) (by decide) h1 (Int32.not_lt.mp h2)
  have h3' : ¬ x2 < 0 := fun z => h3 (Int32.lt_trans z (by decide))
  obtain ⟨b, hb, eb⟩ := nI_of2 (M := 12) (n := 12) (by decide) h3' (Int32.not_lt.mp h4)
  obtain ⟨c, hc, ec⟩ := nI_of2 (M := 40) (n := 40) (by decide) h5 (Int32.not_lt.mp h6)
  refine ⟨a, b, c, ea, eb, ec, ha, ?_, hb, hc⟩
  apply Classical.byContradiction
  intro z
  have e0 : b = 0 := by omega
  subst e0
  rw [eb] at h3
  exact h3 (by decide)
theorem ht_putW {post : SX → Prop} {j a b c : Nat} (hj : j < 6) (ha : a ≤ 40) (hb : b ≤ 12) (hc : c ≤ 40) (h : post (nI m, 0, ll, upd aR j (nI a), upd aP j (nI b), upd aQ j (nI c), aL, aT, aD, aG, aB)) : wpX_put post (nI m, kn, ll, aR, aP, aQ, aL, aT, aD, aG, aB) (nI j) (nI a) (nI b) (nI c) := by
  have hin : vp_in (nI j) 6 := vp_in_nI hj (by decide)
  have hck : (nI j).toNatClampNeg = j := nI_clamp (by omega)
  exact ⟨hin, nm_r (e' := upd aR j (nI a)) (by rw [hck, ht_short' _ (by omega)]) ⟨hin, nm_r (e' := upd aP j (nI b)) (by rw [hck, ht_short' _ (by omega)]) ⟨hin, nm_r (e' := upd aQ j (nI c)) (by rw [hck, ht_short' _ (by omega)]) h⟩⟩⟩
theorem ht_holdW {post : SY → Prop} {j : Nat} {x1 x2 x3 : Int32} (hj : j < 6) (h : post (fn, fo, aH, upd (upd (upd aC (3 * j) x1) (3 * j + 1) x2) (3 * j + 2) x3, aI, aS)) : wpY_hold post (fn, fo, aH, aC, aI, aS) (nI j) x1 x2 x3 := by
  have hi0 : vp_in ((3 : Int32) * nI j) 18 := by rw [ht_3]; exact vp_in_nI (by omega) (by decide)
  have hc0 : ((3 : Int32) * nI j).toNatClampNeg = 3 * j := by rw [ht_3]; exact nI_clamp (by omega)
  have hi1 : vp_in ((3 : Int32) * nI j + 1) 18 := by rw [ht_31]; exact vp_in_nI (by omega) (by decide)
  have hi2 : vp_in ((3 : Int32) * nI j + 2) 18 := by rw [ht_32]; exact vp_in_nI (by omega) (by decide)
  have hc1 : ((3 : Int32) * nI j + 1).toNatClampNeg = 3 * j + 1 := by rw [ht_31]; exact nI_clamp (by omega)
  have hc2 : ((3 : Int32) * nI j + 2).toNatClampNeg = 3 * j + 2 := by rw [ht_32]; exact nI_clamp (by omega)
  exact ⟨hi0, nm_r (e' := upd aC (3 * j) x1) (by rw [hc0]) ⟨hi1, nm_r (e' := upd (upd aC (3 * j) x1) (3 * j + 1) x2) (by rw [hc1]) ⟨hi2, nm_r (e' := upd (upd (upd aC (3 * j) x1) (3 * j + 1) x2) (3 * j + 2) x3) (by rw [hc2]) h⟩⟩⟩
/-- a job's parts set on both sides, its place taken -/
theorem ht_Rput {m' j a b c : Nat} (h : ht_R m r p q kn ll aR aP aQ aB aH aC) (hj : j < 6) (ha : a ≤ 40) (hb1 : 1 ≤ b) (hb : b ≤ 12) (hc : c ≤ 40) (hm' : m' < 64) {aH' : Nat → Int32} (hH : ∀ i, i < 6 → aH' i = nI (ht_bn (m'.testBit i))) (hM : ∀ i, i < 6 → i ≠ j → m'.testBit i = m.testBit i) :
    ht_R m' (ht_up r j a) (ht_up p j b) (ht_up q j c) 0 ll (upd aR j (nI a)) (upd aP j (nI b)) (upd aQ j (nI c)) aB aH' (upd (upd (upd aC (3 * j) (nI a)) (3 * j + 1) (nI b)) (3 * j + 2) (nI c)) := by
  refine ⟨hm', ?_, Or.inl rfl⟩
  intro i hi
  by_cases e : i = j
  · subst e
    rw [pk_us, pk_us, pk_us, ht_ups, ht_ups, ht_ups, pk_us]
    rw [pk_un (show 3 * i ≠ 3 * i + 2 by omega), pk_un (show 3 * i ≠ 3 * i + 1 by omega), pk_us]
    rw [pk_un (show 3 * i + 1 ≠ 3 * i + 2 by omega), pk_us]
    exact ⟨rfl, rfl, rfl, hH i hi, rfl, rfl, rfl, ha, hb, hc, fun _ => hb1⟩
  · obtain ⟨x1, x2, x3, _, x5, x6, x7, x8, x9, x10, x11⟩ := h.2.1 i hi
    rw [pk_un e, pk_un e, pk_un e, ht_upn e, ht_upn e, ht_upn e]
    rw [pk_un (show 3 * i ≠ 3 * j + 2 by omega), pk_un (show 3 * i ≠ 3 * j + 1 by omega), pk_un (show 3 * i ≠ 3 * j by omega)]
    rw [pk_un (show 3 * i + 1 ≠ 3 * j + 2 by omega), pk_un (show 3 * i + 1 ≠ 3 * j + 1 by omega), pk_un (show 3 * i + 1 ≠ 3 * j by omega)]
    rw [pk_un (show 3 * i + 2 ≠ 3 * j + 2 by omega), pk_un (show 3 * i + 2 ≠ 3 * j + 1 by omega), pk_un (show 3 * i + 2 ≠ 3 * j by omega)]
    exact ⟨x1, x2, x3, hH i hi, x5, x6, x7, x8, x9, x10, by rw [hM i hi e]; exact x11⟩
/-! add: the first free place -/
theorem ht_xaL {post : Int32 → SX → Prop} {a b c : Nat} (hm : m < 64) (ha : a ≤ 40) (hb : b ≤ 12) (hc : c ≤ 40) (h1 : ∀ j, j < 6 → (∀ i, i < j → m.testBit i = true) → m.testBit j = false → post (nI j) (nI (ht_ad m j), 0, ll, upd aR j (nI a), upd aP j (nI b), upd aQ j (nI c), aL, aT, aD, aG, aB)) (h0 : (∀ i, i < 6 → m.testBit i = true) → post (-2) (nI m, kn, ll, aR, aP, aQ, aL, aT, aD, aG, aB)) : ∀ d k, k + d = 6 → (∀ i, i < k → m.testBit i = true) → wX_add_14 post (nI a) (nI b) (nI c) (nI m) kn ll aR aP aQ aL aT aD aG aB (d + 1) (nI k) := by
  intro d
  induction d with
  | zero =>
    intro k hk hall
    have e : k = 6 := hk
    subst e
    exact br_t (nI_le (b := 6) (by decide) (by decide)) (h0 hall)
  | succ d ih =>
    intro k hk hall
    have k6 : k < 6 := by omega
    refine br_f (nI_ge (b := 6) k6 (by decide)) (ht_has hm k6 (fun z => br_f (by decide) (nm_r (nI_1 k) (ih (k + 1) (by omega) (lt_s hall z)))) (fun z => br_t rfl (nm_r (ht_adI' m hm k k6) (ht_putW k6 ha hb hc (h1 k k6 hall z)))))
theorem ht_yaL {post : Int32 → SY → Prop} {x1 x2 x3 : Int32} (hY : ht_EY m r p q aH aC) (h1 : ∀ j, j < 6 → (∀ i, i < j → m.testBit i = true) → m.testBit j = false → post (nI j) (fn, fo, upd aH j 1, upd (upd (upd aC (3 * j) x1) (3 * j + 1) x2) (3 * j + 2) x3, aI, aS)) (h0 : (∀ i, i < 6 → m.testBit i = true) → post (-2) (fn, fo, aH, aC, aI, aS)) : ∀ d k, k + d = 6 → (∀ i, i < k → m.testBit i = true) → wY_add_15 post x1 x2 x3 fn fo aH aC aI aS (d + 1) (nI k) := by
  intro d
  induction d with
  | zero =>
    intro k hk hall
    have e : k = 6 := hk
    subst e
    exact br_t (nI_le (b := 6) (by decide) (by decide)) (h0 hall)
  | succ d ih =>
    intro k hk hall
    have k6 : k < 6 := by omega
    have e1 : aH (nI k).toNatClampNeg = 0 ↔ m.testBit k = false := by
      rw [nI_clamp (by omega), (hY k k6).1]
      exact ht_bn0
    have hin : vp_in (nI k) 6 := vp_in_nI k6 (by decide)
    refine br_f (nI_ge (b := 6) k6 (by decide)) ⟨hin, ek_if e1 (fun z => ⟨hin, nm_r (e' := upd aH k 1) (by rw [nI_clamp (by omega)]; rfl) (ht_holdW k6 (h1 k k6 hall z))⟩) (fun z => nm_r (nI_1 k) (ih (k + 1) (by omega) (lt_s hall (ht_ft z))))⟩
/-! the first best order is there, known or not -/
theorem ht_grx {v : Nat} : ∀ d R t l, ht_pc R = d → R < 64 → (∃ s, ht_cp 6 0 R s ∧ ht_ln r p q t l s = v) → ∃ s, ht_gr r p q v R t l s := by
  intro d
  induction d with
  | zero =>
    rintro R t l hp hR ⟨s, hc, e⟩
    cases s with
    | nil => exact ⟨[], hc, e⟩
    | cons j s =>
      have := ht_pcrm hR hc.1
      omega
  | succ d ih =>
    rintro R t l hp hR ⟨s, hc, e⟩
    cases s with
    | nil =>
      have h0 : R = 0 := hc
      rw [h0] at hp
      exact absurd hp (by show ¬ 0 = d + 1; omega)
    | cons j0 s0 =>
      obtain ⟨j, ⟨hj, s, hs, es⟩, hmin⟩ := pk_least (fun j => R.testBit j = true ∧ ∃ s, ht_cp 6 0 (ht_rm R j) s ∧ ht_ln r p q t l (j :: s) = v) ⟨j0, hc.1, s0, hc.2.2, e⟩
      have hpr := ht_pcrm hR hj
      obtain ⟨s', hg⟩ := ih (ht_rm R j) _ _ (by omega) (ht_rm64 hR) ⟨s, hs, es⟩
      exact ⟨j :: s', hj, fun i s2 hi a b ev => hmin i hi ⟨a, s2, b, ev⟩, hg⟩
theorem ht_bx (hB : ∀ j, j < 6 → r j ≤ 200 ∧ p j ≤ 12 ∧ q j ≤ 200) (hm : m < 64) : ∃ v s, v < 100000 ∧ ht_bs (ht_vs r p q 6 0 m 0 0) 100000 v ∧ ht_gr r p q v m 0 0 s := by
  obtain ⟨x, hx, hx1⟩ := ht_vx hB hm
  obtain ⟨v, hv, hmin⟩ := pk_least _ ⟨x, hx⟩
  have hvx : v ≤ x := by
    apply Classical.byContradiction
    intro z
    exact hmin x (by omega) hx
  obtain ⟨s, hc, es⟩ := hv
  obtain ⟨s', hg⟩ := ht_grx (ht_pc m) m 0 0 rfl hm ⟨s, hc, es.symm⟩
  refine ⟨v, s', by omega, ⟨by omega, fun y hy => ?_, Or.inr ⟨s, hc, es⟩⟩, hg⟩
  apply Classical.byContradiction
  intro z
  exact hmin y (by omega) hy
/-! begins -/
theorem ht_xbL {post : Int32 → SX → Prop} {x : Nat} (hE : ht_E r p q aR aP aQ) (hx : x < 6) : ∀ (s : List Nat) (R k t l : Nat) (aT aD aG : Nat → Int32), R < 64 → ht_cp 6 0 R s → R.testBit x = true → k + s.length ≤ 6 → t ≤ 200 + 12 * k → l ≤ 400 + 12 * k → (∀ i, i < s.length → aB (k + i) = nI (s.getD i 0)) → aD k = nI t → aG k = nI l →
    (∀ aT' aD' aG', post (nI (ht_st r p t s x)) (nI m, kn, ll, aR, aP, aQ, aL, aT', aD', aG', aB)) → wX_begins_20 post (nI x) s.length (nI k) (nI m) kn ll aR aP aQ aL aT aD aG aB := by
  intro s
  induction s with
  | nil =>
    intro R k t l aT aD aG _ hc hR
    have h0 : R = 0 := hc
    rw [h0, Nat.zero_testBit] at hR
    exact absurd hR (by decide)
  | cons j s ih =>
    intro R k t l aT aD aG hR hc hRx hk ht hl hB eD eG h
    have hk' : k + (s.length + 1) ≤ 6 := hk
    have hj := ht_b64 hR hc.1
    obtain ⟨_, eP, _, bR, bP, bQ⟩ := hE j hj
    have e0 : aB k = nI j := hB 0 (Nat.succ_pos _)
    have hck : (nI k).toNatClampNeg = k := nI_clamp (by omega)
    have hin : vp_in (nI k) 6 := vp_in_nI (by omega) (by decide)
    refine br_f (nI_ge (b := 6) (by omega) (by decide)) ⟨hin, ?_⟩
    rw [hck, e0]
    refine ht_plW hE (by omega) hj eD eG (by omega) (by omega) ⟨hin, pk_eq j x (fun z => ?_) (fun z => ?_) e0⟩
    · subst z
      refine ⟨by rw [nI_1 k]; exact vp_in_nI (by omega) (by decide), vp_in_nI hj (by decide), ?_⟩
      have he : upd aD (k + 1) (nI (max t (r j) + p j)) (nI k + 1).toNatClampNeg - aP (nI j).toNatClampNeg = nI (ht_st r p t (j :: s) j) := by
        rw [nI_1 k, nI_clamp (by omega), pk_us, nI_clamp (by omega), eP, pk_sub (by omega)]
        show _ = nI (if j = j then max t (r j) else _)
        rw [if_pos rfl]
        exact congrArg nI (by omega)
      rw [he]
      exact h _ _ _
    · refine nm_r (nI_1 k) (ih (ht_rm R j) (k + 1) (max t (r j) + p j) (max l (max t (r j) + p j + q j)) _ _ _ (ht_rm64 hR) hc.2.2 ((ht_rmB hR hj).mpr ⟨hRx, fun e => z e.symm⟩) (by omega) (by omega) (by omega) (fun i hi => ?_) pk_us pk_us (fun aT' aD' aG' => ?_))
      · have := hB (i + 1) (Nat.succ_lt_succ hi)
        rw [show k + 1 + i = k + (i + 1) by omega, this]
        rfl
      · have he : ht_st r p t (j :: s) x = ht_st r p (max t (r j) + p j) s x := if_neg z
        have := h aT' aD' aG'
        rw [he] at this
        exact this
end
end
section
/-! what is owed: the small methods -/
theorem ht_vb0 : vp_nar .boolean 0 = 0 := by decide +kernel
theorem i_vc_add {k : Nat} {u : SX} {v : SY} (I : i_Rel k u v) (hk : k + 5 ≤ 2560) (v1 : Int32) (v2 : Int32) (v3 : Int32) : wpX_add (fun r u' => wpY_add (fun r' v' => r' = r ∧ i_Rel (k + 5) u' v') v v1 v2 v3) u v1 v2 v3 := by
  refine ht_el (P := fun u v => wpX_add (fun r u' => wpY_add (fun r' v' => r' = r ∧ i_Rel (k + 5) u' v') v v1 v2 v3) u v1 v2 v3) ?_ I
  intro m r p q kn ll aR aP aQ aL aT aD aG aB fn fo aH aC aI aS hR
  have hY := ht_RY hR
  have hm := hR.1
  unfold wpX_add
  dsimp only
  refine ht_nbX (fun hn => br_f (by decide) ?_) (fun hn => br_t rfl ?_)
  · obtain ⟨a, b, c, ea, eb, ec, ha, hb1, hb, hc⟩ := ht_nbN hn
    subst ea eb ec
    refine ⟨7, ht_xaL hm ha hb hc (fun j hj hall hz => ?_) (fun hall => ?_) 6 0 rfl (fun i hi => absurd hi (Nat.not_lt_zero _))⟩
    · unfold wpY_add
      dsimp only
      refine ht_nbY (fun _ => br_f (by decide) ⟨7, ht_yaL hY (fun j' hj' hall' hz' => ?_) (fun hall' => ?_) 6 0 rfl (fun i hi => absurd hi (Nat.not_lt_zero _))⟩) (fun hn' => absurd hn hn')
      · have e : j' = j := by
          apply Classical.byContradiction
          intro ne
          by_cases c1 : j' < j
          · rw [hall j' c1] at hz'
            exact absurd hz' (by decide)
          · rw [hall' j (by omega)] at hz
            exact absurd hz (by decide)
        subst e
        refine ⟨rfl, ht_mkR (ht_Rput hR hj ha hb1 hb hc (ht_ad64' m hm j' hj) (fun i hi => ?_) (fun i hi ne => ?_))⟩
        · rw [ht_adB' m hm j' hj i hi]
          by_cases e : i = j'
          · rw [e, pk_us, decide_eq_true rfl, Bool.or_true]
            rfl
          · rw [pk_un e, decide_eq_false e, Bool.or_false]
            exact (hY i hi).1
        · rw [ht_adB' m hm j' hj i hi, decide_eq_false ne, Bool.or_false]
      · rw [hall' j hj] at hz
        exact absurd hz (by decide)
    · unfold wpY_add
      dsimp only
      refine ht_nbY (fun _ => br_f (by decide) ⟨7, ht_yaL hY (fun j' hj' hall' hz' => ?_) (fun hall' => ⟨rfl, ht_mkR hR⟩) 6 0 rfl (fun i hi => absurd hi (Nat.not_lt_zero _))⟩) (fun hn' => absurd hn hn')
      rw [hall j' hj'] at hz'
      exact absurd hz' (by decide)
  · unfold wpY_add
    dsimp only
    exact ht_nbY (fun hn' => absurd hn' hn) (fun _ => br_t rfl ⟨rfl, ht_mkR hR⟩)
theorem i_vc_remove {k : Nat} {u : SX} {v : SY} (I : i_Rel k u v) (hk : k + 5 ≤ 2560) (v1 : Int32) : wpX_remove (fun r u' => wpY_remove (fun r' v' => r' = r ∧ i_Rel (k + 5) u' v') v v1) u v1 := by
  refine ht_el (P := fun u v => wpX_remove (fun r u' => wpY_remove (fun r' v' => r' = r ∧ i_Rel (k + 5) u' v') v v1) u v1) ?_ I
  intro m r p q kn ll aR aP aQ aL aT aD aG aB fn fo aH aC aI aS hR
  have hY := ht_RY hR
  have hm := hR.1
  unfold wpX_remove
  dsimp only
  refine ht_hasG hm (fun j hj ej mj => br_f (by decide) ?_) (fun hn => br_t rfl ?_)
  · subst ej
    refine nm_r (ht_rmI' m hm j hj) ?_
    unfold wpY_remove
    dsimp only
    refine ht_isG hY (fun j' hj' ej' mj' => br_f (by decide) ⟨vp_in_nI hj (by decide), nm_r (e' := upd aH j 0) (by rw [nI_clamp (by omega), ht_vb0]) ⟨rfl, ht_mkR (r := r) (p := p) (q := q) ⟨ht_rm64 hm, fun i hi => ?_, Or.inl rfl⟩⟩⟩) (fun hn => absurd mj (by rw [hn j hj rfl]; decide))
    obtain ⟨x1, x2, x3, x4, x5, x6, x7, x8, x9, x10, x11⟩ := hR.2.1 i hi
    have hB := ht_rmB' m hm j hj i hi
    refine ⟨x1, x2, x3, ?_, x5, x6, x7, x8, x9, x10, fun z => x11 ((ht_rmB hm hj).mp z).1⟩
    rw [hB]
    by_cases e : i = j
    · rw [e, pk_us, decide_eq_false (fun z => z rfl), Bool.and_false]
      rfl
    · rw [pk_un e, decide_eq_true e, Bool.and_true]
      exact x4
  · unfold wpY_remove
    dsimp only
    exact ht_isG hY (fun j hj ej mj => absurd mj (by rw [hn j hj ej]; decide)) (fun _ => br_t rfl ⟨rfl, ht_mkR hR⟩)
theorem i_vc_change {k : Nat} {u : SX} {v : SY} (I : i_Rel k u v) (hk : k + 5 ≤ 2560) (v1 : Int32) (v2 : Int32) (v3 : Int32) (v4 : Int32) : wpX_change (fun r u' => wpY_change (fun r' v' => r' = r ∧ i_Rel (k + 5) u' v') v v1 v2 v3 v4) u v1 v2 v3 v4 := by
  refine ht_el (P := fun u v => wpX_change (fun r u' => wpY_change (fun r' v' => r' = r ∧ i_Rel (k + 5) u' v') v v1 v2 v3 v4) u v1 v2 v3 v4) ?_ I
  intro m r p q kn ll aR aP aQ aL aT aD aG aB fn fo aH aC aI aS hR
  have hY := ht_RY hR
  have hm := hR.1
  unfold wpX_change
  dsimp only
  refine ht_hasG hm (fun j hj ej mj => br_f (by decide) ?_) (fun hn => br_t rfl ?_)
  · subst ej
    refine ht_nbX (fun hn => br_f (by decide) ?_) (fun hn => br_t rfl ?_)
    · obtain ⟨a, b, c, ea, eb, ec, ha, hb1, hb, hc⟩ := ht_nbN hn
      subst ea eb ec
      refine ht_putW hj ha hb hc ?_
      unfold wpY_change
      dsimp only
      refine ht_isG hY (fun j' hj' ej' mj' => br_f (by decide) (ht_nbY (fun _ => br_f (by decide) (ht_holdW hj ⟨rfl, ht_mkR (ht_Rput hR hj ha hb1 hb hc hm (fun i hi => (hY i hi).1) (fun i hi ne => rfl))⟩)) (fun hn' => absurd hn hn'))) (fun hn => absurd mj (by rw [hn j hj rfl]; decide))
    · unfold wpY_change
      dsimp only
      exact ht_isG hY (fun j' hj' ej' mj' => br_f (by decide) (ht_nbY (fun hn' => absurd hn' hn) (fun _ => br_t rfl ⟨rfl, ht_mkR hR⟩))) (fun hn => absurd mj (by rw [hn j hj rfl]; decide))
  · unfold wpY_change
    dsimp only
    exact ht_isG hY (fun j hj ej mj => absurd mj (by rw [hn j hj ej]; decide)) (fun _ => br_t rfl ⟨rfl, ht_mkR hR⟩)
theorem i_vc_jobs {k : Nat} {u : SX} {v : SY} (I : i_Rel k u v) (hk : k + 5 ≤ 2560) : wpX_jobs (fun r => wpY_jobs (fun r' => r' = r ∧ i_Rel (k + 5) u v) v) u := by
  refine ht_el (P := fun u v => wpX_jobs (fun r => wpY_jobs (fun r' => r' = r ∧ i_Rel (k + 5) u v) v) u) ?_ I
  intro m r p q kn ll aR aP aQ aL aT aD aG aB fn fo aH aC aI aS hR
  unfold wpX_jobs
  dsimp only
  exact ht_jobW hR.1 (ht_RY hR) ⟨rfl, ht_mkR hR⟩
theorem i_vc_part {k : Nat} {u : SX} {v : SY} (I : i_Rel k u v) (hk : k + 5 ≤ 2560) (v1 : Int32) (v2 : Int32) : wpX_part (fun r => wpY_part (fun r' => r' = r ∧ i_Rel (k + 5) u v) v v1 v2) u v1 v2 := by
  refine ht_el (P := fun u v => wpX_part (fun r => wpY_part (fun r' => r' = r ∧ i_Rel (k + 5) u v) v v1 v2) u v1 v2) ?_ I
  intro m r p q kn ll aR aP aQ aL aT aD aG aB fn fo aH aC aI aS hR
  have hY := ht_RY hR
  have hm := hR.1
  unfold wpX_part
  dsimp only
  refine ht_hasG hm (fun j hj ej mj => br_f (by decide) ?_) (fun hn => br_t rfl ?_)
  · subst ej
    obtain ⟨x1, x2, x3, x4, x5, x6, x7, x8, x9, x10, x11⟩ := hR.2.1 j hj
    have hin : vp_in (nI j) 6 := vp_in_nI hj (by decide)
    have hc : (nI j).toNatClampNeg = j := nI_clamp (by omega)
    have yy : ∀ {post : Int32 → Prop}, ((v2 < 0 → post (-1)) ∧ (¬ v2 < 0 → ((2 < v2 → post (-1)) ∧ (¬ 2 < v2 → (vp_in ((3 * nI j) + v2) 18 ∧ post (aC ((3 * nI j) + v2).toNatClampNeg)))))) → wpY_part post (fn, fo, aH, aC, aI, aS) (nI j) v2 := by
      intro post h
      unfold wpY_part
      dsimp only
      exact ht_isG hY (fun j' hj' ej' mj' => br_f (by decide) h) (fun hn => absurd mj (by rw [hn j hj rfl]; decide))
    rcases pk_ix v2 (n := 3) (by decide) with h | h | ⟨w, hw, ew⟩
    · exact br_t h (yy (br_t h ⟨rfl, ht_mkR hR⟩))
    · have h2 : ¬ v2 < 0 := Int32.not_lt.mpr (Int32.le_trans (nI_pos' (n := 3) (by decide)) h)
      have h3 : ¬ v2 ≤ 2 := Int32.not_le.mpr (Int32.lt_of_lt_of_le (nI_lt (a := 2) (b := 3) (by decide) (by decide)) h)
      have h4 : (2 : Int32) < v2 := Int32.lt_of_lt_of_le (nI_lt (a := 2) (b := 3) (by decide) (by decide)) h
      exact br_f h2 (br_f h3 (yy (br_f h2 (br_t h4 ⟨rfl, ht_mkR hR⟩))))
    · subst ew
      refine br_f (nI_pos (by omega)) (br_t (nI_le (b := 2) (by omega) (by decide)) ?_)
      have hY2 : ∀ {post : Int32 → Prop}, post (aC (3 * j + w)) → wpY_part post (fn, fo, aH, aC, aI, aS) (nI j) (nI w) := by
        intro post h
        have e3 : (3 : Int32) * nI j + nI w = nI (3 * j + w) := by rw [ht_3, nI_add]
        refine yy (br_f (nI_pos (by omega)) (br_f (nI_nlt (a := 2) (by omega) (by decide)) ⟨by rw [e3]; exact vp_in_nI (by omega) (by decide), ?_⟩))
        rw [e3, nI_clamp (by omega)]
        exact h
      match w, hw with
      | 0, _ => exact br_t (by decide) ⟨hin, by rw [hc]; exact hY2 ⟨by rw [x1]; exact x5, ht_mkR hR⟩⟩
      | 1, _ => exact br_f (by decide) (br_t (by decide) ⟨hin, by rw [hc]; exact hY2 ⟨by rw [x2]; exact x6, ht_mkR hR⟩⟩)
      | 2, _ => exact br_f (by decide) (br_f (by decide) ⟨hin, by rw [hc]; exact hY2 ⟨by rw [x3]; exact x7, ht_mkR hR⟩⟩)
  · unfold wpY_part
    dsimp only
    exact ht_isG hY (fun j hj ej mj => absurd mj (by rw [hn j hj ej]; decide)) (fun _ => br_t rfl ⟨rfl, ht_mkR hR⟩)
end
section
/-! what is owed: the searches -/
section
variable {m : Nat} {r p q : Nat → Nat} {kn ll : Int32} {aR aP aQ aL aT aD aG aB : Nat → Int32} {fn fo : Int32} {aH aC aI aS : Nat → Int32}
theorem ht_RK {ll' : Int32} {aB' : Nat → Int32} (h : ht_R m r p q kn ll aR aP aQ aB aH aC) (hK : ht_K m r p q ll' aB') : ht_R m r p q 1 ll' aR aP aQ aB' aH aC := ⟨h.1, h.2.1, Or.inr ⟨rfl, hK⟩⟩
end
theorem i_vc_least {k : Nat} {u : SX} {v : SY} (I : i_Rel k u v) (hk : k + 5 ≤ 2560) : wpX_least (fun r u' => wpY_least (fun r' v' => r' = r ∧ i_Rel (k + 5) u' v') v) u := by
  refine ht_el (P := fun u v => wpX_least (fun r u' => wpY_least (fun r' v' => r' = r ∧ i_Rel (k + 5) u' v') v) u) ?_ I
  intro m r p q kn ll aR aP aQ aL aT aD aG aB fn fo aH aC aI aS hR
  have hY := ht_RY hR
  have hm := hR.1
  unfold wpX_least
  dsimp only
  refine ht_leW (ht_RE hR) hm hR.2.2 (fun ll' aL' aT' aD' aG' aB' hK => ?_)
  unfold wpY_least
  dsimp only
  refine ht_loW (fn := fn) (fo := fo) (f := 0) (g := 0) hm hY (by decide) (by decide) (fun b aI' aS' c1 => ⟨?_, ht_mkR (ht_RK hR hK)⟩)
  obtain ⟨v0, s, e, _, hb, _⟩ := hK
  rw [e, ht_bs_u (ht_lo0 hm c1) hb]
theorem i_vc_bestAt {k : Nat} {u : SX} {v : SY} (I : i_Rel k u v) (hk : k + 5 ≤ 2560) (v1 : Int32) : wpX_bestAt (fun r u' => wpY_bestAt (fun r' v' => r' = r ∧ i_Rel (k + 5) u' v') v v1) u v1 := by
  refine ht_el (P := fun u v => wpX_bestAt (fun r u' => wpY_bestAt (fun r' v' => r' = r ∧ i_Rel (k + 5) u' v') v v1) u v1) ?_ I
  intro m r p q kn ll aR aP aQ aL aT aD aG aB fn fo aH aC aI aS hR
  have hY := ht_RY hR
  have hm := hR.1
  have hp := ht_pcle' m hm
  obtain ⟨v0, s0, hv0, hb0, hg0⟩ := ht_bx (ht_EY3 hY) hm
  have yy : ∀ {post : Int32 → SY → Prop}, (∀ aI' aS', (∀ i, i < ht_pc m → aI' i = nI (s0.getD i 0)) → ((v1 < 0 → post (-1) (nI (ht_pc m), nI (ht_fc (ht_pc m)), aH, aC, aI', aS')) ∧ (¬ v1 < 0 → ((v1 < nI (ht_pc m) → (vp_in v1 6 ∧ post (aI' v1.toNatClampNeg) (nI (ht_pc m), nI (ht_fc (ht_pc m)), aH, aC, aI', aS'))) ∧ (¬ v1 < nI (ht_pc m) → post (-1) (nI (ht_pc m), nI (ht_fc (ht_pc m)), aH, aC, aI', aS')))))) → wpY_bestAt post (fn, fo, aH, aC, aI, aS) v1 := by
    intro post h
    unfold wpY_bestAt
    dsimp only
    exact ht_beW hm hY hv0 hb0 hg0 (fun aI' aS' c1 _ => h aI' aS' c1)
  unfold wpX_bestAt
  dsimp only
  refine br_c (fun z => yy (fun aI' aS' _ => br_t z ⟨rfl, ht_mkR hR⟩)) (fun z => ht_cnt hm (br_c (fun z2 => ?_) (fun z2 => yy (fun aI' aS' _ => br_f z (br_f z2 ⟨rfl, ht_mkR hR⟩)))))
  obtain ⟨i, hi, ei⟩ := nI_of z
  have hip : i < ht_pc m := by
    rw [ei] at z2
    exact (nI_ltI hi (by omega)).mp z2
  refine ht_leW (ht_RE hR) hm hR.2.2 (fun ll' aL' aT' aD' aG' aB' hK => ?_)
  have hin : vp_in v1 6 := by rw [ei]; exact vp_in_nI (by omega) (by decide)
  refine ⟨hin, yy (fun aI' aS' c1 => br_f z (br_t z2 ⟨hin, ?_, ht_mkR (ht_RK hR hK)⟩))⟩
  obtain ⟨v2, s2, e2, _, hb2, hg2, hB2⟩ := hK
  have ev := ht_bs_u hb2 hb0
  subst ev
  show aI' v1.toNatClampNeg = aB' v1.toNatClampNeg
  rw [ei, nI_clamp hi, c1 i hip, hB2 i hip]
  obtain ⟨c, _, es, hc⟩ := ht_grod (ht_pc m) s0 m 0 0 hm rfl hg0
  obtain ⟨c', _, es', hc'⟩ := ht_grod (ht_pc m) s2 m 0 0 hm rfl hg2
  have e : c = c' := by
    apply Classical.byContradiction
    intro ne
    by_cases l : c < c'
    · refine hc' c l ?_
      rw [es]
      exact ht_grv _ _ _ _ hg0
    · refine hc c' (by omega) ?_
      rw [es']
      exact ht_grv _ _ _ _ hg2
  rw [← es, ← es', e]
theorem i_vc_begins {k : Nat} {u : SX} {v : SY} (I : i_Rel k u v) (hk : k + 5 ≤ 2560) (v1 : Int32) : wpX_begins (fun r u' => wpY_begins (fun r' v' => r' = r ∧ i_Rel (k + 5) u' v') v v1) u v1 := by
  refine ht_el (P := fun u v => wpX_begins (fun r u' => wpY_begins (fun r' v' => r' = r ∧ i_Rel (k + 5) u' v') v v1) u v1) ?_ I
  intro m r p q kn ll aR aP aQ aL aT aD aG aB fn fo aH aC aI aS hR
  have hY := ht_RY hR
  have hE := ht_RE hR
  have hm := hR.1
  have hp := ht_pcle' m hm
  have yy : ∀ {post : Int32 → SY → Prop} {v0 : Nat} {s0 : List Nat}, v0 < 100000 → ht_bs (ht_vs r p q 6 0 m 0 0) 100000 v0 → ht_gr r p q v0 m 0 0 s0 → (∀ aI' aS', (∀ x, m.testBit x = true → aS' x = nI (ht_st r p 0 s0 x)) → wpY_is (fun r_8 => ((r_8 = 0 → post (-1) (nI (ht_pc m), nI (ht_fc (ht_pc m)), aH, aC, aI', aS')) ∧ (¬ r_8 = 0 → (vp_in v1 6 ∧ post (aS' v1.toNatClampNeg) (nI (ht_pc m), nI (ht_fc (ht_pc m)), aH, aC, aI', aS'))))) (nI (ht_pc m), nI (ht_fc (ht_pc m)), aH, aC, aI', aS') v1) → wpY_begins post (fn, fo, aH, aC, aI, aS) v1 := by
    intro post v0 s0 hv0 hb0 hg0 h
    unfold wpY_begins
    dsimp only
    exact ht_beW hm hY hv0 hb0 hg0 (fun aI' aS' _ c2 => h aI' aS' c2)
  unfold wpX_begins
  dsimp only
  refine ht_hasG hm (fun j hj ej mj => br_f (by decide) ?_) (fun hn => br_t rfl ?_)
  · subst ej
    refine ht_leW hE hm hR.2.2 (fun ll' aL' aT' aD' aG' aB' hK => ?_)
    have hR' := ht_RK hR hK
    obtain ⟨v2, s2, e2, hv2, hb2, hg2, hB2⟩ := hK
    have hc := ht_grcp s2 m 0 0 hm hg2
    have hl := ht_cpl s2 m hm hc
    refine nm_e (nm_e ⟨s2.length, ht_xbL hE hj s2 m 0 0 0 aT' (upd aD' 0 0) (upd aG' 0 0) hm hc mj (by omega) (by omega) (by omega) (fun i hi => ?_) pk_us pk_us (fun aT2 aD2 aG2 => ?_)⟩)
    · rw [Nat.zero_add]
      exact hB2 i (by omega)
    · refine yy hv2 hb2 hg2 (fun aI' aS' c2 => ht_isG hY (fun j' hj' ej' mj' => br_f (by decide) ⟨vp_in_nI hj (by decide), ?_, ht_mkR hR'⟩) (fun hn => absurd mj (by rw [hn j hj rfl]; decide)))
      rw [nI_clamp (by omega)]
      exact c2 j mj
  · obtain ⟨v0, s0, hv0, hb0, hg0⟩ := ht_bx (ht_EY3 hY) hm
    exact yy hv0 hb0 hg0 (fun aI' aS' c2 => ht_isG hY (fun j hj ej mj => absurd mj (by rw [hn j hj ej]; decide)) (fun _ => br_t rfl ⟨rfl, ht_mkR hR⟩))
theorem i_vc_leastWith {k : Nat} {u : SX} {v : SY} (I : i_Rel k u v) (hk : k + 5 ≤ 2560) (v1 : Int32) (v2 : Int32) : wpX_leastWith (fun r u' => wpY_leastWith (fun r' v' => r' = r ∧ i_Rel (k + 5) u' v') v v1 v2) u v1 v2 := by
  refine ht_el (P := fun u v => wpX_leastWith (fun r u' => wpY_leastWith (fun r' v' => r' = r ∧ i_Rel (k + 5) u' v') v v1 v2) u v1 v2) ?_ I
  intro m r p q kn ll aR aP aQ aL aT aD aG aB fn fo aH aC aI aS hR
  have hY := ht_RY hR
  have hE := ht_RE hR
  have hm := hR.1
  unfold wpX_leastWith
  dsimp only
  refine ht_hasG hm (fun f hf ef mf => br_f (by decide) (ht_hasG hm (fun g hg eg mg => br_f (by decide) ?_) (fun hn => br_t rfl ?_))) (fun hn => br_t rfl ?_)
  · subst ef eg
    have yy : ∀ {post : Int32 → SY → Prop}, ((nI f = nI g → post (-1) (fn, fo, aH, aC, aI, aS)) ∧ (¬ nI f = nI g → wpY_leastOf post (fn, fo, aH, aC, aI, aS) (nI f) (nI g))) → wpY_leastWith post (fn, fo, aH, aC, aI, aS) (nI f) (nI g) := by
      intro post h
      unfold wpY_leastWith
      dsimp only
      exact ht_isG hY (fun _ _ _ _ => br_f (by decide) (ht_isG hY (fun _ _ _ _ => br_f (by decide) h) (fun hn => absurd mg (by rw [hn g hg rfl]; decide)))) (fun hn => absurd mf (by rw [hn f hf rfl]; decide))
    refine br_c (fun e => yy (br_t e ⟨rfl, ht_mkR hR⟩)) (fun e => ?_)
    have hfg : f ≠ g := fun z => e (by rw [z])
    refine ht_plain hE hm (Or.inr ⟨hf, hg, rfl, rfl, mf⟩) (fun b aL' aT' aD' aG' c1 _ _ => yy (br_f e ?_))
    refine ht_loW (fn := fn) (fo := fo) hm hY hf hg (fun b' aI' aS' c2 => ⟨?_, ht_mkR hR⟩)
    rw [ht_bs_u (ht_lofg hm hfg mf mg c2) c1]
  · unfold wpY_leastWith
    dsimp only
    subst ef
    exact ht_isG hY (fun _ _ _ _ => br_f (by decide) (ht_isG hY (fun j hj ej mj => absurd mj (by rw [hn j hj ej]; decide)) (fun _ => br_t rfl ⟨rfl, ht_mkR hR⟩))) (fun hn2 => absurd mf (by rw [hn2 f hf rfl]; decide))
  · unfold wpY_leastWith
    dsimp only
    exact ht_isG hY (fun j hj ej mj => absurd mj (by rw [hn j hj ej]; decide)) (fun _ => br_t rfl ⟨rfl, ht_mkR hR⟩)
theorem i_vc_leastFirst {k : Nat} {u : SX} {v : SY} (I : i_Rel k u v) (hk : k + 5 ≤ 2560) (v1 : Int32) : wpX_leastFirst (fun r u' => wpY_leastFirst (fun r' v' => r' = r ∧ i_Rel (k + 5) u' v') v v1) u v1 := by
  refine ht_el (P := fun u v => wpX_leastFirst (fun r u' => wpY_leastFirst (fun r' v' => r' = r ∧ i_Rel (k + 5) u' v') v v1) u v1) ?_ I
  intro m r p q kn ll aR aP aQ aL aT aD aG aB fn fo aH aC aI aS hR
  have hY := ht_RY hR
  have hE := ht_RE hR
  have hm := hR.1
  unfold wpX_leastFirst
  dsimp only
  refine ht_hasG hm (fun j hj ej mj => br_f (by decide) ?_) (fun hn => br_t rfl ?_)
  · subst ej
    have hpr := ht_pcrm hm mj
    obtain ⟨_, _, _, bR, bP, bQ⟩ := hE j hj
    refine nm_e (nm_e (ht_plW (k := 0) (t := 0) (l := 0) hE (by omega) hj (show upd aD 0 0 0 = nI 0 from pk_us) (show upd aG 0 0 0 = nI 0 from pk_us) (by omega) (by omega) ?_))
    dsimp only
    refine ht_seW (fx := 1) (R := ht_rm m j) (aT := upd aT 0 (nI j)) (aD := upd (upd aD 0 0) (0 + 1) (nI (max 0 (r j) + p j))) (aG := upd (upd aG 0 0) (0 + 1) (nI (max 0 (max 0 (r j) + p j + q j)))) (t := max 0 (r j) + p j) (l := max 0 (max 0 (r j) + p j + q j)) hE hm (ht_fs6 m _) (ht_rm64 hm) (ht_sbrm' m hm m hm j hj (ht_dfm' m hm).2) (by omega) ?_ pk_us pk_us (by omega) (by omega) (fun b aL' aT' aD' aG' c1 _ => ?_)
    · show ht_us _ 0 ||| ((1 : Int32) <<< (upd aT 0 (nI j) 0 &&& 31)) = _
      rw [pk_us, ht_usm hm, ht_adI' _ (ht_df64 hm) j hj, ht_dfad' m hm m hm j hj (ht_dfm' m hm).2 mj]
    · unfold wpY_leastFirst
      dsimp only
      refine ht_isG hY (fun _ _ _ _ => br_f (by decide) ?_) (fun hn => absurd mj (by rw [hn j hj rfl]; decide))
      refine ht_ycW (fn := fn) (fo := fo) hm hY ⟨_, ht_lfL hm hY hj (by omega) (fun b' aI' aS' c2 => ⟨?_, ht_mkR hR⟩) _ 0 (Nat.zero_add _) 100000 aI aS ht_vc0⟩
      rw [ht_bs_u (ht_lf0 hm mj c2) c1]
  · unfold wpY_leastFirst
    dsimp only
    exact ht_isG hY (fun j hj ej mj => absurd mj (by rw [hn j hj ej]; decide)) (fun _ => br_t rfl ⟨rfl, ht_mkR hR⟩)
theorem i_vc_interrupted {k : Nat} {u : SX} {v : SY} (I : i_Rel k u v) (hk : k + 5 ≤ 2560) : wpX_interrupted (fun r u' => wpY_interrupted (fun r' => r' = r ∧ i_Rel (k + 5) u' v) v) u := by
  refine ht_el (P := fun u v => wpX_interrupted (fun r u' => wpY_interrupted (fun r' => r' = r ∧ i_Rel (k + 5) u' v) v) u) ?_ I
  intro m r p q kn ll aR aP aQ aL aT aD aG aB fn fo aH aC aI aS hR
  have hY := ht_RY hR
  have hm := hR.1
  unfold wpX_interrupted
  dsimp only
  refine ht_intW (fr := 0) (ht_RE hR) hm (by omega) (fun len aL' hS => ht_yiW hm hY (fun j hj => ?_) (fun μ hU hV => ⟨?_, ht_mkR hR⟩))
  · obtain ⟨_, _, _, _, _, _, _, a, _, b, _⟩ := hR.2.1 j hj
    exact ⟨a, b⟩
  · rw [ht_same hm (fun j hj => by obtain ⟨_, _, _, _, _, _, _, _, _, _, a⟩ := hR.2.1 j hj; exact a) hS hU hV]
theorem i_vc_tailFor {k : Nat} {u : SX} {v : SY} (I : i_Rel k u v) (hk : k + 5 ≤ 2560) (v1 : Int32) (v2 : Int32) : wpX_tailFor (fun r u' => wpY_tailFor (fun r' v' => r' = r ∧ i_Rel (k + 5) u' v') v v1 v2) u v1 v2 := by
  refine ht_el (P := fun u v => wpX_tailFor (fun r u' => wpY_tailFor (fun r' v' => r' = r ∧ i_Rel (k + 5) u' v') v v1 v2) u v1 v2) ?_ I
  intro m r p q kn ll aR aP aQ aL aT aD aG aB fn fo aH aC aI aS hR
  have hY := ht_RY hR
  have hE := ht_RE hR
  have hm := hR.1
  by_cases c : ∃ j, j < 6 ∧ v1 = nI j ∧ m.testBit j = true
  · obtain ⟨j, hj, ej, mj⟩ := c
    subst ej
    refine ht_tfW hm hE hj mj (fun x aL' aT' aD' aG' c1 => ?_)
    unfold wpY_tailFor
    dsimp only
    refine ht_gW (rv := fun _ => r) (qv := fun v => ht_up q j v) (i := 3 * j + 2) (fn := fn) (fo := fo) hm hY hj mj (by omega) (ht_32 j) (fun v hv i hi => ?_) (fun v s hv hs => ?_) (fun x' aI' aS' c2 => ⟨ht_gt_u c2 c1, ht_mkR hR⟩)
    · obtain ⟨x1, x2, x3, x4, x5, x6, x7⟩ := hY i hi
      rw [pk_un (show 3 * i ≠ 3 * j + 2 by omega), pk_un (show 3 * i + 1 ≠ 3 * j + 2 by omega)]
      by_cases e : i = j
      · rw [e, pk_us, ht_ups, ← e]
        exact ⟨x1, x2, x3, rfl, x5, x6, hv⟩
      · rw [pk_un (show 3 * i + 2 ≠ 3 * j + 2 by omega), ht_upn e]
        exact ⟨x1, x2, x3, x4, x5, x6, x7⟩
    · have := ht_lnJ r p (ht_up q j v) 6 0 s m 0 0 j hm hs mj
      rw [ht_ups] at this
      omega
  · have hn : ∀ j, j < 6 → v1 = nI j → m.testBit j = false := fun j hj ej => ht_tf (fun z => c ⟨j, hj, ej, z⟩)
    unfold wpX_tailFor
    dsimp only
    refine ht_hasG hm (fun j hj ej mj => absurd mj (by rw [hn j hj ej]; decide)) (fun _ => br_t rfl ?_)
    unfold wpY_tailFor wpY_greatest
    dsimp only
    exact ht_isG hY (fun j hj ej mj => absurd mj (by rw [hn j hj ej]; decide)) (fun _ => br_t rfl ⟨rfl, ht_mkR hR⟩)
theorem i_vc_releaseFor {k : Nat} {u : SX} {v : SY} (I : i_Rel k u v) (hk : k + 5 ≤ 2560) (v1 : Int32) (v2 : Int32) : wpX_releaseFor (fun r u' => wpY_releaseFor (fun r' v' => r' = r ∧ i_Rel (k + 5) u' v') v v1 v2) u v1 v2 := by
  refine ht_el (P := fun u v => wpX_releaseFor (fun r u' => wpY_releaseFor (fun r' v' => r' = r ∧ i_Rel (k + 5) u' v') v v1 v2) u v1 v2) ?_ I
  intro m r p q kn ll aR aP aQ aL aT aD aG aB fn fo aH aC aI aS hR
  have hY := ht_RY hR
  have hE := ht_RE hR
  have hm := hR.1
  by_cases c : ∃ j, j < 6 ∧ v1 = nI j ∧ m.testBit j = true
  · obtain ⟨j, hj, ej, mj⟩ := c
    subst ej
    refine ht_rfW hm hE hj mj (fun x aL' aT' aD' aG' c1 => ?_)
    unfold wpY_releaseFor
    dsimp only
    refine ht_gW (rv := fun v => ht_up r j v) (qv := fun _ => q) (i := 3 * j) (fn := fn) (fo := fo) hm hY hj mj (by omega) (by rw [ht_3]; exact nI_add _ 0) (fun v hv i hi => ?_) (fun v s hv hs => ?_) (fun x' aI' aS' c2 => ⟨ht_gt_u c2 c1, ht_mkR hR⟩)
    · obtain ⟨x1, x2, x3, x4, x5, x6, x7⟩ := hY i hi
      rw [pk_un (show 3 * i + 1 ≠ 3 * j by omega), pk_un (show 3 * i + 2 ≠ 3 * j by omega)]
      by_cases e : i = j
      · rw [e, pk_us, ht_ups, ← e]
        exact ⟨x1, rfl, x3, x4, hv, x6, x7⟩
      · rw [pk_un (show 3 * i ≠ 3 * j by omega), ht_upn e]
        exact ⟨x1, x2, x3, x4, x5, x6, x7⟩
    · have := ht_lnJ (ht_up r j v) p q 6 0 s m 0 0 j hm hs mj
      rw [ht_ups] at this
      omega
  · have hn : ∀ j, j < 6 → v1 = nI j → m.testBit j = false := fun j hj ej => ht_tf (fun z => c ⟨j, hj, ej, z⟩)
    unfold wpX_releaseFor
    dsimp only
    refine ht_hasG hm (fun j hj ej mj => absurd mj (by rw [hn j hj ej]; decide)) (fun _ => br_t rfl ?_)
    unfold wpY_releaseFor wpY_greatest
    dsimp only
    exact ht_isG hY (fun j hj ej mj => absurd mj (by rw [hn j hj ej]; decide)) (fun _ => br_t rfl ⟨rfl, ht_mkR hR⟩)
end
