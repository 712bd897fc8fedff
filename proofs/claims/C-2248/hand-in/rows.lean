section
/-! pure rows to paste: stores, nI and lN arithmetic, masks, shifts, narrowing, branches by naturals (pk_le, pk_lt, pk_eq), loops (lp1 .. lp16: the measure of the state; rp1 ..: recursion), negatives. Take what you need -/
theorem pk_us {f : Nat → Int32} {k : Nat} {x : Int32} : upd f k x k = x := if_pos rfl
theorem pk_un {f : Nat → Int32} {k j : Nat} {x : Int32} (h : j ≠ k) : upd f k x j = f j := if_neg h
theorem pk_sub {a b : Nat} (h : b ≤ a) : nI a - nI b = nI (a - b) := by
  obtain ⟨c, rfl⟩ : ∃ c, a = c + b := ⟨a - b, by omega⟩
  rw [← nI_add, Int32.add_sub_cancel, Nat.add_sub_cancel]
theorem pk_m1 (n : Nat) : nI (n + 1) + (-1) = nI n := by
  rw [← nI_1, Int32.add_assoc, show (1 : Int32) + (-1) = 0 from rfl, Int32.add_zero]
theorem pk_mul (a b : Nat) : nI a * nI b = nI (a * b) := (Int32.ofNat_mul a b).symm
theorem pk_div {a d : Nat} (ha : a < 2 ^ 31) (h0 : 0 < d) (hd : d < 2 ^ 31) : nI a / nI d = nI (a / d) := by
  apply Int32.toInt_inj.mp
  rw [lg_idiv_nonneg (by rw [nI_toInt ha]; omega) (by rw [nI_toInt hd]; omega), nI_toInt ha, nI_toInt hd, nI_toInt (Nat.lt_of_le_of_lt (Nat.div_le_self a d) ha)]
  first | rfl | exact (Int.natCast_ediv _ _).symm
theorem pk_rem {a d : Nat} (ha : a < 2 ^ 31) (h0 : 0 < d) (hd : d < 2 ^ 31) : nI a - nI a / nI d * nI d = nI (a % d) := by
  rw [pk_div ha h0 hd, pk_mul, pk_sub (Nat.div_mul_le_self a d)]
  exact congrArg nI (by have := Nat.div_add_mod' a d; omega)
theorem pk_sub_toInt {a b : Nat} (ha : a < 2 ^ 30) (hb : b < 2 ^ 30) : (nI a - nI b).toInt = (a : Int) - b := by
  rw [Int32.toInt_sub, nI_toInt (by omega), nI_toInt (by omega)]
  exact Int.bmod_eq_of_le (by omega) (by omega)
theorem pk_sneg {a b : Nat} (hb : b < 2 ^ 30) (h : a < b) : nI a - nI b < 0 := by
  rw [Int32.lt_iff_toInt_lt, pk_sub_toInt (by omega) hb, show (0 : Int32).toInt = 0 from by decide]
  omega
theorem pk_ix (x : Int32) {n : Nat} (hn : n < 2 ^ 31) : x < 0 ∨ nI n ≤ x ∨ ∃ j : Nat, j < n ∧ x = nI j := by
  by_cases h : x < 0
  · exact Or.inl h
  · obtain ⟨j, hj, rfl⟩ := nI_of h
    by_cases h2 : j < n
    · exact Or.inr (Or.inr ⟨j, h2, rfl⟩)
    · exact Or.inr (Or.inl (nI_le (by omega) hj))
theorem pk_le {x y : Int32} {A B : Prop} (a b : Nat) (f : a ≤ b → A) (g : b < a → B) (hx : x = nI a := by rfl) (hy : y = nI b := by rfl) (ha : a < 2 ^ 31 := by omega) (hb : b < 2 ^ 31 := by omega) : (x ≤ y → A) ∧ (¬ x ≤ y → B) := by
  subst hx hy
  rw [nI_leI ha hb]
  exact ⟨f, fun z => g (by omega)⟩
theorem pk_lt {x y : Int32} {A B : Prop} (a b : Nat) (f : a < b → A) (g : b ≤ a → B) (hx : x = nI a := by rfl) (hy : y = nI b := by rfl) (ha : a < 2 ^ 31 := by omega) (hb : b < 2 ^ 31 := by omega) : (x < y → A) ∧ (¬ x < y → B) := by
  subst hx hy
  rw [nI_ltI ha hb]
  exact ⟨f, fun z => g (by omega)⟩
theorem pk_eq {x y : Int32} {A B : Prop} (a b : Nat) (f : a = b → A) (g : a ≠ b → B) (hx : x = nI a := by rfl) (hy : y = nI b := by rfl) (ha : a < 2 ^ 31 := by omega) (hb : b < 2 ^ 31 := by omega) : (x = y → A) ∧ (¬ x = y → B) := by
  subst hx hy
  rw [nI_eq ha hb]
  exact ⟨f, g⟩
theorem pk_in {x : Int32} (n N : Nat) (h : n < N) (hx : x = nI n := by rfl) (hN : N < 2 ^ 31 := by omega) : vp_in x N := by
  subst hx
  exact vp_in_nI h hN
theorem pk_cl {x : Int32} (n : Nat) (hx : x = nI n := by rfl) (h : n < 2 ^ 31 := by omega) : x.toNatClampNeg = n := by
  subst hx
  exact nI_clamp h
theorem pk_tn {n : Nat} (h : n < 2 ^ 32) : (nI n).toBitVec.toNat = n := Nat.mod_eq_of_lt h
theorem pk_and (x : Int32) {m : Int32} (k : Nat) (hm : m.toBitVec.toNat = 2 ^ k - 1) : x &&& m = nI (x.toBitVec.toNat % 2 ^ k) := by
  apply Int32.toBitVec_inj.mp
  apply BitVec.eq_of_toNat_eq
  rw [Int32.toBitVec_and, BitVec.toNat_and, hm, Nat.and_two_pow_sub_one_eq_mod]
  show _ = (BitVec.ofNat 32 _).toNat
  rw [BitVec.toNat_ofNat]
  exact (Nat.mod_eq_of_lt (Nat.lt_of_le_of_lt (Nat.mod_le _ _) x.toBitVec.isLt)).symm
theorem pk_andN {n : Nat} (h : n < 2 ^ 32) {m : Int32} (k : Nat) (hm : m.toBitVec.toNat = 2 ^ k - 1) : nI n &&& m = nI (n % 2 ^ k) := by
  rw [pk_and _ k hm, pk_tn h]
theorem pk_andE (x : Int32) {m : Int32} (k : Nat) (hm : m.toBitVec.toNat = 2 ^ k - 1) : ∃ j : Nat, j < 2 ^ k ∧ x &&& m = nI j := ⟨_, Nat.mod_lt _ (Nat.two_pow_pos k), pk_and x k hm⟩
theorem pk_andIn (x : Int32) {m : Int32} (k : Nat) (hm : m.toBitVec.toNat = 2 ^ k - 1) (hk : k ≤ 30) : vp_in (x &&& m) (2 ^ k) := by
  obtain ⟨j, hj, e⟩ := pk_andE x k hm
  rw [e]
  exact vp_in_nI hj (Nat.lt_of_le_of_lt (Nat.pow_le_pow_right (by decide) hk) (by decide))
theorem pk_shr (a s : Int32) (k : Nat) (hs : (s.toBitVec.smod 32).toNat = k) : (a >>> s).toInt = a.toInt >>> k := by
  show (a.toBitVec.sshiftRight (s.toBitVec.smod 32).toNat).toInt = _
  rw [hs, BitVec.toInt_sshiftRight]
  rfl
theorem pk_shrN {n : Nat} (h : n < 2 ^ 31) (s : Int32) (k : Nat) (hs : (s.toBitVec.smod 32).toNat = k) : nI n >>> s = nI (n / 2 ^ k) := by
  apply Int32.toInt_inj.mp
  have h2 : n / 2 ^ k ≤ n := Nat.div_le_self _ _
  rw [pk_shr _ _ k hs, nI_toInt h, nI_toInt (by omega), Int.shiftRight_eq_div_pow]
  rfl
theorem pk_nb (z : Int32) : narrow .byte (.int z.toInt8.toInt32) = .int z.toInt8.toInt32 := congrArg Value.int (by simp)
theorem pk_vb (z : Int32) : vp_nar .byte z.toInt8.toInt32 = z.toInt8.toInt32 := by rw [vp_nar_byte]; simp
theorem pk_loop {σ : Type} (W : Nat → Nat → σ → Prop) (I : Nat → σ → Prop) (e i0 : Nat) (s : σ) (hi : i0 ≤ e) (h0 : I i0 s) (hx : ∀ n s, I e s → W (n + 1) e s)
    (hs : ∀ n i s, i < e → I i s → (∀ s', I (i + 1) s' → W n (i + 1) s') → W (n + 1) i s) : ∃ n, W n i0 s :=
  ⟨e + 1, loop_i W I e hx hs (e + 1) i0 s hi (by omega) h0⟩
theorem pk_loopD {σ : Type} (W : Nat → Nat → σ → Prop) (I : Nat → σ → Prop) (hx : ∀ n s, I 0 s → W (n + 1) 0 s)
    (hs : ∀ n i s, I (i + 1) s → (∀ s', I i s' → W n i s') → W (n + 1) (i + 1) s) : ∀ (e : Nat) (s : σ), I e s → W (e + 1) e s := by
  intro e
  induction e with
  | zero => exact fun s h => hx 0 s h
  | succ e ih => exact fun s h => hs (e + 1) e s h (fun s' h' => ih s' h')
theorem lp1 {A1 : Type} (W : Nat → A1 → Prop) (I : A1 → Prop) (μ : A1 → Nat) (hs : ∀ (n : Nat) (a1 : A1), I a1 → (∀ (b1 : A1), I b1 → μ b1 < μ a1 → W n b1) → W (n + 1) a1) (a1 : A1) (h : I a1) : ∃ n, W n a1 :=
  loop_m (σ := A1) (fun n s => W n s) (fun s => I s) (fun s => μ s) (fun n s hI hk => hs n s hI (fun b1 h9 hm => hk b1 h9 hm)) a1 h
theorem lp2 {A1 A2 : Type} (W : Nat → A1 → A2 → Prop) (I : A1 → A2 → Prop) (μ : A1 → A2 → Nat) (hs : ∀ (n : Nat) (a1 : A1) (a2 : A2), I a1 a2 → (∀ (b1 : A1) (b2 : A2), I b1 b2 → μ b1 b2 < μ a1 a2 → W n b1 b2) → W (n + 1) a1 a2) (a1 : A1) (a2 : A2) (h : I a1 a2) : ∃ n, W n a1 a2 :=
  loop_m (σ := A1 × A2) (fun n s => W n s.1 s.2) (fun s => I s.1 s.2) (fun s => μ s.1 s.2) (fun n s hI hk => hs n s.1 s.2 hI (fun b1 b2 h9 hm => hk (b1, b2) h9 hm)) (a1, a2) h
theorem lp3 {A1 A2 A3 : Type} (W : Nat → A1 → A2 → A3 → Prop) (I : A1 → A2 → A3 → Prop) (μ : A1 → A2 → A3 → Nat) (hs : ∀ (n : Nat) (a1 : A1) (a2 : A2) (a3 : A3), I a1 a2 a3 → (∀ (b1 : A1) (b2 : A2) (b3 : A3), I b1 b2 b3 → μ b1 b2 b3 < μ a1 a2 a3 → W n b1 b2 b3) → W (n + 1) a1 a2 a3) (a1 : A1) (a2 : A2) (a3 : A3) (h : I a1 a2 a3) : ∃ n, W n a1 a2 a3 :=
  loop_m (σ := A1 × A2 × A3) (fun n s => W n s.1 s.2.1 s.2.2) (fun s => I s.1 s.2.1 s.2.2) (fun s => μ s.1 s.2.1 s.2.2) (fun n s hI hk => hs n s.1 s.2.1 s.2.2 hI (fun b1 b2 b3 h9 hm => hk (b1, b2, b3) h9 hm)) (a1, a2, a3) h
theorem lp4 {A1 A2 A3 A4 : Type} (W : Nat → A1 → A2 → A3 → A4 → Prop) (I : A1 → A2 → A3 → A4 → Prop) (μ : A1 → A2 → A3 → A4 → Nat) (hs : ∀ (n : Nat) (a1 : A1) (a2 : A2) (a3 : A3) (a4 : A4), I a1 a2 a3 a4 → (∀ (b1 : A1) (b2 : A2) (b3 : A3) (b4 : A4), I b1 b2 b3 b4 → μ b1 b2 b3 b4 < μ a1 a2 a3 a4 → W n b1 b2 b3 b4) → W (n + 1) a1 a2 a3 a4) (a1 : A1) (a2 : A2) (a3 : A3) (a4 : A4) (h : I a1 a2 a3 a4) : ∃ n, W n a1 a2 a3 a4 :=
  loop_m (σ := A1 × A2 × A3 × A4) (fun n s => W n s.1 s.2.1 s.2.2.1 s.2.2.2) (fun s => I s.1 s.2.1 s.2.2.1 s.2.2.2) (fun s => μ s.1 s.2.1 s.2.2.1 s.2.2.2) (fun n s hI hk => hs n s.1 s.2.1 s.2.2.1 s.2.2.2 hI (fun b1 b2 b3 b4 h9 hm => hk (b1, b2, b3, b4) h9 hm)) (a1, a2, a3, a4) h
theorem pk_least (P : Nat → Prop) (h : ∃ k, P k) : ∃ k, P k ∧ ∀ j, j < k → ¬ P j := by
  obtain ⟨k, hk⟩ := h
  induction k using Nat.strongRecOn with
  | ind k ih =>
    by_cases e : ∃ j, j < k ∧ P j
    · obtain ⟨j, hj, pj⟩ := e
      exact ih j hj pj
    · exact ⟨k, hk, fun j hj pj => e ⟨j, hj, pj⟩⟩
theorem ek_if {c d A B : Prop} (e : c ↔ d) (f : d → A) (g : ¬ d → B) : (c → A) ∧ (¬ c → B) :=
  ⟨fun z => f (e.mp z), fun z => g (fun y => z (e.mpr y))⟩
theorem ek_v {α : Sort _} {P : α → Prop} {a b : α} (e : a = b) (h : P b) : P a := e ▸ h
theorem sb_at {P : Int32 → Prop} {x y : Int32} (e : x = y) (h : P y) : P x := e ▸ h
theorem sb_negT {w : Nat} (h : w < 2 ^ 31) : (-nI w).toInt = -(w : Int) := by
  rw [Int32.toInt_neg, nI_toInt h]
  exact Int.bmod_eq_of_le (by omega) (by omega)
end
section
/-! Points of a cubic curve over a field, by lines: three points with their multiplicities on one line. -/
/-- the field: no divisors of zero, inverses, 2 and 3 not zero; the curve has no double root -/
def ec_F {K : Type} [Lean.Grind.CommRing K] (a b : K) : Prop :=
  (∀ x y : K, x * y = 0 → x = 0 ∨ y = 0) ∧ (∀ x : K, x ≠ 0 → ∃ y : K, x * y = 1) ∧ (2 : K) ≠ 0 ∧ (3 : K) ≠ 0 ∧ 4 * a * a * a + 27 * b * b ≠ 0
/-- the opposite point -/
def ec_n {K : Type} [Lean.Grind.CommRing K] : Option (K × K) → Option (K × K)
  | none => none
  | some P => some (P.1, -P.2)
/-- on the curve -/
def ec_On {K : Type} [Lean.Grind.CommRing K] (a b : K) : Option (K × K) → Prop
  | none => True
  | some P => P.2 * P.2 = P.1 * P.1 * P.1 + a * P.1 + b
/-- three points with their multiplicities on the line y = l x + v -/
def ec_L {K : Type} [Lean.Grind.CommRing K] (a b x1 y1 x2 y2 x3 y3 : K) : Prop :=
  ∃ l v : K, y1 = l * x1 + v ∧ y2 = l * x2 + v ∧ y3 = l * x3 + v ∧ l * l = x1 + x2 + x3 ∧ a - 2 * l * v = x1 * x2 + x1 * x3 + x2 * x3 ∧ v * v - b = x1 * x2 * x3
/-- three points with sum zero -/
def ec_T {K : Type} [Lean.Grind.CommRing K] (a b : K) : Option (K × K) → Option (K × K) → Option (K × K) → Prop
  | none, Q, R => R = ec_n Q
  | some P, none, R => R = some (P.1, -P.2)
  | some P, some Q, none => P.1 = Q.1 ∧ P.2 + Q.2 = 0
  | some P, some Q, some R => ec_L a b P.1 P.2 Q.1 Q.2 R.1 R.2
theorem ec_nn {K : Type} [Lean.Grind.CommRing K] (P : Option (K × K)) : ec_n (ec_n P) = P := by
  cases P with
  | none => rfl
  | some P =>
    show some (P.1, - -P.2) = some P
    have h : - -P.2 = P.2 := by grind
    rw [h]
theorem ec_n_on {K : Type} [Lean.Grind.CommRing K] {a b : K} {P : Option (K × K)} (h : ec_On a b P) : ec_On a b (ec_n P) := by
  cases P with
  | none => trivial
  | some P =>
    have h : P.2 * P.2 = P.1 * P.1 * P.1 + a * P.1 + b := h
    show -P.2 * -P.2 = P.1 * P.1 * P.1 + a * P.1 + b
    grind
theorem ec_L12 {K : Type} [Lean.Grind.CommRing K] {a b x1 y1 x2 y2 x3 y3 : K} (h : ec_L a b x1 y1 x2 y2 x3 y3) : ec_L a b x2 y2 x1 y1 x3 y3 := by
  obtain ⟨l, v, h1, h2, h3, h4, h5, h6⟩ := h
  exact ⟨l, v, h2, h1, h3, by rw [h4]; grind, by rw [h5]; grind, by rw [h6]; grind⟩
theorem ec_L23 {K : Type} [Lean.Grind.CommRing K] {a b x1 y1 x2 y2 x3 y3 : K} (h : ec_L a b x1 y1 x2 y2 x3 y3) : ec_L a b x1 y1 x3 y3 x2 y2 := by
  obtain ⟨l, v, h1, h2, h3, h4, h5, h6⟩ := h
  exact ⟨l, v, h1, h3, h2, by rw [h4]; grind, by rw [h5]; grind, by rw [h6]; grind⟩
theorem ec_Ln {K : Type} [Lean.Grind.CommRing K] {a b x1 y1 x2 y2 x3 y3 : K} (h : ec_L a b x1 y1 x2 y2 x3 y3) : ec_L a b x1 (-y1) x2 (-y2) x3 (-y3) := by
  obtain ⟨l, v, h1, h2, h3, h4, h5, h6⟩ := h
  exact ⟨-l, -v, by rw [h1]; grind, by rw [h2]; grind, by rw [h3]; grind, by rw [← h4]; grind, by rw [← h5]; grind, by rw [← h6]; grind⟩
theorem ec_T12 {K : Type} [Lean.Grind.CommRing K] {a b : K} {P Q R : Option (K × K)} (h : ec_T a b P Q R) : ec_T a b Q P R := by
  cases P with
  | none =>
    cases Q with
    | none => exact h
    | some Q => exact h
  | some P =>
    cases Q with
    | none => exact h
    | some Q =>
      cases R with
      | none =>
        have h : P.1 = Q.1 ∧ P.2 + Q.2 = 0 := h
        exact (⟨h.1.symm, by have := h.2; grind⟩ : Q.1 = P.1 ∧ Q.2 + P.2 = 0)
      | some R => exact ec_L12 h
theorem ec_T23 {K : Type} [Lean.Grind.CommRing K] {a b : K} {P Q R : Option (K × K)} (h : ec_T a b P Q R) : ec_T a b P R Q := by
  cases P with
  | none =>
    have h : R = ec_n Q := h
    show Q = ec_n R
    rw [h, ec_nn]
  | some P =>
    cases Q with
    | none =>
      have h : R = some (P.1, -P.2) := h
      subst h
      exact (⟨rfl, by grind⟩ : P.1 = P.1 ∧ P.2 + -P.2 = 0)
    | some Q =>
      cases R with
      | none =>
        have h : P.1 = Q.1 ∧ P.2 + Q.2 = 0 := h
        show some Q = some (P.1, -P.2)
        have e : Q.2 = -P.2 := by have := h.2; grind
        rw [h.1, ← e]
      | some R => exact ec_L23 h
theorem ec_Tn {K : Type} [Lean.Grind.CommRing K] {a b : K} {P Q R : Option (K × K)} (h : ec_T a b P Q R) : ec_T a b (ec_n P) (ec_n Q) (ec_n R) := by
  cases P with
  | none =>
    have h : R = ec_n Q := h
    show ec_n R = ec_n (ec_n Q)
    rw [h]
  | some P =>
    cases Q with
    | none =>
      have h : R = some (P.1, -P.2) := h
      subst h
      rfl
    | some Q =>
      cases R with
      | none =>
        have h : P.1 = Q.1 ∧ P.2 + Q.2 = 0 := h
        exact (⟨h.1, by have := h.2; grind⟩ : P.1 = Q.1 ∧ -P.2 + -Q.2 = 0)
      | some R => exact ec_Ln h
theorem ec_tan {K : Type} [Lean.Grind.CommRing K] {a x y l v x3 : K} (h1 : y = l * x + v) (h2 : l * l = x + x + x3) (h3 : a - 2 * l * v = x * x + x * x3 + x * x3) : 2 * y * l = 3 * x * x + a := by
  have e3 : x3 = l * l - x - x := by rw [h2]; clear h1 h2 h3; grind
  have ea : a = 2 * l * v + (x * x + x * x3 + x * x3) := by rw [← h3]; clear h1 h2 h3 e3; grind
  clear h2 h3
  subst e3
  subst ea
  subst h1
  grind
theorem ec_onl {K : Type} [Lean.Grind.CommRing K] {a b l v x1 x2 x3 y1 : K} (h1 : y1 = l * x1 + v) (h2 : l * l = x1 + x2 + x3) (h3 : a - 2 * l * v = x1 * x2 + x1 * x3 + x2 * x3) (h4 : v * v - b = x1 * x2 * x3) : y1 * y1 = x1 * x1 * x1 + a * x1 + b := by
  have e3 : x3 = l * l - x1 - x2 := by rw [h2]; clear h1 h2 h3 h4; grind
  have ea : a = 2 * l * v + (x1 * x2 + x1 * x3 + x2 * x3) := by rw [← h3]; clear h1 h2 h3 h4 e3; grind
  have eb : b = v * v - x1 * x2 * x3 := by rw [← h4]; clear h1 h2 h3 h4 e3 ea; grind
  clear h2 h3 h4
  subst e3
  subst ea
  subst eb
  subst h1
  grind
theorem ec_L1 {K : Type} [Lean.Grind.CommRing K] {a b x1 y1 x2 y2 x3 y3 : K} (h : ec_L a b x1 y1 x2 y2 x3 y3) : y1 * y1 = x1 * x1 * x1 + a * x1 + b := by
  obtain ⟨l, v, h1, h2, h3, h4, h5, h6⟩ := h
  exact ec_onl h1 h4 h5 h6
theorem ec_disc {K : Type} [Lean.Grind.CommRing K] {a b x : K} (t : 3 * x * x + a = 0) (o : x * x * x + a * x + b = 0) : 4 * a * a * a + 27 * b * b = 0 := by
  have ha : a = -(3 * x * x) := by grind
  have hb : b = 2 * x * x * x := by grind
  rw [ha, hb]
  grind
theorem ec_mul0 {K : Type} [Lean.Grind.CommRing K] {a b : K} (F : ec_F a b) {x y : K} (h : x * y = 0) (hx : x ≠ 0) : y = 0 :=
  (F.1 x y h).resolve_left hx
theorem ec_can {K : Type} [Lean.Grind.CommRing K] {a b : K} (F : ec_F a b) {x y z : K} (h : x * y = x * z) (hx : x ≠ 0) : y = z := by
  have h2 : x * (y - z) = 0 := by grind
  have := ec_mul0 F h2 hx
  grind
theorem ec_sub0 {K : Type} [Lean.Grind.CommRing K] {x y : K} (h : x ≠ y) : x - y ≠ 0 := by
  intro e
  exact h (by grind)
/-- a point with y = 0 has a vertical tangent: no line in the form y = l x + v touches there -/
theorem ec_y0 {K : Type} [Lean.Grind.CommRing K] {a b : K} (F : ec_F a b) {x y l v x3 : K} (h1 : y = l * x + v) (h2 : l * l = x + x + x3) (h3 : a - 2 * l * v = x * x + x * x3 + x * x3) (h4 : v * v - b = x * x * x3) : y ≠ 0 := by
  intro h0
  have t := ec_tan h1 h2 h3
  have o := ec_onl h1 h2 h3 h4
  rw [h0] at t o
  exact F.2.2.2.2 (ec_disc (x := x) (by grind) (by grind))
theorem ec_Lu {K : Type} [Lean.Grind.CommRing K] {a b : K} (F : ec_F a b) {x1 y1 x2 y2 x3 y3 x4 y4 : K} (h : ec_L a b x1 y1 x2 y2 x3 y3) (g : ec_L a b x1 y1 x2 y2 x4 y4) : x3 = x4 ∧ y3 = y4 := by
  obtain ⟨l, v, h1, h2, h3, h4, h5, h6⟩ := h
  obtain ⟨m, w, g1, g2, g3, g4, g5, g6⟩ := g
  have e : l = m := by
    by_cases hx : x1 = x2
    · subst hx
      have n := ec_y0 F h1 h4 h5 h6
      have t := ec_tan h1 h4 h5
      have s := ec_tan g1 g4 g5
      have n2 : 2 * y1 ≠ 0 := fun z => n (ec_mul0 F z F.2.2.1)
      exact ec_can F (t.trans s.symm) n2
    · refine ec_can F (x := x1 - x2) ?_ (ec_sub0 hx)
      have p : (x1 - x2) * l = y1 - y2 := by rw [h1, h2]; grind
      have q : (x1 - x2) * m = y1 - y2 := by rw [g1, g2]; grind
      rw [p, q]
  subst e
  have ev : v = w := by grind
  have ex : x3 = x4 := by grind
  exact ⟨ex, by rw [h3, g3, ex, ev]⟩
theorem ec_opp {K : Type} [Lean.Grind.CommRing K] {a b : K} (F : ec_F a b) {x1 y1 x2 y2 x3 y3 : K} (h : ec_L a b x1 y1 x2 y2 x3 y3) (e : x1 = x2) (s : y1 + y2 = 0) : False := by
  obtain ⟨l, v, h1, h2, h3, h4, h5, h6⟩ := h
  subst e
  refine ec_y0 F h1 h4 h5 h6 (ec_mul0 F (x := 2) ?_ F.2.2.1)
  grind
theorem ec_Tu {K : Type} [Lean.Grind.CommRing K] {a b : K} (F : ec_F a b) {P Q R S : Option (K × K)} (h : ec_T a b P Q R) (g : ec_T a b P Q S) : R = S := by
  cases P with
  | none =>
    have h : R = ec_n Q := h
    have g : S = ec_n Q := g
    rw [h, g]
  | some P =>
    cases Q with
    | none =>
      have h : R = some (P.1, -P.2) := h
      have g : S = some (P.1, -P.2) := g
      rw [h, g]
    | some Q =>
      cases R with
      | none =>
        cases S with
        | none => rfl
        | some S =>
          have h : P.1 = Q.1 ∧ P.2 + Q.2 = 0 := h
          exact (ec_opp F g h.1 h.2).elim
      | some R =>
        cases S with
        | none =>
          have g : P.1 = Q.1 ∧ P.2 + Q.2 = 0 := g
          exact (ec_opp F h g.1 g.2).elim
        | some S =>
          have r := ec_Lu F h g
          have e : R = S := Prod.ext r.1 r.2
          rw [e]
end
section
/-! The sum of points is associative: the function x x + al y + be x + ga with zeros at the three points and at the opposite of their sum. -/
theorem ec_f1 {K : Type} [Lean.Grind.CommRing K] {a l v m k x1 x2 x4 : K} (h2 : l * l = x1 + x2 + x4) (h3 : a - 2 * l * v = x1 * x2 + x1 * x4 + x2 * x4) (hm : m * x4 + k = -(l * x4 + v)) :
    x1 * x1 + -(l + m) * (l * x1 + v) + (x4 + l * m) * x1 + ((x4 + l * m) * x4 + a + l * k + v * m) = 0 := by
  have e : x1 * x1 + -(l + m) * (l * x1 + v) + (x4 + l * m) * x1 + ((x4 + l * m) * x4 + a + l * k + v * m)
      = x1 * x1 + x1 * x4 + x4 * x4 - (l * l) * x1 - l * v + l * (m * x4 + k) + a := by grind
  rw [e, hm]
  have e2 : x1 * x1 + x1 * x4 + x4 * x4 - (l * l) * x1 - l * v + l * (-(l * x4 + v)) + a
      = x1 * x1 + x1 * x4 + x4 * x4 - (l * l) * (x1 + x4) + (a - 2 * l * v) := by grind
  rw [e2, h2, h3]
  grind
/-- f vanishes at (x, y) -/
def ec_z {K : Type} [Lean.Grind.CommRing K] (al be ga x y : K) : Prop := x * x + al * y + be * x + ga = 0
/-- f vanishes twice at (x, y) -/
def ec_zz {K : Type} [Lean.Grind.CommRing K] (a al be x y : K) : Prop := (2 * x + be) * (2 * y) + al * (3 * x * x + a) = 0
/-- what the two lines give -/
def ec_C {K : Type} [Lean.Grind.CommRing K] (a x1 y1 x2 y2 x3 y3 x6 y6 al be ga : K) : Prop :=
  ec_z al be ga x1 y1 ∧ ec_z al be ga x2 y2 ∧ ec_z al be ga x3 y3 ∧ ec_z al be ga x6 y6 ∧ x6 = al * al - 2 * be - x1 - x2 - x3 ∧ (x1 = x2 → y1 = y2 → ec_zz a al be x1 y1) ∧ (x1 = x3 → y1 = y3 → ec_zz a al be x1 y1)
theorem ec_d1 {K : Type} [Lean.Grind.CommRing K] {a x y l m v x4 : K} (h1 : y = l * x + v) (h4 : l * l = x + x + x4) (h5 : a - 2 * l * v = x * x + x * x4 + x * x4) : (2 * x + (x4 + l * m)) * (2 * y) + -(l + m) * (3 * x * x + a) = 0 := by
  have t := ec_tan h1 h4 h5
  rw [← t]
  have e : (2 * x + (x4 + l * m)) * (2 * y) + -(l + m) * (2 * y * l) = (2 * y) * (x + x + x4 - l * l) := by grind
  rw [e, h4]
  grind
theorem ec_d2 {K : Type} [Lean.Grind.CommRing K] {a x1 y1 l m v k x2 x4 : K} (h1 : y1 = l * x1 + v) (g1 : y1 = m * x1 + k) (h4 : l * l = x1 + x2 + x4) (h5 : a - 2 * l * v = x1 * x2 + x1 * x4 + x2 * x4) (hm : m * x4 + k = -(l * x4 + v)) : (2 * x1 + (x4 + l * m)) * (2 * y1) + -(l + m) * (3 * x1 * x1 + a) = 0 := by
  have s : 2 * y1 = (l + m) * (x1 - x4) := by
    have e : 2 * y1 = (l * x1 + v) + (m * x1 + k) := by rw [← h1, ← g1]; clear h1 g1 h4 h5 hm; grind
    clear h1 g1 h4 h5
    rw [e]
    clear e
    grind
  have t : 3 * x1 * x1 + a = (x1 - x4) * (2 * x1 + x4 + l * m) := by
    have e : 3 * x1 * x1 + a = l * (2 * y1) + (x1 - x2) * (x1 - x4) := by
      have e1 : l * (2 * y1) = 2 * (l * l) * x1 + 2 * l * v := by rw [h1]; clear h1 g1 h4 h5 hm s; grind
      have ea : a = 2 * l * v + (x1 * x2 + x1 * x4 + x2 * x4) := by rw [← h5]; clear h1 g1 h4 h5 hm s e1; grind
      rw [e1, h4, ea]
      clear h1 g1 h4 h5 hm s e1 ea
      grind
    rw [e, s]
    have e2 : l * ((l + m) * (x1 - x4)) + (x1 - x2) * (x1 - x4) = (x1 - x4) * (l * l + l * m + x1 - x2) := by clear h1 g1 h4 h5 hm s e; grind
    rw [e2, h4]
    clear h1 g1 h4 h5 hm s e e2
    grind
  rw [s, t]
  clear h1 g1 h4 h5 hm s t
  grind
theorem ec_f2 {K : Type} [Lean.Grind.CommRing K] {a l v m k x3 x6 x4 : K} (h2 : m * m = x3 + x6 + x4) (h3 : a - 2 * m * k = x3 * x6 + x3 * x4 + x6 * x4) (hl : l * x4 + v = -(m * x4 + k)) :
    x3 * x3 + -(l + m) * (m * x3 + k) + (x4 + l * m) * x3 + ((x4 + l * m) * x4 + a + l * k + v * m) = 0 := by
  have r := ec_f1 h2 h3 hl
  rw [← r]
  clear h2 h3 hl r
  grind
theorem ec_k {K : Type} [Lean.Grind.CommRing K] {al be ga al' be' ga' x y : K} (h : ec_z al be ga x y) (g : ec_z al' be' ga' x y) : (al - al') * y + (be - be') * x + (ga - ga') = 0 := by
  have h : x * x + al * y + be * x + ga = 0 := h
  have g : x * x + al' * y + be' * x + ga' = 0 := g
  have e : (al - al') * y + (be - be') * x + (ga - ga') = (x * x + al * y + be * x + ga) - (x * x + al' * y + be' * x + ga') := by clear h g; grind
  rw [e, h, g]
  clear h g e
  grind
theorem ec_kz {K : Type} [Lean.Grind.CommRing K] {a al be al' be' x y : K} (h : (2 * x + be) * (2 * y) + al * (3 * x * x + a) = 0) (g : (2 * x + be') * (2 * y) + al' * (3 * x * x + a) = 0) : (be - be') * (2 * y) + (al - al') * (3 * x * x + a) = 0 := by
  have e : (be - be') * (2 * y) + (al - al') * (3 * x * x + a) = ((2 * x + be) * (2 * y) + al * (3 * x * x + a)) - ((2 * x + be') * (2 * y) + al' * (3 * x * x + a)) := by clear h g; grind
  rw [e, h, g]
  clear h g e
  grind
theorem ec_k0 {K : Type} [Lean.Grind.CommRing K] {a be x y : K} (h : (2 * x + be) * (2 * y) + 0 * (3 * x * x + a) = 0) : (2 * y) * (2 * x + be) = 0 := by
  rw [← h]
  clear h
  grind
theorem ec_p3 {K : Type} [Lean.Grind.CommRing K] (x y z : K) : x + y + z = y + z + x := by grind
theorem ec_p3b {K : Type} [Lean.Grind.CommRing K] (x y z : K) : x * y + x * z + y * z = y * z + y * x + z * x := by grind
theorem ec_p3c {K : Type} [Lean.Grind.CommRing K] (x y z : K) : x + y + z = z + y + x := by grind
theorem ec_p3d {K : Type} [Lean.Grind.CommRing K] (x y z : K) : x * y + x * z + y * z = z * y + z * x + y * x := by grind
theorem ec_cfg {K : Type} [Lean.Grind.CommRing K] {a b x1 y1 x2 y2 x3 y3 x4 y4 x6 y6 : K} (h : ec_L a b x1 y1 x2 y2 x4 y4) (g : ec_L a b x4 (-y4) x3 y3 x6 y6) : ∃ al be ga : K, ec_C a x1 y1 x2 y2 x3 y3 x6 y6 al be ga := by
  obtain ⟨l, v, h1, h2, h3, h4, h5, h6⟩ := h
  obtain ⟨m, k, g1, g2, g3, g4, g5, g6⟩ := g
  have hm : m * x4 + k = -(l * x4 + v) := by rw [← g1, ← h3]
  have hl : l * x4 + v = -(m * x4 + k) := by rw [hm]; grind
  refine ⟨-(l + m), x4 + l * m, (x4 + l * m) * x4 + a + l * k + v * m, ?_, ?_, ?_, ?_, ?_, ?_, ?_⟩
  · show x1 * x1 + -(l + m) * y1 + (x4 + l * m) * x1 + ((x4 + l * m) * x4 + a + l * k + v * m) = 0
    rw [h1]
    exact ec_f1 h4 h5 hm
  · show x2 * x2 + -(l + m) * y2 + (x4 + l * m) * x2 + ((x4 + l * m) * x4 + a + l * k + v * m) = 0
    rw [h2]
    exact ec_f1 (x2 := x1) (by rw [h4]; grind) (by rw [h5]; grind) hm
  · show x3 * x3 + -(l + m) * y3 + (x4 + l * m) * x3 + ((x4 + l * m) * x4 + a + l * k + v * m) = 0
    rw [g2]
    exact ec_f2 (by rw [g4]; exact ec_p3 _ _ _) (by rw [g5]; exact ec_p3b _ _ _) hl
  · show x6 * x6 + -(l + m) * y6 + (x4 + l * m) * x6 + ((x4 + l * m) * x4 + a + l * k + v * m) = 0
    rw [g3]
    exact ec_f2 (by rw [g4]; exact ec_p3c _ _ _) (by rw [g5]; exact ec_p3d _ _ _) hl
  · have e : -(l + m) * -(l + m) - 2 * (x4 + l * m) - x1 - x2 - x3 = l * l + m * m - 2 * x4 - x1 - x2 - x3 := by grind
    rw [e, h4, g4]
    grind
  · intro ex ey
    subst ex
    exact ec_d1 h1 h4 h5
  · intro ex ey
    subst ex
    subst ey
    exact ec_d2 h1 g2 h4 h5 hm
theorem ec_div {K : Type} [Lean.Grind.CommRing K] {a b : K} (F : ec_F a b) {d e z : K} (hd : d ≠ 0) : ∃ l v : K, ∀ x y : K, d * y + e * x + z = 0 → y = l * x + v := by
  obtain ⟨i, hi⟩ := F.2.1 d hd
  refine ⟨-(e * i), -(z * i), fun x y h => ?_⟩
  have e1 : y = (d * i) * y := by rw [hi]; grind
  have e2 : (d * i) * y = i * (d * y + e * x + z) + (-(e * i) * x + -(z * i)) := by grind
  rw [e1, e2, h]
  grind
/-- three points with different x on one line -/
theorem ec_col {K : Type} [Lean.Grind.CommRing K] {a b : K} (F : ec_F a b) {l v x1 y1 x2 y2 x3 y3 : K} (h1 : y1 = l * x1 + v) (h2 : y2 = l * x2 + v) (h3 : y3 = l * x3 + v) (o1 : y1 * y1 = x1 * x1 * x1 + a * x1 + b) (o2 : y2 * y2 = x2 * x2 * x2 + a * x2 + b) (o3 : y3 * y3 = x3 * x3 * x3 + a * x3 + b) (n12 : x1 ≠ x2) (n13 : x1 ≠ x3) (n23 : x2 ≠ x3) : ec_L a b x1 y1 x2 y2 x3 y3 := by
  have p : ∀ s t : K, s ≠ t → (l * s + v) * (l * s + v) = s * s * s + a * s + b → (l * t + v) * (l * t + v) = t * t * t + a * t + b → s * s + s * t + t * t + a - l * l * (s + t) - 2 * l * v = 0 := by
    intro s t n e f
    refine ec_mul0 F (x := s - t) ?_ (ec_sub0 n)
    have e' : (s - t) * (s * s + s * t + t * t + a - l * l * (s + t) - 2 * l * v) = (s * s * s + a * s + b - (l * s + v) * (l * s + v)) - (t * t * t + a * t + b - (l * t + v) * (l * t + v)) := by grind
    rw [e', e, f]
    grind
  rw [h1] at o1
  rw [h2] at o2
  rw [h3] at o3
  have p12 := p x1 x2 n12 o1 o2
  have p13 := p x1 x3 n13 o1 o3
  have q : x1 + x2 + x3 - l * l = 0 := by
    refine ec_mul0 F (x := x2 - x3) ?_ (ec_sub0 n23)
    have e' : (x2 - x3) * (x1 + x2 + x3 - l * l) = (x1 * x1 + x1 * x2 + x2 * x2 + a - l * l * (x1 + x2) - 2 * l * v) - (x1 * x1 + x1 * x3 + x3 * x3 + a - l * l * (x1 + x3) - 2 * l * v) := by grind
    rw [e', p12, p13]
    grind
  have ll : l * l = x1 + x2 + x3 := by grind
  have c : a - 2 * l * v = x1 * x2 + x1 * x3 + x2 * x3 := by
    rw [ll] at p12
    grind
  refine ⟨l, v, h1, h2, h3, ll, c, ?_⟩
  have e' : (l * x1 + v) * (l * x1 + v) = (l * l) * (x1 * x1) + (2 * l * v) * x1 + v * v := by grind
  rw [e', ll] at o1
  grind
/-- a tangent that meets a further point -/
theorem ec_col2 {K : Type} [Lean.Grind.CommRing K] {a b : K} (F : ec_F a b) {l v x1 y1 x3 y3 : K} (h1 : y1 = l * x1 + v) (h3 : y3 = l * x3 + v) (t : 2 * y1 * l = 3 * x1 * x1 + a) (o1 : y1 * y1 = x1 * x1 * x1 + a * x1 + b) (o3 : y3 * y3 = x3 * x3 * x3 + a * x3 + b) (n13 : x1 ≠ x3) : ec_L a b x1 y1 x1 y1 x3 y3 := by
  have lv : 2 * l * v = 3 * x1 * x1 + a - 2 * (l * l) * x1 := by
    rw [← t, h1]
    grind
  have vv : v * v = x1 * x1 * x1 + a * x1 + b - (l * l) * (x1 * x1) - (2 * l * v) * x1 := by
    rw [← o1, h1]
    grind
  have q : (x1 + x1 + x3 - l * l) = 0 := by
    refine ec_mul0 F (x := (x1 - x3) * (x1 - x3)) ?_ (fun z => (F.1 _ _ z).elim (ec_sub0 n13) (ec_sub0 n13))
    have e3 : (l * l) * (x3 * x3) + (2 * l * v) * x3 + v * v = x3 * x3 * x3 + a * x3 + b := by
      rw [← o3, h3]
      grind
    rw [vv, lv] at e3
    clear h1 h3 t o1 o3 lv vv
    grind
  have ll : l * l = x1 + x1 + x3 := by grind
  refine ⟨l, v, h1, h1, h3, ll, ?_, ?_⟩
  · rw [lv, ll]
    grind
  · rw [vv, lv, ll]
    grind
/-- the fourth zero -/
theorem ec_last {K : Type} [Lean.Grind.CommRing K] {a b : K} (F : ec_F a b) {al be ga x y z w : K} (hx : x = z) (h : ec_z al be ga x y) (g : ec_z al be ga z w) (n : al ≠ 0) : y = w := by
  subst hx
  refine ec_can F (x := al) ?_ n
  have h : x * x + al * y + be * x + ga = 0 := h
  have g : x * x + al * w + be * x + ga = 0 := g
  grind
theorem ec_core1 {K : Type} [Lean.Grind.CommRing K] {a b : K} (F : ec_F a b) {x1 y1 x2 y2 x3 y3 x6 y6 x7 y7 al be ga al' be' ga' : K} (C : ec_C a x1 y1 x2 y2 x3 y3 x6 y6 al be ga) (D : ec_C a x2 y2 x3 y3 x1 y1 x7 y7 al' be' ga') (o1 : y1 * y1 = x1 * x1 * x1 + a * x1 + b) (o2 : y2 * y2 = x2 * x2 * x2 + a * x2 + b) (o3 : y3 * y3 = x3 * x3 * x3 + a * x3 + b) (n12 : x1 ≠ x2) (n13 : x1 ≠ x3) (n23 : x2 ≠ x3) : (x6 = x7 ∧ y6 = y7) ∨ ec_L a b x1 y1 x2 y2 x3 y3 := by
  obtain ⟨c1, c2, c3, c4, c5, -, -⟩ := C
  obtain ⟨d2, d3, d1, d4, d5, -, -⟩ := D
  have k1 : (al - al') * y1 + (be - be') * x1 + (ga - ga') = 0 := ec_k c1 d1
  have k2 : (al - al') * y2 + (be - be') * x2 + (ga - ga') = 0 := ec_k c2 d2
  have k3 : (al - al') * y3 + (be - be') * x3 + (ga - ga') = 0 := ec_k c3 d3
  by_cases hz : al - al' = 0
  · left
    have ea : al = al' := by grind
    subst ea
    have eb : be - be' = 0 := by
      refine ec_mul0 F (x := x1 - x2) ?_ (ec_sub0 n12)
      grind
    have eb' : be = be' := by grind
    subst eb'
    have eg : ga = ga' := by grind
    subst eg
    have na : al ≠ 0 := by
      intro za
      subst za
      unfold ec_z at c1 c2 c3
      have p12 : x1 + x2 + be = 0 := by
        refine ec_mul0 F (x := x1 - x2) ?_ (ec_sub0 n12)
        grind
      have p13 : x1 + x3 + be = 0 := by
        refine ec_mul0 F (x := x1 - x3) ?_ (ec_sub0 n13)
        grind
      exact n23 (by grind)
    have ex : x6 = x7 := by rw [c5, d5]; grind
    exact ⟨ex, ec_last F ex c4 d4 na⟩
  · right
    obtain ⟨l, v, hl⟩ := ec_div F (e := be - be') (z := ga - ga') hz
    exact ec_col F (hl _ _ k1) (hl _ _ k2) (hl _ _ k3) o1 o2 o3 n12 n13 n23
theorem ec_core2 {K : Type} [Lean.Grind.CommRing K] {a b : K} (F : ec_F a b) {x1 y1 x3 y3 x6 y6 x7 y7 al be ga al' be' ga' : K} (C : ec_C a x1 y1 x1 y1 x3 y3 x6 y6 al be ga) (D : ec_C a x1 y1 x3 y3 x1 y1 x7 y7 al' be' ga') (o1 : y1 * y1 = x1 * x1 * x1 + a * x1 + b) (o3 : y3 * y3 = x3 * x3 * x3 + a * x3 + b) (n13 : x1 ≠ x3) (ny : y1 ≠ 0) : (x6 = x7 ∧ y6 = y7) ∨ ec_L a b x1 y1 x1 y1 x3 y3 := by
  obtain ⟨c1, -, c3, c4, c5, c6, -⟩ := C
  obtain ⟨d1, d3, -, d4, d5, -, d6⟩ := D
  have cz : (2 * x1 + be) * (2 * y1) + al * (3 * x1 * x1 + a) = 0 := c6 rfl rfl
  have dz : (2 * x1 + be') * (2 * y1) + al' * (3 * x1 * x1 + a) = 0 := d6 rfl rfl
  have k1 : (al - al') * y1 + (be - be') * x1 + (ga - ga') = 0 := ec_k c1 d1
  have k3 : (al - al') * y3 + (be - be') * x3 + (ga - ga') = 0 := ec_k c3 d3
  have kz : (be - be') * (2 * y1) + (al - al') * (3 * x1 * x1 + a) = 0 := ec_kz cz dz
  have n2 : 2 * y1 ≠ 0 := fun z => ny (ec_mul0 F z F.2.2.1)
  by_cases hz : al - al' = 0
  · left
    have ea : al = al' := by grind
    subst ea
    have eb : be - be' = 0 := by
      refine ec_mul0 F (x := 2 * y1) ?_ n2
      grind
    have eb' : be = be' := by grind
    subst eb'
    have eg : ga = ga' := by grind
    subst eg
    have na : al ≠ 0 := by
      intro za
      subst za
      unfold ec_z at c1 c3
      have p : 2 * x1 + be = 0 := by
        refine ec_mul0 F (x := 2 * y1) ?_ n2
        exact ec_k0 cz
      have q : (x1 - x3) * (x1 - x3) = 0 := by grind
      exact (F.1 _ _ q).elim (ec_sub0 n13) (ec_sub0 n13)
    have ex : x6 = x7 := by rw [c5, d5]; grind
    exact ⟨ex, ec_last F ex c4 d4 na⟩
  · right
    obtain ⟨i, hi⟩ := F.2.1 _ hz
    have l1 : ∀ x y : K, (al - al') * y + (be - be') * x + (ga - ga') = 0 → y = -((be - be') * i) * x + -((ga - ga') * i) := by
      intro x y h
      have e1 : y = ((al - al') * i) * y := by rw [hi]; grind
      have e2 : ((al - al') * i) * y = i * ((al - al') * y + (be - be') * x + (ga - ga')) + (-((be - be') * i) * x + -((ga - ga') * i)) := by grind
      rw [e1, e2, h]
      grind
    refine ec_col2 F (l1 _ _ k1) (l1 _ _ k3) ?_ o1 o3 n13
    have e3 : 2 * y1 * -((be - be') * i) = i * ((al - al') * (3 * x1 * x1 + a)) - i * ((be - be') * (2 * y1) + (al - al') * (3 * x1 * x1 + a)) := by grind
    have e4 : i * ((al - al') * (3 * x1 * x1 + a)) = ((al - al') * i) * (3 * x1 * x1 + a) := by grind
    rw [e3, kz, e4, hi]
    grind
theorem ec_pm {K : Type} [Lean.Grind.CommRing K] {a b : K} (F : ec_F a b) {x1 y1 x2 y2 : K} (e : x1 = x2) (o1 : y1 * y1 = x1 * x1 * x1 + a * x1 + b) (o2 : y2 * y2 = x2 * x2 * x2 + a * x2 + b) : y1 = y2 ∨ y1 + y2 = 0 := by
  subst e
  have h : (y1 - y2) * (y1 + y2) = 0 := by grind
  rcases F.1 _ _ h with z | z
  · left; grind
  · right; exact z
/-- case A = B -/
theorem ec_as2 {K : Type} [Lean.Grind.CommRing K] {a b : K} (F : ec_F a b) {A C D E G H : K × K} (h1 : ec_L a b A.1 A.2 A.1 A.2 D.1 D.2) (h2 : ec_L a b D.1 (-D.2) C.1 C.2 E.1 E.2) (h3 : ec_L a b A.1 A.2 C.1 C.2 G.1 G.2) (h4 : ec_L a b G.1 (-G.2) A.1 A.2 H.1 H.2) (n : A.1 ≠ C.1) : E = H := by
  obtain ⟨al, be, ga, c⟩ := ec_cfg h1 h2
  obtain ⟨al', be', ga', d⟩ := ec_cfg h3 h4
  have o1 := ec_L1 h1
  have o3 := ec_L1 (ec_L12 h3)
  have ny : A.2 ≠ 0 := by
    obtain ⟨l, v, k1, k2, k3, k4, k5, k6⟩ := h1
    exact ec_y0 F k1 k4 k5 k6
  rcases ec_core2 F c d o1 o3 n ny with r | r
  · exact Prod.ext r.1 r.2
  · have u := ec_Lu F h1 r
    rw [u.1, u.2] at h2
    exact (ec_opp F h2 rfl (by grind)).elim
/-- case of three different x -/
theorem ec_as3 {K : Type} [Lean.Grind.CommRing K] {a b : K} (F : ec_F a b) {A B C D E G H : K × K} (h1 : ec_L a b A.1 A.2 B.1 B.2 D.1 D.2) (h2 : ec_L a b D.1 (-D.2) C.1 C.2 E.1 E.2) (h3 : ec_L a b B.1 B.2 C.1 C.2 G.1 G.2) (h4 : ec_L a b G.1 (-G.2) A.1 A.2 H.1 H.2) (n12 : A.1 ≠ B.1) (n13 : A.1 ≠ C.1) (n23 : B.1 ≠ C.1) : E = H := by
  obtain ⟨al, be, ga, c⟩ := ec_cfg h1 h2
  obtain ⟨al', be', ga', d⟩ := ec_cfg h3 h4
  rcases ec_core1 F c d (ec_L1 h1) (ec_L1 h3) (ec_L1 (ec_L12 h3)) n12 n13 n23 with r | r
  · exact Prod.ext r.1 r.2
  · have u := ec_Lu F h1 r
    rw [u.1, u.2] at h2
    exact (ec_opp F h2 rfl (by grind)).elim
/-- associativity: A + B is the opposite of D, and so on -/
theorem ec_as {K : Type} [Lean.Grind.CommRing K] {a b : K} (F : ec_F a b) {A B C D E G H : Option (K × K)} (h1 : ec_T a b A B D) (h2 : ec_T a b (ec_n D) C E) (h3 : ec_T a b B C G) (h4 : ec_T a b A (ec_n G) H) : E = H := by
  cases A with
  | none =>
    have h1 : D = ec_n B := h1
    have h4 : H = ec_n (ec_n G) := h4
    rw [h1, ec_nn] at h2
    rw [h4, ec_nn]
    exact ec_Tu F h2 h3
  | some A =>
    cases B with
    | none =>
      have h1 : D = ec_n (some A) := h1
      have h3 : G = ec_n C := h3
      rw [h1, ec_nn] at h2
      rw [h3, ec_nn] at h4
      exact ec_Tu F h2 h4
    | some B =>
      cases C with
      | none =>
        have h3 : G = ec_n (some B) := h3
        rw [h3, ec_nn] at h4
        have e := ec_Tu F h1 h4
        have h2 : ec_T a b none (ec_n D) E := ec_T12 h2
        have h2 : E = ec_n (ec_n D) := h2
        rw [h2, ec_nn, e]
      | some C =>
        cases D with
        | none =>
          have h1 : ec_n (some B) = some A := by
            have q : ec_T a b none (some B) (some A) := ec_T12 (ec_T23 (ec_T12 h1))
            have q : some A = ec_n (some B) := q
            exact q.symm
          have h2 : E = ec_n (some C) := h2
          have q := ec_T23 (ec_Tn h3)
          rw [h1] at q
          rw [h2]
          exact ec_Tu F q h4
        | some D =>
          cases G with
          | none =>
            have h3 : ec_n (some B) = some C := by
              have q : ec_T a b none (some B) (some C) := ec_T12 (ec_T23 h3)
              have q : some C = ec_n (some B) := q
              exact q.symm
            have h4 : H = ec_n (some A) := h4
            have q := ec_T23 (ec_T12 (ec_T23 (ec_Tn h1)))
            rw [h3] at q
            rw [h4]
            exact ec_Tu F h2 q
          | some G =>
            by_cases e13 : A.1 = C.1
            · rcases ec_pm F e13 (ec_L1 h1) (ec_L1 (ec_L12 h3)) with y | y
              · have e : A = C := Prod.ext e13 y
                subst e
                have q := ec_Tu F (ec_T12 h1) h3
                rw [q] at h2
                exact ec_Tu F (ec_T12 h2) h4
              · have e : some C = ec_n (some A) := by
                  have q : ec_T a b (some A) (some C) none := (⟨e13, y⟩ : A.1 = C.1 ∧ A.2 + C.2 = 0)
                  have q : ec_T a b none (some A) (some C) := ec_T12 (ec_T23 q)
                  exact q
                rw [e] at h2 h3
                have e1 : E = ec_n (some B) := ec_Tu F h2 (ec_T12 (ec_T23 (ec_Tn h1)))
                have e2 : H = ec_n (some B) := by
                  have w := ec_T23 (ec_T12 (ec_Tn h3))
                  rw [ec_nn] at w
                  exact ec_Tu F h4 w
                rw [e1, e2]
            · cases E with
              | none =>
                have q : ec_T a b none (some C) (ec_n (some D)) := ec_T12 (ec_T23 (ec_T12 h2))
                have q : ec_n (some D) = ec_n (some C) := q
                have q2 : some D = some C := by rw [← ec_nn (some D), q, ec_nn]
                rw [q2] at h1
                have r := ec_Tu F h3 (ec_T23 (ec_T12 h1))
                rw [r] at h4
                have z : ec_T a b (some A) (ec_n (some A)) none := ec_T23 (show ec_T a b (some A) none (ec_n (some A)) from rfl)
                exact ec_Tu F z h4
              | some E =>
                cases H with
                | none =>
                  have q : ec_T a b none (ec_n (some G)) (some A) := ec_T12 (ec_T23 (ec_T12 h4))
                  have q : some A = ec_n (ec_n (some G)) := q
                  rw [ec_nn] at q
                  rw [← q] at h3
                  have r := ec_Tu F h1 (ec_T12 (ec_T23 h3))
                  rw [r] at h2
                  have z : ec_T a b (ec_n (some C)) (some C) none := ec_T12 (ec_T23 (show ec_T a b (some C) none (ec_n (some C)) from rfl))
                  exact ec_Tu F h2 z
                | some H =>
                  have h4' := ec_T12 h4
                  have o1 := ec_L1 h1
                  have o2 := ec_L1 h3
                  have o3 := ec_L1 (ec_L12 h3)
                  have fin : E = H := by
                    by_cases e12 : A.1 = B.1
                    · rcases ec_pm F e12 o1 o2 with y | y
                      · have e : A = B := Prod.ext e12 y
                        subst e
                        exact ec_as2 F h1 h2 h3 h4' e13
                      · exact (ec_opp F h1 e12 y).elim
                    · by_cases e23 : B.1 = C.1
                      · rcases ec_pm F e23 o2 o3 with y | y
                        · have e : B = C := Prod.ext e23 y
                          subst e
                          exact (ec_as2 F h3 h4' (ec_L12 h1) h2 (fun z => e12 z.symm)).symm
                        · exact (ec_opp F h3 e23 y).elim
                      · exact ec_as3 F h1 h2 h3 h4' e12 e13 e23
                  rw [fin]
end
section
/-! Finite abelian groups: orders, the greatest order, two generators. -/
/-! pigeons -/
theorem gr_pg : ∀ (n : Nat) (f : Nat → Nat), (∀ i, i ≤ n → f i < n) → ∃ i j, i < j ∧ j ≤ n ∧ f i = f j := by
  intro n
  induction n with
  | zero => intro f h; exact absurd (h 0 (Nat.le_refl 0)) (Nat.not_lt_zero _)
  | succ n ih =>
    intro f h
    by_cases c : ∃ i, i ≤ n ∧ f i = f (n + 1)
    · obtain ⟨i, hi, e⟩ := c
      exact ⟨i, n + 1, by omega, Nat.le_refl _, e⟩
    · have c' : ∀ i, i ≤ n → f i ≠ f (n + 1) := fun i hi e => c ⟨i, hi, e⟩
      have hv := h (n + 1) (Nat.le_refl _)
      obtain ⟨i, j, hij, hj, e⟩ := ih (fun i => if f (n + 1) < f i then f i - 1 else f i) (by
        intro i hi
        have a := h i (by omega)
        have b := c' i hi
        show (if f (n + 1) < f i then f i - 1 else f i) < n
        split <;> omega)
      refine ⟨i, j, hij, by omega, ?_⟩
      have bi := c' i (by omega)
      have bj := c' j (by omega)
      have e : (if f (n + 1) < f i then f i - 1 else f i) = (if f (n + 1) < f j then f j - 1 else f j) := e
      split at e <;> split at e <;> omega
theorem gr_inj {a b : Nat} (f : Nat → Nat) (h : ∀ i, i < a → f i < b) (g : ∀ i j, i < a → j < a → f i = f j → i = j) : a ≤ b := by
  rcases Nat.lt_or_ge b a with c | c
  · obtain ⟨i, j, hij, hj, e⟩ := gr_pg b f (fun i hi => h i (by omega))
    have := g i j (by omega) (by omega) e
    omega
  · exact c
/-! counting -/
def cn (f : Nat → Bool) : Nat → Nat
  | 0 => 0
  | n + 1 => cn f n + (if f n = true then 1 else 0)
theorem cn_le (f : Nat → Bool) (n : Nat) : cn f n ≤ n := by
  induction n with
  | zero => exact Nat.le_refl 0
  | succ n ih => show cn f n + (if f n = true then 1 else 0) ≤ n + 1; split <;> omega
theorem cn_congr {f g : Nat → Bool} {n : Nat} (h : ∀ i, i < n → f i = g i) : cn f n = cn g n := by
  induction n with
  | zero => rfl
  | succ n ih =>
    show cn f n + (if f n = true then 1 else 0) = cn g n + (if g n = true then 1 else 0)
    rw [ih (fun i hi => h i (by omega)), h n (by omega)]
/-- one place taken out -/
theorem cn_out (f : Nat → Bool) (k : Nat) (hk : f k = true) : ∀ n, k < n → cn f n = cn (fun i => f i && !(i == k)) n + 1 := by
  intro n
  induction n with
  | zero => intro h; omega
  | succ n ih =>
    intro h
    show cn f n + (if f n = true then 1 else 0) = cn (fun i => f i && !(i == k)) n + (if (f n && !(n == k)) = true then 1 else 0) + 1
    by_cases e : n = k
    · subst e
      have c : cn (fun i => f i && !(i == n)) n = cn f n := cn_congr (fun i hi => by
        have : (i == n) = false := by simp; omega
        simp [this])
      rw [c, hk]
      simp
    · have e2 : (n == k) = false := by simp [e]
      rw [ih (by omega), e2]
      simp
      omega
theorem cn_inj : ∀ (a b : Nat) (f g : Nat → Bool) (p : Nat → Nat), (∀ i, i < a → f i = true → p i < b ∧ g (p i) = true) → (∀ i j, i < a → j < a → f i = true → f j = true → p i = p j → i = j) → cn f a ≤ cn g b := by
  intro a
  induction a with
  | zero => intro b f g p h1 h2; exact Nat.zero_le _
  | succ a ih =>
    intro b f g p h1 h2
    show cn f a + (if f a = true then 1 else 0) ≤ cn g b
    by_cases c : f a = true
    · obtain ⟨q1, q2⟩ := h1 a (by omega) c
      rw [cn_out g (p a) q2 b q1, if_pos c]
      have := ih b f (fun i => g i && !(i == p a)) p (by
        intro i hi fi
        obtain ⟨r1, r2⟩ := h1 i (by omega) fi
        refine ⟨r1, ?_⟩
        have ne : (p i == p a) = false := by
          simp
          intro e
          have := h2 i a (by omega) (by omega) fi c e
          omega
        show (g (p i) && !(p i == p a)) = true
        rw [r2, ne]
        rfl) (fun i j hi hj => h2 i j (by omega) (by omega))
      omega
    · rw [if_neg c]
      exact ih b f g p (fun i hi => h1 i (by omega)) (fun i j hi hj => h2 i j (by omega) (by omega))
theorem cn_all (n : Nat) : cn (fun _ => true) n = n := by
  induction n with
  | zero => rfl
  | succ n ih => show cn (fun _ => true) n + 1 = n + 1; rw [ih]
theorem cn_none {f : Nat → Bool} {n : Nat} (h : ∀ i, i < n → f i = false) : cn f n = 0 := by
  induction n with
  | zero => rfl
  | succ n ih =>
    show cn f n + (if f n = true then 1 else 0) = 0
    rw [ih (fun i hi => h i (by omega)), h n (by omega)]
    rfl
theorem cn_add (f : Nat → Bool) (a b : Nat) : cn f (a + b) = cn f a + cn (fun i => f (a + i)) b := by
  induction b with
  | zero => rfl
  | succ b ih =>
    show cn f (a + b) + (if f (a + b) = true then 1 else 0) = cn f a + (cn (fun i => f (a + i)) b + (if f (a + b) = true then 1 else 0))
    rw [ih]
    omega
theorem cn_prod (f g : Nat → Bool) (a b : Nat) (ha : 0 < a) : cn (fun k => f (k % a) && g (k / a)) (a * b) = cn f a * cn g b := by
  induction b with
  | zero => rfl
  | succ b ih =>
    rw [Nat.mul_add, Nat.mul_one, cn_add, ih]
    show _ = cn f a * (cn g b + (if g b = true then 1 else 0))
    have c : cn (fun i => f ((a * b + i) % a) && g ((a * b + i) / a)) a = cn (fun i => f i && g b) a := cn_congr (fun i hi => by
      have e1 : (a * b + i) % a = i := by rw [Nat.mul_add_mod]; exact Nat.mod_eq_of_lt hi
      have e2 : (a * b + i) / a = b := by rw [Nat.mul_add_div ha, Nat.div_eq_of_lt hi]; omega
      rw [e1, e2])
    rw [c, Nat.mul_add]
    by_cases e : g b = true
    · have c2 : cn (fun i => f i && g b) a = cn f a := cn_congr (fun i hi => by rw [e]; simp)
      rw [c2, if_pos e]
      omega
    · have c2 : cn (fun i => f i && g b) a = 0 := cn_none (fun i hi => by
        have : g b = false := by simpa using e
        rw [this]; simp)
      rw [c2, if_neg e, Nat.mul_zero]
/-- multiples of d below d * t -/
theorem cn_mult (d t : Nat) (hd : 0 < d) : cn (fun i => i % d == 0) (d * t) = t := by
  induction t with
  | zero => rfl
  | succ t ih =>
    rw [Nat.mul_add, Nat.mul_one, cn_add, ih]
    have c : cn (fun i => (d * t + i) % d == 0) d = 1 := by
      rw [cn_out (fun i => (d * t + i) % d == 0) 0 (by simp) d hd, cn_none]
      intro i hi
      have e1 : (d * t + i) % d = i := by rw [Nat.mul_add_mod]; exact Nat.mod_eq_of_lt hi
      show ((d * t + i) % d == 0 && !(i == 0)) = false
      rw [e1]
      cases i <;> simp
    rw [c]
theorem cn_gcd (m d : Nat) (hd : 0 < d) : cn (fun i => m * i % d == 0) d = Nat.gcd m d := by
  have hg : 0 < Nat.gcd m d := Nat.gcd_pos_of_pos_right m hd
  obtain ⟨m', hm⟩ := Nat.gcd_dvd_left m d
  obtain ⟨d', hd'⟩ := Nat.gcd_dvd_right m d
  have d0 : 0 < d' := Nat.pos_of_ne_zero (fun z => by rw [z] at hd'; omega)
  have cop : Nat.gcd m' d' = 1 := by
    have e : Nat.gcd m d * Nat.gcd m' d' = Nat.gcd m d * 1 := by
      rw [← Nat.gcd_mul_left, ← hm, ← hd', Nat.mul_one]
    exact Nat.eq_of_mul_eq_mul_left hg e
  have c : cn (fun i => m * i % d == 0) d = cn (fun i => i % d' == 0) d := cn_congr (fun i hi => by
    have e : m * i % d = 0 ↔ i % d' = 0 := by
      constructor
      · intro h
        have h1 : d ∣ m * i := Nat.dvd_of_mod_eq_zero h
        obtain ⟨q, hq⟩ := h1
        have h2 : Nat.gcd m d * (m' * i) = Nat.gcd m d * (d' * q) := by
          rw [← Nat.mul_assoc, ← Nat.mul_assoc, ← hm, ← hd']
          exact hq
        have h3 : d' ∣ m' * i := ⟨q, Nat.eq_of_mul_eq_mul_left hg h2⟩
        have c2 : Nat.Coprime d' m' := by rw [Nat.coprime_comm]; exact cop
        exact Nat.mod_eq_zero_of_dvd (c2.dvd_of_dvd_mul_left h3)
      · intro h
        obtain ⟨q, hq⟩ := Nat.dvd_of_mod_eq_zero h
        refine Nat.mod_eq_zero_of_dvd ⟨m' * q, ?_⟩
        have : m * i = (Nat.gcd m d * m') * (d' * q) := by rw [← hm, ← hq]
        rw [this]
        have : d * (m' * q) = (Nat.gcd m d * d') * (m' * q) := by rw [← hd']
        rw [this]
        simp only [Nat.mul_assoc, Nat.mul_left_comm]
    show (m * i % d == 0) = (i % d' == 0)
    by_cases z : i % d' = 0
    · rw [z, e.mpr z]
    · have z2 : ¬ m * i % d = 0 := fun w => z (e.mp w)
      rw [beq_eq_false_iff_ne.mpr z, beq_eq_false_iff_ne.mpr z2])
  rw [c]
  have := cn_mult d' (Nat.gcd m d) d0
  rw [Nat.mul_comm, ← hd'] at this
  exact this
end
section
/-! Orders in a finite abelian group, modulo a subgroup. -/
def gr_S {G : Type} [Lean.Grind.IntModule G] (H : G → Prop) : Prop := H 0 ∧ (∀ x y, H x → H y → H (x + y)) ∧ (∀ x, H x → H (-x))
theorem gr_0 {G : Type} [Lean.Grind.IntModule G] (x : G) : (0 : Int) • x = 0 := Lean.Grind.IntModule.zero_zsmul x
theorem gr_1 {G : Type} [Lean.Grind.IntModule G] (x : G) : (1 : Int) • x = x := Lean.Grind.IntModule.one_zsmul x
theorem gr_a {G : Type} [Lean.Grind.IntModule G] (k m : Int) (x : G) : (k + m) • x = k • x + m • x := Lean.Grind.IntModule.add_zsmul k m x
theorem gr_m {G : Type} [Lean.Grind.IntModule G] (k m : Int) (x : G) : (k * m) • x = k • (m • x) := Lean.Grind.IntModule.mul_zsmul k m x
theorem gr_d {G : Type} [Lean.Grind.IntModule G] (k : Int) (x y : G) : k • (x + y) = k • x + k • y := Lean.Grind.IntModule.zsmul_add k x y
theorem gr_n {G : Type} [Lean.Grind.IntModule G] (k : Int) (x : G) : (-k) • x = -(k • x) := Lean.Grind.IntModule.neg_zsmul k x
theorem gr_z {G : Type} [Lean.Grind.IntModule G] (k : Int) : k • (0 : G) = 0 := Lean.Grind.IntModule.zsmul_zero k
theorem gr_ds {G : Type} [Lean.Grind.IntModule G] (k : Int) (x y : G) : k • (x - y) = k • x - k • y := Lean.Grind.IntModule.zsmul_sub k x y
theorem gr_sb {G : Type} [Lean.Grind.IntModule G] (k m : Int) (x : G) : (k - m) • x = k • x - m • x := Lean.Grind.IntModule.sub_zsmul k m x
theorem gr_Sn {G : Type} [Lean.Grind.IntModule G] {H : G → Prop} (S : gr_S H) {x : G} (h : H x) (n : Nat) : H ((n : Int) • x) := by
  induction n with
  | zero => have e : ((0 : Nat) : Int) • x = 0 := gr_0 x
            rw [e]; exact S.1
  | succ n ih => rw [Int.natCast_add, gr_a]
                 have e : ((1 : Nat) : Int) • x = x := gr_1 x
                 rw [e]; exact S.2.1 _ _ ih h
theorem gr_Sz {G : Type} [Lean.Grind.IntModule G] {H : G → Prop} (S : gr_S H) {x : G} (h : H x) (k : Int) : H (k • x) := by
  obtain ⟨n, e | e⟩ := Int.eq_nat_or_neg k
  · rw [e]; exact gr_Sn S h n
  · rw [e, gr_n]; exact S.2.2 _ (gr_Sn S h n)
theorem gr_Sr {G : Type} [Lean.Grind.IntModule G] {H : G → Prop} (S : gr_S H) {x y : G} (h : H x) (g : H (x + y)) : H y := by
  have e : y = -x + (x + y) := by grind
  rw [e]
  exact S.2.1 _ _ (S.2.2 _ h) g
/-- k is the order of x modulo H -/
def gr_O {G : Type} [Lean.Grind.IntModule G] (H : G → Prop) (x : G) (k : Nat) : Prop := 0 < k ∧ ∀ m : Int, H (m • x) ↔ (k : Int) ∣ m
/-- n elements, numbered -/
def gr_E {G : Type} (n : Nat) (e : G → Nat) (d : Nat → G) : Prop := (∀ x, e x < n) ∧ (∀ x, d (e x) = x) ∧ (∀ i, i < n → e (d i) = i)
theorem gr_per {G : Type} [Lean.Grind.IntModule G] {n : Nat} {e : G → Nat} {d : Nat → G} (N : gr_E n e d) (x : G) : ∃ k : Nat, 0 < k ∧ k ≤ n ∧ (k : Int) • x = 0 := by
  obtain ⟨i, j, hij, hj, q⟩ := gr_pg n (fun i => e ((i : Int) • x)) (fun i _ => N.1 _)
  have q : e ((i : Int) • x) = e ((j : Int) • x) := q
  have q2 : (i : Int) • x = (j : Int) • x := by rw [← N.2.1 ((i : Int) • x), q, N.2.1]
  refine ⟨j - i, by omega, by omega, ?_⟩
  have c : ((j - i : Nat) : Int) = (j : Int) - (i : Int) := by omega
  rw [c, gr_sb, q2]
  grind
theorem gr_Oex {G : Type} [Lean.Grind.IntModule G] {n : Nat} {e : G → Nat} {d : Nat → G} (N : gr_E n e d) {H : G → Prop} (S : gr_S H) (x : G) : ∃ k : Nat, k ≤ n ∧ gr_O H x k := by
  obtain ⟨K, K0, Kn, hK⟩ := gr_per N x
  obtain ⟨k, ⟨k0, hk⟩, hm⟩ := pk_least (fun k => 0 < k ∧ H ((k : Int) • x)) ⟨K, K0, by rw [hK]; exact S.1⟩
  have kn : k ≤ n := by
    rcases Nat.lt_or_ge K k with c | c
    · exact absurd ⟨K0, by rw [hK]; exact S.1⟩ (hm K c)
    · omega
  refine ⟨k, kn, k0, fun m => ⟨fun h => ?_, fun ⟨c, hc⟩ => ?_⟩⟩
  · have r0 : 0 ≤ m % (k : Int) := Int.emod_nonneg _ (by omega)
    have r1 : m % (k : Int) < k := Int.emod_lt_of_pos _ (by omega)
    have hr : H ((m % (k : Int)) • x) := by
      refine gr_Sr S (x := ((m / (k : Int)) * (k : Int)) • x) ?_ ?_
      · rw [gr_m]; exact gr_Sz S hk _
      · rw [← gr_a]
        have : m / (k : Int) * (k : Int) + m % (k : Int) = m := Int.mul_comm _ _ ▸ Int.mul_ediv_add_emod m k
        rw [this]; exact h
    have rz : (m % (k : Int)).toNat = 0 := by
      rcases Nat.eq_zero_or_pos (m % (k : Int)).toNat with z | z
      · exact z
      · have e2 : (((m % (k : Int)).toNat : Nat) : Int) = m % (k : Int) := Int.toNat_of_nonneg r0
        exact absurd ⟨z, by show H ((((m % (k : Int)).toNat : Nat) : Int) • x); rw [e2]; exact hr⟩ (hm (m % (k : Int)).toNat (by omega))
    exact Int.dvd_of_emod_eq_zero (by omega)
  · rw [hc, Int.mul_comm, gr_m]; exact gr_Sz S hk c
theorem gr_Ou {G : Type} [Lean.Grind.IntModule G] {H : G → Prop} {x : G} {j k : Nat} (h : gr_O H x j) (g : gr_O H x k) : j = k := by
  have a : (k : Int) ∣ (j : Int) := (g.2 j).mp ((h.2 j).mpr (Int.dvd_refl _))
  have b : (j : Int) ∣ (k : Int) := (h.2 k).mp ((g.2 k).mpr (Int.dvd_refl _))
  exact Nat.dvd_antisymm (Int.natCast_dvd_natCast.mp b) (Int.natCast_dvd_natCast.mp a)
theorem gr_cd {j k : Nat} {m : Int} (c : Nat.Coprime k j) (h : (k : Int) ∣ m * (j : Int)) : (k : Int) ∣ m := by
  rw [Int.ofNat_dvd_left] at h ⊢
  rw [Int.natAbs_mul, Int.natAbs_natCast] at h
  exact c.dvd_of_dvd_mul_right h
theorem gr_Oc {G : Type} [Lean.Grind.IntModule G] {H : G → Prop} (S : gr_S H) {x y : G} {j k : Nat} (h : gr_O H x j) (g : gr_O H y k) (c : Nat.Coprime j k) : gr_O H (x + y) (j * k) := by
  refine ⟨Nat.mul_pos h.1 g.1, fun m => ⟨fun q => ?_, fun q => ?_⟩⟩
  · have k1 : (k : Int) ∣ m := by
      refine gr_cd c.symm ((g.2 _).mp (gr_Sr S (x := (m * (j : Int)) • x) ((h.2 _).mpr ⟨m, Int.mul_comm _ _⟩) ?_))
      rw [← gr_d, Int.mul_comm, gr_m]
      exact gr_Sz S q _
    have j1 : (j : Int) ∣ m := by
      refine gr_cd c ((h.2 _).mp (gr_Sr S (x := (m * (k : Int)) • y) ((g.2 _).mpr ⟨m, Int.mul_comm _ _⟩) ?_))
      have e : (m * (k : Int)) • y + (m * (k : Int)) • x = (k : Int) • (m • (x + y)) := by
        rw [← gr_m, gr_d, Int.mul_comm]
        grind
      rw [e]
      exact gr_Sz S q _
    rw [Int.ofNat_dvd_left] at j1 k1 ⊢
    exact c.mul_dvd_of_dvd_of_dvd j1 k1
  · obtain ⟨t, ht⟩ := q
    rw [gr_d]
    have e : ((j * k : Nat) : Int) = (j : Int) * (k : Int) := Int.natCast_mul _ _
    rw [e] at ht
    exact S.2.1 _ _ ((h.2 _).mpr ⟨(k : Int) * t, by rw [ht, Int.mul_assoc]⟩) ((g.2 _).mpr ⟨(j : Int) * t, by rw [ht]; grind⟩)
theorem gr_Od {G : Type} [Lean.Grind.IntModule G] {H : G → Prop} {x : G} {j k : Nat} (h : gr_O H x (j * k)) : gr_O H ((j : Int) • x) k := by
  have j0 : 0 < j := Nat.pos_of_mul_pos_right h.1
  have k0 : 0 < k := Nat.pos_of_mul_pos_left h.1
  refine ⟨k0, fun m => ?_⟩
  rw [← gr_m, h.2]
  have e : ((j * k : Nat) : Int) = (j : Int) * (k : Int) := Int.natCast_mul _ _
  rw [e]
  constructor
  · intro ⟨t, ht⟩
    refine ⟨t, ?_⟩
    have : (j : Int) * m = (j : Int) * ((k : Int) * t) := by rw [← Int.mul_assoc, ← ht, Int.mul_comm]
    exact Int.eq_of_mul_eq_mul_left (by omega) this
  · intro ⟨t, ht⟩
    exact ⟨t, by rw [ht]; grind⟩
/-! a greater order out of two of which one does not divide the other -/
def gr_pp : List Nat := [2, 4, 8, 16, 32, 64, 3, 9, 27, 5, 25, 7, 49, 11, 13, 17, 19, 23, 29, 31, 37, 41, 43, 47, 53, 59, 61, 67, 71, 73, 79]
def gr_ok (j E : Nat) : Bool := E % j == 0 || gr_pp.any (fun a => j % a == 0 && Nat.gcd a (E / Nat.gcd E (a ^ 6)) == 1 && Nat.blt E (a * (E / Nat.gcd E (a ^ 6))))
theorem gr_okall : (List.range 81).all (fun j => (List.range 81).all (fun E => j == 0 || E == 0 || gr_ok j E)) = true := by decide +kernel
theorem gr_lcm {j E : Nat} (hj : 0 < j) (hE : 0 < E) (hj8 : j ≤ 80) (hE8 : E ≤ 80) (h : ¬ j ∣ E) : ∃ a b : Nat, a ∣ j ∧ b ∣ E ∧ Nat.Coprime a b ∧ E < a * b := by
  have q := gr_okall
  rw [List.all_eq_true] at q
  have q1 := q j (List.mem_range.mpr (by omega))
  rw [List.all_eq_true] at q1
  have q2 := q1 E (List.mem_range.mpr (by omega))
  have z1 : (j == 0) = false := by simp; omega
  have z2 : (E == 0) = false := by simp; omega
  have z3 : (E % j == 0) = false := by
    simp
    exact fun z => h (Nat.dvd_of_mod_eq_zero z)
  rw [z1, z2, gr_ok, z3, Bool.false_or, Bool.false_or, Bool.false_or, List.any_eq_true] at q2
  obtain ⟨a, -, ha⟩ := q2
  rw [Bool.and_eq_true, Bool.and_eq_true] at ha
  obtain ⟨⟨h1, h2⟩, h3⟩ := ha
  refine ⟨a, E / Nat.gcd E (a ^ 6), Nat.dvd_of_mod_eq_zero (eq_of_beq h1), ⟨Nat.gcd E (a ^ 6), (Nat.div_mul_cancel (Nat.gcd_dvd_left _ _)).symm⟩, eq_of_beq h2, ?_⟩
  exact Nat.le_of_ble_eq_true h3
/-- the greatest order is a multiple of every order -/
theorem gr_max {G : Type} [Lean.Grind.IntModule G] {n : Nat} {e : G → Nat} {d : Nat → G} (N : gr_E n e d) (n8 : n ≤ 80) {H : G → Prop} (S : gr_S H) : ∃ g : G, ∃ E : Nat, E ≤ n ∧ gr_O H g E ∧ ∀ x : G, H ((E : Int) • x) := by
  obtain ⟨k0, hk0, hO⟩ := gr_Oex N S (0 : G)
  obtain ⟨t, ⟨ht, g, hg⟩, hm⟩ := pk_least (fun t => t ≤ n ∧ ∃ x : G, gr_O H x (n - t)) ⟨n - k0, by omega, 0, by
    have : n - (n - k0) = k0 := by omega
    rw [this]; exact hO⟩
  refine ⟨g, n - t, by omega, hg, fun x => ?_⟩
  obtain ⟨j, hj, hx⟩ := gr_Oex N S x
  refine (hx.2 _).mpr (Int.natCast_dvd_natCast.mpr ?_)
  by_cases c : j ∣ (n - t)
  · exact c
  · obtain ⟨a, b, ⟨a', ha⟩, ⟨b', hb⟩, cop, lt⟩ := gr_lcm hx.1 hg.1 (by omega) (by omega) c
    rw [ha, Nat.mul_comm] at hx
    have hg' := hg
    rw [hb, Nat.mul_comm] at hg'
    have o := gr_Oc S (gr_Od hx) (gr_Od hg') cop
    obtain ⟨m, hmn, hmO⟩ := gr_Oex N S ((a' : Int) • x + (b' : Int) • g)
    have em := gr_Ou o hmO
    have := hm (n - a * b) (by omega)
    refine absurd ⟨by omega, (a' : Int) • x + (b' : Int) • g, ?_⟩ this
    have e3 : n - (n - a * b) = a * b := by omega
    rw [e3]
    exact o
end
section
/-! Two generators. -/
def gr_c {G : Type} [Lean.Grind.IntModule G] (g : G) : G → Prop := fun x => ∃ k : Int, x = k • g
def gr_c2 {G : Type} [Lean.Grind.IntModule G] (g h : G) : G → Prop := fun x => ∃ k l : Int, x = k • g + l • h
def gr_o {G : Type} [Lean.Grind.IntModule G] : G → Prop := fun x => x = 0
theorem gr_So {G : Type} [Lean.Grind.IntModule G] : gr_S (gr_o (G := G)) := by
  refine ⟨rfl, fun x y hx hy => ?_, fun x hx => ?_⟩
  · have hx : x = 0 := hx
    have hy : y = 0 := hy
    show x + y = 0
    grind
  · have hx : x = 0 := hx
    show -x = 0
    grind
theorem gr_Sc {G : Type} [Lean.Grind.IntModule G] (g : G) : gr_S (gr_c g) := by
  refine ⟨⟨0, (gr_0 g).symm⟩, fun x y ⟨k, hx⟩ ⟨l, hy⟩ => ⟨k + l, ?_⟩, fun x ⟨k, hx⟩ => ⟨-k, ?_⟩⟩
  · rw [gr_a, hx, hy]
  · rw [gr_n, hx]
theorem gr_Sc2 {G : Type} [Lean.Grind.IntModule G] (g h : G) : gr_S (gr_c2 g h) := by
  refine ⟨⟨0, 0, ?_⟩, fun x y ⟨k, l, hx⟩ ⟨k', l', hy⟩ => ⟨k + k', l + l', ?_⟩, fun x ⟨k, l, hx⟩ => ⟨-k, -l, ?_⟩⟩
  · rw [gr_0, gr_0]; grind
  · rw [gr_a, gr_a, hx, hy]; grind
  · rw [gr_n, gr_n, hx]; grind
theorem gr_Ss {G : Type} [Lean.Grind.IntModule G] {H : G → Prop} (S : gr_S H) {x y : G} (hy : H y) : H (x - y) ↔ H x := by
  constructor
  · intro h
    have e : x = (x - y) + y := by grind
    rw [e]; exact S.2.1 _ _ h hy
  · intro h
    have e : x - y = x + -y := by grind
    rw [e]; exact S.2.1 _ _ h (S.2.2 _ hy)
theorem gr_Os {G : Type} [Lean.Grind.IntModule G] {H : G → Prop} (S : gr_S H) {x y : G} {k : Nat} (h : gr_O H x k) (hy : H y) : gr_O H (x - y) k := by
  refine ⟨h.1, fun m => ?_⟩
  rw [gr_ds, gr_Ss S (gr_Sz S hy m)]
  exact h.2 m
theorem gr_dv {c f k : Int} (h : c * f ∣ f * k) (h0 : f ≠ 0) : c ∣ k := by
  obtain ⟨t, ht⟩ := h
  refine ⟨t, Int.eq_of_mul_eq_mul_left h0 ?_⟩
  rw [ht]
  grind
theorem gr_two {G : Type} [Lean.Grind.IntModule G] {n : Nat} {e : G → Nat} {d : Nat → G} (N : gr_E n e d) (n8 : n ≤ 80) : ∃ g h x : G, ∃ E c q : Nat, gr_O gr_o g E ∧ (∀ y : G, (E : Int) • y = 0) ∧ gr_O (gr_c g) h c ∧ (c : Int) • h = 0 ∧ gr_O (gr_c2 g h) x q ∧ (q : Int) • x = 0 ∧ (∀ y : G, gr_c2 g h ((q : Int) • y)) ∧ (q : Int) ∣ c ∧ (c : Int) ∣ E := by
  obtain ⟨g, E, -, gO, gk⟩ := gr_max N n8 (gr_So (G := G))
  have gk : ∀ y : G, (E : Int) • y = 0 := gk
  obtain ⟨h0, c, -, hO, hk⟩ := gr_max N n8 (gr_Sc g)
  have cE : (c : Int) ∣ E := (hO.2 E).mp (by rw [gk h0]; exact (gr_Sc g).1)
  obtain ⟨E', hE'⟩ := cE
  have E0 : (E : Int) ≠ 0 := by have := gO.1; omega
  have E'0 : E' ≠ 0 := fun z => E0 (by rw [hE', z, Int.mul_zero])
  obtain ⟨k, hk0⟩ := hk h0
  have ck : (c : Int) ∣ k := by
    refine gr_dv (f := E') ?_ E'0
    rw [← hE']
    refine (gO.2 _).mp ?_
    show (E' * k) • g = 0
    rw [gr_m, ← hk0, ← gr_m, Int.mul_comm, ← hE', gk]
  obtain ⟨k', hk'⟩ := ck
  have hO2 : gr_O (gr_c g) (h0 - k' • g) c := gr_Os (gr_Sc g) hO ⟨k', rfl⟩
  have hz : (c : Int) • (h0 - k' • g) = 0 := by
    rw [gr_ds, hk0, hk', gr_m]
    grind
  have hk2 : ∀ y : G, gr_c g ((c : Int) • y) := hk
  clear hk hk0 hO
  generalize h0 - k' • g = h at hO2 hz
  clear hk' k' k
  obtain ⟨x0, q, -, xO, xk⟩ := gr_max N n8 (gr_Sc2 g h)
  obtain ⟨t, ht⟩ := hk2 x0
  have qc : (q : Int) ∣ c := (xO.2 c).mp ⟨t, 0, by rw [ht, gr_0]; grind⟩
  obtain ⟨c', hc'⟩ := qc
  have c0 : (c : Int) ≠ 0 := by have := hO2.1; omega
  have c'0 : c' ≠ 0 := fun z => c0 (by rw [hc', z, Int.mul_zero])
  obtain ⟨k, l, hkl⟩ := xk x0
  have ql : (q : Int) ∣ l := by
    refine gr_dv (f := c') ?_ c'0
    rw [← hc']
    refine (hO2.2 _).mp ⟨t - c' * k, ?_⟩
    have e1 : c' • ((q : Int) • x0) = (c : Int) • x0 := by rw [← gr_m, Int.mul_comm, ← hc']
    rw [hkl, ht, gr_d, ← gr_m, ← gr_m] at e1
    rw [gr_sb, ← e1]
    grind
  obtain ⟨l', hl'⟩ := ql
  have qk : (q : Int) ∣ k := by
    refine gr_dv (f := c' * E') ?_ (fun z => (Int.mul_eq_zero.mp z).elim c'0 E'0)
    have e2 : (q : Int) * (c' * E') = E := by rw [hE', hc', Int.mul_assoc]
    rw [e2]
    refine (gO.2 _).mp ?_
    show (c' * E' * k) • g = 0
    have e1 : (c' * E') • ((q : Int) • x0) = 0 := by rw [← gr_m, Int.mul_comm, e2, gk]
    rw [hkl, gr_d, ← gr_m, ← gr_m] at e1
    have e3 : c' * E' * l = l' * E := by rw [hl', ← e2]; grind
    rw [e3, gr_m l', gk, gr_z] at e1
    have e4 : (c' * E' * k) • g = (c' * E' * k) • g + 0 := by grind
    rw [e4, e1]
  obtain ⟨k', hk'⟩ := qk
  refine ⟨g, h, x0 - (k' • g + l' • h), E, c, q, gO, gk, hO2, hz, gr_Os (gr_Sc2 g h) xO ⟨k', l', rfl⟩, ?_, xk, ⟨c', hc'⟩, ⟨E', hE'⟩⟩
  rw [gr_ds, hkl, hk', hl', gr_m, gr_m, gr_d]
  grind
/-- the three are independent -/
theorem gr_ind {G : Type} [Lean.Grind.IntModule G] {g h x : G} {E c q : Nat} (gO : gr_O gr_o g E) (hO : gr_O (gr_c g) h c) (hz : (c : Int) • h = 0) (xO : gr_O (gr_c2 g h) x q) (xz : (q : Int) • x = 0) {i j k : Int} (s : i • g + j • h + k • x = 0) : (E : Int) ∣ i ∧ (c : Int) ∣ j ∧ (q : Int) ∣ k := by
  have hk : (q : Int) ∣ k := (xO.2 k).mp ⟨-i, -j, by rw [gr_n, gr_n]; grind⟩
  have kz : k • x = 0 := by
    obtain ⟨t, ht⟩ := hk
    rw [ht, Int.mul_comm, gr_m, xz, gr_z]
  rw [kz] at s
  have hj : (c : Int) ∣ j := (hO.2 j).mp ⟨-i, by rw [gr_n]; grind⟩
  have jz : j • h = 0 := by
    obtain ⟨t, ht⟩ := hj
    rw [ht, Int.mul_comm, gr_m, hz, gr_z]
  rw [jz] at s
  exact ⟨(gO.2 i).mp (show i • g = 0 by grind), hj, hk⟩
theorem gr_lt {E i j : Nat} (h : (E : Int) ∣ (i : Int) - (j : Int)) (hi : i < E) (hj : j < E) : i = j := by
  obtain ⟨t, ht⟩ := h
  have h1 : t < 1 := by
    rcases Int.lt_or_le t 1 with c | c
    · exact c
    · have : (E : Int) * 1 ≤ (E : Int) * t := Int.mul_le_mul_of_nonneg_left c (by omega)
      omega
  have h2 : -1 < t := by
    rcases Int.lt_or_le (-1) t with c | c
    · exact c
    · have : (E : Int) * t ≤ (E : Int) * (-1) := Int.mul_le_mul_of_nonneg_left c (by omega)
      omega
  have h3 : t = 0 := by omega
  rw [h3] at ht
  omega
theorem gr_sub3 {G : Type} [Lean.Grind.IntModule G] {g h x : G} {i j k i' j' k' : Int} (s : i • g + j • h + k • x = i' • g + j' • h + k' • x) : (i - i') • g + (j - j') • h + (k - k') • x = 0 := by
  rw [gr_sb, gr_sb, gr_sb]
  grind
theorem gr_size {G : Type} [Lean.Grind.IntModule G] {n : Nat} {e : G → Nat} {d : Nat → G} (N : gr_E n e d) {g h x : G} {E c q : Nat} (gO : gr_O gr_o g E) (hO : gr_O (gr_c g) h c) (hz : (c : Int) • h = 0) (xO : gr_O (gr_c2 g h) x q) (xz : (q : Int) • x = 0) : E * c * q ≤ n := by
  have E0 := gO.1
  have c0 := hO.1
  refine gr_inj (fun t => e (((t % E : Nat) : Int) • g + ((t / E % c : Nat) : Int) • h + ((t / E / c : Nat) : Int) • x)) (fun i _ => N.1 _) ?_
  intro s t hs ht q1
  have q2 : ((s % E : Nat) : Int) • g + ((s / E % c : Nat) : Int) • h + ((s / E / c : Nat) : Int) • x = ((t % E : Nat) : Int) • g + ((t / E % c : Nat) : Int) • h + ((t / E / c : Nat) : Int) • x := by
    have q1 : e (((s % E : Nat) : Int) • g + ((s / E % c : Nat) : Int) • h + ((s / E / c : Nat) : Int) • x) = e (((t % E : Nat) : Int) • g + ((t / E % c : Nat) : Int) • h + ((t / E / c : Nat) : Int) • x) := q1
    rw [← N.2.1 (((s % E : Nat) : Int) • g + ((s / E % c : Nat) : Int) • h + ((s / E / c : Nat) : Int) • x), q1, N.2.1]
  obtain ⟨r1, r2, r3⟩ := gr_ind gO hO hz xO xz (gr_sub3 q2)
  have a1 := gr_lt r1 (Nat.mod_lt _ E0) (Nat.mod_lt _ E0)
  have a2 := gr_lt r2 (Nat.mod_lt _ c0) (Nat.mod_lt _ c0)
  have bd : ∀ s, s < E * c * q → s / E / c < q := by
    intro s hs
    rw [Nat.div_div_eq_div_mul]
    exact Nat.div_lt_of_lt_mul hs
  have a3 := gr_lt r3 (bd s hs) (bd t ht)
  have u1 := Nat.div_add_mod (s / E) c
  have u2 := Nat.div_add_mod (t / E) c
  have u3 := Nat.div_add_mod s E
  have u4 := Nat.div_add_mod t E
  rw [a2, a3, u2] at u1
  rw [a1, ← u1, u4] at u3
  exact u3.symm
end
section
/-! No third generator, and the number of elements that m takes to zero. -/
def gr_A (i : Nat) : Int := [1, 0, 0, 1, 1].getD i 0
def gr_B (i : Nat) : Int := [0, 1, 0, 1, -1].getD i 0
def gr_C (i : Nat) : Int := [0, 0, 1, 0, 0].getD i 0
theorem gr_tab2 : ∀ i : Fin 4, ∀ j : Fin 4, i.val < j.val → ¬ ((gr_A i - gr_A j) % 2 = 0 ∧ (gr_B i - gr_B j) % 2 = 0 ∧ (gr_C i - gr_C j) % 2 = 0) := by decide
theorem gr_tab2z : ∀ i : Fin 4, ¬ (gr_A i % 2 = 0 ∧ gr_B i % 2 = 0 ∧ gr_C i % 2 = 0) := by decide
theorem gr_tab3 : ∀ i : Fin 5, ∀ j : Fin 5, i.val < j.val → ¬ ((gr_A i - gr_A j) % 3 = 0 ∧ (gr_B i - gr_B j) % 3 = 0 ∧ (gr_C i - gr_C j) % 3 = 0) ∧ ¬ ((gr_A i - -gr_A j) % 3 = 0 ∧ (gr_B i - -gr_B j) % 3 = 0 ∧ (gr_C i - -gr_C j) % 3 = 0) := by decide
theorem gr_tab3z : ∀ i : Fin 5, ¬ (gr_A i % 3 = 0 ∧ gr_B i % 3 = 0 ∧ gr_C i % 3 = 0) := by decide
/-- three independent elements of order r -/
theorem gr_tri {G : Type} [Lean.Grind.IntModule G] {g h x : G} {E c q : Nat} (gO : gr_O gr_o g E) (gz : (E : Int) • g = 0) (hO : gr_O (gr_c g) h c) (hz : (c : Int) • h = 0) (xO : gr_O (gr_c2 g h) x q) (xz : (q : Int) • x = 0) (r : Int) (rE : r ∣ E) (rc : r ∣ c) (rq : r ∣ q) : ∃ u v w : G, r • u = 0 ∧ r • v = 0 ∧ r • w = 0 ∧ ∀ i j k : Int, i • u + j • v + k • w = 0 → r ∣ i ∧ r ∣ j ∧ r ∣ k := by
  obtain ⟨E1, hE⟩ := rE
  obtain ⟨c1, hc⟩ := rc
  obtain ⟨q1, hq⟩ := rq
  have E0 := gO.1
  have c0 := hO.1
  have q0 := xO.1
  have e1 : E1 ≠ 0 := fun z => by rw [z] at hE; omega
  have e2 : c1 ≠ 0 := fun z => by rw [z] at hc; omega
  have e3 : q1 ≠ 0 := fun z => by rw [z] at hq; omega
  refine ⟨E1 • g, c1 • h, q1 • x, by rw [← gr_m, ← hE, gz], by rw [← gr_m, ← hc, hz], by rw [← gr_m, ← hq, xz], fun i j k s => ?_⟩
  rw [← gr_m, ← gr_m, ← gr_m] at s
  obtain ⟨d1, d2, d3⟩ := gr_ind gO hO hz xO xz s
  rw [hE] at d1
  rw [hc] at d2
  rw [hq] at d3
  refine ⟨gr_dv (f := E1) ?_ e1, gr_dv (f := c1) ?_ e2, gr_dv (f := q1) ?_ e3⟩
  · rw [Int.mul_comm E1 i]; exact d1
  · rw [Int.mul_comm c1 j]; exact d2
  · rw [Int.mul_comm q1 k]; exact d3
/-- at most three elements of order two; of order three at most four up to the sign -/
def gr_H2 (G : Type) [Lean.Grind.IntModule G] : Prop := ∀ f : Nat → G, (∀ i, i < 4 → (2 : Int) • f i = 0 ∧ f i ≠ 0) → ∃ i j, i < j ∧ j < 4 ∧ f i = f j
def gr_H3 (G : Type) [Lean.Grind.IntModule G] : Prop := ∀ f : Nat → G, (∀ i, i < 5 → (3 : Int) • f i = 0 ∧ f i ≠ 0) → ∃ i j, i < j ∧ j < 5 ∧ (f i = f j ∨ f i = -f j)
theorem gr_comb {G : Type} [Lean.Grind.IntModule G] {u v w : G} {r : Int} (h1 : r • u = 0) (h2 : r • v = 0) (h3 : r • w = 0) (i j k : Int) : r • (i • u + j • v + k • w) = 0 := by
  rw [gr_d, gr_d, ← gr_m, ← gr_m, ← gr_m, Int.mul_comm r i, Int.mul_comm r j, Int.mul_comm r k, gr_m, gr_m, gr_m, h1, h2, h3, gr_z, gr_z, gr_z]
  grind
theorem gr_one {G : Type} [Lean.Grind.IntModule G] {n : Nat} {e : G → Nat} {d : Nat → G} (N : gr_E n e d) (n8 : n ≤ 80) (T2 : gr_H2 G) (T3 : gr_H3 G) {g h x : G} {E c q : Nat} (gO : gr_O gr_o g E) (gz : (E : Int) • g = 0) (hO : gr_O (gr_c g) h c) (hz : (c : Int) • h = 0) (xO : gr_O (gr_c2 g h) x q) (xz : (q : Int) • x = 0) (qc : (q : Int) ∣ c) (cE : (c : Int) ∣ E) : q = 1 := by
  have sz := gr_size N gO hO hz xO xz
  have qc' : q ≤ c := Nat.le_of_dvd hO.1 (Int.natCast_dvd_natCast.mp qc)
  have cE' : c ≤ E := Nat.le_of_dvd gO.1 (Int.natCast_dvd_natCast.mp cE)
  have q0 := xO.1
  have q5 : q < 5 := by
    rcases Nat.lt_or_ge q 5 with z | z
    · exact z
    · have a1 : 5 * 5 ≤ E * c := Nat.mul_le_mul (by omega) (by omega)
      have a2 : 5 * 5 * 5 ≤ E * c * q := Nat.mul_le_mul a1 z
      omega
  have no2 : ¬ (2 : Int) ∣ q := by
    intro r
    obtain ⟨u, v, w, hu, hv, hw, ind⟩ := gr_tri gO gz hO hz xO xz 2 (Int.dvd_trans r (Int.dvd_trans qc cE)) (Int.dvd_trans r qc) r
    obtain ⟨i, j, hij, hj, s⟩ := T2 (fun i => gr_A i • u + gr_B i • v + gr_C i • w) (fun i hi => ⟨gr_comb hu hv hw _ _ _, fun z => by
      obtain ⟨d1, d2, d3⟩ := ind _ _ _ z
      exact gr_tab2z ⟨i, hi⟩ ⟨Int.emod_eq_zero_of_dvd d1, Int.emod_eq_zero_of_dvd d2, Int.emod_eq_zero_of_dvd d3⟩⟩)
    obtain ⟨d1, d2, d3⟩ := ind _ _ _ (gr_sub3 s)
    exact gr_tab2 ⟨i, by omega⟩ ⟨j, hj⟩ hij ⟨Int.emod_eq_zero_of_dvd d1, Int.emod_eq_zero_of_dvd d2, Int.emod_eq_zero_of_dvd d3⟩
  have no3 : ¬ (3 : Int) ∣ q := by
    intro r
    obtain ⟨u, v, w, hu, hv, hw, ind⟩ := gr_tri gO gz hO hz xO xz 3 (Int.dvd_trans r (Int.dvd_trans qc cE)) (Int.dvd_trans r qc) r
    obtain ⟨i, j, hij, hj, s⟩ := T3 (fun i => gr_A i • u + gr_B i • v + gr_C i • w) (fun i hi => ⟨gr_comb hu hv hw _ _ _, fun z => by
      obtain ⟨d1, d2, d3⟩ := ind _ _ _ z
      exact gr_tab3z ⟨i, hi⟩ ⟨Int.emod_eq_zero_of_dvd d1, Int.emod_eq_zero_of_dvd d2, Int.emod_eq_zero_of_dvd d3⟩⟩)
    have tb := gr_tab3 ⟨i, by omega⟩ ⟨j, hj⟩ hij
    rcases s with s | s
    · obtain ⟨d1, d2, d3⟩ := ind _ _ _ (gr_sub3 s)
      exact tb.1 ⟨Int.emod_eq_zero_of_dvd d1, Int.emod_eq_zero_of_dvd d2, Int.emod_eq_zero_of_dvd d3⟩
    · have s : gr_A i • u + gr_B i • v + gr_C i • w = -(gr_A j • u + gr_B j • v + gr_C j • w) := s
      have s2 : gr_A i • u + gr_B i • v + gr_C i • w = (-gr_A j) • u + (-gr_B j) • v + (-gr_C j) • w := by
        rw [s, gr_n, gr_n, gr_n]
        grind
      obtain ⟨d1, d2, d3⟩ := ind _ _ _ (gr_sub3 s2)
      exact tb.2 ⟨Int.emod_eq_zero_of_dvd d1, Int.emod_eq_zero_of_dvd d2, Int.emod_eq_zero_of_dvd d3⟩
  omega
/-- the group is made of two cycles -/
theorem gr_gen {G : Type} [Lean.Grind.IntModule G] {n : Nat} {e : G → Nat} {d : Nat → G} (N : gr_E n e d) (n8 : n ≤ 80) (T2 : gr_H2 G) (T3 : gr_H3 G) : ∃ g h : G, ∃ E c : Nat, gr_O gr_o g E ∧ (∀ y : G, (E : Int) • y = 0) ∧ gr_O (gr_c g) h c ∧ (c : Int) • h = 0 ∧ ∀ y : G, gr_c2 g h y := by
  obtain ⟨g, h, x, E, c, q, gO, gk, hO, hz, xO, xz, xk, qc, cE⟩ := gr_two N n8
  have q1 := gr_one N n8 T2 T3 gO (gk g) hO hz xO xz qc cE
  subst q1
  refine ⟨g, h, E, c, gO, gk, hO, hz, fun y => ?_⟩
  have := xk y
  have e1 : ((1 : Nat) : Int) • y = y := gr_1 y
  rw [e1] at this
  exact this
theorem gr_ind2 {G : Type} [Lean.Grind.IntModule G] {g h : G} {E c : Nat} (gO : gr_O gr_o g E) (hO : gr_O (gr_c g) h c) (hz : (c : Int) • h = 0) {i j : Int} (s : i • g + j • h = 0) : (E : Int) ∣ i ∧ (c : Int) ∣ j := by
  have hj : (c : Int) ∣ j := (hO.2 j).mp ⟨-i, by rw [gr_n]; grind⟩
  have jz : j • h = 0 := by
    obtain ⟨t, ht⟩ := hj
    rw [ht, Int.mul_comm, gr_m, hz, gr_z]
  rw [jz] at s
  exact ⟨(gO.2 i).mp (show i • g = 0 by grind), hj⟩
theorem gr_sub2 {G : Type} [Lean.Grind.IntModule G] {g h : G} {i j i' j' : Int} (s : i • g + j • h = i' • g + j' • h) : (i - i') • g + (j - j') • h = 0 := by
  rw [gr_sb, gr_sb]
  grind
/-- the element with the place t among E * c -/
def gr_at {G : Type} [Lean.Grind.IntModule G] (g h : G) (E : Nat) (t : Nat) : G := ((t % E : Nat) : Int) • g + ((t / E : Nat) : Int) • h
theorem gr_atinj {G : Type} [Lean.Grind.IntModule G] {g h : G} {E c : Nat} (gO : gr_O gr_o g E) (hO : gr_O (gr_c g) h c) (hz : (c : Int) • h = 0) {s t : Nat} (hs : s < E * c) (ht : t < E * c) (q : gr_at g h E s = gr_at g h E t) : s = t := by
  obtain ⟨r1, r2⟩ := gr_ind2 gO hO hz (gr_sub2 q)
  have a1 := gr_lt r1 (Nat.mod_lt _ gO.1) (Nat.mod_lt _ gO.1)
  have a2 := gr_lt r2 (Nat.div_lt_of_lt_mul hs) (Nat.div_lt_of_lt_mul ht)
  have u3 := Nat.div_add_mod s E
  have u4 := Nat.div_add_mod t E
  rw [a1, a2, u4] at u3
  exact u3.symm
theorem gr_atsur {G : Type} [Lean.Grind.IntModule G] {g h : G} {E c : Nat} (gO : gr_O gr_o g E) (hO : gr_O (gr_c g) h c) (hz : (c : Int) • h = 0) (all : ∀ y : G, gr_c2 g h y) (y : G) : ∃ t, t < E * c ∧ gr_at g h E t = y := by
  obtain ⟨k, l, hy⟩ := all y
  have E0 := gO.1
  have c0 := hO.1
  have k0 : 0 ≤ k % (E : Int) := Int.emod_nonneg _ (by omega)
  have k1 : k % (E : Int) < E := Int.emod_lt_of_pos _ (by omega)
  have l0 : 0 ≤ l % (c : Int) := Int.emod_nonneg _ (by omega)
  have l1 : l % (c : Int) < c := Int.emod_lt_of_pos _ (by omega)
  have ek : ((k % (E : Int)).toNat : Int) = k % (E : Int) := Int.toNat_of_nonneg k0
  have el : ((l % (c : Int)).toNat : Int) = l % (c : Int) := Int.toNat_of_nonneg l0
  have kE : (k % (E : Int)).toNat < E := by omega
  have lc : (l % (c : Int)).toNat < c := by omega
  refine ⟨(k % (E : Int)).toNat + E * (l % (c : Int)).toNat, ?_, ?_⟩
  · have : E * ((l % (c : Int)).toNat + 1) ≤ E * c := Nat.mul_le_mul_left E lc
    rw [Nat.mul_add, Nat.mul_one] at this
    omega
  · have m1 : ((k % (E : Int)).toNat + E * (l % (c : Int)).toNat) % E = (k % (E : Int)).toNat := by
      rw [Nat.add_mul_mod_self_left]; exact Nat.mod_eq_of_lt kE
    have m2 : ((k % (E : Int)).toNat + E * (l % (c : Int)).toNat) / E = (l % (c : Int)).toNat := by
      rw [Nat.add_mul_div_left _ _ E0, Nat.div_eq_of_lt kE, Nat.zero_add]
    unfold gr_at
    rw [m1, m2, ek, el, hy]
    have g0 : (E : Int) • g = 0 := (gO.2 E).mpr (Int.dvd_refl _)
    have q1 : k • g = (k % (E : Int)) • g := by
      have := Int.mul_ediv_add_emod k E
      have z : k • g = ((E : Int) * (k / E) + k % E) • g := by rw [this]
      rw [z, gr_a, Int.mul_comm, gr_m, g0, gr_z]
      grind
    have q2 : l • h = (l % (c : Int)) • h := by
      have := Int.mul_ediv_add_emod l c
      have z : l • h = ((c : Int) * (l / c) + l % c) • h := by rw [this]
      rw [z, gr_a, Int.mul_comm, gr_m, hz, gr_z]
      grind
    rw [q1, q2]
/-- the count of elements that m takes to zero, and the number of all -/
theorem gr_tors {G : Type} [Lean.Grind.IntModule G] {n : Nat} {e : G → Nat} {d : Nat → G} (N : gr_E n e d) {g h : G} {E c : Nat} (gO : gr_O gr_o g E) (hO : gr_O (gr_c g) h c) (hz : (c : Int) • h = 0) (all : ∀ y : G, gr_c2 g h y) (m : Nat) (P : Nat → Bool) (hP : ∀ i, i < n → (P i = true ↔ (m : Int) • d i = 0)) : cn P n = Nat.gcd m E * Nat.gcd m c := by
  have tz : ∀ t : Nat, t < E * c → ((m : Int) • gr_at g h E t = 0 ↔ (m * (t % E) % E = 0 ∧ m * (t / E) % c = 0)) := by
    intro t ht
    unfold gr_at
    rw [gr_d, ← gr_m, ← gr_m]
    have e1 : (m : Int) * ((t % E : Nat) : Int) = ((m * (t % E) : Nat) : Int) := (Int.natCast_mul _ _).symm
    have e2 : (m : Int) * ((t / E : Nat) : Int) = ((m * (t / E) : Nat) : Int) := (Int.natCast_mul _ _).symm
    rw [e1, e2]
    constructor
    · intro s
      obtain ⟨r1, r2⟩ := gr_ind2 gO hO hz s
      exact ⟨Nat.mod_eq_zero_of_dvd (Int.natCast_dvd_natCast.mp r1), Nat.mod_eq_zero_of_dvd (Int.natCast_dvd_natCast.mp r2)⟩
    · intro ⟨r1, r2⟩
      have z1 : ((m * (t % E) : Nat) : Int) • g = 0 := (gO.2 _).mpr (Int.natCast_dvd_natCast.mpr (Nat.dvd_of_mod_eq_zero r1))
      have z2 : ((m * (t / E) : Nat) : Int) • h = 0 := by
        obtain ⟨q, hq⟩ := Nat.dvd_of_mod_eq_zero r2
        rw [hq, Int.natCast_mul, Int.mul_comm, gr_m, hz, gr_z]
      rw [z1, z2]
      grind
  rw [← cn_gcd m E gO.1, ← cn_gcd m c hO.1, ← cn_prod _ _ E c gO.1]
  apply Nat.le_antisymm
  · refine cn_inj n (E * c) P _ (fun i => (gr_atsur gO hO hz all (d i)).choose) (fun i hi fi => ?_) (fun i j hi hj fi fj s => ?_)
    · obtain ⟨q1, q2⟩ := (gr_atsur gO hO hz all (d i)).choose_spec
      refine ⟨q1, ?_⟩
      have z := (tz _ q1).mp (by rw [q2]; exact (hP i hi).mp fi)
      show ((m * ((gr_atsur gO hO hz all (d i)).choose % E) % E == 0) && (m * ((gr_atsur gO hO hz all (d i)).choose / E) % c == 0)) = true
      rw [z.1, z.2]
      rfl
    · obtain ⟨q1, q2⟩ := (gr_atsur gO hO hz all (d i)).choose_spec
      obtain ⟨r1, r2⟩ := (gr_atsur gO hO hz all (d j)).choose_spec
      have s : (gr_atsur gO hO hz all (d i)).choose = (gr_atsur gO hO hz all (d j)).choose := s
      have : d i = d j := by rw [← q2, ← r2, s]
      rw [← N.2.2 i hi, ← N.2.2 j hj, this]
  · refine cn_inj (E * c) n _ P (fun t => e (gr_at g h E t)) (fun t ht ft => ⟨N.1 _, ?_⟩) (fun s t hs ht fs ft q => ?_)
    · have ft : ((m * (t % E) % E == 0) && (m * (t / E) % c == 0)) = true := ft
      rw [Bool.and_eq_true] at ft
      refine (hP _ (N.1 _)).mpr ?_
      rw [N.2.1]
      exact (tz t ht).mpr ⟨eq_of_beq ft.1, eq_of_beq ft.2⟩
    · have q : e (gr_at g h E s) = e (gr_at g h E t) := q
      refine gr_atinj gO hO hz hs ht ?_
      rw [← N.2.1 (gr_at g h E s), q, N.2.1]
end
section
/-! A group on the numbers below n. -/
def gp (n : Nat) (s : Nat → Nat → Nat) : Prop :=
  0 < n ∧ (∀ i j, i < n → j < n → s i j < n) ∧ (∀ i j, i < n → j < n → s i j = s j i) ∧ (∀ i j k, i < n → j < n → k < n → s (s i j) k = s i (s j k)) ∧ (∀ i, i < n → s 0 i = i) ∧ (∀ i, i < n → ∃ j, j < n ∧ s i j = 0)
def gp_nm {M : Type} (A : Lean.Grind.AddCommGroup M) : Nat → M → M
  | 0, _ => 0
  | k + 1, x => gp_nm A k x + x
def gp_zm {M : Type} (A : Lean.Grind.AddCommGroup M) : Int → M → M
  | .ofNat k, x => gp_nm A k x
  | .negSucc k, x => -gp_nm A (k + 1) x
theorem gp_zs {M : Type} (A : Lean.Grind.AddCommGroup M) (a : Int) (x : M) : gp_zm A (a + 1) x = gp_zm A a x + x := by
  cases a with
  | ofNat k => rfl
  | negSucc k =>
    cases k with
    | zero =>
      show (0 : M) = -(0 + x) + x
      rw [Lean.Grind.AddCommMonoid.zero_add, Lean.Grind.AddCommGroup.neg_add_cancel]
    | succ k =>
      show -gp_nm A (k + 1) x = -(gp_nm A (k + 1) x + x) + x
      rw [Lean.Grind.AddCommGroup.neg_add, Lean.Grind.AddCommMonoid.add_assoc, Lean.Grind.AddCommGroup.neg_add_cancel, Lean.Grind.AddCommMonoid.add_zero]
theorem gp_za {M : Type} (A : Lean.Grind.AddCommGroup M) (a b : Int) (x : M) : gp_zm A (a + b) x = gp_zm A a x + gp_zm A b x := by
  have pos : ∀ (k : Nat) (a : Int), gp_zm A (a + k) x = gp_zm A a x + gp_zm A k x := by
    intro k
    induction k with
    | zero =>
      intro a
      have e : a + ((0 : Nat) : Int) = a := Int.add_zero a
      have z : gp_zm A ((0 : Nat) : Int) x = 0 := rfl
      rw [e, z, Lean.Grind.AddCommMonoid.add_zero]
    | succ k ih =>
      intro a
      have e : a + ((k + 1 : Nat) : Int) = (a + k) + 1 := by omega
      have z : ((k + 1 : Nat) : Int) = (k : Int) + 1 := by omega
      rw [e, gp_zs, ih, z, gp_zs, Lean.Grind.AddCommMonoid.add_assoc]
  obtain ⟨k, e | e⟩ := Int.eq_nat_or_neg b
  · rw [e]; exact pos k a
  · rw [e]
    have p1 := pos k (a + -(k : Int))
    have p2 := pos k (-(k : Int))
    have e1 : a + -(k : Int) + k = a := by omega
    have e2 : -(k : Int) + k = 0 := by omega
    rw [e1] at p1
    rw [e2] at p2
    have z : gp_zm A 0 x = 0 := rfl
    rw [z] at p2
    rw [p1, Lean.Grind.AddCommMonoid.add_assoc, Lean.Grind.AddCommMonoid.add_comm (gp_zm A (k : Int) x), ← p2, Lean.Grind.AddCommMonoid.add_zero]
def gp_Z {M : Type} (A : Lean.Grind.AddCommGroup M) : Lean.Grind.IntModule M :=
  { A with
    nsmul := ⟨fun k x => gp_nm A k x⟩
    zsmul := ⟨fun k x => gp_zm A k x⟩
    zero_zsmul := fun _ => rfl
    one_zsmul := fun x => Lean.Grind.AddCommMonoid.zero_add x
    add_zsmul := fun a b x => gp_za A a b x
    zsmul_natCast_eq_nsmul := fun _ _ => rfl }
noncomputable def gp_A {n : Nat} {s : Nat → Nat → Nat} (h : gp n s) : Lean.Grind.AddCommGroup {i : Nat // i < n} :=
  { zero := ⟨0, h.1⟩
    add := fun x y => ⟨s x.1 y.1, h.2.1 x.1 y.1 x.2 y.2⟩
    neg := fun x => ⟨(h.2.2.2.2.2 x.1 x.2).choose, (h.2.2.2.2.2 x.1 x.2).choose_spec.1⟩
    sub := fun x y => ⟨s x.1 (h.2.2.2.2.2 y.1 y.2).choose, h.2.1 _ _ x.2 (h.2.2.2.2.2 y.1 y.2).choose_spec.1⟩
    add_zero := fun x => Subtype.ext (by
      show s x.1 0 = x.1
      rw [h.2.2.1 x.1 0 x.2 h.1, h.2.2.2.2.1 x.1 x.2])
    add_comm := fun x y => Subtype.ext (h.2.2.1 x.1 y.1 x.2 y.2)
    add_assoc := fun x y z => Subtype.ext (h.2.2.2.1 x.1 y.1 z.1 x.2 y.2 z.2)
    neg_add_cancel := fun x => Subtype.ext (by
      show s (h.2.2.2.2.2 x.1 x.2).choose x.1 = 0
      rw [h.2.2.1 _ _ (h.2.2.2.2.2 x.1 x.2).choose_spec.1 x.2]
      exact (h.2.2.2.2.2 x.1 x.2).choose_spec.2)
    sub_eq_add_neg := fun _ _ => rfl }
/-- the k-fold -/
def mu (s : Nat → Nat → Nat) : Nat → Nat → Nat
  | 0, _ => 0
  | k + 1, i => s (mu s k i) i
theorem mu_nm {n : Nat} {s : Nat → Nat → Nat} (h : gp n s) (k : Nat) (x : {i : Nat // i < n}) : (gp_nm (gp_A h) k x).1 = mu s k x.1 := by
  induction k with
  | zero => rfl
  | succ k ih =>
    show s (gp_nm (gp_A h) k x).1 x.1 = s (mu s k x.1) x.1
    rw [ih]
theorem mu_lt {n : Nat} {s : Nat → Nat → Nat} (h : gp n s) (k : Nat) {i : Nat} (hi : i < n) : mu s k i < n := by
  induction k with
  | zero => exact h.1
  | succ k ih => exact h.2.1 _ _ ih hi
theorem mu_z {n : Nat} {s : Nat → Nat → Nat} (h : gp n s) (k : Nat) : mu s k 0 = 0 := by
  induction k with
  | zero => rfl
  | succ k ih => show s (mu s k 0) 0 = 0; rw [ih]; exact h.2.2.2.2.1 0 h.1
theorem mu_1 {n : Nat} {s : Nat → Nat → Nat} (h : gp n s) {i : Nat} (hi : i < n) : mu s 1 i = i := h.2.2.2.2.1 i hi
theorem s_z {n : Nat} {s : Nat → Nat → Nat} (h : gp n s) {i : Nat} (hi : i < n) : s i 0 = i := by
  rw [h.2.2.1 i 0 hi h.1, h.2.2.2.2.1 i hi]
theorem mu_a {n : Nat} {s : Nat → Nat → Nat} (h : gp n s) (a b : Nat) {i : Nat} (hi : i < n) : mu s (a + b) i = s (mu s a i) (mu s b i) := by
  induction b with
  | zero => exact (s_z h (mu_lt h a hi)).symm
  | succ b ih =>
    show s (mu s (a + b) i) i = s (mu s a i) (s (mu s b i) i)
    rw [ih, h.2.2.2.1 _ _ _ (mu_lt h a hi) (mu_lt h b hi) hi]
theorem mu_m {n : Nat} {s : Nat → Nat → Nat} (h : gp n s) (a b : Nat) {i : Nat} (hi : i < n) : mu s (a * b) i = mu s a (mu s b i) := by
  induction a with
  | zero => rw [Nat.zero_mul]; rfl
  | succ a ih =>
    rw [Nat.add_mul, Nat.one_mul, mu_a h _ _ hi, ih]
    rfl
theorem s_4 {n : Nat} {s : Nat → Nat → Nat} (h : gp n s) {i j k l : Nat} (hi : i < n) (hj : j < n) (hk : k < n) (hl : l < n) : s (s i j) (s k l) = s (s i k) (s j l) := by
  rw [h.2.2.2.1 i j _ hi hj (h.2.1 _ _ hk hl), ← h.2.2.2.1 j k l hj hk hl, h.2.2.1 j k hj hk, h.2.2.2.1 k j l hk hj hl, ← h.2.2.2.1 i k _ hi hk (h.2.1 _ _ hj hl)]
theorem mu_d {n : Nat} {s : Nat → Nat → Nat} (h : gp n s) (a : Nat) {i j : Nat} (hi : i < n) (hj : j < n) : mu s a (s i j) = s (mu s a i) (mu s a j) := by
  induction a with
  | zero => exact (h.2.2.2.2.1 0 h.1).symm
  | succ a ih =>
    show s (mu s a (s i j)) (s i j) = s (s (mu s a i) i) (s (mu s a j) j)
    rw [ih]
    exact s_4 h (mu_lt h a hi) (mu_lt h a hj) hi hj
theorem s_can {n : Nat} {s : Nat → Nat → Nat} (h : gp n s) {i j k : Nat} (hi : i < n) (hj : j < n) (hk : k < n) (e : s i k = s j k) : i = j := by
  obtain ⟨l, hl, q⟩ := h.2.2.2.2.2 k hk
  have e2 : s (s i k) l = s (s j k) l := by rw [e]
  rw [h.2.2.2.1 i k l hi hk hl, h.2.2.2.1 j k l hj hk hl, q, s_z h hi, s_z h hj] at e2
  exact e2
/-- the least number with a property -/
noncomputable def lst (P : Nat → Prop) : Nat := Classical.epsilon (fun k => P k ∧ ∀ j, j < k → ¬ P j)
theorem lst_s {P : Nat → Prop} (h : ∃ k, P k) : P (lst P) ∧ ∀ j, j < lst P → ¬ P j :=
  Classical.epsilon_spec (p := fun k => P k ∧ ∀ j, j < k → ¬ P j) (pk_least P h)
/-- the order -/
noncomputable def od (s : Nat → Nat → Nat) (i : Nat) : Nat := lst (fun k => 0 < k ∧ mu s k i = 0)
/-- the numbering -/
noncomputable def gp_d {n : Nat} (h : 0 < n) (i : Nat) : {i : Nat // i < n} := if q : i < n then ⟨i, q⟩ else ⟨0, h⟩
theorem gp_N {n : Nat} (h : 0 < n) : gr_E n (fun x : {i : Nat // i < n} => x.1) (gp_d h) := by
  refine ⟨fun x => x.2, fun x => ?_, fun i hi => ?_⟩
  · show gp_d h x.1 = x
    unfold gp_d
    rw [dif_pos x.2]
  · show (gp_d h i).1 = i
    unfold gp_d
    rw [dif_pos hi]
theorem gp_mu {n : Nat} {s : Nat → Nat → Nat} (h : gp n s) (k : Nat) (x : {i : Nat // i < n}) : ((gp_Z (gp_A h)).zsmul.smul (k : Int) x).1 = mu s k x.1 := mu_nm h k x
theorem od_O {n : Nat} {s : Nat → Nat → Nat} (h : gp n s) {i : Nat} (hi : i < n) : od s i ≤ n ∧ @gr_O _ (gp_Z (gp_A h)) (@gr_o _ (gp_Z (gp_A h))) ⟨i, hi⟩ (od s i) := by
  obtain ⟨k, hk, O⟩ := @gr_Oex _ (gp_Z (gp_A h)) n _ _ (gp_N h.1) _ (@gr_So _ (gp_Z (gp_A h))) ⟨i, hi⟩
  have key : ∀ m : Nat, mu s m i = 0 ↔ k ∣ m := by
    intro m
    rw [← Int.natCast_dvd_natCast, ← O.2 m]
    constructor
    · intro z
      exact Subtype.ext ((gp_mu h m ⟨i, hi⟩).trans z)
    · intro z
      rw [← gp_mu h m ⟨i, hi⟩]
      exact congrArg Subtype.val z
  have e : od s i = k := by
    obtain ⟨⟨p1, p2⟩, p3⟩ := lst_s (P := fun k => 0 < k ∧ mu s k i = 0) ⟨k, O.1, (key k).mpr (Nat.dvd_refl k)⟩
    have l1 : k ≤ od s i := Nat.le_of_dvd p1 ((key _).mp p2)
    have l2 : od s i ≤ k := by
      rcases Nat.lt_or_ge k (od s i) with c | c
      · exact absurd ⟨O.1, (key k).mpr (Nat.dvd_refl k)⟩ (p3 k c)
      · exact c
    omega
  rw [e]
  exact ⟨hk, O⟩
theorem od_s {n : Nat} {s : Nat → Nat → Nat} (h : gp n s) {i : Nat} (hi : i < n) : 0 < od s i ∧ od s i ≤ n ∧ ∀ m, mu s m i = 0 ↔ od s i ∣ m := by
  obtain ⟨hk, O⟩ := od_O h hi
  refine ⟨O.1, hk, fun m => ?_⟩
  rw [← Int.natCast_dvd_natCast, ← O.2 m]
  constructor
  · intro z
    exact Subtype.ext ((gp_mu h m ⟨i, hi⟩).trans z)
  · intro z
    rw [← gp_mu h m ⟨i, hi⟩]
    exact congrArg Subtype.val z
def gp_2 (n : Nat) (s : Nat → Nat → Nat) : Prop := ∀ f : Nat → Nat, (∀ i, i < 4 → f i < n ∧ s (f i) (f i) = 0 ∧ f i ≠ 0) → ∃ i j, i < j ∧ j < 4 ∧ f i = f j
def gp_3 (n : Nat) (s : Nat → Nat → Nat) : Prop := ∀ f : Nat → Nat, (∀ i, i < 5 → f i < n ∧ s (s (f i) (f i)) (f i) = 0 ∧ f i ≠ 0) → ∃ i j, i < j ∧ j < 5 ∧ (f i = f j ∨ s (f i) (f j) = 0)
theorem gp_H2 {n : Nat} {s : Nat → Nat → Nat} (h : gp n s) (T : gp_2 n s) : @gr_H2 {i : Nat // i < n} (gp_Z (gp_A h)) := by
  intro f hf
  obtain ⟨i, j, a, b, c⟩ := T (fun i => (f i).1) (fun i hi => by
    obtain ⟨q1, q2⟩ := hf i hi
    refine ⟨(f i).2, ?_, fun z => q2 (Subtype.ext z)⟩
    have := gp_mu h 2 (f i)
    have e : s (s 0 (f i).1) (f i).1 = 0 := this.symm.trans (congrArg Subtype.val q1)
    rw [h.2.2.2.2.1 _ (f i).2] at e
    exact e)
  exact ⟨i, j, a, b, Subtype.ext c⟩
theorem gp_H3 {n : Nat} {s : Nat → Nat → Nat} (h : gp n s) (T : gp_3 n s) : @gr_H3 {i : Nat // i < n} (gp_Z (gp_A h)) := by
  intro f hf
  obtain ⟨i, j, a, b, c⟩ := T (fun i => (f i).1) (fun i hi => by
    obtain ⟨q1, q2⟩ := hf i hi
    refine ⟨(f i).2, ?_, fun z => q2 (Subtype.ext z)⟩
    have := gp_mu h 3 (f i)
    have e : s (s (s 0 (f i).1) (f i).1) (f i).1 = 0 := this.symm.trans (congrArg Subtype.val q1)
    rw [h.2.2.2.2.1 _ (f i).2] at e
    exact e)
  refine ⟨i, j, a, b, ?_⟩
  rcases c with c | c
  · exact Or.inl (Subtype.ext c)
  · right
    have q := (h.2.2.2.2.2 (f j).1 (f j).2).choose_spec
    apply Subtype.ext
    show (f i).1 = (h.2.2.2.2.2 (f j).1 (f j).2).choose
    refine s_can h (f i).2 q.1 (f j).2 ?_
    have c : s (f i).1 (f j).1 = 0 := c
    rw [c, h.2.2.1 _ _ q.1 (f j).2, q.2]
/-- what the class says of the group -/
theorem gp_main {n : Nat} {s : Nat → Nat → Nat} (h : gp n s) (n8 : n ≤ 80) (T2 : gp_2 n s) (T3 : gp_3 n s) : ∃ E : Nat, (∃ i, i < n ∧ od s i = E) ∧ (∀ i, i < n → od s i ∣ E) ∧ E ∣ n ∧ ∀ m, cn (fun i => m % od s i == 0) n = Nat.gcd m (n / E) * Nat.gcd m E := by
  obtain ⟨g, hh, E, c, gO, gk, hO, hz, all⟩ := @gr_gen _ (gp_Z (gp_A h)) n _ _ (gp_N h.1) n8 (gp_H2 h T2) (gp_H3 h T3)
  have key : ∀ m : Nat, cn (fun i => m % od s i == 0) n = Nat.gcd m E * Nat.gcd m c := by
    intro m
    refine @gr_tors _ (gp_Z (gp_A h)) n _ _ (gp_N h.1) g hh E c gO hO hz all m _ (fun i hi => ?_)
    have ed : gp_d h.1 i = ⟨i, hi⟩ := by unfold gp_d; rw [dif_pos hi]
    rw [ed]
    have o := (od_s h hi).2.2 m
    constructor
    · intro q
      have q1 : mu s m i = 0 := o.mpr (Nat.dvd_of_mod_eq_zero (eq_of_beq q))
      exact Subtype.ext ((gp_mu h m ⟨i, hi⟩).trans q1)
    · intro q
      have q1 : mu s m i = 0 := by
        rw [← gp_mu h m ⟨i, hi⟩]
        exact congrArg Subtype.val q
      show (m % od s i == 0) = true
      rw [Nat.mod_eq_zero_of_dvd (o.mp q1)]
      rfl
  have E0 : 0 < E := gO.1
  have nE : n = E * c := by
    have k := key 0
    rw [Nat.gcd_zero_left, Nat.gcd_zero_left] at k
    rw [← k]
    have : cn (fun i => 0 % od s i == 0) n = cn (fun _ => true) n := cn_congr (fun i hi => by rw [Nat.zero_mod]; rfl)
    rw [this, cn_all]
  refine ⟨E, ⟨g.1, g.2, ?_⟩, fun i hi => ?_, ⟨c, nE⟩, fun m => ?_⟩
  · exact @gr_Ou _ (gp_Z (gp_A h)) _ _ _ _ (od_O h g.2).2 gO
  · have := gk ⟨i, hi⟩
    exact Int.natCast_dvd_natCast.mp (((od_O h hi).2.2 E).mp this)
  · have e : n / E = c := by rw [nE, Nat.mul_div_cancel_left _ E0]
    rw [key, e, Nat.mul_comm]
end
section
/-! Numbers modulo the sixteen primes, by computation. -/
def PL : List Nat := [5, 7, 11, 13, 17, 19, 23, 29, 31, 37, 41, 43, 47, 53, 59, 61]
/-- the power by squaring, as the class does it -/
def pwf (p : Nat) : Nat → Nat → Nat → Nat → Nat
  | 0, r, _, _ => r
  | f + 1, r, q, l => if l = 0 then r else pwf p f (if l % 2 = 1 then r * q % p else r) (q * q % p) (l / 2)
def pw (p v e : Nat) : Nat := pwf p 6 1 (v % p) e
/-- the least root, p if there is none -/
def rtf (p v : Nat) : Nat → Nat → Nat
  | 0, z => z
  | f + 1, z => if z * z % p = v then z else rtf p v f (z + 1)
def rt (p v : Nat) : Nat := rtf p v p 0
/-- for all below n -/
def al (f : Nat → Bool) : Nat → Bool
  | 0 => true
  | n + 1 => f n && al f n
theorem al_s {f : Nat → Bool} {n : Nat} (h : al f n = true) {i : Nat} (hi : i < n) : f i = true := by
  induction n with
  | zero => omega
  | succ n ih =>
    have h : (f n && al f n) = true := h
    rw [Bool.and_eq_true] at h
    rcases Nat.lt_or_ge i n with c | c
    · exact ih h.2 c
    · have : i = n := by omega
      rw [this]; exact h.1
theorem pl_s {f : Nat → Bool} (h : PL.all f = true) {p : Nat} (hp : p ∈ PL) : f p = true := List.all_eq_true.mp h p hp
theorem pl_nz0 : PL.all (fun p => al (fun x => al (fun y => !(x * y % p == 0) || x == 0 || y == 0) p) p) = true := by decide +kernel
theorem pl_inv0 : PL.all (fun p => al (fun x => x == 0 || x * pw p x (p - 2) % p == 1) p) = true := by decide +kernel
theorem pl_rt0 : PL.all (fun p => al (fun z => Nat.blt (rt p (z * z % p)) p && (z == rt p (z * z % p) || (!(rt p (z * z % p) == 0) && z + rt p (z * z % p) == p)) && Nat.blt (2 * rt p (z * z % p)) p) p) = true := by decide +kernel
theorem pl_46 : PL.all (fun p => al (fun u => pw p u 4 == (u * u % p) * (u * u % p) % p && pw p u 6 == ((u * u % p) * (u * u % p) % p) * (u * u % p) % p) p) = true := by decide +kernel
theorem pl_bd : PL.all (fun p => Nat.blt 4 p && Nat.blt p 62) = true := by decide +kernel
theorem pl_lo {p : Nat} (hp : p ∈ PL) : 5 ≤ p ∧ p ≤ 61 := by
  have h := pl_s pl_bd hp
  rw [Bool.and_eq_true] at h
  have h1 := Nat.le_of_ble_eq_true h.1
  have h2 := Nat.le_of_ble_eq_true h.2
  omega
theorem pl_nz {p : Nat} (hp : p ∈ PL) {x y : Nat} (hx : x < p) (hy : y < p) (h : x * y % p = 0) : x = 0 ∨ y = 0 := by
  have q := al_s (al_s (pl_s pl_nz0 hp) hx) hy
  rw [h] at q
  simp at q
  exact q
theorem pl_inv {p : Nat} (hp : p ∈ PL) {x : Nat} (hx : x < p) (h0 : x ≠ 0) : x * pw p x (p - 2) % p = 1 := by
  have q := al_s (pl_s pl_inv0 hp) hx
  simp [h0] at q
  exact q
theorem rtf_le (p v : Nat) : ∀ f z, rtf p v f z ≤ z + f := by
  intro f
  induction f with
  | zero => intro z; exact Nat.le_refl _
  | succ f ih =>
    intro z
    show (if z * z % p = v then z else rtf p v f (z + 1)) ≤ z + (f + 1)
    split
    · omega
    · have := ih (z + 1); omega
theorem rt_le (p v : Nat) : rt p v ≤ p := by
  have := rtf_le p v p 0
  unfold rt
  omega
theorem rtf_s (p v : Nat) : ∀ f z, rtf p v f z < z + f → rtf p v f z * rtf p v f z % p = v := by
  intro f
  induction f with
  | zero =>
    intro z h
    have h : z < z + 0 := h
    omega
  | succ f ih =>
    intro z h
    have e : rtf p v (f + 1) z = if z * z % p = v then z else rtf p v f (z + 1) := rfl
    rw [e] at h ⊢
    by_cases c : z * z % p = v
    · rw [if_pos c]; exact c
    · rw [if_neg c] at h ⊢
      exact ih (z + 1) (by omega)
theorem rtf_ge (p v : Nat) : ∀ f z, z ≤ rtf p v f z := by
  intro f
  induction f with
  | zero => intro z; exact Nat.le_refl _
  | succ f ih =>
    intro z
    show z ≤ (if z * z % p = v then z else rtf p v f (z + 1))
    split
    · omega
    · have := ih (z + 1); omega
theorem rtf_l (p v : Nat) : ∀ f z y, z ≤ y → y < rtf p v f z → ¬ y * y % p = v := by
  intro f
  induction f with
  | zero => intro z y h1 h2; have h2 : y < z := h2; omega
  | succ f ih =>
    intro z y h1 h2
    have e : rtf p v (f + 1) z = if z * z % p = v then z else rtf p v f (z + 1) := rfl
    rw [e] at h2
    by_cases c : z * z % p = v
    · rw [if_pos c] at h2; omega
    · rw [if_neg c] at h2
      rcases Nat.lt_or_ge z y with d | d
      · exact ih (z + 1) y (by omega) h2
      · have : y = z := by omega
        rw [this]; exact c
/-- the root is a root -/
theorem rt_s {p v : Nat} (h : rt p v < p) : rt p v * rt p v % p = v := rtf_s p v p 0 (by unfold rt at h; omega)
theorem rt_l {p v y : Nat} (h : y < rt p v) : ¬ y * y % p = v := rtf_l p v p 0 y (Nat.zero_le _) h
theorem rt_all {p : Nat} (hp : p ∈ PL) {z v : Nat} (hz : z < p) (h : z * z % p = v) : rt p v < p ∧ (z = rt p v ∨ (rt p v ≠ 0 ∧ z + rt p v = p)) ∧ 2 * rt p v < p := by
  have q := al_s (pl_s pl_rt0 hp) hz
  rw [h] at q
  rw [Bool.and_eq_true, Bool.and_eq_true] at q
  obtain ⟨⟨q1, q2⟩, q3⟩ := q
  refine ⟨Nat.le_of_ble_eq_true q1, ?_, Nat.le_of_ble_eq_true q3⟩
  simp at q2
  exact q2
theorem pl_pow {p : Nat} (hp : p ∈ PL) {u : Nat} (hu : u < p) : pw p u 4 = (u * u % p) * (u * u % p) % p ∧ pw p u 6 = ((u * u % p) * (u * u % p) % p) * (u * u % p) % p := by
  have q := al_s (pl_s pl_46 hp) hu
  rw [Bool.and_eq_true] at q
  exact ⟨eq_of_beq q.1, eq_of_beq q.2⟩
/-- how many have this square -/
def np (p v : Nat) : Nat := if rt p v = p then 0 else if rt p v = 0 then 1 else 2
/-- the cubic -/
def cb (p a b x : Nat) : Nat := (x * x * x + a * x + b) % p
/-- the number of the first point with x or a later one -/
def off (p a b : Nat) : Nat → Nat
  | 0 => 1
  | x + 1 => off p a b x + np p (cb p a b x)
end
section
/-! The number of points is at most 80: by computation over all curves. -/
/-- how many roots, out of a table in base 4 -/
def hs (p t a b : Nat) (n : Nat) (acc : Nat) : Nat := Nat.rec (motive := fun _ => Nat → Nat) (fun acc => acc) (fun x ih acc => ih (Nat.add acc (Nat.mod (Nat.shiftRight t (Nat.mul 2 (Nat.mod (Nat.add (Nat.mul x (Nat.add (Nat.mul x x) a)) b) p))) 4))) n acc
def ar (f : Nat → Bool) (n : Nat) : Bool := Nat.rec (motive := fun _ => Bool) true (fun k ih => Bool.and (f k) ih) n
theorem ar_s {f : Nat → Bool} {n : Nat} (h : ar f n = true) {i : Nat} (hi : i < n) : f i = true := by
  induction n with
  | zero => omega
  | succ n ih =>
    have h : (f n && ar f n) = true := h
    rw [Bool.and_eq_true] at h
    rcases Nat.lt_or_ge i n with c | c
    · exact ih h.2 c
    · have : i = n := by omega
      rw [this]; exact h.1
theorem hs_t41 : ar (fun v => Nat.beq (Nat.mod (Nat.shiftRight 3069731907081721789155881 (Nat.mul 2 v)) 4) (np 41 v)) 41 = true := by decide +kernel
theorem hs_41 : ar (fun a => ar (fun b => Nat.ble (hs 41 3069731907081721789155881 a b 41 1) 80) 41) 41 = true := by decide +kernel
theorem hs_t43 : ar (fun v => Nat.beq (Nat.mod (Nat.shiftRight 12252189066141660489458185 (Nat.mul 2 v)) 4) (np 43 v)) 43 = true := by decide +kernel
theorem hs_43 : ar (fun a => ar (fun b => Nat.ble (hs 43 12252189066141660489458185 a b 43 1) 80) 43) 43 = true := by decide +kernel
theorem hs_t47 : ar (fun v => Nat.beq (Nat.mod (Nat.shiftRight 38733477264763048082186921 (Nat.mul 2 v)) 4) (np 47 v)) 47 = true := by decide +kernel
theorem hs_47 : ar (fun a => ar (fun b => Nat.ble (hs 47 38733477264763048082186921 a b 47 1) 80) 47) 47 = true := by decide +kernel
theorem hs_t53 : ar (fun v => Nat.beq (Nat.mod (Nat.shiftRight 41248977123331406690963058893321 (Nat.mul 2 v)) 4) (np 53 v)) 53 = true := by decide +kernel
theorem hs_53 : ar (fun a => ar (fun b => Nat.ble (hs 53 41248977123331406690963058893321 a b 53 1) 80) 53) 53 = true := by decide +kernel
theorem hs_t59 : ar (fun v => Nat.beq (Nat.mod (Nat.shiftRight 41711580020618408965060925053241993 (Nat.mul 2 v)) 4) (np 59 v)) 59 = true := by decide +kernel
theorem hs_59 : ar (fun a => ar (fun b => Nat.ble (hs 59 41711580020618408965060925053241993 a b 59 1) 80) 59) 59 = true := by decide +kernel
theorem hs_t61 : ar (fun v => Nat.beq (Nat.mod (Nat.shiftRight 2876573868771580132937577463091301001 (Nat.mul 2 v)) 4) (np 61 v)) 61 = true := by decide +kernel
theorem hs_61 : ar (fun a => ar (fun b => Nat.ble (hs 61 2876573868771580132937577463091301001 a b 61 1) 80) 61) 61 = true := by decide +kernel
theorem np_le (p v : Nat) : np p v ≤ 2 := by
  unfold np
  split
  · omega
  · split <;> omega
theorem off_le (p a b x : Nat) : off p a b x ≤ 1 + 2 * x := by
  induction x with
  | zero => exact Nat.le_refl 1
  | succ x ih =>
    have := np_le p (cb p a b x)
    show off p a b x + np p (cb p a b x) ≤ 1 + 2 * (x + 1)
    omega
theorem hs_off {p t a b : Nat} (p0 : 0 < p) (h : ar (fun v => Nat.beq (Nat.mod (Nat.shiftRight t (Nat.mul 2 v)) 4) (np p v)) p = true) : ∀ n acc, hs p t a b n acc + 1 = acc + off p a b n := by
  intro n
  induction n with
  | zero => intro acc; rfl
  | succ n ih =>
    intro acc
    have e : hs p t a b (n + 1) acc = hs p t a b n (Nat.add acc (Nat.mod (Nat.shiftRight t (Nat.mul 2 (Nat.mod (Nat.add (Nat.mul n (Nat.add (Nat.mul n n) a)) b) p))) 4)) := rfl
    have c : Nat.mod (Nat.add (Nat.mul n (Nat.add (Nat.mul n n) a)) b) p = cb p a b n := by
      show (n * (n * n + a) + b) % p = (n * n * n + a * n + b) % p
      rw [Nat.mul_add, Nat.mul_comm n a, ← Nat.mul_assoc]
    have lt : cb p a b n < p := Nat.mod_lt _ p0
    have q := Nat.eq_of_beq_eq_true (ar_s h lt)
    rw [e, ih, c, q]
    show acc + np p (cb p a b n) + off p a b n = acc + (off p a b n + np p (cb p a b n))
    omega
theorem off_80 {p a b : Nat} (hp : p ∈ PL) (ha : a < p) (hb : b < p) : off p a b p ≤ 80 := by
  have key : ∀ t, ar (fun v => Nat.beq (Nat.mod (Nat.shiftRight t (Nat.mul 2 v)) 4) (np p v)) p = true → ar (fun a => ar (fun b => Nat.ble (hs p t a b p 1) 80) p) p = true → off p a b p ≤ 80 := by
    intro t h1 h2
    have q := Nat.le_of_ble_eq_true (ar_s (ar_s h2 ha) hb)
    have r := hs_off (a := a) (b := b) (by omega) h1 p 1
    omega
  have small : p ≤ 37 → off p a b p ≤ 80 := by
    intro h
    have := off_le p a b p
    omega
  have m : p = 5 ∨ p = 7 ∨ p = 11 ∨ p = 13 ∨ p = 17 ∨ p = 19 ∨ p = 23 ∨ p = 29 ∨ p = 31 ∨ p = 37 ∨ p = 41 ∨ p = 43 ∨ p = 47 ∨ p = 53 ∨ p = 59 ∨ p = 61 := by
    simpa [PL] using hp
  rcases m with m | m | m | m | m | m | m | m | m | m | m | m | m | m | m | m
  · exact small (by omega)
  · exact small (by omega)
  · exact small (by omega)
  · exact small (by omega)
  · exact small (by omega)
  · exact small (by omega)
  · exact small (by omega)
  · exact small (by omega)
  · exact small (by omega)
  · exact small (by omega)
  · subst m; exact key _ hs_t41 hs_41
  · subst m; exact key _ hs_t43 hs_43
  · subst m; exact key _ hs_t47 hs_47
  · subst m; exact key _ hs_t53 hs_53
  · subst m; exact key _ hs_t59 hs_59
  · subst m; exact key _ hs_t61 hs_61
end
section
/-! The field of p elements, by a map of the integers onto it. -/
def Fp (p : Nat) (K : Type) [Lean.Grind.CommRing K] (k : Int → K) : Prop :=
  (∀ x y, k (x + y) = k x + k y) ∧ (∀ x y, k (x * y) = k x * k y) ∧ (∀ x y, k (x - y) = k x - k y) ∧ (∀ x, k (-x) = -k x) ∧ k 0 = 0 ∧ k 1 = 1 ∧ (k 2 = 2 ∧ k 3 = 3 ∧ k 4 = 4 ∧ k 27 = 27) ∧ (∀ x y : Int, k x = k y ↔ x % (p : Int) = y % (p : Int)) ∧ (∀ z : K, ∃ x : Nat, x < p ∧ k x = z)
theorem fp_fin (p : Nat) [NeZero p] : Fp p (Fin p) (fun x => @IntCast.intCast (Fin p) Lean.Grind.Ring.intCast x) := by
  refine ⟨fun x y => Lean.Grind.Ring.intCast_add x y, fun x y => Lean.Grind.Ring.intCast_mul x y, fun x y => Lean.Grind.Ring.intCast_sub x y, fun x => Lean.Grind.Ring.intCast_neg x, Lean.Grind.Ring.intCast_zero, Lean.Grind.Ring.intCast_one, ⟨Lean.Grind.Ring.intCast_ofNat 2, Lean.Grind.Ring.intCast_ofNat 3, Lean.Grind.Ring.intCast_ofNat 4, Lean.Grind.Ring.intCast_ofNat 27⟩, fun x y => Lean.Grind.IsCharP.intCast_ext_iff p, fun z => ⟨z.val, z.isLt, ?_⟩⟩
  have e : @IntCast.intCast (Fin p) Lean.Grind.Ring.intCast ((z.val : Nat) : Int) = @NatCast.natCast (Fin p) Lean.Grind.Semiring.natCast z.val := Lean.Grind.Ring.intCast_natCast z.val
  show @IntCast.intCast (Fin p) Lean.Grind.Ring.intCast ((z.val : Nat) : Int) = z
  rw [e]
  apply Fin.ext
  show z.val % p = z.val
  exact Nat.mod_eq_of_lt z.isLt
theorem fp_ex {p : Nat} (hp : p ∈ PL) : ∃ (K : Type) (_ : Lean.Grind.CommRing K) (k : Int → K), Fp p K k := by
  have : NeZero p := ⟨by have := pl_lo hp; omega⟩
  exact ⟨Fin p, inferInstance, _, fp_fin p⟩
theorem fp_eq {p : Nat} {K : Type} [Lean.Grind.CommRing K] {k : Int → K} (f : Fp p K k) {x y : Int} : k x = k y ↔ x % (p : Int) = y % (p : Int) := f.2.2.2.2.2.2.2.1 x y
theorem fp_nat {p : Nat} {K : Type} [Lean.Grind.CommRing K] {k : Int → K} (f : Fp p K k) {x y : Nat} (hx : x < p) (hy : y < p) (h : k x = k y) : x = y := by
  have q := (fp_eq f).mp h
  rw [Int.emod_eq_of_lt (by omega) (by omega), Int.emod_eq_of_lt (by omega) (by omega)] at q
  omega
theorem fp_mod {p : Nat} {K : Type} [Lean.Grind.CommRing K] {k : Int → K} (f : Fp p K k) (x : Int) : k (x % (p : Int)) = k x := (fp_eq f).mpr (Int.emod_emod_of_dvd x (Int.dvd_refl _))
theorem fp_modn {p : Nat} {K : Type} [Lean.Grind.CommRing K] {k : Int → K} (f : Fp p K k) (x : Nat) : k ((x % p : Nat) : Int) = k (x : Int) := by
  have e : ((x % p : Nat) : Int) = (x : Int) % (p : Int) := Int.natCast_emod _ _
  rw [e]; exact fp_mod f x
theorem fp_z {p : Nat} {K : Type} [Lean.Grind.CommRing K] {k : Int → K} (f : Fp p K k) {x : Int} : k x = 0 ↔ x % (p : Int) = 0 := by
  rw [← f.2.2.2.2.1, fp_eq f, Int.zero_emod]
theorem fp_zn {p : Nat} {K : Type} [Lean.Grind.CommRing K] {k : Int → K} (f : Fp p K k) {x : Nat} : k (x : Int) = 0 ↔ x % p = 0 := by
  rw [fp_z f]
  have e : ((x % p : Nat) : Int) = (x : Int) % (p : Int) := Int.natCast_emod _ _
  rw [← e]
  omega
theorem fp_F {p : Nat} (hp : p ∈ PL) {K : Type} [Lean.Grind.CommRing K] {k : Int → K} (f : Fp p K k) {a b : Nat} (d : ¬ (4 * a * a * a + 27 * b * b) % p = 0) : ec_F (k a) (k b) := by
  have lo := pl_lo hp
  refine ⟨fun x y h => ?_, fun x h => ?_, ?_, ?_, ?_⟩
  · obtain ⟨i, hi, ei⟩ := f.2.2.2.2.2.2.2.2 x
    obtain ⟨j, hj, ej⟩ := f.2.2.2.2.2.2.2.2 y
    rw [← ei, ← ej, ← f.2.1, ← Int.natCast_mul, fp_zn f] at h
    rcases pl_nz hp hi hj h with z | z
    · left; rw [← ei, z]; exact f.2.2.2.2.1
    · right; rw [← ej, z]; exact f.2.2.2.2.1
  · obtain ⟨i, hi, ei⟩ := f.2.2.2.2.2.2.2.2 x
    have i0 : i ≠ 0 := fun z => h (by rw [← ei, z]; exact f.2.2.2.2.1)
    refine ⟨k ((pw p i (p - 2) : Nat) : Int), ?_⟩
    rw [← ei, ← f.2.1, ← Int.natCast_mul, ← fp_modn f, pl_inv hp hi i0]
    exact f.2.2.2.2.2.1
  · intro z
    rw [← f.2.2.2.2.2.2.1.1, fp_z f] at z
    have e : (2 : Int) % (p : Int) = 2 := Int.emod_eq_of_lt (by omega) (by omega)
    rw [e] at z
    omega
  · intro z
    rw [← f.2.2.2.2.2.2.1.2.1, fp_z f] at z
    have e : (3 : Int) % (p : Int) = 3 := Int.emod_eq_of_lt (by omega) (by omega)
    rw [e] at z
    omega
  · intro z
    apply d
    rw [← fp_zn f, ← z, ← f.2.2.2.2.2.2.1.2.2.1, ← f.2.2.2.2.2.2.1.2.2.2, ← f.2.1, ← f.2.1, ← f.2.1, ← f.2.1, ← f.2.1, ← f.1]
    congr 1
end
section
/-! The points and their numbers. -/
/-- number i belongs to the point (x, y) -/
def Pt (p a b i x y : Nat) : Prop := x < p ∧ rt p (cb p a b x) < p ∧ ((i = off p a b x ∧ y = rt p (cb p a b x)) ∨ (rt p (cb p a b x) ≠ 0 ∧ i = off p a b x + 1 ∧ y = p - rt p (cb p a b x)))
theorem off_mono {p a b x y : Nat} (h : x ≤ y) : off p a b x ≤ off p a b y := by
  induction y with
  | zero => have : x = 0 := by omega
            rw [this]; exact Nat.le_refl _
  | succ y ih =>
    rcases Nat.lt_or_ge y x with c | c
    · have : x = y + 1 := by omega
      rw [this]; exact Nat.le_refl _
    · have := ih c
      show off p a b x ≤ off p a b y + np p (cb p a b y)
      omega
theorem off_pos (p a b x : Nat) : 1 ≤ off p a b x := off_mono (p := p) (a := a) (b := b) (Nat.zero_le x)
theorem off_s (p a b x : Nat) : off p a b (x + 1) = off p a b x + np p (cb p a b x) := rfl
theorem np_0 {p v : Nat} (h : rt p v = p) : np p v = 0 := if_pos h
theorem np_1 {p v : Nat} (h : rt p v < p) (z : rt p v = 0) : np p v = 1 := by
  unfold np
  rw [if_neg (by omega), if_pos z]
theorem np_2 {p v : Nat} (h : rt p v < p) (z : rt p v ≠ 0) : np p v = 2 := by
  unfold np
  rw [if_neg (by omega), if_neg z]
theorem Pt_lt {p a b i x y : Nat} (h : Pt p a b i x y) : off p a b x ≤ i ∧ i < off p a b (x + 1) := by
  obtain ⟨h1, h2, h3⟩ := h
  rw [off_s]
  rcases h3 with ⟨e, -⟩ | ⟨z, e, -⟩
  · by_cases z : rt p (cb p a b x) = 0
    · rw [np_1 h2 z]; omega
    · rw [np_2 h2 z]; omega
  · rw [np_2 h2 z]; omega
theorem Pt_n {p a b i x y : Nat} (h : Pt p a b i x y) : 1 ≤ i ∧ i < off p a b p := by
  obtain ⟨h1, h2⟩ := Pt_lt h
  have h3 := off_pos p a b x
  have h4 : off p a b (x + 1) ≤ off p a b p := off_mono h.1
  omega
theorem Pt_x {p a b i x y x' y' : Nat} (h : Pt p a b i x y) (g : Pt p a b i x' y') : x = x' := by
  obtain ⟨h1, h2⟩ := Pt_lt h
  obtain ⟨g1, g2⟩ := Pt_lt g
  rcases Nat.lt_trichotomy x x' with c | c | c
  · have := off_mono (p := p) (a := a) (b := b) (show x + 1 ≤ x' from c)
    omega
  · exact c
  · have := off_mono (p := p) (a := a) (b := b) (show x' + 1 ≤ x from c)
    omega
theorem Pt_u {p a b i x y x' y' : Nat} (h : Pt p a b i x y) (g : Pt p a b i x' y') : x = x' ∧ y = y' := by
  have e := Pt_x h g
  subst e
  refine ⟨rfl, ?_⟩
  obtain ⟨-, -, h3⟩ := h
  obtain ⟨-, -, g3⟩ := g
  rcases h3 with ⟨e1, e2⟩ | ⟨z, e1, e2⟩ <;> rcases g3 with ⟨f1, f2⟩ | ⟨z', f1, f2⟩ <;> omega
theorem Pt_i {p a b i j x y : Nat} (hp : p ∈ PL) (h : Pt p a b i x y) (g : Pt p a b j x y) : i = j := by
  obtain ⟨h1, h2, h3⟩ := h
  obtain ⟨-, -, g3⟩ := g
  have r := (rt_all hp h2 (rt_s h2)).2.2
  rcases h3 with ⟨e1, e2⟩ | ⟨z, e1, e2⟩ <;> rcases g3 with ⟨f1, f2⟩ | ⟨z', f1, f2⟩ <;> omega
theorem sq_neg {p z : Nat} (h : z < p) : (p - z) * (p - z) % p = z * z % p := by
  have e : (p - z) * (p - z) + 2 * z * p = z * z + p * p := by
    obtain ⟨w, rfl⟩ : ∃ w, p = w + z := ⟨p - z, by omega⟩
    rw [Nat.add_sub_cancel]
    grind
  have e1 : ((p - z) * (p - z) + 2 * z * p) % p = (p - z) * (p - z) % p := Nat.add_mul_mod_self_right _ _ _
  have e2 : (z * z + p * p) % p = z * z % p := Nat.add_mul_mod_self_right _ _ _
  rw [← e1, e, e2]
theorem Pt_on {p a b i x y : Nat} (h : Pt p a b i x y) : x < p ∧ y < p ∧ y * y % p = cb p a b x := by
  obtain ⟨h1, h2, h3⟩ := h
  refine ⟨h1, ?_⟩
  rcases h3 with ⟨-, e2⟩ | ⟨z, -, e2⟩
  · rw [e2]; exact ⟨h2, rt_s h2⟩
  · refine ⟨by omega, ?_⟩
    rw [e2, sq_neg h2, rt_s h2]
theorem Pt_of {p a b x y : Nat} (hp : p ∈ PL) (hx : x < p) (hy : y < p) (h : y * y % p = cb p a b x) : ∃ i, Pt p a b i x y := by
  obtain ⟨r1, r2, r3⟩ := rt_all hp hy h
  rcases r2 with e | ⟨z, e⟩
  · exact ⟨_, hx, r1, Or.inl ⟨rfl, e⟩⟩
  · exact ⟨_, hx, r1, Or.inr ⟨z, rfl, by omega⟩⟩
theorem Pt_ex {p a b i : Nat} (h1 : 1 ≤ i) : ∀ x, x ≤ p → i < off p a b x → ∃ u v, Pt p a b i u v := by
  intro x
  induction x with
  | zero => intro _ h; have h : i < 1 := h; omega
  | succ x ih =>
    intro hx h
    rcases Nat.lt_or_ge i (off p a b x) with c | c
    · exact ih (by omega) c
    · rw [off_s] at h
      rcases Nat.lt_or_ge (rt p (cb p a b x)) p with d | d
      · by_cases z : rt p (cb p a b x) = 0
        · rw [np_1 d z] at h
          exact ⟨x, _, by omega, d, Or.inl ⟨by omega, rfl⟩⟩
        · rw [np_2 d z] at h
          rcases Nat.lt_or_ge (off p a b x) i with q | q
          · exact ⟨x, _, by omega, d, Or.inr ⟨z, by omega, rfl⟩⟩
          · exact ⟨x, _, by omega, d, Or.inl ⟨by omega, rfl⟩⟩
      · have : rt p (cb p a b x) = p := by have := rt_le p (cb p a b x); omega
        rw [np_0 this] at h
        omega
noncomputable def pxy (p a b i : Nat) : Nat × Nat := Classical.epsilon (fun q => Pt p a b i q.1 q.2)
noncomputable def px (p a b i : Nat) : Nat := (pxy p a b i).1
noncomputable def py (p a b i : Nat) : Nat := (pxy p a b i).2
theorem Pt_p {p a b i : Nat} (h1 : 1 ≤ i) (h2 : i < off p a b p) : Pt p a b i (px p a b i) (py p a b i) := by
  obtain ⟨u, v, h⟩ := Pt_ex h1 p (Nat.le_refl p) h2
  exact Classical.epsilon_spec (p := fun q : Nat × Nat => Pt p a b i q.1 q.2) ⟨(u, v), h⟩
theorem Pt_e {p a b i x y : Nat} (h : Pt p a b i x y) : px p a b i = x ∧ py p a b i = y := Pt_u (Pt_p (Pt_n h).1 (Pt_n h).2) h
/-- what the class keeps of the first point with x -/
def fa (p a b x : Nat) : Nat := if rt p (cb p a b x) = p then 0 else off p a b x
end
section
/-! The sum on the numbers of the points is a group. -/
theorem ec_key {K : Type} [Lean.Grind.CommRing K] {a b x y u v l : K} (o1 : y * y = x * x * x + a * x + b) (h1 : y = l * x + (y - l * x)) (hv : v = l * u + (y - l * x)) (c : a - 2 * l * y = l * l * (u - x) - u * u - u * x - x * x) : ec_L a b x y u v (l * l - x - u) (-(l * (x - (l * l - x - u)) - y)) := by
  refine ⟨l, y - l * x, h1, hv, ?_, ?_, ?_, ?_⟩
  · clear o1 h1 hv c; grind
  · clear o1 h1 hv c; grind
  · have e : a - 2 * l * (y - l * x) = (a - 2 * l * y) + 2 * (l * l) * x := by clear o1 h1 hv c; grind
    rw [e, c]
    clear o1 h1 hv c e; grind
  · have e : (y - l * x) * (y - l * x) - b = (y * y - x * x * x - a * x - b) + x * (x * x + (a - 2 * l * y) + l * l * x) := by clear o1 h1 hv c; grind
    rw [e, c, o1]
    clear o1 h1 hv c e; grind
theorem ec_add {K : Type} [Lean.Grind.CommRing K] {a b : K} (F : ec_F a b) {x y u v l : K} (o1 : y * y = x * x * x + a * x + b) (o2 : v * v = u * u * u + a * u + b) (n : ¬ (x = u ∧ y + v = 0)) (h : x ≠ u → l * (u - x) = v - y) (h' : x = u → l * (2 * y) = 3 * x * x + a) : ec_L a b x y u v (l * l - x - u) (-(l * (x - (l * l - x - u)) - y)) := by
  by_cases e : x = u
  · have t := h' e
    have ev : y = v := (ec_pm F e o1 o2).resolve_right (fun z => n ⟨e, z⟩)
    clear h h' n o2 F
    subst e
    subst ev
    refine ec_key o1 (by clear o1 t; grind) (by clear o1 t; grind) ?_
    have e2 : a - 2 * l * y = a - l * (2 * y) := by clear o1 t; grind
    rw [e2, t]
    clear o1 t e2; grind
  · have t := h e
    have q : l * (v + y) = u * u + u * x + x * x + a := by
      refine ec_can F (x := u - x) ?_ (ec_sub0 (fun z => e z.symm))
      have e1 : (u - x) * (l * (v + y)) = (l * (u - x)) * (v + y) := by clear o1 o2 n h h' F t; grind
      have e2 : (v - y) * (v + y) = v * v - y * y := by clear o1 o2 n h h' F t e1; grind
      rw [e1, t, e2, o1, o2]
      clear o1 o2 n h h' F t e1 e2; grind
    have ev : v = l * (u - x) + y := by rw [t]; clear o1 o2 n h h' F t q; grind
    clear o2 n h h' F
    refine ec_key o1 (by clear o1 t q ev e; grind) (by rw [ev]; clear o1 t q ev e; grind) ?_
    rw [ev] at q
    have e2 : a - 2 * l * y = (u * u + u * x + x * x + a) - l * (l * (u - x) + y + y) + l * (l * (u - x)) - u * u - u * x - x * x := by clear o1 t q ev e; grind
    rw [e2, q]
    clear o1 t q ev e e2; grind
theorem ec_r3 {K : Type} [Lean.Grind.CommRing K] {a b : K} (F : ec_F a b) {x y z : K} (h1 : x * x * x + a * x + b = 0) (h2 : y * y * y + a * y + b = 0) (h3 : z * z * z + a * z + b = 0) (n12 : x ≠ y) (n13 : x ≠ z) (n23 : y ≠ z) : x + y + z = 0 := by
  have p : ∀ s t : K, s ≠ t → s * s * s + a * s + b = 0 → t * t * t + a * t + b = 0 → s * s + s * t + t * t + a = 0 := by
    intro s t n e f
    refine ec_mul0 F (x := s - t) ?_ (ec_sub0 n)
    have e' : (s - t) * (s * s + s * t + t * t + a) = (s * s * s + a * s + b) - (t * t * t + a * t + b) := by clear h1 h2 h3 e f; grind
    rw [e', e, f]
    clear h1 h2 h3 e f e'; grind
  have p1 := p x y n12 h1 h2
  have p2 := p x z n13 h1 h3
  refine ec_mul0 F (x := y - z) ?_ (ec_sub0 n23)
  have e' : (y - z) * (x + y + z) = (x * x + x * y + y * y + a) - (x * x + x * z + z * z + a) := by clear h1 h2 h3 p1 p2 p; grind
  rw [e', p1, p2]
  clear h1 h2 h3 p1 p2 p e'; grind
theorem ec_q1 {K : Type} [Lean.Grind.CommRing K] {a b : K} (F : ec_F a b) {s t : K} (n : s ≠ t) (e : 3 * s * s * s * s + 6 * a * s * s + 12 * b * s - a * a = 0) (f : 3 * t * t * t * t + 6 * a * t * t + 12 * b * t - a * a = 0) : 3 * (s * s * s + s * s * t + s * t * t + t * t * t) + 6 * a * (s + t) + 12 * b = 0 := by
  refine ec_mul0 F (x := s - t) ?_ (ec_sub0 n)
  have e' : (s - t) * (3 * (s * s * s + s * s * t + s * t * t + t * t * t) + 6 * a * (s + t) + 12 * b) = (3 * s * s * s * s + 6 * a * s * s + 12 * b * s - a * a) - (3 * t * t * t * t + 6 * a * t * t + 12 * b * t - a * a) := by clear e f; grind
  rw [e', e, f]
  clear e f e'; grind
theorem ec_q2 {K : Type} [Lean.Grind.CommRing K] {a b : K} (F : ec_F a b) {x y z : K} (n : y ≠ z) (e : 3 * (x * x * x + x * x * y + x * y * y + y * y * y) + 6 * a * (x + y) + 12 * b = 0) (f : 3 * (x * x * x + x * x * z + x * z * z + z * z * z) + 6 * a * (x + z) + 12 * b = 0) : 3 * (x * x + x * (y + z) + y * y + y * z + z * z) + 6 * a = 0 := by
  refine ec_mul0 F (x := y - z) ?_ (ec_sub0 n)
  have e' : (y - z) * (3 * (x * x + x * (y + z) + y * y + y * z + z * z) + 6 * a) = (3 * (x * x * x + x * x * y + x * y * y + y * y * y) + 6 * a * (x + y) + 12 * b) - (3 * (x * x * x + x * x * z + x * z * z + z * z * z) + 6 * a * (x + z) + 12 * b) := by clear e f; grind
  rw [e', e, f]
  clear e f e'; grind
theorem ec_q3 {K : Type} [Lean.Grind.CommRing K] {a b : K} (F : ec_F a b) {x y z w : K} (n : z ≠ w) (e : 3 * (x * x + x * (y + z) + y * y + y * z + z * z) + 6 * a = 0) (f : 3 * (x * x + x * (y + w) + y * y + y * w + w * w) + 6 * a = 0) : x + y + z + w = 0 := by
  refine ec_mul0 F (x := 3) ?_ F.2.2.2.1
  refine ec_mul0 F (x := z - w) ?_ (ec_sub0 n)
  have e' : (z - w) * (3 * (x + y + z + w)) = (3 * (x * x + x * (y + z) + y * y + y * z + z * z) + 6 * a) - (3 * (x * x + x * (y + w) + y * y + y * w + w * w) + 6 * a) := by clear e f; grind
  rw [e', e, f]
  clear e f e'; grind
/-- a point of order three -/
theorem ec_psi {K : Type} [Lean.Grind.CommRing K] {a b x y : K} (h : ec_L a b x y x y x y) : 3 * x * x * x * x + 6 * a * x * x + 12 * b * x - a * a = 0 := by
  have o := ec_L1 h
  obtain ⟨l, v, h1, -, -, h4, h5, -⟩ := h
  have t := ec_tan h1 h4 h5
  have e1 : (2 * y * l) * (2 * y * l) = 4 * (y * y) * (l * l) := by clear o h1 h4 h5 t; grind
  rw [t, o, h4] at e1
  clear o h1 h4 h5 t
  grind
/-- the point with number i -/
noncomputable def pt {K : Type} (k : Int → K) (p a b i : Nat) : Option (K × K) := if i = 0 then none else some (k (px p a b i), k (py p a b i))
theorem pt_0 {K : Type} (k : Int → K) (p a b : Nat) : pt k p a b 0 = none := if_pos rfl
theorem pt_s {K : Type} (k : Int → K) (p a b : Nat) {i : Nat} (h : i ≠ 0) : pt k p a b i = some (k (px p a b i), k (py p a b i)) := if_neg h
theorem fp_cb {p : Nat} {K : Type} [Lean.Grind.CommRing K] {k : Int → K} (f : Fp p K k) {a b x y : Nat} (h : y * y % p = cb p a b x) : k y * k y = k x * k x * k x + k a * k x + k b := by
  rw [← f.2.1, ← f.2.1, ← f.2.1, ← f.2.1, ← f.1, ← f.1]
  rw [← Int.natCast_mul, ← Int.natCast_mul, ← Int.natCast_mul, ← Int.natCast_mul, ← Int.natCast_add, ← Int.natCast_add, ← fp_modn f, h]
  exact fp_modn f _
theorem fp_cb' {p : Nat} {K : Type} [Lean.Grind.CommRing K] {k : Int → K} (f : Fp p K k) {a b x y : Nat} (h : k y * k y = k x * k x * k x + k a * k x + k b) : y * y % p = cb p a b x := by
  rw [← f.2.1, ← f.2.1, ← f.2.1, ← f.2.1, ← f.1, ← f.1] at h
  rw [← Int.natCast_mul, ← Int.natCast_mul, ← Int.natCast_mul, ← Int.natCast_mul, ← Int.natCast_add, ← Int.natCast_add, fp_eq f, ← Int.natCast_emod, ← Int.natCast_emod] at h
  exact Int.ofNat_inj.mp h
theorem pt_on {p : Nat} {K : Type} [Lean.Grind.CommRing K] {k : Int → K} (f : Fp p K k) {a b i : Nat} (h : i < off p a b p) : ec_On (k a) (k b) (pt k p a b i) := by
  by_cases z : i = 0
  · rw [z, pt_0]; trivial
  · rw [pt_s k p a b z]
    have o := Pt_on (Pt_p (by omega) h)
    exact fp_cb f o.2.2
theorem pt_inj {p : Nat} (hp : p ∈ PL) {K : Type} [Lean.Grind.CommRing K] {k : Int → K} (f : Fp p K k) {a b i j : Nat} (hi : i < off p a b p) (hj : j < off p a b p) (e : pt k p a b i = pt k p a b j) : i = j := by
  by_cases zi : i = 0
  · by_cases zj : j = 0
    · omega
    · rw [zi, pt_0, pt_s k p a b zj] at e
      exact absurd e (by simp)
  · by_cases zj : j = 0
    · rw [zj, pt_0, pt_s k p a b zi] at e
      exact absurd e (by simp)
    · rw [pt_s k p a b zi, pt_s k p a b zj] at e
      have q1 := Pt_p (p := p) (a := a) (b := b) (i := i) (by omega) hi
      have q2 := Pt_p (p := p) (a := a) (b := b) (i := j) (by omega) hj
      have o1 := Pt_on q1
      have o2 := Pt_on q2
      have e := Option.some.inj e
      have e1 := fp_nat f o1.1 o2.1 (congrArg Prod.fst e)
      have e2 := fp_nat f o1.2.1 o2.2.1 (congrArg Prod.snd e)
      rw [e1, e2] at q1
      exact Pt_i hp q1 q2
theorem pt_sur {p : Nat} (hp : p ∈ PL) {K : Type} [Lean.Grind.CommRing K] {k : Int → K} (f : Fp p K k) {a b : Nat} {P : Option (K × K)} (h : ec_On (k a) (k b) P) : ∃ i, i < off p a b p ∧ pt k p a b i = P := by
  cases P with
  | none => exact ⟨0, off_pos p a b p, pt_0 k p a b⟩
  | some P =>
    obtain ⟨x, hx, ex⟩ := f.2.2.2.2.2.2.2.2 P.1
    obtain ⟨y, hy, ey⟩ := f.2.2.2.2.2.2.2.2 P.2
    have h : P.2 * P.2 = P.1 * P.1 * P.1 + k a * P.1 + k b := h
    rw [← ex, ← ey] at h
    obtain ⟨i, q⟩ := Pt_of hp hx hy (fp_cb' f h)
    have n := Pt_n q
    refine ⟨i, n.2, ?_⟩
    rw [pt_s k p a b (by omega), (Pt_e q).1, (Pt_e q).2, ex, ey]
/-- the sum of two points is there -/
theorem ec_ex {K : Type} [Lean.Grind.CommRing K] {a b : K} (F : ec_F a b) {P Q : Option (K × K)} (hP : ec_On a b P) (hQ : ec_On a b Q) : ∃ R, ec_On a b R ∧ ec_T a b P Q (ec_n R) := by
  cases P with
  | none => exact ⟨Q, hQ, rfl⟩
  | some P =>
    cases Q with
    | none => exact ⟨some P, hP, rfl⟩
    | some Q =>
      by_cases c : P.1 = Q.1 ∧ P.2 + Q.2 = 0
      · exact ⟨none, trivial, c⟩
      · have hP : P.2 * P.2 = P.1 * P.1 * P.1 + a * P.1 + b := hP
        have hQ : Q.2 * Q.2 = Q.1 * Q.1 * Q.1 + a * Q.1 + b := hQ
        obtain ⟨l, h1, h2⟩ : ∃ l : K, (P.1 ≠ Q.1 → l * (Q.1 - P.1) = Q.2 - P.2) ∧ (P.1 = Q.1 → l * (2 * P.2) = 3 * P.1 * P.1 + a) := by
          by_cases e : P.1 = Q.1
          · have ev : P.2 = Q.2 := (ec_pm F e hP hQ).resolve_right (fun z => c ⟨e, z⟩)
            have n : 2 * P.2 ≠ 0 := by
              intro z
              apply c
              refine ⟨e, ?_⟩
              rw [← ev, ← z]
              clear z c hP hQ; grind
            obtain ⟨i, hi⟩ := F.2.1 _ n
            refine ⟨(3 * P.1 * P.1 + a) * i, fun z => absurd e z, fun _ => ?_⟩
            have e2 : (3 * P.1 * P.1 + a) * i * (2 * P.2) = (3 * P.1 * P.1 + a) * (2 * P.2 * i) := by clear hi n ev e c hP hQ; grind
            rw [e2, hi]
            clear hi n ev e c hP hQ e2; grind
          · obtain ⟨i, hi⟩ := F.2.1 _ (ec_sub0 (fun z => e z.symm) : Q.1 - P.1 ≠ 0)
            refine ⟨(Q.2 - P.2) * i, fun _ => ?_, fun z => absurd z e⟩
            have e2 : (Q.2 - P.2) * i * (Q.1 - P.1) = (Q.2 - P.2) * ((Q.1 - P.1) * i) := by clear hi e c hP hQ; grind
            rw [e2, hi]
            clear hi e c hP hQ e2; grind
        have L := ec_add F hP hQ c h1 h2
        have on := ec_L1 (ec_L12 (ec_L23 L))
        refine ⟨some (l * l - P.1 - Q.1, l * (P.1 - (l * l - P.1 - Q.1)) - P.2), ?_, L⟩
        have e3 : ec_n (some (l * l - P.1 - Q.1, -(l * (P.1 - (l * l - P.1 - Q.1)) - P.2))) = some (l * l - P.1 - Q.1, l * (P.1 - (l * l - P.1 - Q.1)) - P.2) := ec_nn (some (l * l - P.1 - Q.1, l * (P.1 - (l * l - P.1 - Q.1)) - P.2))
        rw [← e3]
        exact ec_n_on (P := some (l * l - P.1 - Q.1, -(l * (P.1 - (l * l - P.1 - Q.1)) - P.2))) on
theorem ec_ni {K : Type} [Lean.Grind.CommRing K] {P Q : Option (K × K)} (h : ec_n P = ec_n Q) : P = Q := by
  rw [← ec_nn P, h, ec_nn]
/-- s is the sum on the numbers -/
def Sm {K : Type} [Lean.Grind.CommRing K] (k : Int → K) (p a b : Nat) (s : Nat → Nat → Nat) : Prop := ∀ i j, i < off p a b p → j < off p a b p → s i j < off p a b p ∧ ec_T (k a) (k b) (pt k p a b i) (pt k p a b j) (ec_n (pt k p a b (s i j)))
theorem sm_ex {p : Nat} (hp : p ∈ PL) {K : Type} [Lean.Grind.CommRing K] {k : Int → K} (f : Fp p K k) {a b : Nat} (F : ec_F (k a) (k b)) : ∃ s, Sm k p a b s := by
  refine ⟨fun i j => Classical.epsilon (fun l => l < off p a b p ∧ ec_T (k a) (k b) (pt k p a b i) (pt k p a b j) (ec_n (pt k p a b l))), fun i j hi hj => ?_⟩
  obtain ⟨R, oR, hR⟩ := ec_ex F (pt_on f hi) (pt_on f hj)
  obtain ⟨l, hl, e⟩ := pt_sur hp f oR
  rw [← e] at hR
  exact Classical.epsilon_spec (p := fun l => l < off p a b p ∧ ec_T (k a) (k b) (pt k p a b i) (pt k p a b j) (ec_n (pt k p a b l))) ⟨l, hl, hR⟩
/-- whoever is the sum has the number of the sum -/
theorem sm_u {p : Nat} (hp : p ∈ PL) {K : Type} [Lean.Grind.CommRing K] {k : Int → K} (f : Fp p K k) {a b : Nat} (F : ec_F (k a) (k b)) {s : Nat → Nat → Nat} (S : Sm k p a b s) {i j l : Nat} (hi : i < off p a b p) (hj : j < off p a b p) (hl : l < off p a b p) (h : ec_T (k a) (k b) (pt k p a b i) (pt k p a b j) (ec_n (pt k p a b l))) : s i j = l :=
  pt_inj hp f (S i j hi hj).1 hl (ec_ni (ec_Tu F (S i j hi hj).2 h))
theorem sm_gp {p : Nat} (hp : p ∈ PL) {K : Type} [Lean.Grind.CommRing K] {k : Int → K} (f : Fp p K k) {a b : Nat} (F : ec_F (k a) (k b)) {s : Nat → Nat → Nat} (S : Sm k p a b s) : gp (off p a b p) s := by
  have n0 := off_pos p a b p
  refine ⟨n0, fun i j hi hj => (S i j hi hj).1, fun i j hi hj => ?_, fun i j l hi hj hl => ?_, fun i hi => ?_, fun i hi => ?_⟩
  · exact sm_u hp f F S hi hj (S j i hj hi).1 (ec_T12 (S j i hj hi).2)
  · have h1 := S i j hi hj
    have h2 := S (s i j) l h1.1 hl
    have h3 := S j l hj hl
    have h4 := S i (s j l) hi h3.1
    refine pt_inj hp f h2.1 h4.1 (ec_ni (ec_as F h1.2 ?_ h3.2 ?_))
    · rw [ec_nn]; exact h2.2
    · rw [ec_nn]; exact h4.2
  · refine sm_u hp f F S n0 hi hi ?_
    rw [pt_0]
    rfl
  · obtain ⟨j, hj, e⟩ := pt_sur hp f (ec_n_on (pt_on f hi))
    refine ⟨j, hj, sm_u hp f F S hi hj n0 ?_⟩
    rw [e, pt_0]
    show ec_T (k a) (k b) (pt k p a b i) (ec_n (pt k p a b i)) none
    apply ec_T23
    cases pt k p a b i with
    | none => rfl
    | some P => rfl
theorem sm_2 {p : Nat} (hp : p ∈ PL) {K : Type} [Lean.Grind.CommRing K] {k : Int → K} (f : Fp p K k) {a b : Nat} (F : ec_F (k a) (k b)) {s : Nat → Nat → Nat} (S : Sm k p a b s) : gp_2 (off p a b p) s := by
  intro g hg
  have key : ∀ i, i < 4 → pt k p a b (g i) = some (k (px p a b (g i)), 0) ∧ k (px p a b (g i)) * k (px p a b (g i)) * k (px p a b (g i)) + k a * k (px p a b (g i)) + k b = 0 := by
    intro i hi
    obtain ⟨h1, h2, h3⟩ := hg i hi
    have t := (S (g i) (g i) h1 h1).2
    have o := pt_on f h1
    rw [h2, pt_0, pt_s k p a b h3] at t
    rw [pt_s k p a b h3] at o ⊢
    have t : k (px p a b (g i)) = k (px p a b (g i)) ∧ k (py p a b (g i)) + k (py p a b (g i)) = 0 := t
    have o : k (py p a b (g i)) * k (py p a b (g i)) = k (px p a b (g i)) * k (px p a b (g i)) * k (px p a b (g i)) + k a * k (px p a b (g i)) + k b := o
    have z : k (py p a b (g i)) = 0 := by
      refine ec_mul0 F (x := 2) ?_ F.2.2.1
      rw [← t.2]
      clear t o; grind
    rw [z] at o ⊢
    refine ⟨rfl, ?_⟩
    rw [← o]
    clear t o; grind
  have inj : ∀ i j, i < 4 → j < 4 → k (px p a b (g i)) = k (px p a b (g j)) → g i = g j := by
    intro i j hi hj e
    refine pt_inj hp f (hg i hi).1 (hg j hj).1 ?_
    rw [(key i hi).1, (key j hj).1, e]
  apply Classical.byContradiction
  intro no
  have ne : ∀ i j, i < j → j < 4 → k (px p a b (g i)) ≠ k (px p a b (g j)) := fun i j hij hj e => no ⟨i, j, hij, hj, inj i j (by omega) hj e⟩
  have r1 := ec_r3 F (key 0 (by omega)).2 (key 1 (by omega)).2 (key 2 (by omega)).2 (ne 0 1 (by omega) (by omega)) (ne 0 2 (by omega) (by omega)) (ne 1 2 (by omega) (by omega))
  have r2 := ec_r3 F (key 0 (by omega)).2 (key 1 (by omega)).2 (key 3 (by omega)).2 (ne 0 1 (by omega) (by omega)) (ne 0 3 (by omega) (by omega)) (ne 1 3 (by omega) (by omega))
  refine ne 2 3 (by omega) (by omega) ?_
  clear key inj no ne
  grind
theorem sm_3 {p : Nat} (hp : p ∈ PL) {K : Type} [Lean.Grind.CommRing K] {k : Int → K} (f : Fp p K k) {a b : Nat} (F : ec_F (k a) (k b)) {s : Nat → Nat → Nat} (S : Sm k p a b s) : gp_3 (off p a b p) s := by
  intro g hg
  have key : ∀ i, i < 5 → ec_L (k a) (k b) (k (px p a b (g i))) (k (py p a b (g i))) (k (px p a b (g i))) (k (py p a b (g i))) (k (px p a b (g i))) (k (py p a b (g i))) := by
    intro i hi
    obtain ⟨h1, h2, h3⟩ := hg i hi
    have t1 := S (g i) (g i) h1 h1
    have t2 := (S (s (g i) (g i)) (g i) t1.1 h1).2
    rw [h2, pt_0] at t2
    have t3 : ec_T (k a) (k b) none (pt k p a b (g i)) (pt k p a b (s (g i) (g i))) := ec_T12 (ec_T23 (ec_T12 t2))
    have t3 : pt k p a b (s (g i) (g i)) = ec_n (pt k p a b (g i)) := t3
    have t4 := t1.2
    rw [t3, ec_nn, pt_s k p a b h3] at t4
    exact t4
  have inj : ∀ i j, i < 5 → j < 5 → k (px p a b (g i)) = k (px p a b (g j)) → g i = g j ∨ s (g i) (g j) = 0 := by
    intro i j hi hj e
    obtain ⟨h1, h2, h3⟩ := hg i hi
    obtain ⟨g1, g2, g3⟩ := hg j hj
    rcases ec_pm F e (ec_L1 (key i hi)) (ec_L1 (key j hj)) with y | y
    · left
      refine pt_inj hp f h1 g1 ?_
      rw [pt_s k p a b h3, pt_s k p a b g3, e, y]
    · right
      refine sm_u hp f F S h1 g1 (off_pos p a b p) ?_
      rw [pt_0, pt_s k p a b h3, pt_s k p a b g3]
      exact ⟨e, y⟩
  apply Classical.byContradiction
  intro no
  have ne : ∀ i j, i < j → j < 5 → k (px p a b (g i)) ≠ k (px p a b (g j)) := fun i j hij hj e => no ⟨i, j, hij, hj, inj i j (by omega) hj e⟩
  have q0 := ec_psi (key 0 (by omega))
  have q1 := ec_psi (key 1 (by omega))
  have q2 := ec_psi (key 2 (by omega))
  have q3 := ec_psi (key 3 (by omega))
  have q4 := ec_psi (key 4 (by omega))
  have r1 := ec_q1 F (ne 0 1 (by omega) (by omega)) q0 q1
  have r2 := ec_q1 F (ne 0 2 (by omega) (by omega)) q0 q2
  have r3 := ec_q1 F (ne 0 3 (by omega) (by omega)) q0 q3
  have r4 := ec_q1 F (ne 0 4 (by omega) (by omega)) q0 q4
  have u2 := ec_q2 F (ne 1 2 (by omega) (by omega)) r1 r2
  have u3 := ec_q2 F (ne 1 3 (by omega) (by omega)) r1 r3
  have u4 := ec_q2 F (ne 1 4 (by omega) (by omega)) r1 r4
  have w3 := ec_q3 F (ne 2 3 (by omega) (by omega)) u2 u3
  have w4 := ec_q3 F (ne 2 4 (by omega) (by omega)) u2 u4
  refine ne 3 4 (by omega) (by omega) ?_
  clear key inj no ne q0 q1 q2 q3 q4 r1 r2 r3 r4 u2 u3 u4
  grind
end
section
/-! Ints: sums and products inside the range, remainders. -/
def iI (v : Int) : Int32 := Int32.ofInt v
theorem ii_n (n : Nat) : nI n = iI n := Int32.ofInt_eq_ofNat.symm
theorem ii_a (v w : Int) : iI v + iI w = iI (v + w) := (Int32.ofInt_add v w).symm
theorem ii_m (v w : Int) : iI v * iI w = iI (v * w) := (Int32.ofInt_mul v w).symm
theorem ii_s (v w : Int) : iI v - iI w = iI (v - w) := (Int32.ofInt_sub v w).symm
theorem ii_g (v : Int) : -iI v = iI (-v) := (Int32.ofInt_neg v).symm
theorem ii_t {v : Int} (h1 : -2147483648 ≤ v) (h2 : v < 2147483648) : (iI v).toInt = v := Int32.toInt_ofInt_of_le h1 h2
theorem ii_2 : (2 : Int32) = iI 2 := rfl
theorem ii_3 : (3 : Int32) = iI 3 := rfl
theorem ii_4 : (4 : Int32) = iI 4 := rfl
theorem ii_27 : (27 : Int32) = iI 27 := rfl
theorem ii_12 : (12 : Int32) = iI 12 := rfl
theorem ii_1 : (1 : Int32) = iI 1 := rfl
theorem ii_0 : (0 : Int32) = iI 0 := rfl
/-- the remainder, not below zero -/
def md (p : Nat) (v : Int) : Nat := (v % (p : Int)).toNat
theorem md_c {p : Nat} (p0 : 0 < p) (v : Int) : ((md p v : Nat) : Int) = v % (p : Int) := Int.toNat_of_nonneg (Int.emod_nonneg _ (by omega))
theorem md_lt {p : Nat} (p0 : 0 < p) (v : Int) : md p v < p := by
  have h := md_c p0 v
  have h2 : v % (p : Int) < p := Int.emod_lt_of_pos _ (by omega)
  omega
theorem md_n {p : Nat} (n : Nat) : md p n = n % p := by
  unfold md
  rw [← Int.natCast_emod]
  exact Int.toNat_natCast _
theorem md_z {p : Nat} (p0 : 0 < p) (v : Int) : md p v = 0 ↔ v % (p : Int) = 0 := by
  have h := md_c p0 v
  omega
theorem md_t {p : Nat} (p0 : 0 < p) (v : Int) : (0 ≤ v.tmod p → v % (p : Int) = v.tmod p) ∧ (v.tmod p < 0 → v % (p : Int) = v.tmod p + p) ∧ v.tmod p < p ∧ -(p : Int) < v.tmod p := by
  have hp : (0 : Int) < p := by omega
  have b := tmod_bounds (a := v) hp
  have e := Int.mul_tdiv_add_tmod v p
  have q : v % (p : Int) = (v.tmod p) % (p : Int) := by
    have e2 : v % (p : Int) = ((p : Int) * v.tdiv p + v.tmod p) % (p : Int) := by rw [e]
    rw [e2, Int.add_comm, Int.add_mul_emod_self_left]
  refine ⟨fun h => ?_, fun h => ?_, b.2, b.1⟩
  · rw [q, Int.emod_eq_of_lt h b.2]
  · have e3 : (v.tmod p) % (p : Int) = (v.tmod p + p) % (p : Int) := (Int.add_emod_right _ _).symm
    rw [q, e3, Int.emod_eq_of_lt (by omega) (by omega)]
theorem md_X {p : Nat} (p0 : 0 < p) (p1 : p < 1000) (x : Int32) {post : Int32 → Prop} (h : post (nI (md p x.toInt))) : ∀ y : Int32, y = x - x / nI p * nI p → (((0 : Int32) ≤ y → post y) ∧ (¬ (0 : Int32) ≤ y → post (y + nI p))) := by
  intro y ey
  have pt : (nI p).toInt = (p : Int) := nI_toInt (by omega)
  have t : y.toInt = x.toInt.tmod p := by rw [ey, rem_toInt, pt]
  obtain ⟨t1, t2, t3, t4⟩ := md_t p0 x.toInt
  have c := md_c p0 x.toInt
  have z : (0 : Int32).toInt = 0 := by decide
  have ml := md_lt p0 x.toInt
  refine br_c (fun q => ?_) (fun q => ?_)
  · have q2 : 0 ≤ y.toInt := by rw [Int32.le_iff_toInt_le, z] at q; exact q
    have e : y = nI (md p x.toInt) := by
      apply Int32.toInt_inj.mp
      rw [nI_toInt (by omega), c, t, t1 (by omega)]
    rw [e]; exact h
  · have q2 : y.toInt < 0 := by rw [Int32.le_iff_toInt_le, z] at q; omega
    have e : y + nI p = nI (md p x.toInt) := by
      apply Int32.toInt_inj.mp
      rw [Int32.toInt_add, pt, nI_toInt (by omega), c, t, t2 (by omega)]
      exact Int.bmod_eq_of_le (by omega) (by omega)
    rw [e]; exact h
theorem md_Y {p : Nat} (p0 : 0 < p) (p1 : p < 1000) (x : Int32) : ((x - x / nI p * nI p) + nI p) - ((x - x / nI p * nI p) + nI p) / nI p * nI p = nI (md p x.toInt) := by
  have pt : (nI p).toInt = (p : Int) := nI_toInt (by omega)
  obtain ⟨t1, t2, t3, t4⟩ := md_t p0 x.toInt
  have c := md_c p0 x.toInt
  have ml := md_lt p0 x.toInt
  apply Int32.toInt_inj.mp
  have s : (x - x / nI p * nI p + nI p).toInt = x.toInt.tmod p + p := by
    rw [Int32.toInt_add, rem_toInt, pt]
    exact Int.bmod_eq_of_le (by omega) (by omega)
  rw [rem_toInt, s, pt, nI_toInt (by omega), c, Int.tmod_eq_emod_of_nonneg (by omega), Int.add_emod_right]
  rcases Int.lt_or_le (x.toInt.tmod p) 0 with q | q
  · rw [t2 q]
    have e3 : (x.toInt.tmod p) % (p : Int) = (x.toInt.tmod p + p) % (p : Int) := (Int.add_emod_right _ _).symm
    rw [e3, Int.emod_eq_of_lt (by omega) (by omega)]
  · rw [t1 q, Int.emod_eq_of_lt q t3]
theorem nI_m1 : ¬ (0 : Int32) ≤ -1 := by decide
theorem ar_sub1 (x : Int32) : x + (-1) = x - 1 := (Int32.sub_eq_add_neg x 1).symm
theorem nar_b {x : Nat} (h : x < 128) : vp_nar .byte (nI x).toInt8.toInt32 = nI x := by
  rw [pk_vb]
  apply Int32.toInt_inj.mp
  rw [Int8.toInt_toInt32, Int32.toInt_toInt8, nI_toInt (by omega)]
  exact Int.bmod_eq_of_le (by omega) (by omega)
theorem nar_m1 : vp_nar .byte (-1) = -1 := by rw [vp_nar_byte]; decide
theorem bm {x y A B : Nat} (h : x ≤ A) (g : y ≤ B) : x * y ≤ A * B := Nat.mul_le_mul h g
/-- ints that are numbers: comparisons -/
theorem ni_le {a b : Nat} {A B : Prop} (ha : a < 2147483648) (hb : b < 2147483648) (f : a ≤ b → A) (g : b < a → B) : (nI a ≤ nI b → A) ∧ (¬ nI a ≤ nI b → B) :=
  br_c (fun h => f ((nI_leI ha hb).mp h)) (fun h => g (by rw [nI_leI ha hb] at h; omega))
theorem ni_lt {a b : Nat} {A B : Prop} (ha : a < 2147483648) (hb : b < 2147483648) (f : a < b → A) (g : b ≤ a → B) : (nI a < nI b → A) ∧ (¬ nI a < nI b → B) :=
  br_c (fun h => f ((nI_ltI ha hb).mp h)) (fun h => g (by rw [nI_ltI ha hb] at h; omega))
theorem ni_eq {a b : Nat} {A B : Prop} (ha : a < 2147483648) (hb : b < 2147483648) (f : a = b → A) (g : a ≠ b → B) : (nI a = nI b → A) ∧ (¬ nI a = nI b → B) :=
  br_c (fun h => f ((nI_eq ha hb).mp h)) (fun h => g (by rw [nI_eq ha hb] at h; exact h))
end
section
/-! Walks: remainders, powers, the cubic. -/
section
variable {p : Nat} {f_a f_b f_count f_known f_most f_leastMost : Int32} {aX aY fA ro sm : Nat → Int32} {xs ys : Nat → Int32}
theorem X_mod (hp : p ∈ PL) {post : Int32 → Prop} {x : Int32} (v : Int) (hx : x = iI v) (h1 : -2147483648 ≤ v) (h2 : v < 2147483648) (h : post (nI (md p v))) : wpX_modulo post (nI p, f_a, f_b, f_count, f_known, f_most, f_leastMost, aX, aY, fA, ro, sm) x := by
  have lo := pl_lo hp
  have e : x.toInt = v := by rw [hx]; exact ii_t h1 h2
  rw [← e] at h
  exact br_f (nI_nle (by omega) (by omega)) (And.intro (nI_ne0 (by omega) (by omega)) (md_X (by omega) (by omega) x h))
theorem Y_rest (hp : p ∈ PL) {post : Int32 → Prop} {x : Int32} (v : Int) (hx : x = iI v) (h1 : -2147483648 ≤ v) (h2 : v < 2147483648) (h : post (nI (md p v))) : wpY_rest post (nI p, f_a, f_b, f_count, xs, ys) x := by
  have lo := pl_lo hp
  have e : x.toInt = v := by rw [hx]; exact ii_t h1 h2
  rw [← e] at h
  refine And.intro (nI_ne0 (by omega) (by omega)) (And.intro (nI_ne0 (by omega) (by omega)) ?_)
  rw [md_Y (by omega) (by omega)]
  exact h
theorem X_pw (hp : p ∈ PL) {post : Int32 → Prop} : ∀ f r q l : Nat, f ≤ 6 → r < p → q < p → l < 2 ^ f → post (nI (pwf p f r q l)) → wX_power_12 post (nI p) f_a f_b f_count f_known f_most f_leastMost aX aY fA ro sm (f + 1) (nI r) (nI q) (nI l) := by
  have lo := pl_lo hp
  intro f
  induction f with
  | zero =>
    intro r q l _ hr hq hl h
    have z : l = 0 := by omega
    subst z
    exact br_t (by rw [nI_0]; decide) h
  | succ f ih =>
    intro r q l hf hr hq hl h
    have pw2 : 2 ^ (f + 1) ≤ 2 ^ 6 := Nat.pow_le_pow_right (by omega) hf
    have l6 : l < 64 := by omega
    by_cases z : l = 0
    · subst z
      exact br_t (by rw [nI_0]; decide) h
    · have h : post (nI (pwf p f (if l % 2 = 1 then r * q % p else r) (q * q % p) (l / 2))) := by
        have e : pwf p (f + 1) r q l = if l = 0 then r else pwf p f (if l % 2 = 1 then r * q % p else r) (q * q % p) (l / 2) := rfl
        rw [e, if_neg z] at h
        exact h
      have hl2 : l / 2 < 2 ^ f := by
        have : 2 ^ (f + 1) = 2 * 2 ^ f := by rw [Nat.pow_succ, Nat.mul_comm]
        omega
      have qq : q * q ≤ 61 * 61 := bm (by omega) (by omega)
      have rq : r * q ≤ 61 * 61 := bm (by omega) (by omega)
      have sh : nI l >>> ((1 : Int32) &&& 31) = nI (l / 2) := by
        have := pk_shrN (n := l) (by omega) ((1 : Int32) &&& 31) 1 (by decide)
        rw [this]
      have an : nI l &&& 1 = nI (l % 2) := pk_andN (by omega) 1 (by decide)
      have tail : ∀ r' : Nat, r' < p → post (nI (pwf p f r' (q * q % p) (l / 2))) → wX_power_37 post (wX_power_12 post (nI p) f_a f_b f_count f_known f_most f_leastMost aX aY fA ro sm (f + 1)) (nI q) (nI l) (nI r') (nI p) f_a f_b f_count f_known f_most f_leastMost aX aY fA ro sm := by
        intro r' hr' h'
        refine X_mod hp (((q * q : Nat)) : Int) (by rw [pk_mul, ii_n]) (by omega) (by omega) ?_
        rw [md_n]
        refine nm_r sh ?_
        exact ih r' (q * q % p) (l / 2) (by omega) hr' (Nat.mod_lt _ (by omega)) hl2 h'
      refine br_f (nI_nle (by omega) (by omega)) ?_
      rw [an]
      refine ni_eq (b := 1) (by omega) (by omega) (fun e => ?_) (fun e => ?_)
      · rw [if_pos e] at h
        refine X_mod hp (((r * q : Nat)) : Int) (by rw [pk_mul, ii_n]) (by omega) (by omega) ?_
        rw [md_n]
        exact tail _ (Nat.mod_lt _ (by omega)) h
      · rw [if_neg e] at h
        exact tail _ hr h
theorem X_pow (hp : p ∈ PL) {post : Int32 → Prop} {x : Int32} (v : Int) (hx : x = iI v) (h1 : -2147483648 ≤ v) (h2 : v < 2147483648) (e : Nat) (he : e < 64) (h : post (nI (pw p (md p v) e))) : wpX_power post (nI p, f_a, f_b, f_count, f_known, f_most, f_leastMost, aX, aY, fA, ro, sm) x (nI e) := by
  have lo := pl_lo hp
  refine X_mod hp v hx h1 h2 ⟨7, ?_⟩
  have ml := md_lt (p := p) (by omega) v
  refine X_pw hp 6 1 (md p v) e (by omega) (by omega) ml he ?_
  unfold pw at h
  rw [Nat.mod_eq_of_lt ml] at h
  exact h
theorem X_inv (hp : p ∈ PL) {post : Int32 → Prop} {x : Int32} (v : Int) (hx : x = iI v) (h1 : -2147483648 ≤ v) (h2 : v < 2147483648) (h : post (nI (pw p (md p v) (p - 2)))) : wpX_inverse post (nI p, f_a, f_b, f_count, f_known, f_most, f_leastMost, aX, aY, fA, ro, sm) x := by
  have lo := pl_lo hp
  have e : nI p - 2 = nI (p - 2) := pk_sub (a := p) (b := 2) (by omega)
  show wpX_power (fun r => post r) (nI p, f_a, f_b, f_count, f_known, f_most, f_leastMost, aX, aY, fA, ro, sm) x (nI p - 2)
  rw [e]
  exact X_pow hp v hx h1 h2 (p - 2) (by omega) h
theorem pwf_lt (hp : 1 < p) : ∀ f r q l, r < p → pwf p f r q l < p := by
  intro f
  induction f with
  | zero => intro r q l h; exact h
  | succ f ih =>
    intro r q l h
    show (if l = 0 then r else pwf p f (if l % 2 = 1 then r * q % p else r) (q * q % p) (l / 2)) < p
    split
    · exact h
    · apply ih
      split
      · exact Nat.mod_lt _ (by omega)
      · exact h
theorem pw_lt (hp : p ∈ PL) (v e : Nat) : pw p v e < p := by
  have lo := pl_lo hp
  exact pwf_lt (by omega) 6 1 _ e (by omega)
theorem cb_sq (x a b : Nat) : ((x * x % p) * x + a * x + b) % p = cb p a b x := by
  show _ = (x * x * x + a * x + b) % p
  rw [Nat.add_assoc, Nat.add_assoc, Nat.add_mod, Nat.mod_mul_mod, ← Nat.add_mod]
theorem X_cubic (hp : p ∈ PL) {a b x : Nat} (ha : a < p) (hb : b < p) (hx : x < p) {post : Int32 → Prop} (h : post (nI (cb p a b x))) : wpX_cubic post (nI p, nI a, nI b, f_count, f_known, f_most, f_leastMost, aX, aY, fA, ro, sm) (nI x) := by
  have lo := pl_lo hp
  have xx : x * x ≤ 61 * 61 := bm (by omega) (by omega)
  have ax : a * x ≤ 61 * 61 := bm (by omega) (by omega)
  refine X_mod hp ((x * x : Nat) : Int) (by rw [pk_mul, ii_n]) (by omega) (by omega) ?_
  rw [md_n]
  have m : x * x % p < p := Nat.mod_lt _ (by omega)
  have xr : (x * x % p) * x ≤ 61 * 61 := bm (by omega) (by omega)
  refine X_mod hp (((x * x % p) * x + a * x + b : Nat) : Int) (by rw [pk_mul, pk_mul, nI_add, nI_add, ii_n]) (by omega) (by omega) ?_
  rw [md_n, cb_sq]
  exact h
end
end
section
/-! Walks: the lists of points. -/
def HX (p a b i : Nat) (aX aY : Nat → Int32) : Prop := ∀ j, 1 ≤ j → j < i → aX j = nI (px p a b j) ∧ aY j = nI (py p a b j)
def HF (p a b x : Nat) (fA : Nat → Int32) : Prop := ∀ z, z < x → fA z = nI (fa p a b z)
def rr (p f z v : Nat) : Int32 := if rtf p v f z = p then -1 else nI (rtf p v f z)
def HR (p f z : Nat) (ro : Nat → Int32) : Prop := ∀ v, v < p → ro v = rr p f z v
theorem hx_1 (p a b : Nat) (aX aY : Nat → Int32) : HX p a b 1 aX aY := fun j h1 h2 => by omega
theorem hx_add {p a b c x y : Nat} {aX aY : Nat → Int32} (h : HX p a b c aX aY) (q : Pt p a b c x y) : HX p a b (c + 1) (upd aX c (nI x)) (upd aY c (nI y)) := by
  intro j h1 h2
  by_cases e : j = c
  · subst e
    rw [pk_us, pk_us, (Pt_e q).1, (Pt_e q).2]
    exact ⟨rfl, rfl⟩
  · rw [pk_un e, pk_un e]
    exact h j h1 (by omega)
theorem hf_add {p a b x : Nat} {fA : Nat → Int32} (h : HF p a b x fA) : HF p a b (x + 1) (upd fA x (nI (fa p a b x))) := by
  intro z hz
  by_cases e : z = x
  · subst e
    rw [pk_us]
  · rw [pk_un e]
    exact h z (by omega)
section
variable {p a b : Nat} {f_a f_b f_count f_known f_most f_leastMost : Int32} {sm : Nat → Int32}
theorem X_r30 (hp : p ∈ PL) {aX aY fA : Nat → Int32} {post : SX → Prop} (H : ∀ ro, HR p p 0 ro → post (nI p, f_a, f_b, f_count, f_known, f_most, f_leastMost, aX, aY, fA, ro, sm)) : ∀ (j : Nat) (ro : Nat → Int32), j ≤ p → HR p (p - j) j ro → wX_findRoots_30 post (nI p) f_a f_b f_count f_known f_most f_leastMost (j + 1) (nI j - 1) aX aY fA ro sm := by
  have lo := pl_lo hp
  intro j
  induction j with
  | zero =>
    intro ro _ h
    exact br_t (by rw [nI_0]; decide) (H ro h)
  | succ j ih =>
    intro ro hj h
    rw [nI_pred]
    refine br_f (nI_pos (by omega)) ?_
    have jj : j * j ≤ 61 * 61 := bm (by omega) (by omega)
    refine X_mod hp ((j * j : Nat) : Int) (by rw [pk_mul, ii_n]) (by omega) (by omega) ?_
    rw [md_n]
    have ml : j * j % p < p := Nat.mod_lt _ (by omega)
    refine And.intro (vp_in_nI (by omega) (by omega)) (nm_e (nm_e ?_))
    rw [nar_b (by omega), nI_clamp (by omega), ar_sub1]
    refine ih _ (by omega) ?_
    intro v hv
    have e : p - j = (p - (j + 1)) + 1 := by omega
    have r : rtf p v (p - j) j = if j * j % p = v then j else rtf p v (p - (j + 1)) (j + 1) := by rw [e]; rfl
    by_cases c : v = j * j % p
    · rw [c, pk_us]
      unfold rr
      rw [← c, r, if_pos c.symm, if_neg (by omega)]
    · have c' : ¬ j * j % p = v := fun z => c z.symm
      rw [if_neg c'] at r
      rw [pk_un c, h v hv]
      unfold rr
      rw [r]
theorem X_r2 (hp : p ∈ PL) {aX aY fA : Nat → Int32} {post : SX → Prop} (H : ∀ ro, HR p p 0 ro → post (nI p, f_a, f_b, f_count, f_known, f_most, f_leastMost, aX, aY, fA, ro, sm)) : ∀ (d i : Nat) (ro : Nat → Int32), i + d = p → (∀ v, v < i → ro v = -1) → wX_findRoots_2 post (nI p) f_a f_b f_count f_known f_most f_leastMost (d + 1) (nI i) aX aY fA ro sm := by
  have lo := pl_lo hp
  intro d
  induction d with
  | zero =>
    intro i ro hi h
    have e : i = p := by omega
    subst e
    refine br_t (nI_le (by omega) (by omega)) (nm_e ⟨i + 1, X_r30 hp H i ro (by omega) ?_⟩)
    intro v hv
    have e : i - i = 0 := by omega
    unfold rr
    rw [e, if_pos (by rfl)]
    exact h v hv
  | succ d ih =>
    intro i ro hi h
    refine br_f (nI_ge (by omega) (by omega)) (And.intro (vp_in_nI (by omega) (by omega)) (nm_e (nm_r (nI_1 i) ?_)))
    rw [nI_clamp (by omega), nar_m1]
    refine ih (i + 1) _ (by omega) ?_
    intro v hv
    by_cases c : v = i
    · rw [c, pk_us]
    · rw [pk_un c]; exact h v (by omega)
theorem X_roots (hp : p ∈ PL) {aX aY fA ro : Nat → Int32} {post : SX → Prop} (H : ∀ ro, HR p p 0 ro → post (nI p, f_a, f_b, f_count, f_known, f_most, f_leastMost, aX, aY, fA, ro, sm)) : wpX_findRoots post (nI p, f_a, f_b, f_count, f_known, f_most, f_leastMost, aX, aY, fA, ro, sm) :=
  ⟨p + 1, X_r2 hp H p 0 ro (by omega) (fun v hv => by omega)⟩
theorem X_ap {c x y : Nat} (hc : c < 80) (hx : x < 128) (hy : y < 128) {f_p : Int32} {aX aY fA ro : Nat → Int32} {post : SX → Prop} (H : post (f_p, f_a, f_b, nI (c + 1), f_known, f_most, f_leastMost, upd aX c (nI x), upd aY c (nI y), fA, ro, sm)) : wpX_addPoint post (f_p, f_a, f_b, nI c, f_known, f_most, f_leastMost, aX, aY, fA, ro, sm) (nI x) (nI y) := by
  have e : (nI c).toNatClampNeg = c := nI_clamp (by omega)
  refine And.intro (vp_in_nI hc (by omega)) (nm_r (by rw [e, nar_b hx]) (And.intro (vp_in_nI hc (by omega)) (nm_r (by rw [e, nar_b hy]) (nm_r (nI_1 c) H))))
theorem X_fpl (hp : p ∈ PL) (ha : a < p) (hb : b < p) {ro : Nat → Int32} (hr : HR p p 0 ro) {post : SX → Prop} (H : ∀ aX aY fA, HX p a b (off p a b p) aX aY → HF p a b p fA → post (nI p, nI a, nI b, nI (off p a b p), f_known, f_most, f_leastMost, aX, aY, fA, ro, sm)) : ∀ (d x : Nat) (aX aY fA : Nat → Int32), x + d = p → HX p a b (off p a b x) aX aY → HF p a b x fA → wX_findPoints_16 post (d + 1) (nI x) (nI p) (nI a) (nI b) (nI (off p a b x)) f_known f_most f_leastMost aX aY fA ro sm := by
  have lo := pl_lo hp
  have o8 := off_80 hp ha hb
  intro d
  induction d with
  | zero =>
    intro x aX aY fA hx h1 h2
    have e : x = p := by omega
    subst e
    exact br_t (nI_le (by omega) (by omega)) (H aX aY fA h1 h2)
  | succ d ih =>
    intro x aX aY fA hx h1 h2
    have ox : off p a b (x + 1) ≤ 80 := by
      have := off_mono (p := p) (a := a) (b := b) (show x + 1 ≤ p by omega)
      omega
    rw [off_s] at ox
    refine br_f (nI_ge (by omega) (by omega)) (X_cubic hp ha hb (by omega) ?_)
    have cl : cb p a b x < p := Nat.mod_lt _ (by omega)
    have rl := rt_le p (cb p a b x)
    refine And.intro (vp_in_nI (by omega) (by omega)) ?_
    have er : ro (nI (cb p a b x)).toNatClampNeg = (if rt p (cb p a b x) = p then -1 else nI (rt p (cb p a b x))) := by
      rw [nI_clamp (by omega)]
      exact hr _ cl
    refine nm_r er ?_
    have ec : (nI x).toNatClampNeg = x := nI_clamp (by omega)
    by_cases c : rt p (cb p a b x) = p
    · rw [if_pos c]
      have n0 := np_0 c
      have f0 : fa p a b x = 0 := if_pos c
      refine br_f nI_m1 (And.intro (vp_in_nI (by omega) (by omega)) (nm_r (e' := upd fA x (nI (fa p a b x))) ?_ ?_))
      · rw [ec, f0]
        have := nar_b (x := 0) (by omega)
        rw [nI_0] at this
        rw [this, nI_0]
      · refine br_t (by decide) (br_t (by decide) (nm_r (nI_1 x) ?_))
        have := ih (x + 1) aX aY (upd fA x (nI (fa p a b x))) (by omega) (by rw [off_s, n0]; exact h1) (hf_add h2)
        rw [off_s, n0] at this
        exact this
    · rw [if_neg c]
      have rp : rt p (cb p a b x) < p := by omega
      have f0 : fa p a b x = off p a b x := if_neg c
      refine br_t (nI_pos' (by omega)) (And.intro (vp_in_nI (by omega) (by omega)) (nm_r (e' := upd fA x (nI (fa p a b x))) ?_ ?_))
      · rw [ec, f0, nar_b (by omega)]
      · have P1 : Pt p a b (off p a b x) x (rt p (cb p a b x)) := ⟨by omega, rp, Or.inl ⟨rfl, rfl⟩⟩
        by_cases z : rt p (cb p a b x) = 0
        · have n1 := np_1 rp z
          refine br_f (nI_pos (by omega)) (X_ap (by omega) (by omega) (by omega) ?_)
          refine br_t (by rw [z, nI_0]; decide) (nm_r (nI_1 x) ?_)
          have := ih (x + 1) _ _ (upd fA x (nI (fa p a b x))) (by omega) (by rw [off_s, n1]; exact hx_add h1 P1) (hf_add h2)
          rw [off_s, n1] at this
          exact this
        · have n2 := np_2 rp z
          have P2 : Pt p a b (off p a b x + 1) x (p - rt p (cb p a b x)) := ⟨by omega, rp, Or.inr ⟨z, rfl, rfl⟩⟩
          refine br_f (nI_pos (by omega)) (X_ap (by omega) (by omega) (by omega) ?_)
          refine br_f (nI_nle (by omega) (by omega)) ?_
          have es : nI p - nI (rt p (cb p a b x)) = nI (p - rt p (cb p a b x)) := pk_sub (by omega)
          rw [es]
          refine X_ap (by omega) (by omega) (by omega) (nm_r (nI_1 x) ?_)
          have := ih (x + 1) _ _ (upd fA x (nI (fa p a b x))) (by omega) (by rw [off_s, n2]; exact hx_add (hx_add h1 P1) P2) (hf_add h2)
          rw [off_s, n2] at this
          exact this
theorem X_findPoints (hp : p ∈ PL) (ha : a < p) (hb : b < p) {aX aY fA ro : Nat → Int32} {post : SX → Prop} (H : ∀ aX aY fA ro, HX p a b (off p a b p) aX aY → HF p a b p fA → post (nI p, nI a, nI b, nI (off p a b p), 0, f_most, f_leastMost, aX, aY, fA, ro, sm)) : wpX_findPoints post (nI p, nI a, nI b, f_count, f_known, f_most, f_leastMost, aX, aY, fA, ro, sm) := by
  refine X_roots hp (fun ro hr => ⟨p + 1, ?_⟩)
  exact X_fpl hp ha hb hr (fun aX aY fA h1 h2 => H aX aY fA ro h1 h2) p 0 aX aY fA (by omega) (hx_1 p a b aX aY) (fun z hz => by omega)
end
end
section
/-! Walks: the reference's list of points. -/
/-- how many roots lie below y -/
def cq (p r y : Nat) : Nat := (if r < p ∧ r < y then 1 else 0) + (if r < p ∧ r ≠ 0 ∧ p - r < y then 1 else 0)
theorem cq_0 (p r : Nat) : cq p r 0 = 0 := by
  unfold cq
  rw [if_neg (by omega), if_neg (by omega)]
theorem cq_p {p r : Nat} (h : r ≤ p) (h2 : r < p → 2 * r < p) : cq p r p = if r = p then 0 else if r = 0 then 1 else 2 := by
  unfold cq
  by_cases c : r = p
  · rw [if_pos c, if_neg (by omega), if_neg (by omega)]
  · rw [if_neg c]
    by_cases z : r = 0
    · rw [if_pos z, if_pos (by omega), if_neg (by omega)]
    · rw [if_neg z, if_pos (by omega), if_pos (by omega)]
theorem cq_hit1 {p r : Nat} (h : r < p) (h2 : 2 * r < p) : cq p r r = 0 ∧ cq p r (r + 1) = 1 := by
  unfold cq
  rw [if_neg (by omega), if_neg (by omega), if_pos (by omega), if_neg (by omega)]
  exact ⟨rfl, rfl⟩
theorem cq_hit2 {p r : Nat} (h : r < p) (h0 : r ≠ 0) (h2 : 2 * r < p) : cq p r (p - r) = 1 ∧ cq p r (p - r + 1) = 2 := by
  unfold cq
  rw [if_pos (by omega), if_neg (by omega), if_pos (by omega), if_pos (by omega)]
  exact ⟨rfl, rfl⟩
theorem cq_miss {p r y : Nat} (h1 : y ≠ r) (h2 : r < p → r ≠ 0 → y ≠ p - r) : cq p r (y + 1) = cq p r y := by
  unfold cq
  have e1 : (r < p ∧ r < y + 1) ↔ (r < p ∧ r < y) := by omega
  have e2 : (r < p ∧ r ≠ 0 ∧ p - r < y + 1) ↔ (r < p ∧ r ≠ 0 ∧ p - r < y) := by
    constructor
    · intro ⟨q1, q2, q3⟩
      have := h2 q1 q2
      omega
    · omega
  by_cases c1 : (r < p ∧ r < y)
  · rw [if_pos c1, if_pos (e1.mpr c1)]
    by_cases c2 : (r < p ∧ r ≠ 0 ∧ p - r < y)
    · rw [if_pos c2, if_pos (e2.mpr c2)]
    · rw [if_neg c2, if_neg (fun z => c2 (e2.mp z))]
  · rw [if_neg c1, if_neg (fun z => c1 (e1.mp z))]
    by_cases c2 : (r < p ∧ r ≠ 0 ∧ p - r < y)
    · rw [if_pos c2, if_pos (e2.mpr c2)]
    · rw [if_neg c2, if_neg (fun z => c2 (e2.mp z))]
theorem cq_le (p r y : Nat) : cq p r y ≤ 2 := by
  unfold cq
  split <;> split <;> omega
/-- the reference's test is the class's -/
theorem on_iff {p a b x y : Nat} (p0 : 0 < p) : md p ((y : Int) * y - (x : Int) * x * x - (a : Int) * x - b) = 0 ↔ y * y % p = cb p a b x := by
  rw [md_z p0]
  have e : (y : Int) * y - (x : Int) * x * x - (a : Int) * x - b = ((y * y : Nat) : Int) - ((x * x * x + a * x + b : Nat) : Int) := by
    rw [Int.natCast_add, Int.natCast_add, Int.natCast_mul, Int.natCast_mul, Int.natCast_mul, Int.natCast_mul]
    omega
  rw [e, ← Int.emod_eq_emod_iff_emod_sub_eq_zero, ← Int.natCast_emod, ← Int.natCast_emod]
  exact Int.ofNat_inj
section
variable {p a b : Nat} {f_count : Int32}
theorem Y_l17 (hp : p ∈ PL) (ha : a < p) (hb : b < p) {post : SY → Prop} {J : Int32 → Int32 → (Nat → Int32) → (Nat → Int32) → Prop} {x : Nat} (hx : x < p) (H : ∀ xs ys, HX p a b (off p a b (x + 1)) xs ys → J (nI (x + 1)) (nI (off p a b (x + 1))) xs ys) : ∀ (d y : Nat) (xs ys : Nat → Int32), y + d = p → HX p a b (off p a b x + cq p (rt p (cb p a b x)) y) xs ys → wY_list_17 post J (nI x) (nI p) (nI a) (nI b) (d + 1) (nI y) (nI (off p a b x + cq p (rt p (cb p a b x)) y)) xs ys := by
  have lo := pl_lo hp
  have rl := rt_le p (cb p a b x)
  have r2 : rt p (cb p a b x) < p → 2 * rt p (cb p a b x) < p := fun h => (rt_all hp h (rt_s h)).2.2
  have ox := off_le p a b x
  intro d
  induction d with
  | zero =>
    intro y xs ys hy h
    have e : y = p := by omega
    subst e
    refine br_t (nI_le (by omega) (by omega)) (nm_r (nI_1 x) ?_)
    have q : off y a b x + cq y (rt y (cb y a b x)) y = off y a b (x + 1) := by
      rw [off_s, cq_p rl r2]
      rfl
    rw [q] at h ⊢
    exact H xs ys h
  | succ d ih =>
    intro y xs ys hy h
    have yy : y * y ≤ 61 * 61 := bm (by omega) (by omega)
    have xx : x * x ≤ 61 * 61 := bm (by omega) (by omega)
    have xxx : x * x * x ≤ 61 * 61 * 61 := bm xx (by omega)
    have ax : a * x ≤ 61 * 61 := bm (by omega) (by omega)
    have cl := cq_le p (rt p (cb p a b x)) y
    refine br_f (nI_ge (by omega) (by omega)) (Y_rest hp ((y : Int) * y - (x : Int) * x * x - (a : Int) * x - b) ?_ ?_ ?_ ?_)
    · rw [ii_n, ii_n, ii_n, ii_n, ii_m, ii_m, ii_m, ii_m, ii_s, ii_s, ii_s]
    · rw [← Int.natCast_mul, ← Int.natCast_mul, ← Int.natCast_mul, ← Int.natCast_mul]; omega
    · rw [← Int.natCast_mul, ← Int.natCast_mul, ← Int.natCast_mul, ← Int.natCast_mul]; omega
    · have on := on_iff (p := p) (a := a) (b := b) (x := x) (y := y) (by omega)
      have ml := md_lt (p := p) (by omega) ((y : Int) * y - (x : Int) * x * x - (a : Int) * x - b)
      refine ni_eq (b := 0) (by omega) (by omega) (fun z => ?_) (fun z => ?_)
      · have o := on.mp z
        obtain ⟨q1, q2, q3⟩ := rt_all hp (show y < p by omega) o
        have ec : (nI (off p a b x + cq p (rt p (cb p a b x)) y)).toNatClampNeg = off p a b x + cq p (rt p (cb p a b x)) y := nI_clamp (by omega)
        have st : Pt p a b (off p a b x + cq p (rt p (cb p a b x)) y) x y ∧ cq p (rt p (cb p a b x)) (y + 1) = cq p (rt p (cb p a b x)) y + 1 := by
          rcases q2 with e | ⟨z0, e⟩
          · have := cq_hit1 q1 q3
            rw [e, this.1, this.2]
            exact ⟨⟨hx, q1, Or.inl ⟨rfl, rfl⟩⟩, rfl⟩
          · have e' : y = p - rt p (cb p a b x) := by omega
            have := cq_hit2 q1 z0 q3
            rw [e', this.1, this.2]
            exact ⟨⟨hx, q1, Or.inr ⟨z0, rfl, rfl⟩⟩, rfl⟩
        refine And.intro (vp_in_nI (by omega) (by omega)) (nm_r (by rw [ec]) (And.intro (vp_in_nI (by omega) (by omega)) (nm_r (by rw [ec]) (nm_r (nI_1 _) (nm_r (nI_1 y) ?_)))))
        have := ih (y + 1) _ _ (by omega) (by rw [st.2, ← Nat.add_assoc]; exact hx_add h st.1)
        rw [st.2, ← Nat.add_assoc] at this
        exact this
      · have m : cq p (rt p (cb p a b x)) (y + 1) = cq p (rt p (cb p a b x)) y := by
          refine cq_miss (fun e => ?_) (fun q1 q2 e => ?_)
          · exact z (on.mpr (by rw [e]; exact rt_s (by omega)))
          · exact z (on.mpr (by rw [e, sq_neg q1]; exact rt_s q1))
        refine nm_r (nI_1 y) ?_
        have := ih (y + 1) xs ys (by omega) (by rw [m]; exact h)
        rw [m] at this
        exact this
theorem Y_l7 (hp : p ∈ PL) (ha : a < p) (hb : b < p) {post : SY → Prop} (H : ∀ xs ys, HX p a b (off p a b p) xs ys → post (nI p, nI a, nI b, nI (off p a b p), xs, ys)) : ∀ (d x : Nat) (xs ys : Nat → Int32), x + d = p → HX p a b (off p a b x) xs ys → wY_list_7 post (nI p) (nI a) (nI b) (d + 1) (nI x) (nI (off p a b x)) xs ys := by
  have lo := pl_lo hp
  intro d
  induction d with
  | zero =>
    intro x xs ys hx h
    have e : x = p := by omega
    subst e
    exact br_t (nI_le (by omega) (by omega)) (H xs ys h)
  | succ d ih =>
    intro x xs ys hx h
    refine br_f (nI_ge (by omega) (by omega)) ⟨p + 1, ?_⟩
    have := Y_l17 hp ha hb (post := post) (J := wY_list_7 post (nI p) (nI a) (nI b) (d + 1)) (x := x) (by omega) (fun xs ys h' => ih (x + 1) xs ys (by omega) h') p 0 xs ys (by omega) (by rw [cq_0]; exact h)
    rw [cq_0] at this
    exact this
theorem Y_list (hp : p ∈ PL) (ha : a < p) (hb : b < p) {xs ys : Nat → Int32} {post : SY → Prop} (H : ∀ xs ys, HX p a b (off p a b p) xs ys → post (nI p, nI a, nI b, nI (off p a b p), xs, ys)) : wpY_list post (nI p, nI a, nI b, f_count, xs, ys) :=
  ⟨p + 1, Y_l7 hp ha hb H p 0 xs ys (by omega) (hx_1 p a b xs ys)⟩
end
end
section
/-! The sum in numbers, and the walks that make it. -/
/-- s is the sum of the curve's points by their numbers -/
def Cv (p a b : Nat) (s : Nat → Nat → Nat) : Prop := p ∈ PL ∧ a < p ∧ b < p ∧ ∃ (K : Type) (_ : Lean.Grind.CommRing K) (k : Int → K), Fp p K k ∧ ec_F (k a) (k b) ∧ Sm k p a b s
theorem cv_ex {p a b : Nat} (hp : p ∈ PL) (ha : a < p) (hb : b < p) (d : ¬ (4 * a * a * a + 27 * b * b) % p = 0) : ∃ s, Cv p a b s := by
  obtain ⟨K, I, k, f⟩ := fp_ex hp
  have F := fp_F hp f d
  obtain ⟨s, S⟩ := sm_ex hp f F
  exact ⟨s, hp, ha, hb, K, I, k, f, F, S⟩
theorem cv_gp {p a b : Nat} {s : Nat → Nat → Nat} (C : Cv p a b s) : gp (off p a b p) s := by
  obtain ⟨hp, ha, hb, K, I, k, f, F, S⟩ := C
  exact sm_gp hp f F S
theorem cv_main {p a b : Nat} {s : Nat → Nat → Nat} (C : Cv p a b s) : ∃ E : Nat, (∃ i, i < off p a b p ∧ od s i = E) ∧ (∀ i, i < off p a b p → od s i ∣ E) ∧ E ∣ off p a b p ∧ ∀ m, cn (fun i => m % od s i == 0) (off p a b p) = Nat.gcd m (off p a b p / E) * Nat.gcd m E := by
  have g := cv_gp C
  obtain ⟨hp, ha, hb, K, I, k, f, F, S⟩ := C
  exact gp_main g (off_80 hp ha hb) (sm_2 hp f F S) (sm_3 hp f F S)
theorem cv_1 {p a b : Nat} {s : Nat → Nat → Nat} (C : Cv p a b s) {i j : Nat} (i1 : 1 ≤ i) (hi : i < off p a b p) (j1 : 1 ≤ j) (hj : j < off p a b p) (e : px p a b i = px p a b j) (z : (py p a b i + py p a b j) % p = 0) : s i j = 0 := by
  obtain ⟨hp, ha, hb, K, I, k, f, F, S⟩ := C
  refine sm_u hp f F S hi hj (off_pos p a b p) ?_
  rw [pt_0, pt_s k p a b (by omega), pt_s k p a b (by omega)]
  refine (⟨by rw [e], ?_⟩ : k (px p a b i) = k (px p a b j) ∧ k (py p a b i) + k (py p a b j) = 0)
  rw [← f.1, ← Int.natCast_add, fp_zn f]
  exact z
theorem cv_2 {p a b : Nat} {s : Nat → Nat → Nat} (C : Cv p a b s) {i j : Nat} (i1 : 1 ≤ i) (hi : i < off p a b p) (j1 : 1 ≤ j) (hj : j < off p a b p) (n : ¬ (px p a b i = px p a b j ∧ (py p a b i + py p a b j) % p = 0)) (l : Nat) (h : px p a b i ≠ px p a b j → ((l : Int) * ((px p a b j : Int) - px p a b i)) % (p : Int) = ((py p a b j : Int) - py p a b i) % (p : Int)) (h' : px p a b i = px p a b j → ((l : Int) * (2 * (py p a b i : Int))) % (p : Int) = (3 * (px p a b i : Int) * px p a b i + a) % (p : Int)) (r t : Nat) (hr : r = md p ((l : Int) * l - px p a b i - px p a b j)) (ht : t = md p ((l : Int) * ((px p a b i : Int) - r) - py p a b i)) : Pt p a b (s i j) r t := by
  obtain ⟨hp, ha, hb, K, I, k, f, F, S⟩ := C
  have lo := pl_lo hp
  have o1 := Pt_on (Pt_p (p := p) (a := a) (b := b) i1 hi)
  have o2 := Pt_on (Pt_p (p := p) (a := a) (b := b) j1 hj)
  have L := ec_add F (l := k l) (fp_cb f o1.2.2) (fp_cb f o2.2.2) (fun z => n ⟨fp_nat f o1.1 o2.1 z.1, by
      have z2 := z.2
      rw [← f.1, ← Int.natCast_add, fp_zn f] at z2
      exact z2⟩) (fun ne => by
      have q := h (fun e => ne (by rw [e]))
      rw [← fp_eq f, f.2.1, f.2.2.1, f.2.2.1] at q
      exact q) (fun e => by
      have q := h' (fp_nat f o1.1 o2.1 e)
      rw [← fp_eq f, f.2.1, f.2.1, f.1, f.2.1, f.2.1, f.2.2.2.2.2.2.1.1, f.2.2.2.2.2.2.1.2.1] at q
      exact q)
  have er : k r = k l * k l - k (px p a b i) - k (px p a b j) := by
    rw [hr, md_c (by omega), fp_mod f, f.2.2.1, f.2.2.1, f.2.1]
  have et : k t = k l * (k (px p a b i) - (k l * k l - k (px p a b i) - k (px p a b j))) - k (py p a b i) := by
    rw [ht, md_c (by omega), fp_mod f, f.2.2.1, f.2.1, f.2.2.1, er]
  rw [← et, ← er] at L
  have rp : r < p := by rw [hr]; exact md_lt (by omega) _
  have tp : t < p := by rw [ht]; exact md_lt (by omega) _
  have on := ec_L1 (ec_L12 (ec_L23 L))
  have on2 : k t * k t = k r * k r * k r + k a * k r + k b := by
    rw [← on]
    clear on L
    grind
  obtain ⟨m, q⟩ := Pt_of hp rp tp (fp_cb' f on2)
  have qn := Pt_n q
  have e : s i j = m := by
    refine sm_u hp f F S hi hj qn.2 ?_
    rw [pt_s k p a b (by omega), pt_s k p a b (by omega), pt_s k p a b (by omega), (Pt_e q).1, (Pt_e q).2]
    exact L
  rw [e]
  exact q
/-- the opposite number -/
noncomputable def ng (s : Nat → Nat → Nat) (n i : Nat) : Nat := lst (fun j => j < n ∧ s i j = 0)
theorem ng_s {n : Nat} {s : Nat → Nat → Nat} (g : gp n s) {i : Nat} (hi : i < n) : ng s n i < n ∧ s i (ng s n i) = 0 := (lst_s (P := fun j => j < n ∧ s i j = 0) (g.2.2.2.2.2 i hi)).1
theorem ng_u {n : Nat} {s : Nat → Nat → Nat} (g : gp n s) {i j : Nat} (hi : i < n) (hj : j < n) (e : s i j = 0) : ng s n i = j := by
  obtain ⟨q1, q2⟩ := ng_s g hi
  refine s_can g q1 hj hi ?_
  rw [g.2.2.1 _ _ q1 hi, q2, g.2.2.1 _ _ hj hi, e]
theorem ng_0 {n : Nat} {s : Nat → Nat → Nat} (g : gp n s) : ng s n 0 = 0 := ng_u g g.1 g.1 (g.2.2.2.2.1 0 g.1)
theorem cv_n {p a b : Nat} {s : Nat → Nat → Nat} (C : Cv p a b s) {i : Nat} (i1 : 1 ≤ i) (hi : i < off p a b p) (t : Nat) (ht : t = md p (-(py p a b i : Int))) : Pt p a b (ng s (off p a b p) i) (px p a b i) t := by
  have g := cv_gp C
  obtain ⟨hp, ha, hb, K, I, k, f, F, S⟩ := id C
  have lo := pl_lo hp
  have o1 := Pt_on (Pt_p (p := p) (a := a) (b := b) i1 hi)
  have et : k t = -k (py p a b i) := by rw [ht, md_c (by omega), fp_mod f, f.2.2.2.1]
  have tp : t < p := by rw [ht]; exact md_lt (by omega) _
  have on : t * t % p = cb p a b (px p a b i) := by
    apply fp_cb' f
    rw [et, ← fp_cb f o1.2.2]
    grind
  obtain ⟨m, q⟩ := Pt_of hp o1.1 tp on
  have qn := Pt_n q
  have e : ng s (off p a b p) i = m := by
    refine ng_u g hi qn.2 (cv_1 C i1 hi qn.1 qn.2 (Pt_e q).1.symm ?_)
    rw [(Pt_e q).2, ← fp_zn f, Int.natCast_add, f.1, et]
    grind
  rw [e]
  exact q
/-! walks of the class -/
section
variable {p a b : Nat} {f_count f_known f_most f_leastMost : Int32} {aX aY fA ro sm : Nat → Int32} {s : Nat → Nat → Nat}
theorem X_num (hp : p ∈ PL) (ha : a < p) (hb : b < p) (h1 : HX p a b (off p a b p) aX aY) (h2 : HF p a b p fA) {m r t : Nat} (q : Pt p a b m r t) {post : Int32 → Prop} (h : post (nI m)) : wpX_numberOf post (nI p, nI a, nI b, f_count, f_known, f_most, f_leastMost, aX, aY, fA, ro, sm) (nI r) (nI t) := by
  have lo := pl_lo hp
  have o8 := off_80 hp ha hb
  have qn := Pt_n q
  have on := Pt_on q
  obtain ⟨q1, q2, q3⟩ := id q
  have ql := Pt_lt q
  have ef : fA (nI r).toNatClampNeg = nI (off p a b r) := by
    rw [nI_clamp (by omega), h2 r q1]
    unfold fa
    rw [if_neg (by omega)]
  have P1 : Pt p a b (off p a b r) r (rt p (cb p a b r)) := ⟨q1, q2, Or.inl ⟨rfl, rfl⟩⟩
  have pn := Pt_n P1
  have ey : aY (nI (off p a b r)).toNatClampNeg = nI (rt p (cb p a b r)) := by
    rw [nI_clamp (by omega), (h1 _ pn.1 pn.2).2, (Pt_e P1).2]
  refine And.intro (vp_in_nI (by omega) (by omega)) (nm_r ef (And.intro (vp_in_nI (by omega) (by omega)) ?_))
  rw [ey]
  refine ni_eq (by omega) (by omega) (fun e => ?_) (fun e => ?_)
  · rw [e] at P1
    rw [Pt_i hp P1 q]
    exact h
  · rcases q3 with ⟨_, f2⟩ | ⟨_, f1, _⟩
    · exact absurd f2.symm e
    · rw [nI_1, ← f1]
      exact h
theorem X_118 (hp : p ∈ PL) {x y u : Nat} (hx : x < p) (hy : y < p) (hu : u < p) {over under : Int32} (ov un : Int) (eo : over = iI ov) (o1 : -100000 ≤ ov) (o2 : ov ≤ 100000) (eu : under = iI un) (u1 : -100000 ≤ un) (u2 : un ≤ 100000) {post : Int32 → Prop} (l r t : Nat) (hl : l = md p ((md p ov : Int) * (pw p (md p un) (p - 2) : Int))) (hr : r = md p ((l : Int) * l - x - u)) (ht : t = md p ((l : Int) * ((x : Int) - r) - y)) (h : wpX_numberOf post (nI p, nI a, nI b, f_count, f_known, f_most, f_leastMost, aX, aY, fA, ro, sm) (nI r) (nI t)) : wX_sumOf_118 post (nI x) (nI y) (nI u) over under (nI p) (nI a) (nI b) f_count f_known f_most f_leastMost aX aY fA ro sm := by
  have lo := pl_lo hp
  have m1 := md_lt (p := p) (by omega) ov
  have m2 := pw_lt hp (md p un) (p - 2)
  have m3 : (md p ov) * (pw p (md p un) (p - 2)) ≤ 61 * 61 := bm (by omega) (by omega)
  have lp : l < p := by rw [hl]; exact md_lt (by omega) _
  have rp : r < p := by rw [hr]; exact md_lt (by omega) _
  have m4 : l * l ≤ 61 * 61 := bm (by omega) (by omega)
  have m5 := md_lt (p := p) (by omega) ((x : Int) - r)
  have m6 : l * md p ((x : Int) - r) ≤ 61 * 61 := bm (by omega) (by omega)
  refine X_mod hp ov eo (by omega) (by omega) ?_
  refine X_inv hp un eu (by omega) (by omega) ?_
  refine X_mod hp ((md p ov : Int) * (pw p (md p un) (p - 2) : Int)) (by rw [ii_n, ii_n, ii_m]) (by rw [← Int.natCast_mul]; omega) (by rw [← Int.natCast_mul]; omega) ?_
  rw [← hl]
  refine X_mod hp ((l : Int) * l - x - u) (by rw [ii_n, ii_n, ii_n, ii_m, ii_s, ii_s]) (by rw [← Int.natCast_mul]; omega) (by rw [← Int.natCast_mul]; omega) ?_
  rw [← hr]
  refine X_mod hp ((x : Int) - r) (by rw [ii_n, ii_n, ii_s]) (by omega) (by omega) ?_
  refine X_mod hp ((l : Int) * (md p ((x : Int) - r) : Int) - y) (by rw [ii_n, ii_n, ii_n, ii_m, ii_s]) (by rw [← Int.natCast_mul]; omega) (by rw [← Int.natCast_mul]; omega) ?_
  have e : md p ((l : Int) * (md p ((x : Int) - r) : Int) - y) = t := by
    rw [ht]
    unfold md
    have e2 : (((((x : Int) - r) % (p : Int)).toNat : Nat) : Int) = ((x : Int) - r) % (p : Int) := md_c (by omega) _
    rw [e2, Int.sub_emod, Int.mul_emod, Int.emod_emod_of_dvd _ (Int.dvd_refl _), ← Int.mul_emod, ← Int.sub_emod]
  rw [e]
  exact h
theorem lam {p : Nat} (hp : p ∈ PL) {ov un : Int} (n : ¬ un % (p : Int) = 0) : ((md p ((md p ov : Int) * (pw p (md p un) (p - 2) : Int)) : Int) * un) % (p : Int) = ov % (p : Int) := by
  have lo := pl_lo hp
  have p0 : 0 < p := by omega
  have u0 : md p un ≠ 0 := fun z => n ((md_z p0 un).mp z)
  have iv := pl_inv hp (md_lt p0 un) u0
  have iv2 : ((md p un : Int) * (pw p (md p un) (p - 2) : Int)) % (p : Int) = 1 := by
    rw [← Int.natCast_mul, ← Int.natCast_emod, iv]; rfl
  rw [md_c p0 ((md p ov : Int) * (pw p (md p un) (p - 2) : Int)), md_c p0 ov, Int.mul_emod, Int.emod_emod_of_dvd _ (Int.dvd_refl _)]
  rw [md_c p0 un] at iv2
  have e1 : (un % (p : Int)) = (un % (p : Int)) % (p : Int) := (Int.emod_emod_of_dvd _ (Int.dvd_refl _)).symm
  generalize hw : (pw p (md p un) (p - 2) : Int) = w at iv2 ⊢
  rw [← Int.mul_emod]
  have e2 : ov % (p : Int) * w * un = ov % (p : Int) * (un * w) := by rw [Int.mul_assoc, Int.mul_comm w un]
  rw [e2, Int.mul_emod, Int.emod_emod_of_dvd _ (Int.dvd_refl _)]
  have e3 : un * w % (p : Int) = un % (p : Int) * w % (p : Int) := by rw [Int.mul_emod un w, Int.mul_emod (un % (p : Int)) w, Int.emod_emod_of_dvd un (Int.dvd_refl _)]
  rw [e3, iv2, Int.mul_one, Int.emod_emod_of_dvd _ (Int.dvd_refl _)]
end
end
section
/-! Walks: the class's sum, opposite and multiple. -/
section
variable {p a b : Nat} {f_count f_known f_most f_leastMost : Int32} {aX aY fA ro sm : Nat → Int32} {s : Nat → Nat → Nat}
theorem un_ne {p : Nat} {v : Int} (p0 : 0 < p) (h1 : -(p : Int) < v) (h2 : v < p) (h0 : v ≠ 0) : ¬ v % (p : Int) = 0 := by
  intro z
  obtain ⟨t, ht⟩ := Int.dvd_of_emod_eq_zero z
  have t1 : t < 1 := by
    rcases Int.lt_or_le t 1 with c | c
    · exact c
    · have : (p : Int) * 1 ≤ (p : Int) * t := Int.mul_le_mul_of_nonneg_left c (by omega)
      omega
  have t2 : -1 < t := by
    rcases Int.lt_or_le (-1) t with c | c
    · exact c
    · have : (p : Int) * t ≤ (p : Int) * (-1) := Int.mul_le_mul_of_nonneg_left c (by omega)
      omega
  have t3 : t = 0 := by omega
  rw [t3] at ht
  omega
theorem dbl_ne {p y v : Nat} (hp : p ∈ PL) (hy : y < p) (hv : v < p) (e : y * y % p = v * v % p) (n : ¬ (y + v) % p = 0) : ¬ (2 * (y : Int)) % (p : Int) = 0 := by
  have lo := pl_lo hp
  have r1 := rt_all hp hy rfl
  have r2 := rt_all hp hv rfl
  rw [← e] at r2
  have z0 : ∀ w, w = p → w % p = 0 := fun w hw => by rw [hw, Nat.mod_self]
  have ev : y = v := by
    rcases r1.2.1 with c | ⟨_, c⟩ <;> rcases r2.2.1 with d | ⟨_, d⟩
    · omega
    · exact absurd (z0 _ (by omega)) n
    · exact absurd (z0 _ (by omega)) n
    · omega
  have y0 : y ≠ 0 := by
    intro z
    apply n
    rw [← ev, z]
    exact Nat.zero_mod p
  intro z
  have z2 : 2 * y % p = 0 := by
    have : ((2 * y % p : Nat) : Int) = (2 * (y : Int)) % (p : Int) := by rw [Int.natCast_emod, Int.natCast_mul]; rfl
    omega
  rcases pl_nz hp (show 2 < p by omega) hy z2 with c | c
  · omega
  · exact y0 c
theorem X_sum (C : Cv p a b s) (h1 : HX p a b (off p a b p) aX aY) (h2 : HF p a b p fA) {i j : Nat} (hi : i < off p a b p) (hj : j < off p a b p) {post : Int32 → Prop} (h : post (nI (s i j))) : wpX_sumOf post (nI p, nI a, nI b, f_count, f_known, f_most, f_leastMost, aX, aY, fA, ro, sm) (nI i) (nI j) := by
  have g := cv_gp C
  have hp := C.1
  have ha := C.2.1
  have hb := C.2.2.1
  have lo := pl_lo hp
  have o8 := off_80 hp ha hb
  by_cases i0 : i = 0
  · subst i0
    rw [g.2.2.2.2.1 j hj] at h
    refine br_t nI_0 ?_
    rw [nI_add, Nat.zero_add]
    exact h
  · refine br_f (nI_ne0 (by omega) (by omega)) ?_
    by_cases j0 : j = 0
    · subst j0
      rw [s_z g hi] at h
      refine br_t nI_0 ?_
      rw [nI_add, Nat.add_zero]
      exact h
    · refine br_f (nI_ne0 (by omega) (by omega)) ?_
      have q1 := h1 i (by omega) hi
      have q2 := h1 j (by omega) hj
      have c1 : (nI i).toNatClampNeg = i := nI_clamp (by omega)
      have c2 : (nI j).toNatClampNeg = j := nI_clamp (by omega)
      have o1 := Pt_on (Pt_p (p := p) (a := a) (b := b) (show 1 ≤ i by omega) hi)
      have o2 := Pt_on (Pt_p (p := p) (a := a) (b := b) (show 1 ≤ j by omega) hj)
      have v1 : vp_in (nI i) 80 := vp_in_nI (by omega) (by omega)
      have v2 : vp_in (nI j) 80 := vp_in_nI (by omega) (by omega)
      refine And.intro v1 (nm_r (by rw [c1, q1.1]) (And.intro v1 (nm_r (by rw [c1, q1.2]) (And.intro v2 (nm_r (by rw [c2, q2.1]) (And.intro v2 (nm_r (by rw [c2, q2.2]) ?_)))))))
      have main := fun n => cv_2 C (i := i) (j := j) (by omega) hi (by omega) hj n
      have zero := cv_1 C (i := i) (j := j) (by omega) hi (by omega) hj
      generalize px p a b i = x at *
      generalize py p a b i = y at *
      generalize px p a b j = u at *
      generalize py p a b j = v at *
      refine ni_eq (by omega) (by omega) (fun e => ?_) (fun e => ?_)
      · subst e
        refine br_f (nI_nle (by omega) (by omega)) (And.intro (nI_ne0 (by omega) (by omega)) ?_)
        rw [nI_add, pk_rem (by omega) (by omega) (by omega)]
        have ml : (y + v) % p < p := Nat.mod_lt _ (by omega)
        refine ni_eq (b := 0) (by omega) (by omega) (fun z => ?_) (fun z => ?_)
        · rw [zero rfl z] at h
          exact h
        · have xx : x * x ≤ 61 * 61 := bm (by omega) (by omega)
          have ne := dbl_ne hp o1.2.1 o2.2.1 (o1.2.2.trans o2.2.2.symm) z
          refine br_t rfl (br_t rfl (X_118 hp o1.1 o1.2.1 o1.1 (3 * (x : Int) * x + a) (2 * (y : Int)) ?_ ?_ ?_ ?_ ?_ ?_ _ _ _ rfl rfl rfl (X_num hp ha hb h1 h2 (main (fun q => z q.2) _ (fun q => absurd rfl q) (fun _ => lam hp ne) _ _ rfl rfl) h)))
          · rw [ii_3, ii_n, ii_n, ii_m, ii_m, ii_a]
          · rw [Int.mul_assoc, ← Int.natCast_mul]; omega
          · rw [Int.mul_assoc, ← Int.natCast_mul]; omega
          · rw [ii_2, ii_n, ii_m]
          · omega
          · omega
      · have ne : ¬ ((u : Int) - x) % (p : Int) = 0 := un_ne (by omega) (by omega) (by omega) (by omega)
        have en : ¬ nI x = nI u := fun z => e ((nI_eq (by omega) (by omega)).mp z)
        refine br_f en (br_f en (X_118 hp o1.1 o1.2.1 o2.1 ((v : Int) - y) ((u : Int) - x) ?_ ?_ ?_ ?_ ?_ ?_ _ _ _ rfl rfl rfl (X_num hp ha hb h1 h2 (main (fun q => e q.1) _ (fun _ => lam hp ne) (fun q => absurd q e) _ _ rfl rfl) h)))
        · rw [ii_n, ii_n, ii_s]
        · omega
        · omega
        · rw [ii_n, ii_n, ii_s]
        · omega
        · omega
theorem X_neg (C : Cv p a b s) (h1 : HX p a b (off p a b p) aX aY) (h2 : HF p a b p fA) {i : Nat} (hi : i < off p a b p) {post : Int32 → Prop} (h : post (nI (ng s (off p a b p) i))) : wpX_negative post (nI p, nI a, nI b, f_count, f_known, f_most, f_leastMost, aX, aY, fA, ro, sm) (nI i) := by
  have g := cv_gp C
  have hp := C.1
  have ha := C.2.1
  have hb := C.2.2.1
  have lo := pl_lo hp
  have o8 := off_80 hp ha hb
  by_cases i0 : i = 0
  · subst i0
    rw [ng_0 g] at h
    exact br_t nI_0 h
  · refine br_f (nI_ne0 (by omega) (by omega)) ?_
    have q1 := h1 i (by omega) hi
    have c1 : (nI i).toNatClampNeg = i := nI_clamp (by omega)
    have o1 := Pt_on (Pt_p (p := p) (a := a) (b := b) (show 1 ≤ i by omega) hi)
    have v1 : vp_in (nI i) 80 := vp_in_nI (by omega) (by omega)
    refine And.intro v1 (And.intro v1 ?_)
    rw [c1, q1.1, q1.2]
    refine X_mod hp (-(py p a b i : Int)) (by rw [ii_n, ii_g]) (by omega) (by omega) ?_
    exact X_num hp ha hb h1 h2 (cv_n C (by omega) hi _ rfl) h
/-- doubling -/
theorem X_ml (C : Cv p a b s) (h1 : HX p a b (off p a b p) aX aY) (h2 : HF p a b p fA) {post : Int32 → Prop} : ∀ (f r q l : Nat), f ≤ 20 → r < off p a b p → q < off p a b p → l < 2 ^ f → post (nI (s r (mu s l q))) → wX_multiple_29 post (nI p) (nI a) (nI b) f_count f_known f_most f_leastMost aX aY fA ro sm (f + 1) (nI r) (nI q) (nI l) := by
  have g := cv_gp C
  have o8 := off_80 C.1 C.2.1 C.2.2.1
  intro f
  induction f with
  | zero =>
    intro r q l _ hr hq hl h
    have z : l = 0 := by omega
    subst z
    have e : s r (mu s 0 q) = r := s_z g hr
    rw [e] at h
    exact br_t (by rw [nI_0]; decide) h
  | succ f ih =>
    intro r q l hf hr hq hl h
    have pw2 : 2 ^ (f + 1) ≤ 2 ^ 20 := Nat.pow_le_pow_right (by omega) hf
    have l6 : l < 1048576 := by omega
    by_cases z : l = 0
    · subst z
      have e : s r (mu s 0 q) = r := s_z g hr
      rw [e] at h
      exact br_t (by rw [nI_0]; decide) h
    · have hl2 : l / 2 < 2 ^ f := by
        have : 2 ^ (f + 1) = 2 * 2 ^ f := by rw [Nat.pow_succ, Nat.mul_comm]
        omega
      have sh : nI l >>> ((1 : Int32) &&& 31) = nI (l / 2) := by
        have := pk_shrN (n := l) (by omega) ((1 : Int32) &&& 31) 1 (by decide)
        rw [this]
      have an : nI l &&& 1 = nI (l % 2) := pk_andN (by omega) 1 (by decide)
      have qq := g.2.1 q q hq hq
      have dbl : mu s (l / 2) (s q q) = mu s (l / 2 * 2) q := by
        rw [mu_m g _ _ hq]
        have : mu s 2 q = s q q := by
          show s (s 0 q) q = s q q
          rw [g.2.2.2.2.1 q hq]
        rw [this]
      have tail : ∀ r' : Nat, r' < off p a b p → post (nI (s r' (mu s (l / 2 * 2) q))) → wX_multiple_53 post (wX_multiple_29 post (nI p) (nI a) (nI b) f_count f_known f_most f_leastMost aX aY fA ro sm (f + 1)) (nI q) (nI l) (nI r') (nI p) (nI a) (nI b) f_count f_known f_most f_leastMost aX aY fA ro sm := by
        intro r' hr' h'
        refine X_sum C h1 h2 hq hq (nm_r sh ?_)
        exact ih r' (s q q) (l / 2) (by omega) hr' qq hl2 (by rw [dbl]; exact h')
      refine br_f (nI_nle (by omega) (by omega)) ?_
      rw [an]
      refine ni_eq (b := 1) (by omega) (by omega) (fun e => ?_) (fun e => ?_)
      · refine X_sum C h1 h2 hr hq (tail _ (g.2.1 _ _ hr hq) ?_)
        have el : l = 1 + l / 2 * 2 := by omega
        rw [el, mu_a g 1 _ hq, mu_1 g hq] at h
        rw [g.2.2.2.1 _ _ _ hr hq (mu_lt g _ hq)]
        have e5 : (1 + l / 2 * 2) / 2 = l / 2 := by omega
        exact h
      · refine tail _ hr ?_
        have el : l / 2 * 2 = l := by omega
        rw [el]
        exact h
/-- the multiple, for any int -/
noncomputable def mz (s : Nat → Nat → Nat) (n i : Nat) (e : Int) : Nat := if 0 ≤ e then mu s e.toNat i else mu s (-e).toNat (ng s n i)
theorem X_mult (C : Cv p a b s) (h1 : HX p a b (off p a b p) aX aY) (h2 : HF p a b p fA) {i : Nat} (hi : i < off p a b p) {x : Int32} (e : Int) (hx : x = iI e) (e1 : -1000000 ≤ e) (e2 : e ≤ 1000000) {post : Int32 → Prop} (h : post (nI (mz s (off p a b p) i e))) : wpX_multiple post (nI p, nI a, nI b, f_count, f_known, f_most, f_leastMost, aX, aY, fA, ro, sm) (nI i) x := by
  have g := cv_gp C
  have z0 : (0 : Int32).toInt = 0 := by decide
  have xt : x.toInt = e := by rw [hx]; exact ii_t (by omega) (by omega)
  have g1 : ∀ q l : Nat, q < off p a b p → l < 2 ^ 20 → post (nI (mu s l q)) → wX_multiple_29 post (nI p) (nI a) (nI b) f_count f_known f_most f_leastMost aX aY fA ro sm 21 (nI 0) (nI q) (nI l) := by
    intro q l hq hl h
    refine X_ml C h1 h2 20 0 q l (by omega) g.1 hq hl ?_
    rw [g.2.2.2.2.1 _ (mu_lt g l hq)]
    exact h
  by_cases c : 0 ≤ e
  · have cx : (0 : Int32) ≤ x := by rw [Int32.le_iff_toInt_le, z0, xt]; exact c
    have ex : x = nI e.toNat := by
      rw [hx, ii_n, Int.toNat_of_nonneg c]
    unfold mz at h
    rw [if_pos c] at h
    refine br_t cx (br_t cx ⟨21, ?_⟩)
    rw [ex]
    exact g1 i e.toNat hi (by omega) h
  · have cx : ¬ (0 : Int32) ≤ x := by rw [Int32.le_iff_toInt_le, z0, xt]; exact c
    have ex : -x = nI (-e).toNat := by
      rw [hx, ii_g, ii_n, Int.toNat_of_nonneg (by omega)]
    unfold mz at h
    rw [if_neg c] at h
    refine br_f cx (X_neg C h1 h2 hi (br_f cx (nm_r ex ⟨21, ?_⟩)))
    exact g1 _ (-e).toNat (ng_s g hi).1 (by omega) h
end
end
section
/-! Walks: the reference's sum, opposite, order and multiple. -/
section
variable {p a b : Nat} {xs ys : Nat → Int32} {s : Nat → Nat → Nat}
theorem Y_find1 {N : Nat} (hN : N ≤ 80) {x y f_p f_a f_b : Int32} {post : Int32 → Prop} {m : Nat} (hm : m < N) (hx : xs m = x) (hy : ys m = y) (h : post (nI m)) : ∀ d i : Nat, i + d = m → (∀ j, i ≤ j → j < m → ¬ (xs j = x ∧ ys j = y)) → ∀ f, d < f → wY_find_2 post x y f_p f_a f_b (nI N) xs ys f (nI i) := by
  intro d
  induction d with
  | zero =>
    intro i hi no f hf
    obtain ⟨f, rfl⟩ : ∃ f', f = f' + 1 := ⟨f - 1, by omega⟩
    have e : i = m := by omega
    subst e
    have c : (nI i).toNatClampNeg = i := nI_clamp (by omega)
    have v : vp_in (nI i) 140 := vp_in_nI (by omega) (by omega)
    exact br_f (nI_ge hm (by omega)) (And.intro v (br_t (by rw [c]; exact hx) (And.intro v (br_t (by rw [c]; exact hy) h))))
  | succ d ih =>
    intro i hi no f hf
    obtain ⟨f, rfl⟩ : ∃ f', f = f' + 1 := ⟨f - 1, by omega⟩
    have c : (nI i).toNatClampNeg = i := nI_clamp (by omega)
    have v : vp_in (nI i) 140 := vp_in_nI (by omega) (by omega)
    have nx := ih (i + 1) (by omega) (fun j h1 h2 => no j (by omega) h2) f (by omega)
    refine br_f (nI_ge (by omega) (by omega)) (And.intro v ?_)
    rw [c]
    refine br_c (fun e => And.intro v (br_f (fun e2 => no i (by omega) (by omega) ⟨e, e2⟩) (nm_r (nI_1 i) nx))) (fun _ => nm_r (nI_1 i) nx)
theorem Y_find0 {N : Nat} (hN : N ≤ 80) {x y f_p f_a f_b : Int32} {post : Int32 → Prop} (h : post (-4)) : ∀ d i : Nat, i + d = N → (∀ j, i ≤ j → j < N → ¬ (xs j = x ∧ ys j = y)) → wY_find_2 post x y f_p f_a f_b (nI N) xs ys (d + 1) (nI i) := by
  intro d
  induction d with
  | zero =>
    intro i hi no
    exact br_t (nI_le (by omega) (by omega)) h
  | succ d ih =>
    intro i hi no
    have c : (nI i).toNatClampNeg = i := nI_clamp (by omega)
    have v : vp_in (nI i) 140 := vp_in_nI (by omega) (by omega)
    have nx := ih (i + 1) (by omega) (fun j h1 h2 => no j (by omega) h2)
    refine br_f (nI_ge (by omega) (by omega)) (And.intro v ?_)
    rw [c]
    refine br_c (fun e => And.intro v (br_f (fun e2 => no i (by omega) (by omega) ⟨e, e2⟩) (nm_r (nI_1 i) nx))) (fun _ => nm_r (nI_1 i) nx)
theorem Y_num (hp : p ∈ PL) (ha : a < p) (hb : b < p) (h1 : HX p a b (off p a b p) xs ys) {m r t : Nat} (q : Pt p a b m r t) {f_a f_b : Int32} {post : Int32 → Prop} (h : post (nI m)) : wpY_find post (nI p, f_a, f_b, nI (off p a b p), xs, ys) (nI r) (nI t) := by
  have lo := pl_lo hp
  have o8 := off_80 hp ha hb
  have qn := Pt_n q
  have on := Pt_on q
  have q1 := h1 m qn.1 qn.2
  rw [(Pt_e q).1, (Pt_e q).2] at q1
  refine ⟨m + 1, Y_find1 o8 qn.2 q1.1 q1.2 h (m - 1) 1 (by omega) ?_ (m + 1) (by omega)⟩
  intro j j1 jm e
  have q2 := h1 j j1 (by omega)
  rw [q2.1, q2.2] at e
  have P := Pt_p (p := p) (a := a) (b := b) j1 (by omega)
  have o2 := Pt_on P
  have e1 := (nI_eq (by omega) (by omega)).mp e.1
  have e2 := (nI_eq (by omega) (by omega)).mp e.2
  rw [e1, e2] at P
  have := Pt_i hp P q
  omega
theorem Y_dv (hp : p ∈ PL) {f_a f_b f_count : Int32} {z w l : Nat} (hz : z < p) (hw : w < p) (hl : l < p) (ok : ((l : Int) * w - z) % (p : Int) = 0) {post : Int32 → Prop} (h : post (nI l)) : ∀ d i : Nat, i + d = l → (∀ q, i ≤ q → q < l → ¬ ((q : Int) * w - z) % (p : Int) = 0) → wY_divide_2 post (nI z) (nI w) (nI p) f_a f_b f_count xs ys (d + 1) (nI i) := by
  have lo := pl_lo hp
  have go : ∀ (f i : Nat), i < p → (((i : Int) * w - z) % (p : Int) = 0 → post (nI i)) → (¬ ((i : Int) * w - z) % (p : Int) = 0 → wY_divide_2 post (nI z) (nI w) (nI p) f_a f_b f_count xs ys f (nI (i + 1))) → wY_divide_2 post (nI z) (nI w) (nI p) f_a f_b f_count xs ys (f + 1) (nI i) := by
    intro f i hi h1 h2
    have iw : i * w ≤ 61 * 61 := bm (by omega) (by omega)
    have ml := md_lt (p := p) (by omega) ((i : Int) * w - z)
    unfold wY_divide_2
    refine Y_rest hp ((i : Int) * w - z) (by rw [ii_n, ii_n, ii_n, ii_m, ii_s]) (by rw [← Int.natCast_mul]; omega) (by rw [← Int.natCast_mul]; omega) ?_
    refine ni_eq (b := 0) (by omega) (by omega) (fun e => h1 ((md_z (by omega) _).mp e)) (fun e => nm_r (nI_1 i) (h2 (fun q => e ((md_z (by omega) _).mpr q))))
  intro d
  induction d with
  | zero =>
    intro i hi no
    have e : i = l := by omega
    subst e
    exact go 0 i hl (fun _ => h) (fun q => absurd ok q)
  | succ d ih =>
    intro i hi no
    exact go (d + 1) i (by omega) (fun q => absurd q (no i (by omega) (by omega))) (fun _ => ih (i + 1) (by omega) (fun q h1 h2 => no q (by omega) h2))
theorem Y_div (hp : p ∈ PL) {f_a f_b f_count : Int32} {ov un : Int} (n : ¬ un % (p : Int) = 0) {post : Int32 → Prop} (l : Nat) (hl : l = md p ((md p ov : Int) * (pw p (md p un) (p - 2) : Int))) (h : post (nI l)) : wpY_divide post (nI p, f_a, f_b, f_count, xs, ys) (nI (md p ov)) (nI (md p un)) := by
  have lo := pl_lo hp
  have p0 : 0 < p := by omega
  have lp : l < p := by rw [hl]; exact md_lt p0 _
  have la := lam hp (ov := ov) n
  rw [← hl] at la
  have wl := md_lt p0 un
  have zl := md_lt p0 ov
  have ok : ((l : Int) * (md p un : Int) - (md p ov : Int)) % (p : Int) = 0 := by
    rw [md_c p0, md_c p0, ← Int.emod_eq_emod_iff_emod_sub_eq_zero, Int.emod_emod_of_dvd _ (Int.dvd_refl _), ← la, Int.mul_emod l (un % (p : Int)), Int.emod_emod_of_dvd _ (Int.dvd_refl _), ← Int.mul_emod]
  refine ⟨l + 1, Y_dv hp zl wl lp ok h l 0 (by omega) ?_⟩
  intro q _ ql z
  have e1 : ((l : Int) * (md p un : Int) - (md p ov : Int) - ((q : Int) * (md p un : Int) - (md p ov : Int))) % (p : Int) = 0 := by
    rw [Int.sub_emod, ok, z]; rfl
  have e2 : (l : Int) * (md p un : Int) - (md p ov : Int) - ((q : Int) * (md p un : Int) - (md p ov : Int)) = (((l - q) * md p un : Nat) : Int) := by
    rw [Int.natCast_mul, Int.natCast_sub (by omega), Int.sub_mul]
    omega
  rw [e2, ← Int.natCast_emod] at e1
  have e3 : (l - q) * md p un % p = 0 := by omega
  rcases pl_nz hp (show l - q < p by omega) wl e3 with c | c
  · omega
  · exact n ((md_z p0 un).mp c)
theorem Y_145 (hp : p ∈ PL) (ha : a < p) (hb : b < p) (h1 : HX p a b (off p a b p) xs ys) {i j m : Nat} (i1 : 1 ≤ i) (hi : i < off p a b p) (j1 : 1 ≤ j) (hj : j < off p a b p) {ov un : Int} (n : ¬ un % (p : Int) = 0) {post : Int32 → Prop} (l r t : Nat) (hl : l = md p ((md p ov : Int) * (pw p (md p un) (p - 2) : Int))) (hr : r = md p ((l : Int) * l - px p a b i - px p a b j)) (ht : t = md p ((l : Int) * ((px p a b i : Int) - r) - py p a b i)) (q : Pt p a b m r t) (h : post (nI m)) : wY_sum_145 post (nI i) (nI j) (nI (md p ov)) (nI (md p un)) (nI p) (nI a) (nI b) (nI (off p a b p)) xs ys := by
  have lo := pl_lo hp
  have o8 := off_80 hp ha hb
  have v1 : vp_in (nI i) 140 := vp_in_nI (by omega) (by omega)
  have v2 : vp_in (nI j) 140 := vp_in_nI (by omega) (by omega)
  have q1 := h1 i i1 hi
  have q2 := h1 j j1 hj
  have c1 : (nI i).toNatClampNeg = i := nI_clamp (by omega)
  have c2 : (nI j).toNatClampNeg = j := nI_clamp (by omega)
  have o1 := Pt_on (Pt_p (p := p) (a := a) (b := b) i1 hi)
  have o2 := Pt_on (Pt_p (p := p) (a := a) (b := b) j1 hj)
  have lp : l < p := by rw [hl]; exact md_lt (by omega) _
  have rp : r < p := by rw [hr]; exact md_lt (by omega) _
  have m4 : l * l ≤ 61 * 61 := bm (by omega) (by omega)
  have m5 : l * px p a b i ≤ 61 * 61 := bm (by omega) (by omega)
  have m6 : l * r ≤ 61 * 61 := bm (by omega) (by omega)
  refine Y_div hp n l hl (And.intro v1 (And.intro v2 ?_))
  rw [c1, c2, q1.1, q2.1]
  refine Y_rest hp ((l : Int) * l - px p a b i - px p a b j) (by rw [ii_n, ii_n, ii_n, ii_m, ii_s, ii_s]) (by rw [← Int.natCast_mul]; omega) (by rw [← Int.natCast_mul]; omega) (And.intro v1 (And.intro v1 ?_))
  rw [← hr, q1.2]
  refine Y_rest hp ((l : Int) * ((px p a b i : Int) - r) - py p a b i) (by rw [ii_n, ii_n, ii_n, ii_n, ii_s, ii_m, ii_s]) (by rw [Int.mul_sub, ← Int.natCast_mul, ← Int.natCast_mul]; omega) (by rw [Int.mul_sub, ← Int.natCast_mul, ← Int.natCast_mul]; omega) ?_
  rw [← ht]
  exact Y_num hp ha hb h1 q h
theorem Y_sum (C : Cv p a b s) (h1 : HX p a b (off p a b p) xs ys) {i j : Nat} (hi : i < off p a b p) (hj : j < off p a b p) {post : Int32 → Prop} (h : post (nI (s i j))) : wpY_sum post (nI p, nI a, nI b, nI (off p a b p), xs, ys) (nI i) (nI j) := by
  have g := cv_gp C
  have hp := C.1
  have ha := C.2.1
  have hb := C.2.2.1
  have lo := pl_lo hp
  have o8 := off_80 hp ha hb
  by_cases i0 : i = 0
  · subst i0
    rw [g.2.2.2.2.1 j hj] at h
    exact br_t nI_0 h
  · refine br_f (nI_ne0 (by omega) (by omega)) ?_
    by_cases j0 : j = 0
    · subst j0
      rw [s_z g hi] at h
      exact br_t nI_0 h
    · refine br_f (nI_ne0 (by omega) (by omega)) ?_
      have i1 : 1 ≤ i := by omega
      have j1 : 1 ≤ j := by omega
      have q1 := h1 i i1 hi
      have q2 := h1 j j1 hj
      have c1 : (nI i).toNatClampNeg = i := nI_clamp (by omega)
      have c2 : (nI j).toNatClampNeg = j := nI_clamp (by omega)
      have o1 := Pt_on (Pt_p (p := p) (a := a) (b := b) i1 hi)
      have o2 := Pt_on (Pt_p (p := p) (a := a) (b := b) j1 hj)
      have v1 : vp_in (nI i) 140 := vp_in_nI (by omega) (by omega)
      have v2 : vp_in (nI j) 140 := vp_in_nI (by omega) (by omega)
      have xx : px p a b i * px p a b i ≤ 61 * 61 := bm (by omega) (by omega)
      refine And.intro v1 (And.intro v2 ?_)
      rw [c1, c2, q1.1, q2.1]
      refine ni_eq (by omega) (by omega) (fun e => ?_) (fun e => ?_)
      · refine br_f (by decide) (And.intro v1 (And.intro v2 ?_))
        rw [c1, c2, q1.2, q2.2]
        refine Y_rest hp (((py p a b i + py p a b j : Nat)) : Int) (by rw [nI_add, ii_n]) (by omega) (by omega) ?_
        rw [md_n]
        have ml : (py p a b i + py p a b j) % p < p := Nat.mod_lt _ (by omega)
        refine ni_eq (b := 0) (by omega) (by omega) (fun z => ?_) (fun z => ?_)
        · rw [cv_1 C i1 hi j1 hj e z] at h
          exact h
        · have ne := dbl_ne hp o1.2.1 o2.2.1 (o1.2.2.trans (by rw [o2.2.2, e])) z
          refine br_f (by decide) (And.intro v1 (And.intro v1 ?_))
          rw [c1, q1.1]
          refine Y_rest hp (3 * (px p a b i : Int) * px p a b i + a) (by rw [ii_3, ii_n, ii_n, ii_m, ii_m, ii_a]) (by rw [Int.mul_assoc, ← Int.natCast_mul]; omega) (by rw [Int.mul_assoc, ← Int.natCast_mul]; omega) ?_
          refine br_f (by decide) (And.intro v1 ?_)
          rw [c1, q1.2]
          refine Y_rest hp (2 * (py p a b i : Int)) (by rw [ii_2, ii_n, ii_m]) (by omega) (by omega) ?_
          exact Y_145 hp ha hb h1 i1 hi j1 hj ne _ _ _ rfl rfl rfl (cv_2 C i1 hi j1 hj (fun q => z q.2) _ (fun q => absurd e q) (fun _ => lam hp ne) _ _ rfl rfl) h
      · have ne : ¬ ((px p a b j : Int) - px p a b i) % (p : Int) = 0 := un_ne (by omega) (by omega) (by omega) (by omega)
        refine br_t rfl (br_t rfl (And.intro v2 (And.intro v1 ?_)))
        rw [c1, c2, q1.2, q2.2]
        refine Y_rest hp ((py p a b j : Int) - py p a b i) (by rw [ii_n, ii_n, ii_s]) (by omega) (by omega) ?_
        refine br_t rfl (And.intro v2 (And.intro v1 ?_))
        rw [c1, c2, q1.1, q2.1]
        refine Y_rest hp ((px p a b j : Int) - px p a b i) (by rw [ii_n, ii_n, ii_s]) (by omega) (by omega) ?_
        exact Y_145 hp ha hb h1 i1 hi j1 hj ne _ _ _ rfl rfl rfl (cv_2 C i1 hi j1 hj (fun q => e q.1) _ (fun _ => lam hp ne) (fun q => absurd q e) _ _ rfl rfl) h
/-- the opposite -/
theorem Y_opp (C : Cv p a b s) (h1 : HX p a b (off p a b p) xs ys) {i : Nat} (hi : i < off p a b p) {post : Int32 → Prop} (h : post (nI (ng s (off p a b p) i))) : wpY_opposite post (nI p, nI a, nI b, nI (off p a b p), xs, ys) (nI i) := by
  have g := cv_gp C
  have o8 := off_80 C.1 C.2.1 C.2.2.1
  obtain ⟨n1, n2⟩ := ng_s g hi
  have go : ∀ d j : Nat, j + d = ng s (off p a b p) i → wY_opposite_2 post (nI i) (nI p) (nI a) (nI b) (nI (off p a b p)) xs ys (d + 1) (nI j) := by
    intro d
    induction d with
    | zero =>
      intro j hj
      have e : j = ng s (off p a b p) i := by omega
      unfold wY_opposite_2
      refine Y_sum C h1 hi (by omega) ?_
      rw [e, n2]
      exact br_t nI_0 h
    | succ d ih =>
      intro j hj
      have jn : j < off p a b p := by omega
      unfold wY_opposite_2
      refine Y_sum C h1 hi jn ?_
      have sl := g.2.1 i j hi jn
      refine br_f (nI_ne0 ?_ (by omega)) (nm_r (nI_1 j) (ih (j + 1) (by omega)))
      rcases Nat.eq_zero_or_pos (s i j) with z | z
      · have := ng_u g hi jn z
        omega
      · exact z
  exact ⟨_, go (ng s (off p a b p) i) 0 (by omega)⟩
/-- the order -/
theorem Y_ord (C : Cv p a b s) (h1 : HX p a b (off p a b p) xs ys) {i : Nat} (hi : i < off p a b p) {post : Int32 → Prop} (h : post (nI (od s i))) : wpY_orderOf post (nI p, nI a, nI b, nI (off p a b p), xs, ys) (nI i) := by
  have g := cv_gp C
  have o8 := off_80 C.1 C.2.1 C.2.2.1
  obtain ⟨d1, d2, d3⟩ := od_s g hi
  have go : ∀ d e : Nat, e + d = od s i → 1 ≤ e → wY_orderOf_4 post (nI i) (nI p) (nI a) (nI b) (nI (off p a b p)) xs ys (d + 1) (nI e) (nI (mu s e i)) := by
    intro d
    induction d with
    | zero =>
      intro e he e1
      have e2 : e = od s i := by omega
      rw [e2, (d3 (od s i)).mpr (Nat.dvd_refl _)]
      exact br_t nI_0 h
    | succ d ih =>
      intro e he e1
      have ml := mu_lt g e hi
      have nz : mu s e i ≠ 0 := by
        intro z
        have := Nat.le_of_dvd (by omega) ((d3 e).mp z)
        omega
      refine br_f (nI_ne0 (by omega) (by omega)) (Y_sum C h1 ml hi (nm_r (nI_1 e) ?_))
      exact ih (e + 1) (by omega) (by omega)
  refine ⟨od s i - 1 + 1, ?_⟩
  have := go (od s i - 1) 1 (by omega) (by omega)
  rw [mu_1 g hi] at this
  exact this
/-- left-hand of the multiple -/
theorem Y_ml (C : Cv p a b s) (h1 : HX p a b (off p a b p) xs ys) {i L : Nat} (hi : i < off p a b p) (hL : L ≤ 80) {post : Int32 → Prop} (h : post (nI (mu s L i))) : ∀ d k : Nat, k + d = L → wY_multiple_21 post (nI i) (nI L) (nI p) (nI a) (nI b) (nI (off p a b p)) xs ys (d + 1) (nI (mu s k i)) (nI k) := by
  have g := cv_gp C
  intro d
  induction d with
  | zero =>
    intro k hk
    have e : k = L := by omega
    subst e
    exact br_t (nI_le (by omega) (by omega)) h
  | succ d ih =>
    intro k hk
    refine br_f (nI_ge (by omega) (by omega)) (Y_sum C h1 (mu_lt g k hi) hi (nm_r (nI_1 k) ?_))
    exact ih (k + 1) (by omega)
theorem mu_md {n : Nat} (g : gp n s) {i : Nat} (hi : i < n) (e : Nat) : mu s (e % od s i) i = mu s e i := by
  have d3 := (od_s g hi).2.2
  have z : mu s (od s i * (e / od s i)) i = 0 := (d3 _).mpr ⟨_, rfl⟩
  have q : mu s e i = mu s (od s i * (e / od s i) + e % od s i) i := by rw [Nat.div_add_mod]
  rw [q, mu_a g _ _ hi, z, g.2.2.2.2.1 _ (mu_lt g _ hi)]
theorem mz_md {n : Nat} (g : gp n s) {i : Nat} (hi : i < n) (e : Int) : mu s (md (od s i) e) i = mz s n i e := by
  obtain ⟨d1, d2, d3⟩ := od_s g hi
  unfold mz
  by_cases c : 0 ≤ e
  · rw [if_pos c]
    have e1 : e = (e.toNat : Int) := (Int.toNat_of_nonneg c).symm
    have e2 : md (od s i) e = e.toNat % od s i := by
      rw [← md_n, ← e1]
    rw [e2, mu_md g hi]
  · rw [if_neg c]
    obtain ⟨n1, n2⟩ := ng_s g hi
    refine s_can g (mu_lt g _ hi) (mu_lt g _ n1) (mu_lt g (-e).toNat hi) ?_
    have q1 : s (mu s (-e).toNat (ng s n i)) (mu s (-e).toNat i) = 0 := by
      rw [← mu_d g _ n1 hi, g.2.2.1 _ _ n1 hi, n2, mu_z g]
    rw [q1, ← mu_a g _ _ hi, d3]
    have c1 := md_c d1 e
    have : ((od s i : Nat) : Int) ∣ ((md (od s i) e + (-e).toNat : Nat) : Int) := by
      rw [Int.natCast_add, c1, Int.toNat_of_nonneg (by omega)]
      have := Int.mul_ediv_add_emod e (od s i)
      exact ⟨-(e / (od s i : Int)), by rw [Int.mul_neg]; omega⟩
    exact Int.natCast_dvd_natCast.mp this
theorem Y_mult (C : Cv p a b s) (h1 : HX p a b (off p a b p) xs ys) {i : Nat} (hi : i < off p a b p) {x : Int32} (e : Int) (hx : x = iI e) (e1 : -1000000 ≤ e) (e2 : e ≤ 1000000) {post : Int32 → Prop} (h : post (nI (mz s (off p a b p) i e))) : wpY_multiple post (nI p, nI a, nI b, nI (off p a b p), xs, ys) (nI i) x := by
  have g := cv_gp C
  have o8 := off_80 C.1 C.2.1 C.2.2.1
  obtain ⟨d1, d2, d3⟩ := od_s g hi
  have xt : x.toInt = e := by rw [hx]; exact ii_t (by omega) (by omega)
  have nz : ¬ nI (od s i) = 0 := nI_ne0 d1 (by omega)
  refine Y_ord C h1 hi (And.intro nz (And.intro nz (nm_r (md_Y d1 (by omega) x) ?_)))
  rw [xt]
  have ml := md_lt d1 e
  refine ⟨md (od s i) e + 1, ?_⟩
  have := Y_ml C h1 (L := md (od s i) e) hi (by omega) (post := post) (by rw [mz_md g hi]; exact h) (md (od s i) e) 0 (by omega)
  exact this
end
end
section
/-! Walks: the class's order, greatest order, torsion. -/
/-- what the search for the order keeps -/
def Io (o n q e left : Nat) : Prop := ∃ f, e = o * f ∧ f ∣ left ∧ 1 ≤ left ∧ left ≤ n ∧ 1 ≤ e ∧ e ≤ n ∧ ∀ t, 2 ≤ t → t < q → ¬ t ∣ left
theorem io_div {o n q e l : Nat} (q2 : 2 ≤ q) (h : Io o n q e (q * l)) (c : q ∣ e) (z : o ∣ e / q) : Io o n q (e / q) l := by
  obtain ⟨f, h1, h2, h3, h4, h5, h6, h7⟩ := h
  obtain ⟨w, hw⟩ := c
  have e1 : e / q = w := by rw [hw, Nat.mul_div_cancel_left _ (by omega)]
  rw [e1] at z ⊢
  obtain ⟨f', hf⟩ := z
  have w0 : 1 ≤ w := by
    rcases Nat.eq_zero_or_pos w with k | k
    · rw [k] at hw; omega
    · exact k
  have l0 : 1 ≤ l := by
    rcases Nat.eq_zero_or_pos l with k | k
    · rw [k] at h3; omega
    · exact k
  have wle : w ≤ q * w := Nat.le_mul_of_pos_left w (by omega)
  have lle : l ≤ q * l := Nat.le_mul_of_pos_left l (by omega)
  have o0 : 0 < o := by
    rcases Nat.eq_zero_or_pos o with k | k
    · rw [k, Nat.zero_mul] at h1; omega
    · exact k
  have ff : f = q * f' := by
    have : o * f = o * (q * f') := by rw [← h1, hw, hf, Nat.mul_left_comm]
    exact Nat.eq_of_mul_eq_mul_left o0 this
  refine ⟨f', hf, ?_, l0, by omega, w0, by omega, fun t t1 t2 t3 => h7 t t1 t2 (Nat.dvd_trans t3 ⟨q, Nat.mul_comm q l⟩)⟩
  rw [ff] at h2
  exact Nat.dvd_of_mul_dvd_mul_left (by omega) h2
theorem io_keep {o n q e l : Nat} (q2 : 2 ≤ q) (h : Io o n q e (q * l)) (c : ¬ (q ∣ e ∧ o ∣ e / q)) : Io o n q e l := by
  obtain ⟨f, h1, h2, h3, h4, h5, h6, h7⟩ := h
  have l0 : 1 ≤ l := by
    rcases Nat.eq_zero_or_pos l with k | k
    · rw [k] at h3; omega
    · exact k
  have lle : l ≤ q * l := Nat.le_mul_of_pos_left l (by omega)
  have nf : ¬ q ∣ f := by
    intro ⟨w, hw⟩
    apply c
    have e1 : e = q * (o * w) := by rw [h1, hw, Nat.mul_left_comm]
    refine ⟨⟨_, e1⟩, ?_⟩
    rw [e1, Nat.mul_div_cancel_left _ (by omega)]
    exact ⟨w, rfl⟩
  have cop : Nat.Coprime f q := by
    have g1 := Nat.gcd_dvd_right f q
    have g0 : 0 < Nat.gcd f q := Nat.gcd_pos_of_pos_right f (by omega)
    have gq : Nat.gcd f q ≤ q := Nat.le_of_dvd (by omega) g1
    rcases Nat.lt_or_ge (Nat.gcd f q) 2 with k | k
    · show Nat.gcd f q = 1
      omega
    · rcases Nat.lt_or_ge (Nat.gcd f q) q with k2 | k2
      · exact absurd (Nat.dvd_trans g1 ⟨l, rfl⟩) (h7 _ k k2)
      · have : Nat.gcd f q = q := by omega
        exact absurd (this ▸ Nat.gcd_dvd_left f q) nf
  exact ⟨f, h1, cop.dvd_of_dvd_mul_left h2, l0, by omega, h5, h6, fun t t1 t2 t3 => h7 t t1 t2 (Nat.dvd_trans t3 ⟨q, Nat.mul_comm q l⟩)⟩
theorem io_next {o n q e l : Nat} (h : Io o n q e l) (c : ¬ q ∣ l) : Io o n (q + 1) e l := by
  obtain ⟨f, h1, h2, h3, h4, h5, h6, h7⟩ := h
  refine ⟨f, h1, h2, h3, h4, h5, h6, fun t t1 t2 t3 => ?_⟩
  rcases Nat.lt_or_ge t q with k | k
  · exact h7 t t1 k t3
  · have : t = q := by omega
    exact c (this ▸ t3)
theorem io_end {o n q e l : Nat} (h : Io o n q e l) (c : n < q) : e = o := by
  obtain ⟨f, h1, h2, h3, h4, h5, h6, h7⟩ := h
  have l1 : l = 1 := by
    rcases Nat.lt_or_ge l 2 with k | k
    · omega
    · exact absurd (Nat.dvd_refl l) (h7 l k (by omega))
  rw [l1] at h2
  rw [h1, Nat.dvd_one.mp h2, Nat.mul_one]
theorem cv_od {p a b : Nat} {s : Nat → Nat → Nat} (C : Cv p a b s) {i : Nat} (hi : i < off p a b p) : od s i ∣ off p a b p := by
  obtain ⟨E, -, h2, h3, -⟩ := cv_main C
  exact Nat.dvd_trans (h2 i hi) h3
/-- the greatest order among the first -/
noncomputable def mxf (s : Nat → Nat → Nat) : Nat → Nat
  | 0 => 0
  | i + 1 => if od s i ≤ mxf s i then mxf s i else od s i
noncomputable def gnf (s : Nat → Nat → Nat) : Nat → Nat
  | 0 => 0
  | i + 1 => if od s i ≤ mxf s i then gnf s i else i
theorem mxf_ge (s : Nat → Nat → Nat) : ∀ n i, i < n → od s i ≤ mxf s n := by
  intro n
  induction n with
  | zero => intro i h; omega
  | succ n ih =>
    intro i h
    show od s i ≤ if od s n ≤ mxf s n then mxf s n else od s n
    rcases Nat.lt_or_ge i n with c | c
    · have := ih i c
      split <;> omega
    · have : i = n := by omega
      subst this
      split <;> omega
theorem mxf_le {s : Nat → Nat → Nat} {B : Nat} : ∀ n, (∀ i, i < n → od s i ≤ B) → mxf s n ≤ B := by
  intro n
  induction n with
  | zero => intro _; exact Nat.zero_le _
  | succ n ih =>
    intro h
    show (if od s n ≤ mxf s n then mxf s n else od s n) ≤ B
    have h1 := ih (fun i hi => h i (by omega))
    have h2 := h n (by omega)
    split <;> omega
theorem gnf_s (s : Nat → Nat → Nat) (h0 : 0 < od s 0) : ∀ n, gnf s (n + 1) < n + 1 ∧ od s (gnf s (n + 1)) = mxf s (n + 1) ∧ ∀ j, j < gnf s (n + 1) → od s j < mxf s (n + 1) := by
  intro n
  induction n with
  | zero =>
    have e1 : gnf s 1 = if od s 0 ≤ 0 then 0 else 0 := rfl
    have e2 : mxf s 1 = if od s 0 ≤ 0 then 0 else od s 0 := rfl
    have z : ¬ od s 0 ≤ 0 := by omega
    rw [if_neg z] at e1 e2
    rw [e1, e2]
    exact ⟨by omega, rfl, fun j hj => by omega⟩
  | succ n ih =>
    have e1 : gnf s (n + 1 + 1) = if od s (n + 1) ≤ mxf s (n + 1) then gnf s (n + 1) else n + 1 := rfl
    have e2 : mxf s (n + 1 + 1) = if od s (n + 1) ≤ mxf s (n + 1) then mxf s (n + 1) else od s (n + 1) := rfl
    by_cases c : od s (n + 1) ≤ mxf s (n + 1)
    · rw [if_pos c] at e1 e2
      rw [e1, e2]
      exact ⟨by omega, ih.2.1, ih.2.2⟩
    · rw [if_neg c] at e1 e2
      rw [e1, e2]
      refine ⟨by omega, rfl, fun j hj => ?_⟩
      have := mxf_ge s (n + 1) j hj
      omega
theorem mxf_E {p a b : Nat} {s : Nat → Nat → Nat} (C : Cv p a b s) : 0 < mxf s (off p a b p) ∧ mxf s (off p a b p) ∣ off p a b p ∧ ∀ m, cn (fun i => m % od s i == 0) (off p a b p) = Nat.gcd m (off p a b p / mxf s (off p a b p)) * Nat.gcd m (mxf s (off p a b p)) := by
  obtain ⟨E, ⟨i, hi, e⟩, h2, h3, h4⟩ := cv_main C
  have g := cv_gp C
  have E0 : 0 < E := by rw [← e]; exact (od_s g hi).1
  have m : mxf s (off p a b p) = E := by
    apply Nat.le_antisymm
    · exact mxf_le _ (fun j hj => Nat.le_of_dvd E0 (h2 j hj))
    · rw [← e]; exact mxf_ge s _ i hi
  rw [m]
  exact ⟨E0, h3, h4⟩
/-- what is kept of the group once it is known -/
def Kn (s : Nat → Nat → Nat) (n : Nat) (kn mo lm : Int32) : Prop := kn = 0 ∨ (kn = 1 ∧ mo = nI (mxf s n) ∧ lm = nI (gnf s n))
section
variable {p a b : Nat} {f_known f_most f_leastMost : Int32} {aX aY fA ro sm : Nat → Int32} {s : Nat → Nat → Nat}
theorem mz_n (s : Nat → Nat → Nat) (n i e : Nat) : mz s n i (e : Int) = mu s e i := by
  unfold mz
  rw [if_pos (by omega)]
  rfl
theorem X_o22 (C : Cv p a b s) (h1 : HX p a b (off p a b p) aX aY) (h2 : HF p a b p fA) {i q : Nat} (hi : i < off p a b p) (q2 : 2 ≤ q) (q8 : q ≤ 80) {post : Int32 → Prop} {J : Int32 → Int32 → Int32 → Prop} (H : ∀ e l, Io (od s i) (off p a b p) (q + 1) e l → J (nI e) (nI l) (nI (q + 1))) : ∀ d e l : Nat, l ≤ d → Io (od s i) (off p a b p) q e l → wX_orderOf_22 post J (nI i) (nI q) (nI p) (nI a) (nI b) (nI (off p a b p)) f_known f_most f_leastMost aX aY fA ro sm (d + 1) (nI e) (nI l) := by
  have g := cv_gp C
  have o8 := off_80 C.1 C.2.1 C.2.2.1
  have d3 := (od_s g hi).2.2
  have q0 : ¬ nI q = 0 := nI_ne0 (by omega) (by omega)
  intro d
  induction d with
  | zero =>
    intro e l hl h
    obtain ⟨f, -, -, l1, -⟩ := h
    omega
  | succ d ih =>
    intro e l hl h
    have hh := h
    obtain ⟨f, -, -, l1, ln, e1, en, -⟩ := hh
    refine And.intro q0 ?_
    rw [pk_rem (by omega) (by omega) (by omega)]
    have ml : l % q < q := Nat.mod_lt _ (by omega)
    refine ni_eq (b := 0) (by omega) (by omega) (fun z => ?_) (fun z => ?_)
    · obtain ⟨l', hl'⟩ := Nat.dvd_of_mod_eq_zero z
      have ed : nI l / nI q = nI l' := by
        rw [pk_div (by omega) (by omega) (by omega), hl', Nat.mul_div_cancel_left _ (by omega)]
      have ll : l' ≤ d := by
        rcases Nat.eq_zero_or_pos l' with k | k
        · omega
        · have : 2 * l' ≤ q * l' := Nat.mul_le_mul_right l' q2
          omega
      rw [hl'] at h
      refine And.intro q0 (nm_r ed (And.intro q0 ?_))
      rw [pk_rem (by omega) (by omega) (by omega)]
      have me : e % q < q := Nat.mod_lt _ (by omega)
      have eq : nI e / nI q = nI (e / q) := pk_div (by omega) (by omega) (by omega)
      have edl : e / q ≤ e := Nat.div_le_self _ _
      refine ni_eq (b := 0) (by omega) (by omega) (fun w => ?_) (fun w => ?_)
      · refine And.intro q0 ?_
        rw [eq]
        have mul := mu_lt g (e / q) hi
        refine X_mult C h1 h2 hi ((e / q : Nat) : Int) (ii_n _) (by have := Int.natCast_nonneg (e / q); omega) (by omega) ?_
        rw [mz_n]
        refine ni_eq (b := 0) (by omega) (by omega) (fun y => ?_) (fun y => ?_)
        · exact And.intro q0 (nm_e (ih _ _ ll (io_div q2 h (Nat.dvd_of_mod_eq_zero w) ((d3 _).mp y))))
        · exact ih _ _ ll (io_keep q2 h (fun k => y ((d3 _).mpr k.2)))
      · exact ih _ _ ll (io_keep q2 h (fun k => w (Nat.mod_eq_zero_of_dvd k.1)))
    · exact nm_r (nI_1 q) (H e l (io_next h (fun k => z (Nat.mod_eq_zero_of_dvd k))))
theorem X_ord (C : Cv p a b s) (h1 : HX p a b (off p a b p) aX aY) (h2 : HF p a b p fA) {i : Nat} (hi : i < off p a b p) {post : Int32 → Prop} (h : post (nI (od s i))) : wpX_orderOf post (nI p, nI a, nI b, nI (off p a b p), f_known, f_most, f_leastMost, aX, aY, fA, ro, sm) (nI i) := by
  have g := cv_gp C
  have o8 := off_80 C.1 C.2.1 C.2.2.1
  have n1 := off_pos p a b p
  have go : ∀ d q e l : Nat, q + d = off p a b p + 1 → 2 ≤ q → Io (od s i) (off p a b p) q e l → wX_orderOf_13 post (nI i) (nI p) (nI a) (nI b) (nI (off p a b p)) f_known f_most f_leastMost aX aY fA ro sm (d + 1) (nI e) (nI l) (nI q) := by
    intro d
    induction d with
    | zero =>
      intro q e l hq q2 io
      refine br_t (nI_lt (by omega) (by omega)) ?_
      rw [io_end io (by omega)]
      exact h
    | succ d ih =>
      intro q e l hq q2 io
      exact br_f (nI_nlt (by omega) (by omega)) ⟨l + 1, X_o22 C h1 h2 hi q2 (by omega) (fun e' l' io' => ih (q + 1) e' l' (by omega) (by omega) io') l e l (Nat.le_refl l) io⟩
  obtain ⟨f, hf⟩ := cv_od C hi
  have io : Io (od s i) (off p a b p) 2 (off p a b p) (off p a b p) := ⟨f, hf, ⟨od s i, by rw [Nat.mul_comm]; exact hf⟩, n1, Nat.le_refl _, n1, Nat.le_refl _, fun t t1 t2 => by omega⟩
  rcases Nat.lt_or_ge (off p a b p) 2 with c | c
  · refine ⟨1, br_t (nI_lt (a := off p a b p) (b := 2) (by omega) (by omega)) ?_⟩
    have e := io_end io (by omega)
    rw [← e] at h
    exact h
  · exact ⟨_, go (off p a b p - 1) 2 _ _ (by omega) (by omega) io⟩
theorem X_fg (C : Cv p a b s) (h1 : HX p a b (off p a b p) aX aY) (h2 : HF p a b p fA) (k : Kn s (off p a b p) f_known f_most f_leastMost) {post : SX → Prop} (h : post (nI p, nI a, nI b, nI (off p a b p), 1, nI (mxf s (off p a b p)), nI (gnf s (off p a b p)), aX, aY, fA, ro, sm)) : wpX_findGroup post (nI p, nI a, nI b, nI (off p a b p), f_known, f_most, f_leastMost, aX, aY, fA, ro, sm) := by
  have g := cv_gp C
  have o8 := off_80 C.1 C.2.1 C.2.2.1
  have n1 := off_pos p a b p
  have ob : ∀ i, i < off p a b p → od s i ≤ 80 := fun i hi => by have := (od_s g hi).2.1; omega
  have o0 := (od_s g g.1).1
  rcases k with k | ⟨k1, k2, k3⟩
  · refine br_t k ?_
    have go : ∀ d i (lm : Int32), i + d = off p a b p → (i = 0 ∨ lm = nI (gnf s i)) → wX_findGroup_20 post (nI p) (nI a) (nI b) (nI (off p a b p)) 1 aX aY fA ro sm (d + 1) (nI i) (nI (mxf s i)) lm := by
      intro d
      induction d with
      | zero =>
        intro i lm hi hl
        have e : i = off p a b p := by omega
        subst e
        rcases hl with hl | hl
        · omega
        · subst hl
          exact br_t (nI_le (by omega) (by omega)) h
      | succ d ih =>
        intro i lm hi hl
        have hi' : i < off p a b p := by omega
        have om := ob i hi'
        have mm : mxf s i ≤ 80 := mxf_le i (fun j hj => ob j (by omega))
        refine br_f (nI_ge (by omega) (by omega)) (X_ord C h1 h2 hi' ?_)
        have em : mxf s (i + 1) = if od s i ≤ mxf s i then mxf s i else od s i := rfl
        have eg : gnf s (i + 1) = if od s i ≤ mxf s i then gnf s i else i := rfl
        refine ni_le (by omega) (by omega) (fun c => ?_) (fun c => ?_)
        · rw [if_pos c] at em eg
          refine br_t (nI_le c (by omega)) (nm_r (nI_1 i) ?_)
          have := ih (i + 1) lm (by omega) (Or.inr (by
            rcases hl with hl | hl
            · subst hl
              have c : od s 0 ≤ 0 := c
              omega
            · rw [eg]; exact hl))
          rw [em] at this
          exact this
        · have c' : ¬ od s i ≤ mxf s i := by omega
          rw [if_neg c'] at em eg
          refine br_f (nI_ge c (by omega)) (nm_r (nI_1 i) ?_)
          have := ih (i + 1) (nI i) (by omega) (Or.inr (by rw [eg]))
          rw [em] at this
          exact this
    exact ⟨_, go (off p a b p) 0 f_leastMost (by omega) (Or.inl rfl)⟩
  · subst k1
    subst k2
    subst k3
    exact br_f (by decide) h
theorem X_gcd {f_p f_a f_b f_count : Int32} {post : Int32 → Prop} : ∀ d x y : Nat, y ≤ d → x < 2000 → y < 2000 → post (nI (Nat.gcd x y)) → wX_greatest_5 post f_p f_a f_b f_count f_known f_most f_leastMost aX aY fA ro sm (d + 1) (nI x) (nI y) := by
  intro d
  induction d with
  | zero =>
    intro x y hy hx hy2 h
    have z : y = 0 := by omega
    subst z
    rw [Nat.gcd_zero_right] at h
    exact br_t (by rw [nI_0]; decide) h
  | succ d ih =>
    intro x y hy hx hy2 h
    rcases Nat.eq_zero_or_pos y with z | z
    · subst z
      rw [Nat.gcd_zero_right] at h
      exact br_t (by rw [nI_0]; decide) h
    · have ml : x % y < y := Nat.mod_lt _ z
      refine br_f (nI_nle z (by omega)) (And.intro (nI_ne0 z (by omega)) (nm_r (pk_rem (by omega) z (by omega)) (ih y (x % y) (by omega) (by omega) (by omega) ?_)))
      rw [Nat.gcd_comm x y, Nat.gcd_rec, Nat.gcd_comm] at h
      exact h
/-- how many points m takes to zero -/
noncomputable def tor (s : Nat → Nat → Nat) (n m : Nat) : Nat := cn (fun i => m % od s i == 0) n
theorem X_tors (C : Cv p a b s) (h1 : HX p a b (off p a b p) aX aY) (h2 : HF p a b p fA) (k : Kn s (off p a b p) f_known f_most f_leastMost) {m : Nat} (hm : m ≤ 1000) {post : Int32 → SX → Prop} (h : post (nI (tor s (off p a b p) m)) (nI p, nI a, nI b, nI (off p a b p), 1, nI (mxf s (off p a b p)), nI (gnf s (off p a b p)), aX, aY, fA, ro, sm)) : wpX_torsionOf post (nI p, nI a, nI b, nI (off p a b p), f_known, f_most, f_leastMost, aX, aY, fA, ro, sm) (nI m) := by
  have g := cv_gp C
  have o8 := off_80 C.1 C.2.1 C.2.2.1
  have n1 := off_pos p a b p
  obtain ⟨m0, m1, m2⟩ := mxf_E C
  have ml : mxf s (off p a b p) ≤ off p a b p := Nat.le_of_dvd n1 m1
  refine X_fg C h1 h2 k ?_
  refine br_f (nI_nle m0 (by omega)) (And.intro (nI_ne0 m0 (by omega)) ?_)
  rw [pk_div (by omega) m0 (by omega)]
  have dl : off p a b p / mxf s (off p a b p) ≤ off p a b p := Nat.div_le_self _ _
  refine ⟨off p a b p / mxf s (off p a b p) + 1, X_gcd _ m _ (Nat.le_refl _) (by omega) (by omega) ?_⟩
  refine ⟨mxf s (off p a b p) + 1, X_gcd _ m _ (Nat.le_refl _) (by omega) (by omega) ?_⟩
  rw [pk_mul, ← m2 m]
  exact h
end
end
section
/-! The marks 1, -1, 0 and their sums over divisors, up to 1000 by computation. -/
def mkf : Nat → Nat → Int → Nat → Int
  | 0, _, g, _ => g
  | f + 1, l, g, q => if l < q then g else if l % q = 0 then (if l / q % q = 0 then mkf f (l / q) 0 (q + 1) else mkf f (l / q) (-g) (q + 1)) else mkf f l g (q + 1)
/-- the mark of m -/
def mk (m : Nat) : Int := mkf m m 1 2
def mtb : Nat := 158556641934468112186360801471839384995034991953048284396858823217147818225229709157611255422019141187645351397176914456733426055533846189272428019269557399777563440148961772084578656202182507466296269041599510233956819413351947608376181729298243839526489895112613746635819867238611788262069451540318273082848180007643147050483263052272290664544987437222371020722773631870386970658168752939617700706401585690642080082275579908616649765535733860735004444076795250897708576017108251831786054913899169923471930219824391404029089390331623672718093838573641625548981951685286821112938450452031041395453403402
def mt (q : Nat) : Nat := Nat.mod (Nat.shiftRight mtb (Nat.mul 2 q)) 4
theorem mt_ok : ar (fun q => decide (mk q = (mt q : Int) - 1)) 1001 = true := by decide +kernel
def msr (k : Nat) (n : Nat) : Nat := Nat.rec (motive := fun _ => Nat) 1000 (fun q ih => cond (Nat.beq (Nat.mod k (Nat.succ q)) 0) (Nat.sub (Nat.add ih (mt (Nat.succ q))) 1) ih) n
theorem ms_ok : ar (fun k => Nat.blt k 2 || Nat.beq (msr k k) 1000) 1001 = true := by decide +kernel
end
section
/-! Sums over divisors with marks count the points of one order. -/
def zs (f : Nat → Int) : Nat → Int
  | 0 => 0
  | n + 1 => zs f n + f n
theorem zs_c {f g : Nat → Int} {n : Nat} (h : ∀ i, i < n → f i = g i) : zs f n = zs g n := by
  induction n with
  | zero => rfl
  | succ n ih =>
    show zs f n + f n = zs g n + g n
    rw [ih (fun i hi => h i (by omega)), h n (by omega)]
theorem zs_0 {f : Nat → Int} {n : Nat} (h : ∀ i, i < n → f i = 0) : zs f n = 0 := by
  induction n with
  | zero => rfl
  | succ n ih =>
    show zs f n + f n = 0
    rw [ih (fun i hi => h i (by omega)), h n (by omega)]
    rfl
theorem zs_a (f g : Nat → Int) (n : Nat) : zs (fun i => f i + g i) n = zs f n + zs g n := by
  induction n with
  | zero => rfl
  | succ n ih =>
    show zs (fun i => f i + g i) n + (f n + g n) = zs f n + f n + (zs g n + g n)
    rw [ih]
    omega
theorem zs_m (f : Nat → Int) (c : Int) (n : Nat) : zs (fun i => c * f i) n = c * zs f n := by
  induction n with
  | zero => exact (Int.mul_zero c).symm
  | succ n ih =>
    show zs (fun i => c * f i) n + c * f n = c * (zs f n + f n)
    rw [ih, Int.mul_add]
theorem zs_swap (F : Nat → Nat → Int) (n : Nat) : ∀ m, zs (fun q => zs (fun i => F q i) n) m = zs (fun i => zs (fun q => F q i) m) n := by
  intro m
  induction m with
  | zero => exact (zs_0 (fun i _ => rfl)).symm
  | succ m ih =>
    show zs (fun q => zs (fun i => F q i) n) m + zs (fun i => F m i) n = zs (fun i => zs (fun q => F q i) m + F m i) n
    rw [ih, zs_a]
theorem zs_cn (f : Nat → Bool) (n : Nat) : ((cn f n : Nat) : Int) = zs (fun i => if f i = true then 1 else 0) n := by
  induction n with
  | zero => rfl
  | succ n ih =>
    show ((cn f n + (if f n = true then 1 else 0) : Nat) : Int) = zs (fun i => if f i = true then 1 else 0) n + (if f n = true then 1 else 0)
    rw [Int.natCast_add, ih]
    by_cases c : f n = true
    · rw [if_pos c, if_pos c]; rfl
    · rw [if_neg c, if_neg c]; rfl
theorem zs_ext {f : Nat → Int} {a b : Nat} (h : a ≤ b) (z : ∀ i, a ≤ i → i < b → f i = 0) : zs f b = zs f a := by
  induction b with
  | zero => have : a = 0 := by omega
            rw [this]
  | succ b ih =>
    rcases Nat.lt_or_ge b a with c | c
    · have : a = b + 1 := by omega
      rw [this]
    · show zs f b + f b = zs f a
      rw [ih c (fun i h1 h2 => z i h1 (by omega)), z b c (by omega)]
      omega
/-- the marks of the divisors of k sum up to 0, but for k = 1 -/
theorem msr_z {k : Nat} (hk : k ≤ 1000) : ∀ n, n ≤ k → ((msr k n : Nat) : Int) = 1000 + zs (fun q => if k % (q + 1) = 0 then mk (q + 1) else 0) n ∧ 1000 ≤ msr k n + n := by
  intro n
  induction n with
  | zero => intro _; exact ⟨rfl, by show 1000 ≤ 1000 + 0; omega⟩
  | succ n ih =>
    intro hn
    obtain ⟨i1, i2⟩ := ih (by omega)
    have e : msr k (n + 1) = cond (Nat.beq (Nat.mod k (n + 1)) 0) (msr k n + mt (n + 1) - 1) (msr k n) := rfl
    have t := of_decide_eq_true (ar_s mt_ok (show n + 1 < 1001 by omega))
    show ((msr k (n + 1) : Nat) : Int) = 1000 + (zs (fun q => if k % (q + 1) = 0 then mk (q + 1) else 0) n + (if k % (n + 1) = 0 then mk (n + 1) else 0)) ∧ 1000 ≤ msr k (n + 1) + (n + 1)
    by_cases c : k % (n + 1) = 0
    · have b : Nat.beq (Nat.mod k (n + 1)) 0 = true := by
        show Nat.beq (k % (n + 1)) 0 = true
        rw [c]
        rfl
      rw [b] at e
      have e : msr k (n + 1) = msr k n + mt (n + 1) - 1 := e
      rw [if_pos c, t, e]
      omega
    · have b : Nat.beq (Nat.mod k (n + 1)) 0 = false := by
        cases q : Nat.beq (Nat.mod k (n + 1)) 0 with
        | false => rfl
        | true => exact absurd (Nat.eq_of_beq_eq_true q) c
      rw [b] at e
      have e : msr k (n + 1) = msr k n := e
      rw [if_neg c, e]
      omega
theorem mk_sum {k : Nat} (h1 : 1 ≤ k) (hk : k ≤ 1000) : zs (fun q => if k % (q + 1) = 0 then mk (q + 1) else 0) k = if k = 1 then 1 else 0 := by
  by_cases c : k = 1
  · subst c
    rw [if_pos rfl]
    rfl
  · rw [if_neg c]
    have o := ar_s ms_ok (show k < 1001 by omega)
    rw [Bool.or_eq_true] at o
    rcases o with o | o
    · have := Nat.le_of_ble_eq_true o
      omega
    · have e := Nat.eq_of_beq_eq_true o
      have z := (msr_z hk k (Nat.le_refl k)).1
      rw [e] at z
      omega
/-- one point -/
theorem mk_one {m o : Nat} (m1 : 1 ≤ m) (hm : m ≤ 1000) (o1 : 1 ≤ o) : zs (fun q => if m % (q + 1) = 0 then mk (q + 1) * (if (m / (q + 1) % o == 0) = true then 1 else 0) else 0) m = if (o == m) = true then 1 else 0 := by
  by_cases c : o ∣ m
  · obtain ⟨k, hk⟩ := c
    have k1 : 1 ≤ k := by
      rcases Nat.eq_zero_or_pos k with z | z
      · rw [z] at hk; omega
      · exact z
    have km : k ≤ m := by rw [hk]; exact Nat.le_mul_of_pos_left k (by omega)
    have iff : ∀ q, (m % (q + 1) = 0 ∧ m / (q + 1) % o = 0) ↔ k % (q + 1) = 0 := by
      intro q
      constructor
      · intro ⟨h1, h2⟩
        obtain ⟨t, ht⟩ := Nat.dvd_of_mod_eq_zero h1
        rw [ht, Nat.mul_div_cancel_left _ (by omega)] at h2
        obtain ⟨w, hw⟩ := Nat.dvd_of_mod_eq_zero h2
        refine Nat.mod_eq_zero_of_dvd ⟨w, ?_⟩
        have : o * k = o * ((q + 1) * w) := by rw [← hk, ht, hw, Nat.mul_left_comm]
        exact Nat.eq_of_mul_eq_mul_left (by omega) this
      · intro h
        obtain ⟨w, hw⟩ := Nat.dvd_of_mod_eq_zero h
        have e : m = (q + 1) * (o * w) := by rw [hk, hw, Nat.mul_left_comm]
        refine ⟨Nat.mod_eq_zero_of_dvd ⟨_, e⟩, ?_⟩
        rw [e, Nat.mul_div_cancel_left _ (by omega)]
        exact Nat.mod_eq_zero_of_dvd ⟨w, rfl⟩
    have e1 : zs (fun q => if m % (q + 1) = 0 then mk (q + 1) * (if (m / (q + 1) % o == 0) = true then 1 else 0) else 0) m = zs (fun q => if k % (q + 1) = 0 then mk (q + 1) else 0) m := zs_c (fun q _ => by
      show (if m % (q + 1) = 0 then mk (q + 1) * (if (m / (q + 1) % o == 0) = true then 1 else 0) else 0) = (if k % (q + 1) = 0 then mk (q + 1) else 0)
      by_cases d : k % (q + 1) = 0
      · have := (iff q).mpr d
        rw [if_pos d, if_pos this.1, if_pos (by rw [this.2]; rfl), Int.mul_one]
      · rw [if_neg d]
        by_cases d1 : m % (q + 1) = 0
        · rw [if_pos d1]
          have d2 : ¬ (m / (q + 1) % o == 0) = true := fun z => d ((iff q).mp ⟨d1, eq_of_beq z⟩)
          rw [if_neg d2, Int.mul_zero]
        · rw [if_neg d1])
    rw [e1, zs_ext km, mk_sum k1 (by omega)]
    · by_cases d : k = 1
      · rw [if_pos d, if_pos (by rw [hk, d, Nat.mul_one]; exact beq_self_eq_true o)]
      · rw [if_neg d, if_neg]
        intro z
        have z := eq_of_beq z
        rw [hk] at z
        have : o * k = o * 1 := by rw [← z]; omega
        exact d (Nat.eq_of_mul_eq_mul_left (by omega) this)
    · intro i h1 h2
      show (if k % (i + 1) = 0 then mk (i + 1) else 0) = 0
      rw [if_neg]
      rw [Nat.mod_eq_of_lt (by omega)]
      omega
  · rw [zs_0, if_neg]
    · intro z
      exact c (eq_of_beq z ▸ Nat.dvd_refl _)
    · intro q _
      show (if m % (q + 1) = 0 then mk (q + 1) * (if (m / (q + 1) % o == 0) = true then 1 else 0) else 0) = 0
      by_cases d1 : m % (q + 1) = 0
      · rw [if_pos d1, if_neg, Int.mul_zero]
        intro z
        apply c
        have z := Nat.dvd_of_mod_eq_zero (eq_of_beq z)
        obtain ⟨t, ht⟩ := Nat.dvd_of_mod_eq_zero d1
        rw [ht, Nat.mul_div_cancel_left _ (by omega)] at z
        rw [ht]
        exact Nat.dvd_trans z ⟨q + 1, Nat.mul_comm _ _⟩
      · rw [if_neg d1]
/-- the class's sum is the reference's count -/
theorem mk_count {s : Nat → Nat → Nat} {n m : Nat} (m1 : 1 ≤ m) (hm : m ≤ 1000) (o1 : ∀ i, i < n → 1 ≤ od s i) : zs (fun q => if m % (q + 1) = 0 then mk (q + 1) * (tor s n (m / (q + 1)) : Int) else 0) m = ((cn (fun i => od s i == m) n : Nat) : Int) := by
  have e1 : zs (fun q => if m % (q + 1) = 0 then mk (q + 1) * (tor s n (m / (q + 1)) : Int) else 0) m = zs (fun q => zs (fun i => if m % (q + 1) = 0 then mk (q + 1) * (if (m / (q + 1) % od s i == 0) = true then 1 else 0) else 0) n) m := zs_c (fun q _ => by
    show (if m % (q + 1) = 0 then mk (q + 1) * (tor s n (m / (q + 1)) : Int) else 0) = zs (fun i => if m % (q + 1) = 0 then mk (q + 1) * (if (m / (q + 1) % od s i == 0) = true then 1 else 0) else 0) n
    by_cases d : m % (q + 1) = 0
    · rw [if_pos d]
      unfold tor
      rw [zs_cn, ← zs_m]
      exact zs_c (fun i _ => by rw [if_pos d])
    · rw [if_neg d]
      exact (zs_0 (fun i _ => if_neg d)).symm)
  rw [e1, zs_swap, zs_cn]
  exact zs_c (fun i hi => mk_one m1 hm (o1 i hi))
end
section
/-! Walks: the class's marks, points of one order, logarithms, roots. -/
section
variable {p a b : Nat} {f_known f_most f_leastMost : Int32} {aX aY fA ro sm : Nat → Int32} {s : Nat → Nat → Nat}
theorem X_mkl {f_p f_a f_b f_count : Int32} {post : Int32 → Prop} : ∀ (f l : Nat) (g : Int) (q : Nat), l < q + f → 1 ≤ q → q + f < 5000 → l < 5000 → post (iI (mkf f l g q)) → wX_mark_7 post f_p f_a f_b f_count f_known f_most f_leastMost aX aY fA ro sm (f + 1) (nI l) (iI g) (nI q) := by
  intro f
  induction f with
  | zero =>
    intro l g q hl hq h5 hl5 h
    exact br_t (nI_lt (by omega) (by omega)) h
  | succ f ih =>
    intro l g q hl hq h5 hl5 h
    have e : mkf (f + 1) l g q = if l < q then g else if l % q = 0 then (if l / q % q = 0 then mkf f (l / q) 0 (q + 1) else mkf f (l / q) (-g) (q + 1)) else mkf f l g (q + 1) := rfl
    rw [e] at h
    have q0 : ¬ nI q = 0 := nI_ne0 (by omega) (by omega)
    refine ni_lt (by omega) (by omega) (fun c => ?_) (fun c => ?_)
    · rw [if_pos c] at h
      exact h
    · rw [if_neg (by omega)] at h
      refine And.intro q0 ?_
      rw [pk_rem (by omega) (by omega) (by omega)]
      have ml : l % q < q := Nat.mod_lt _ (by omega)
      have dl : l / q ≤ l := Nat.div_le_self _ _
      refine ni_eq (b := 0) (by omega) (by omega) (fun z => ?_) (fun z => ?_)
      · rw [if_pos z] at h
        refine And.intro q0 (nm_r (pk_div (by omega) (by omega) (by omega)) (And.intro q0 ?_))
        rw [pk_rem (by omega) (by omega) (by omega)]
        have ml2 : l / q % q < q := Nat.mod_lt _ (by omega)
        refine ni_eq (b := 0) (by omega) (by omega) (fun w => ?_) (fun w => ?_)
        · rw [if_pos w] at h
          exact nm_r (nI_1 q) (ih (l / q) 0 (q + 1) (by omega) (by omega) (by omega) (by omega) h)
        · rw [if_neg w] at h
          exact nm_r (ii_g g) (nm_r (nI_1 q) (ih (l / q) (-g) (q + 1) (by omega) (by omega) (by omega) (by omega) h))
      · rw [if_neg z] at h
        exact nm_r (nI_1 q) (ih l g (q + 1) (by omega) (by omega) (by omega) (by omega) h)
theorem X_mark {f_p f_a f_b f_count : Int32} {post : Int32 → Prop} {m : Nat} (hm : m ≤ 1000) (h : post (iI (mk m))) : wpX_mark post (f_p, f_a, f_b, f_count, f_known, f_most, f_leastMost, aX, aY, fA, ro, sm) (nI m) :=
  ⟨m + 1, X_mkl m m 1 2 (by omega) (by omega) (by omega) (by omega) h⟩
theorem kn_1 (s : Nat → Nat → Nat) (n : Nat) : Kn s n 1 (nI (mxf s n)) (nI (gnf s n)) := Or.inr ⟨rfl, rfl, rfl⟩
theorem X_oo (C : Cv p a b s) (h1 : HX p a b (off p a b p) aX aY) (h2 : HF p a b p fA) {m : Nat} (m1 : 1 ≤ m) (hm : m ≤ 1000) {post : Int32 → SX → Prop} (H : ∀ kn mo lm, Kn s (off p a b p) kn mo lm → post (nI (cn (fun i => od s i == m) (off p a b p))) (nI p, nI a, nI b, nI (off p a b p), kn, mo, lm, aX, aY, fA, ro, sm)) : ∀ (d j : Nat) (kn mo lm : Int32), j + d = m → Kn s (off p a b p) kn mo lm → wX_ofOrder_14 post (nI m) (d + 1) (iI (zs (fun q => if m % (q + 1) = 0 then mk (q + 1) * (tor s (off p a b p) (m / (q + 1)) : Int) else 0) j)) (nI (j + 1)) (nI p) (nI a) (nI b) (nI (off p a b p)) kn mo lm aX aY fA ro sm := by
  have g := cv_gp C
  intro d
  induction d with
  | zero =>
    intro j kn mo lm hj k
    have e : j = m := by omega
    subst e
    refine br_t (nI_lt (by omega) (by omega)) ?_
    rw [mk_count m1 hm (fun i hi => (od_s g hi).1), ← ii_n]
    exact H kn mo lm k
  | succ d ih =>
    intro j kn mo lm hj k
    have q0 : ¬ nI (j + 1) = 0 := nI_ne0 (by omega) (by omega)
    refine br_f (nI_nlt (by omega) (by omega)) (And.intro q0 ?_)
    rw [pk_rem (by omega) (by omega) (by omega)]
    have ml : m % (j + 1) < j + 1 := Nat.mod_lt _ (by omega)
    have st : zs (fun q => if m % (q + 1) = 0 then mk (q + 1) * (tor s (off p a b p) (m / (q + 1)) : Int) else 0) (j + 1) = zs (fun q => if m % (q + 1) = 0 then mk (q + 1) * (tor s (off p a b p) (m / (q + 1)) : Int) else 0) j + (if m % (j + 1) = 0 then mk (j + 1) * (tor s (off p a b p) (m / (j + 1)) : Int) else 0) := rfl
    refine ni_eq (b := 0) (by omega) (by omega) (fun z => ?_) (fun z => ?_)
    · rw [if_pos z] at st
      refine X_mark (by omega) ?_
      refine br_c (fun w => ?_) (fun w => ?_)
      · refine nm_r (e' := iI (zs (fun q => if m % (q + 1) = 0 then mk (q + 1) * (tor s (off p a b p) (m / (q + 1)) : Int) else 0) (j + 1))) ?_ (nm_r (nI_1 (j + 1)) (ih (j + 1) kn mo lm (by omega) k))
        rw [st, ← ii_a, ← ii_m, w, Int32.zero_mul, Int32.zero_mul]
      · refine And.intro q0 ?_
        rw [pk_div (by omega) (by omega) (by omega)]
        have dl : m / (j + 1) ≤ m := Nat.div_le_self _ _
        refine X_tors C h1 h2 k (by omega) ?_
        refine nm_r (e' := iI (zs (fun q => if m % (q + 1) = 0 then mk (q + 1) * (tor s (off p a b p) (m / (q + 1)) : Int) else 0) (j + 1))) ?_ (nm_r (nI_1 (j + 1)) (ih (j + 1) _ _ _ (by omega) (kn_1 s _)))
        rw [st, ← ii_a, ← ii_m, ii_n]
    · rw [if_neg z, Int.add_zero] at st
      have := ih (j + 1) kn mo lm (by omega) k
      rw [st] at this
      exact nm_r (nI_1 (j + 1)) this
/-! logarithms -/
/-- what is left of j after g great steps -/
noncomputable def rs (s : Nat → Nat → Nat) (bk j : Nat) : Nat → Nat
  | 0 => j
  | g + 1 => s (rs s bk j g) bk
theorem rs_lt {n : Nat} (g : gp n s) {bk j : Nat} (hb : bk < n) (hj : j < n) : ∀ t, rs s bk j t < n := by
  intro t
  induction t with
  | zero => exact hj
  | succ t ih => exact g.2.1 _ _ ih hb
theorem rs_s {n : Nat} (g : gp n s) {i j : Nat} (hi : i < n) (hj : j < n) : ∀ t, s (rs s (ng s n (mu s 12 i)) j t) (mu s (12 * t) i) = j := by
  obtain ⟨b1, b2⟩ := ng_s g (mu_lt g 12 hi)
  intro t
  induction t with
  | zero => exact s_z g hj
  | succ t ih =>
    have e : 12 * (t + 1) = 12 + 12 * t := by omega
    show s (s (rs s (ng s n (mu s 12 i)) j t) (ng s n (mu s 12 i))) (mu s (12 * (t + 1)) i) = j
    have rl := rs_lt g b1 hj t
    have ml := mu_lt g (12 * t) hi
    have m12 := mu_lt g 12 hi
    rw [e, mu_a g _ _ hi, g.2.2.2.1 _ _ _ rl b1 (g.2.1 _ _ m12 ml), ← g.2.2.2.1 _ _ _ b1 m12 ml, g.2.2.1 _ _ b1 m12, b2, g.2.2.2.2.1 _ ml]
    exact ih
theorem rs_hit {n : Nat} (g : gp n s) {i j : Nat} (hi : i < n) (hj : j < n) (t e : Nat) : mu s e i = rs s (ng s n (mu s 12 i)) j t ↔ mu s (12 * t + e) i = j := by
  have q := rs_s g hi hj t
  have b1 := (ng_s g (mu_lt g 12 hi)).1
  have rl := rs_lt g b1 hj t
  have ml := mu_lt g (12 * t) hi
  have el := mu_lt g e hi
  rw [mu_a g _ _ hi, g.2.2.1 _ _ ml el]
  constructor
  · intro z
    rw [z]
    exact q
  · intro z
    exact s_can g el rl ml (z.trans q.symm)
theorem no_hit {n : Nat} (g : gp n s) {i j N : Nat} (hi : i < n) (hN : n ≤ N) (no : ∀ k, k < N → ¬ mu s k i = j) (k : Nat) : ¬ mu s k i = j := by
  intro z
  obtain ⟨d1, d2, -⟩ := od_s g hi
  have ml : k % od s i < od s i := Nat.mod_lt _ d1
  exact no (k % od s i) (by omega) (by rw [mu_md g hi]; exact z)
/-- the answer of the logarithm -/
def Lg (s : Nat → Nat → Nat) (n i j : Nat) (r : Int32) : Prop := (∃ L, L < n ∧ mu s L i = j ∧ (∀ k, k < L → ¬ mu s k i = j) ∧ r = nI L) ∨ ((∀ k, ¬ mu s k i = j) ∧ r = -4)
theorem X_l80 (C : Cv p a b s) (h1 : HX p a b (off p a b p) aX aY) (h2 : HF p a b p fA) {i j t : Nat} (hi : i < off p a b p) (hj : j < off p a b p) (ht : t < 10) (hs : ∀ e, e < 12 → sm e = nI (mu s e i)) (no : ∀ k, k < 12 * t → ¬ mu s k i = j) {post : Int32 → SX → Prop} {J : Int32 → Int32 → Prop} (H1 : ∀ L, mu s L i = j → (∀ k, k < L → ¬ mu s k i = j) → L < 200 → post (nI L) (nI p, nI a, nI b, nI (off p a b p), f_known, f_most, f_leastMost, aX, aY, fA, ro, sm)) (H2 : (∀ k, k < 12 * (t + 1) → ¬ mu s k i = j) → J (nI (rs s (ng s (off p a b p) (mu s 12 i)) j (t + 1))) (nI (t + 1))) : ∀ d e : Nat, e + d = 12 → (∀ k, k < 12 * t + e → ¬ mu s k i = j) → wX_logarithm_80 post J (nI (ng s (off p a b p) (mu s 12 i))) (nI (rs s (ng s (off p a b p) (mu s 12 i)) j t)) (nI t) (nI p) (nI a) (nI b) (nI (off p a b p)) f_known f_most f_leastMost aX aY fA ro sm (d + 1) (nI e) := by
  have g := cv_gp C
  have o8 := off_80 C.1 C.2.1 C.2.2.1
  have b1 := (ng_s g (mu_lt g 12 hi)).1
  have rl := rs_lt g b1 hj t
  intro d
  induction d with
  | zero =>
    intro e he n2
    have e12 : e = 12 := by omega
    subst e12
    refine br_t (nI_le (a := 12) (b := 12) (by omega) (by omega)) (X_sum C h1 h2 rl b1 (nm_r (nI_1 t) ?_))
    exact H2 (fun k hk => n2 k (by omega))
  | succ d ih =>
    intro e he n2
    refine br_f (nI_ge (b := 12) (by omega) (by omega)) (And.intro (vp_in_nI (by omega) (by omega)) ?_)
    rw [nI_clamp (by omega), hs e (by omega)]
    have el := mu_lt g e hi
    refine ni_eq (by omega) (by omega) (fun z => ?_) (fun z => ?_)
    · have z2 := (rs_hit g hi hj t e).mp z
      have e3 : (12 : Int32) * nI t + nI e = nI (12 * t + e) := by
        have : (12 : Int32) = nI 12 := rfl
        rw [this, pk_mul, nI_add]
      rw [e3]
      exact H1 _ z2 n2 (by omega)
    · refine nm_r (nI_1 e) (ih (e + 1) (by omega) (fun k hk => ?_))
      rcases Nat.lt_or_ge k (12 * t + e) with c | c
      · exact n2 k c
      · have : k = 12 * t + e := by omega
        rw [this]
        exact fun w => z ((rs_hit g hi hj t e).mpr w)
theorem X_l65 (C : Cv p a b s) (h1 : HX p a b (off p a b p) aX aY) (h2 : HF p a b p fA) {i j : Nat} (hi : i < off p a b p) (hj : j < off p a b p) (hs : ∀ e, e < 12 → sm e = nI (mu s e i)) {post : Int32 → SX → Prop} {r : Int32} (hr : Lg s (off p a b p) i j r) (H : post r (nI p, nI a, nI b, nI (off p a b p), f_known, f_most, f_leastMost, aX, aY, fA, ro, sm)) : ∀ d t : Nat, t + d = 7 → (∀ k, k < 12 * t → ¬ mu s k i = j) → wX_logarithm_65 post (nI (ng s (off p a b p) (mu s 12 i))) (nI p) (nI a) (nI b) (nI (off p a b p)) f_known f_most f_leastMost aX aY fA ro sm (d + 1) (nI (rs s (ng s (off p a b p) (mu s 12 i)) j t)) (nI t) := by
  have g := cv_gp C
  have o8 := off_80 C.1 C.2.1 C.2.2.1
  have e12 : ∀ t, (12 : Int32) * nI t = nI (12 * t) := fun t => pk_mul 12 t
  have fin : ∀ t, off p a b p ≤ 12 * t → (∀ k, k < 12 * t → ¬ mu s k i = j) → post (-4) (nI p, nI a, nI b, nI (off p a b p), f_known, f_most, f_leastMost, aX, aY, fA, ro, sm) := by
    intro t ht no
    rcases hr with ⟨L, -, q2, -, -⟩ | ⟨-, q2⟩
    · exact absurd q2 (no_hit g hi ht no L)
    · rw [← q2]; exact H
  intro d
  induction d with
  | zero =>
    intro t ht no
    refine br_t ?_ (fin t (by omega) no)
    rw [e12]
    exact nI_le (by omega) (by omega)
  | succ d ih =>
    intro t ht no
    rcases Nat.lt_or_ge (12 * t) (off p a b p) with c | c
    · refine br_f (by rw [e12]; exact nI_ge c (by omega)) ⟨13, ?_⟩
      refine X_l80 C h1 h2 hi hj (by omega) hs no (fun L q1 q2 q3 => ?_) (fun q => ih (t + 1) (by omega) q) 12 0 (by omega) no
      rcases hr with ⟨L', -, w2, w3, w4⟩ | ⟨w1, -⟩
      · have : L = L' := by
          rcases Nat.lt_trichotomy L L' with k | k | k
          · exact absurd q1 (w3 L k)
          · exact k
          · exact absurd w2 (q2 L' k)
        rw [this, ← w4]
        exact H
      · exact absurd q1 (w1 L)
    · exact br_t (by rw [e12]; exact nI_le c (by omega)) (fin t c no)
theorem X_l23 (C : Cv p a b s) (h1 : HX p a b (off p a b p) aX aY) (h2 : HF p a b p fA) {i j : Nat} (hi : i < off p a b p) (hj : j < off p a b p) {post : Int32 → SX → Prop} {r : Int32} (hr : Lg s (off p a b p) i j r) (H : ∀ sm, post r (nI p, nI a, nI b, nI (off p a b p), f_known, f_most, f_leastMost, aX, aY, fA, ro, sm)) : ∀ (d e : Nat) (sm : Nat → Int32), e + d = 12 → (∀ q, q < e → sm q = nI (mu s q i)) → wX_logarithm_23 post (nI i) (nI j) (nI p) (nI a) (nI b) (nI (off p a b p)) f_known f_most f_leastMost (d + 1) (nI (mu s e i)) (nI e) aX aY fA ro sm := by
  have g := cv_gp C
  have o8 := off_80 C.1 C.2.1 C.2.2.1
  intro d
  induction d with
  | zero =>
    intro e sm he hs
    have e12 : e = 12 := by omega
    subst e12
    refine br_t (nI_le (a := 12) (b := 12) (by omega) (by omega)) (X_neg C h1 h2 (mu_lt g 12 hi) ⟨8, ?_⟩)
    exact X_l65 C h1 h2 hi hj hs hr (H sm) 7 0 (by omega) (fun k hk => by omega)
  | succ d ih =>
    intro e sm he hs
    have el := mu_lt g e hi
    refine br_f (nI_ge (b := 12) (by omega) (by omega)) (And.intro (vp_in_nI (by omega) (by omega)) (nm_r (e' := upd sm e (nI (mu s e i))) (by rw [nI_clamp (by omega), nar_b (by omega)]) ?_))
    refine X_sum C h1 h2 el hi (nm_r (nI_1 e) (ih (e + 1) _ (by omega) (fun q hq => ?_)))
    by_cases c : q = e
    · rw [c, pk_us]
    · rw [pk_un c]
      exact hs q (by omega)
/-! roots -/
theorem rt_cnt {n : Nat} (g : gp n s) (m : Nat) {k0 : Nat} (hk : k0 < n) : cn (fun j => mu s m j == mu s m k0) n = tor s n m := by
  obtain ⟨b1, b2⟩ := ng_s g hk
  have key : ∀ i, i < n → ((m % od s i == 0) = true ↔ mu s m i = 0) := by
    intro i hi
    have d3 := (od_s g hi).2.2 m
    constructor
    · intro z; exact d3.mpr (Nat.dvd_of_mod_eq_zero (eq_of_beq z))
    · intro z; rw [Nat.mod_eq_zero_of_dvd (d3.mp z)]; rfl
  unfold tor
  apply Nat.le_antisymm
  · refine cn_inj n n _ _ (fun j => s j (ng s n k0)) (fun j hj z => ⟨g.2.1 _ _ hj b1, ?_⟩) (fun i j hi hj _ _ e => s_can g hi hj b1 e)
    refine (key _ (g.2.1 _ _ hj b1)).mpr ?_
    have z : mu s m j = mu s m k0 := eq_of_beq z
    rw [mu_d g m hj b1, z, ← mu_d g m hk b1, b2, mu_z g]
  · refine cn_inj n n _ _ (fun j => s j k0) (fun j hj z => ⟨g.2.1 _ _ hj hk, ?_⟩) (fun i j hi hj _ _ e => s_can g hi hj hk e)
    have z := (key j hj).mp z
    show (mu s m (s j k0) == mu s m k0) = true
    rw [mu_d g m hj hk, z, g.2.2.2.2.1 _ (mu_lt g m hk)]
    exact beq_self_eq_true _
theorem X_rt (C : Cv p a b s) (h1 : HX p a b (off p a b p) aX aY) (h2 : HF p a b p fA) (k : Kn s (off p a b p) f_known f_most f_leastMost) {i m : Nat} (hi : i < off p a b p) (hm : m ≤ 1000) {post : Int32 → SX → Prop} (H : ∀ kn mo lm, Kn s (off p a b p) kn mo lm → post (nI (cn (fun j => mu s m j == i) (off p a b p))) (nI p, nI a, nI b, nI (off p a b p), kn, mo, lm, aX, aY, fA, ro, sm)) : ∀ d j : Nat, j + d = off p a b p → (∀ q, q < j → ¬ mu s m q = i) → wX_roots_20 post (nI i) (nI m) (nI p) (nI a) (nI b) (nI (off p a b p)) f_known f_most f_leastMost aX aY fA ro sm (d + 1) (nI j) := by
  have g := cv_gp C
  have o8 := off_80 C.1 C.2.1 C.2.2.1
  intro d
  induction d with
  | zero =>
    intro j hj no
    have e : j = off p a b p := by omega
    subst e
    refine br_t (nI_le (by omega) (by omega)) ?_
    have z : cn (fun j => mu s m j == i) (off p a b p) = 0 := cn_none (fun q hq => beq_eq_false_iff_ne.mpr (no q hq))
    have := H _ _ _ k
    rw [z] at this
    exact this
  | succ d ih =>
    intro j hj no
    have hj' : j < off p a b p := by omega
    have ml := mu_lt g m hj'
    refine br_f (nI_ge (by omega) (by omega)) (X_mult C h1 h2 hj' (m : Int) (ii_n m) (by omega) (by omega) ?_)
    rw [mz_n]
    refine ni_eq (by omega) (by omega) (fun z => ?_) (fun z => ?_)
    · refine X_tors C h1 h2 k hm ?_
      have := H _ _ _ (kn_1 s (off p a b p))
      rw [← z, rt_cnt g m hj'] at this
      exact this
    · refine nm_r (nI_1 j) (ih (j + 1) (by omega) (fun q hq => ?_))
      rcases Nat.lt_or_ge q j with c | c
      · exact no q c
      · have : q = j := by omega
        rw [this]; exact z
end
end
section
/-! Walks: the reference's greatest order, generator, torsion, points of one order, logarithms, roots. -/
section
variable {p a b : Nat} {xs ys : Nat → Int32} {s : Nat → Nat → Nat}
theorem Y_exp (C : Cv p a b s) (h1 : HX p a b (off p a b p) xs ys) {post : Int32 → Prop} (h : post (nI (mxf s (off p a b p)))) : wpY_exponent post (nI p, nI a, nI b, nI (off p a b p), xs, ys) := by
  have g := cv_gp C
  have o8 := off_80 C.1 C.2.1 C.2.2.1
  have ob : ∀ i, i < off p a b p → od s i ≤ 80 := fun i hi => by have := (od_s g hi).2.1; omega
  have go : ∀ d i : Nat, i + d = off p a b p → wY_exponent_4 post (nI p) (nI a) (nI b) (nI (off p a b p)) xs ys (d + 1) (nI (mxf s i)) (nI i) := by
    intro d
    induction d with
    | zero =>
      intro i hi
      have e : i = off p a b p := by omega
      subst e
      exact br_t (nI_le (by omega) (by omega)) h
    | succ d ih =>
      intro i hi
      have hi' : i < off p a b p := by omega
      have om := ob i hi'
      have mm : mxf s i ≤ 80 := mxf_le i (fun j hj => ob j (by omega))
      have em : mxf s (i + 1) = if od s i ≤ mxf s i then mxf s i else od s i := rfl
      refine br_f (nI_ge (by omega) (by omega)) (Y_ord C h1 hi' ?_)
      have nx := ih (i + 1) (by omega)
      refine ni_le (by omega) (by omega) (fun c => ?_) (fun c => ?_)
      · rw [if_pos c] at em
        rw [em] at nx
        exact nm_r (nI_1 i) nx
      · rw [if_neg (by omega)] at em
        rw [em] at nx
        exact nm_r (nI_1 i) nx
  exact ⟨_, go (off p a b p) 0 (by omega)⟩
theorem Y_gen (C : Cv p a b s) (h1 : HX p a b (off p a b p) xs ys) {post : Int32 → Prop} (h : post (nI (gnf s (off p a b p)))) : wpY_generator post (nI p, nI a, nI b, nI (off p a b p), xs, ys) := by
  have g := cv_gp C
  have o8 := off_80 C.1 C.2.1 C.2.2.1
  have ob : ∀ i, i < off p a b p → od s i ≤ 80 := fun i hi => by have := (od_s g hi).2.1; omega
  have mm : mxf s (off p a b p) ≤ 80 := mxf_le _ (fun j hj => ob j hj)
  have n1 := off_pos p a b p
  have gs := gnf_s s (od_s g g.1).1 (off p a b p - 1)
  have en : off p a b p - 1 + 1 = off p a b p := by omega
  rw [en] at gs
  obtain ⟨g1, g2, g3⟩ := gs
  refine Y_exp C h1 ?_
  have go : ∀ d i : Nat, i + d = gnf s (off p a b p) → wY_generator_7 post (nI (mxf s (off p a b p))) (nI p) (nI a) (nI b) (nI (off p a b p)) xs ys (d + 1) (nI i) := by
    intro d
    induction d with
    | zero =>
      intro i hi
      have e : i = gnf s (off p a b p) := by omega
      unfold wY_generator_7
      refine Y_ord C h1 (by omega) ?_
      refine br_t (by rw [e, g2]) ?_
      rw [e]
      exact h
    | succ d ih =>
      intro i hi
      have hi' : i < off p a b p := by omega
      have lt := g3 i (by omega)
      unfold wY_generator_7
      refine Y_ord C h1 hi' ?_
      refine br_f (fun z => ?_) (nm_r (nI_1 i) (ih (i + 1) (by omega)))
      have := (nI_eq (by omega) (by omega)).mp z
      omega
  exact ⟨_, go (gnf s (off p a b p)) 0 (by omega)⟩
theorem cn_s (f : Nat → Bool) (i : Nat) : cn f (i + 1) = cn f i + (if f i = true then 1 else 0) := rfl
theorem Y_tor (C : Cv p a b s) (h1 : HX p a b (off p a b p) xs ys) {m : Nat} (hm : m ≤ 1000) {post : Int32 → Prop} (h : post (nI (tor s (off p a b p) m))) : ∀ d i : Nat, i + d = off p a b p → wY_torsion_14 post (nI m) (nI p) (nI a) (nI b) (nI (off p a b p)) xs ys (d + 1) (nI (cn (fun i => m % od s i == 0) i)) (nI i) := by
  have g := cv_gp C
  have o8 := off_80 C.1 C.2.1 C.2.2.1
  intro d
  induction d with
  | zero =>
    intro i hi
    have e : i = off p a b p := by omega
    subst e
    exact br_t (nI_le (by omega) (by omega)) h
  | succ d ih =>
    intro i hi
    have hi' : i < off p a b p := by omega
    obtain ⟨d1, d2, -⟩ := od_s g hi'
    have st := cn_s (fun i => m % od s i == 0) i
    have nx := ih (i + 1) (by omega)
    refine br_f (nI_ge (by omega) (by omega)) (Y_ord C h1 hi' (And.intro (nI_ne0 d1 (by omega)) ?_))
    rw [pk_rem (by omega) d1 (by omega)]
    have ml : m % od s i < od s i := Nat.mod_lt _ d1
    refine ni_eq (b := 0) (by omega) (by omega) (fun z => ?_) (fun z => ?_)
    · rw [if_pos (by rw [z]; rfl)] at st
      rw [st] at nx
      exact nm_r (nI_1 _) (nm_r (nI_1 i) nx)
    · rw [if_neg (fun w => z (eq_of_beq w))] at st
      rw [st] at nx
      exact nm_r (nI_1 i) nx
theorem Y_oo (C : Cv p a b s) (h1 : HX p a b (off p a b p) xs ys) {m : Nat} (hm : m ≤ 1000) {post : Int32 → Prop} (h : post (nI (cn (fun i => od s i == m) (off p a b p)))) : ∀ d i : Nat, i + d = off p a b p → wY_ofOrder_14 post (nI m) (nI p) (nI a) (nI b) (nI (off p a b p)) xs ys (d + 1) (nI (cn (fun i => od s i == m) i)) (nI i) := by
  have g := cv_gp C
  have o8 := off_80 C.1 C.2.1 C.2.2.1
  intro d
  induction d with
  | zero =>
    intro i hi
    have e : i = off p a b p := by omega
    subst e
    exact br_t (nI_le (by omega) (by omega)) h
  | succ d ih =>
    intro i hi
    have hi' : i < off p a b p := by omega
    obtain ⟨d1, d2, -⟩ := od_s g hi'
    have st := cn_s (fun i => od s i == m) i
    have nx := ih (i + 1) (by omega)
    refine br_f (nI_ge (by omega) (by omega)) (Y_ord C h1 hi' ?_)
    refine ni_eq (by omega) (by omega) (fun z => ?_) (fun z => ?_)
    · rw [if_pos (beq_iff_eq.mpr z)] at st
      rw [st] at nx
      exact nm_r (nI_1 _) (nm_r (nI_1 i) nx)
    · rw [if_neg (fun w => z (eq_of_beq w))] at st
      rw [st] at nx
      exact nm_r (nI_1 i) nx
theorem Y_rts (C : Cv p a b s) (h1 : HX p a b (off p a b p) xs ys) {i m : Nat} (hi : i < off p a b p) (hm : m ≤ 1000) {post : Int32 → Prop} (h : post (nI (cn (fun j => mu s m j == i) (off p a b p)))) : ∀ d j : Nat, j + d = off p a b p → wY_roots_23 post (nI i) (nI m) (nI p) (nI a) (nI b) (nI (off p a b p)) xs ys (d + 1) (nI (cn (fun j => mu s m j == i) j)) (nI j) := by
  have g := cv_gp C
  have o8 := off_80 C.1 C.2.1 C.2.2.1
  intro d
  induction d with
  | zero =>
    intro j hj
    have e : j = off p a b p := by omega
    subst e
    exact br_t (nI_le (by omega) (by omega)) h
  | succ d ih =>
    intro j hj
    have hj' : j < off p a b p := by omega
    have st := cn_s (fun j => mu s m j == i) j
    have nx := ih (j + 1) (by omega)
    have ml := mu_lt g m hj'
    refine br_f (nI_ge (by omega) (by omega)) (Y_mult C h1 hj' (m : Int) (ii_n m) (by omega) (by omega) ?_)
    rw [mz_n]
    refine ni_eq (by omega) (by omega) (fun z => ?_) (fun z => ?_)
    · rw [if_pos (beq_iff_eq.mpr z)] at st
      rw [st] at nx
      exact nm_r (nI_1 _) (nm_r (nI_1 j) nx)
    · rw [if_neg (fun w => z (eq_of_beq w))] at st
      rw [st] at nx
      exact nm_r (nI_1 j) nx
theorem Y_log (C : Cv p a b s) (h1 : HX p a b (off p a b p) xs ys) {i j : Nat} (hi : i < off p a b p) (hj : j < off p a b p) {post : Int32 → Prop} {r : Int32} (hr : Lg s (off p a b p) i j r) (H : post r) : ∀ d e : Nat, e + d = od s i → (∀ k, k < e → ¬ mu s k i = j) → wY_logarithm_30 post (nI i) (nI j) (nI (od s i)) (nI p) (nI a) (nI b) (nI (off p a b p)) xs ys (d + 1) (nI (mu s e i)) (nI e) := by
  have g := cv_gp C
  have o8 := off_80 C.1 C.2.1 C.2.2.1
  obtain ⟨d1, d2, d3⟩ := od_s g hi
  intro d
  induction d with
  | zero =>
    intro e he no
    refine br_t (nI_le (by omega) (by omega)) ?_
    have none : ∀ k, ¬ mu s k i = j := by
      intro k z
      have ml : k % od s i < od s i := Nat.mod_lt _ d1
      exact no (k % od s i) (by omega) (by rw [mu_md g hi]; exact z)
    rcases hr with ⟨L, -, q2, -, -⟩ | ⟨-, q2⟩
    · exact absurd q2 (none L)
    · rw [← q2]; exact H
  | succ d ih =>
    intro e he no
    have el := mu_lt g e hi
    refine br_f (nI_ge (by omega) (by omega)) ?_
    refine ni_eq (by omega) (by omega) (fun z => ?_) (fun z => ?_)
    · rcases hr with ⟨L, -, q2, q3, q4⟩ | ⟨q1, -⟩
      · have : e = L := by
          rcases Nat.lt_trichotomy e L with k | k | k
          · exact absurd z (q3 e k)
          · exact k
          · exact absurd q2 (no L k)
        rw [this, ← q4]
        exact H
      · exact absurd z (q1 e)
    · refine Y_sum C h1 el hi (nm_r (nI_1 e) (ih (e + 1) (by omega) (fun k hk => ?_)))
      rcases Nat.lt_or_ge k e with c | c
      · exact no k c
      · have : k = e := by omega
        rw [this]; exact z
/-- there is an answer -/
theorem lg_ex (C : Cv p a b s) {i j : Nat} (hi : i < off p a b p) : ∃ r, Lg s (off p a b p) i j r := by
  have g := cv_gp C
  by_cases c : ∃ k, mu s k i = j
  · obtain ⟨L, q1, q2⟩ := pk_least _ c
    obtain ⟨d1, d2, -⟩ := od_s g hi
    have ml : L % od s i < od s i := Nat.mod_lt _ d1
    have Ll : L < off p a b p := by
      rcases Nat.lt_or_ge L (off p a b p) with k | k
      · exact k
      · exact absurd (by rw [mu_md g hi]; exact q1) (q2 (L % od s i) (by omega))
    exact ⟨nI L, Or.inl ⟨L, Ll, q1, q2, rfl⟩⟩
  · exact ⟨-4, Or.inr ⟨fun k z => c ⟨k, z⟩, rfl⟩⟩
end
end
section
/-! The twist: its points by the squares. -/
def nqf (p : Nat) : Nat → Nat → Nat
  | 0, g => g
  | f + 1, g => if rt p g = p then g else nqf p f (g + 1)
/-- the least number that is no square -/
def nq (p : Nat) : Nat := nqf p p 1
theorem nq_0 : PL.all (fun p => Nat.blt 0 (nq p) && Nat.blt (nq p) p && rt p (nq p) == p && al (fun g => g == 0 || Nat.ble (nq p) g || Nat.blt (rt p g) p) p && al (fun v => np p (nq p * nq p * nq p * v % p) + np p v == 2) p) = true := by decide +kernel
theorem nq_s {p : Nat} (hp : p ∈ PL) : 0 < nq p ∧ nq p < p ∧ rt p (nq p) = p ∧ (∀ g, 0 < g → g < nq p → rt p g < p) ∧ ∀ v, v < p → np p (nq p * nq p * nq p * v % p) + np p v = 2 := by
  have h := pl_s nq_0 hp
  rw [Bool.and_eq_true, Bool.and_eq_true, Bool.and_eq_true, Bool.and_eq_true] at h
  obtain ⟨⟨⟨⟨q1, q2⟩, q3⟩, q4⟩, q5⟩ := h
  have n2 := Nat.le_of_ble_eq_true q2
  refine ⟨Nat.le_of_ble_eq_true q1, n2, eq_of_beq q3, fun g g0 gl => ?_, fun v hv => eq_of_beq (al_s q5 hv)⟩
  have := al_s q4 (show g < p by omega)
  rw [Bool.or_eq_true, Bool.or_eq_true] at this
  rcases this with (z | z) | z
  · have := eq_of_beq z; omega
  · have := Nat.le_of_ble_eq_true z; omega
  · exact Nat.le_of_ble_eq_true z
def ns (f : Nat → Nat) : Nat → Nat
  | 0 => 0
  | n + 1 => ns f n + f n
theorem ns_off (p a b : Nat) : ∀ n, off p a b n = 1 + ns (fun x => np p (cb p a b x)) n := by
  intro n
  induction n with
  | zero => rfl
  | succ n ih =>
    show off p a b n + np p (cb p a b n) = 1 + (ns (fun x => np p (cb p a b x)) n + np p (cb p a b n))
    rw [ih]
    omega
theorem ns_cn {f : Nat → Nat} (h : ∀ x, f x ≤ 2) (n : Nat) : ns f n = cn (fun x => Nat.ble 1 (f x)) n + cn (fun x => Nat.ble 2 (f x)) n := by
  induction n with
  | zero => rfl
  | succ n ih =>
    show ns f n + f n = cn (fun x => Nat.ble 1 (f x)) n + (if Nat.ble 1 (f n) = true then 1 else 0) + (cn (fun x => Nat.ble 2 (f x)) n + (if Nat.ble 2 (f n) = true then 1 else 0))
    rw [ih]
    have hn := h n
    have : f n = 0 ∨ f n = 1 ∨ f n = 2 := by omega
    rcases this with e | e | e
    · rw [e, if_neg (by decide), if_neg (by decide)]; omega
    · rw [e, if_pos (by decide), if_neg (by decide)]; omega
    · rw [e, if_pos (by decide), if_pos (by decide)]; omega
theorem ml_inj {p g : Nat} (hp : p ∈ PL) (g0 : 0 < g) (gp' : g < p) {x y : Nat} (hx : x < p) (hy : y < p) (e : g * x % p = g * y % p) : x = y := by
  have lo := pl_lo hp
  have key : ∀ x y, x < p → y < p → y ≤ x → g * x % p = g * y % p → x = y := by
    intro x y hx hy hle e
    have z : g * (x - y) % p = 0 := by
      have e1 : g * x = g * y + g * (x - y) := by rw [← Nat.mul_add]; congr 1; omega
      have e2 := Nat.dvd_of_mod_eq_zero (m := p) (n := g * x - g * y) (Nat.sub_mod_eq_zero_of_mod_eq e)
      have e3 : g * x - g * y = g * (x - y) := by omega
      rw [e3] at e2
      exact Nat.mod_eq_zero_of_dvd e2
    rcases pl_nz hp gp' (show x - y < p by omega) z with c | c
    · omega
    · omega
  rcases Nat.le_total y x with c | c
  · exact key x y hx hy c e
  · exact (key y x hy hx c e.symm).symm
theorem cn_perm {p g : Nat} (hp : p ∈ PL) (g0 : 0 < g) (gp' : g < p) (P : Nat → Bool) : cn (fun x => P (g * x % p)) p = cn P p := by
  have lo := pl_lo hp
  have iv := pl_inv hp gp' (by omega)
  have il := pw_lt hp g (p - 2)
  have i0 : 0 < pw p g (p - 2) := by
    rcases Nat.eq_zero_or_pos (pw p g (p - 2)) with z | z
    · rw [z, Nat.mul_zero, Nat.zero_mod] at iv; omega
    · exact z
  have back : ∀ x, x < p → g * (pw p g (p - 2) * x % p) % p = x := by
    intro x hx
    rw [Nat.mul_mod, Nat.mod_mod, ← Nat.mul_mod, ← Nat.mul_assoc, Nat.mul_mod, iv, Nat.one_mul, Nat.mod_mod]
    exact Nat.mod_eq_of_lt hx
  apply Nat.le_antisymm
  · exact cn_inj p p _ _ (fun x => g * x % p) (fun x hx h => ⟨Nat.mod_lt _ (by omega), h⟩) (fun x y hx hy _ _ e => ml_inj hp g0 gp' hx hy e)
  · refine cn_inj p p _ _ (fun x => pw p g (p - 2) * x % p) (fun x hx h => ⟨Nat.mod_lt _ (by omega), ?_⟩) (fun x y hx hy _ _ e => ml_inj hp i0 il hx hy e)
    show P (g * (pw p g (p - 2) * x % p) % p) = true
    rw [back x hx]
    exact h
theorem ns_perm {p g : Nat} (hp : p ∈ PL) (g0 : 0 < g) (gp' : g < p) {f : Nat → Nat} (h : ∀ x, f x ≤ 2) : ns (fun x => f (g * x % p)) p = ns f p := by
  rw [ns_cn (fun x => h _), ns_cn h, cn_perm hp g0 gp' (fun x => Nat.ble 1 (f x)), cn_perm hp g0 gp' (fun x => Nat.ble 2 (f x))]
theorem ns_2 {f h : Nat → Nat} : ∀ n, (∀ x, x < n → f x + h x = 2) → ns f n + ns h n = 2 * n := by
  intro n
  induction n with
  | zero => intro _; rfl
  | succ n ih =>
    intro q
    have := ih (fun x hx => q x (by omega))
    have := q n (by omega)
    show ns f n + f n + (ns h n + h n) = 2 * (n + 1)
    omega
theorem tw_cb {p a b g x : Nat} : cb p (a * g * g % p) (b * g * g % p * g) (g * x % p) = g * g * g * cb p a b x % p := by
  show ((g * x % p) * (g * x % p) * (g * x % p) + a * g * g % p * (g * x % p) + b * g * g % p * g) % p = g * g * g * ((x * x * x + a * x + b) % p) % p
  rw [Nat.mul_mod_mod (g * g * g)]
  have e1 : ((g * x % p) * (g * x % p) * (g * x % p)) % p = (g * x * (g * x) * (g * x)) % p := by
    generalize g * x = A
    have t : A % p * (A % p) % p = A * A % p := (Nat.mul_mod A A p).symm
    rw [Nat.mul_mod (A % p * (A % p)), t, Nat.mod_mod, ← Nat.mul_mod]
  have e2 : (a * g * g % p * (g * x % p)) % p = (a * g * g * (g * x)) % p := by
    rw [Nat.mul_mod_mod, Nat.mod_mul_mod]
  have e3 : (b * g * g % p * g) % p = (b * g * g * g) % p := Nat.mod_mul_mod _ _ _
  rw [Nat.add_mod, Nat.add_mod ((g * x % p) * (g * x % p) * (g * x % p)), e1, e2, e3, ← Nat.add_mod (g * x * (g * x) * (g * x)), ← Nat.add_mod]
  congr 1
  grind
/-- the two numbers of points -/
theorem tw_off {p a b : Nat} (hp : p ∈ PL) : off p (a * nq p * nq p % p) (b * nq p * nq p % p * nq p) p + off p a b p = 2 * p + 2 := by
  have lo := pl_lo hp
  obtain ⟨g0, gl, -, -, h2⟩ := nq_s hp
  rw [ns_off, ns_off p a b, ← ns_perm hp g0 gl (f := fun x => np p (cb p (a * nq p * nq p % p) (b * nq p * nq p % p * nq p) x)) (fun x => np_le _ _)]
  have := ns_2 (f := fun x => np p (cb p (a * nq p * nq p % p) (b * nq p * nq p % p * nq p) (nq p * x % p))) (h := fun x => np p (cb p a b x)) p (fun x hx => by
    show np p (cb p (a * nq p * nq p % p) (b * nq p * nq p % p * nq p) (nq p * x % p)) + np p (cb p a b x) = 2
    rw [tw_cb]
    exact h2 _ (Nat.mod_lt _ (by omega)))
  omega
end
section
/-! Walks: squares, the twist, changes, primes. -/
theorem sq_iff {p g z : Nat} (p0 : 0 < p) (hg : g < p) : md p ((z : Int) * z - g) = 0 ↔ z * z % p = g := by
  rw [md_z p0]
  have e : (z : Int) * z - g = ((z * z : Nat) : Int) - (g : Int) := by rw [Int.natCast_mul]
  rw [e, ← Int.emod_eq_emod_iff_emod_sub_eq_zero, ← Int.natCast_emod, ← Int.natCast_emod, Nat.mod_eq_of_lt hg]
  exact Int.ofNat_inj
section
variable {p a b : Nat} {f_a f_b f_count f_known f_most f_leastMost : Int32} {aX aY fA ro sm : Nat → Int32} {xs ys : Nat → Int32}
theorem Y_sq (hp : p ∈ PL) {g : Nat} (hg : g < p) {post : Int32 → Prop} (h1 : rt p g < p → post 1) (h0 : rt p g = p → post 0) : wpY_isSquare post (nI p, f_a, f_b, f_count, xs, ys) (nI g) := by
  have lo := pl_lo hp
  have go : ∀ d z : Nat, z + d = p → (∀ y, y < z → ¬ y * y % p = g) → wY_isSquare_2 post (nI g) (nI p) f_a f_b f_count xs ys (d + 1) (nI z) := by
    intro d
    induction d with
    | zero =>
      intro z hz no
      refine br_t (nI_le (by omega) (by omega)) (h0 ?_)
      rcases Nat.lt_or_ge (rt p g) p with c | c
      · exact absurd (rt_s c) (no _ (by omega))
      · have := rt_le p g
        omega
    | succ d ih =>
      intro z hz no
      have zz : z * z ≤ 61 * 61 := bm (by omega) (by omega)
      have ml := md_lt (p := p) (by omega) ((z : Int) * z - g)
      refine br_f (nI_ge (by omega) (by omega)) (Y_rest hp ((z : Int) * z - g) (by rw [ii_n, ii_n, ii_m, ii_s]) (by rw [← Int.natCast_mul]; omega) (by rw [← Int.natCast_mul]; omega) ?_)
      refine ni_eq (b := 0) (by omega) (by omega) (fun w => ?_) (fun w => ?_)
      · exact h1 (rt_all hp (show z < p by omega) ((sq_iff (by omega) hg).mp w)).1
      · refine nm_r (nI_1 z) (ih (z + 1) (by omega) (fun y hy => ?_))
        rcases Nat.lt_or_ge y z with c | c
        · exact no y c
        · have : y = z := by omega
          rw [this]
          exact fun q => w ((sq_iff (by omega) hg).mpr q)
  exact ⟨_, go p 0 (by omega) (fun y hy => by omega)⟩
theorem Y_t60 (hp : p ∈ PL) {c e g x N : Nat} (hc : c < p) (he : e < p) (hg : g < p) (hx : x < p) (hN : N ≤ 1000) {post : Int32 → Prop} {J : Int32 → Int32 → Prop} (H : J (nI (N + np p (cb p c (e * g) x))) (nI (x + 1))) : ∀ d y : Nat, y + d = p → wY_twist_60 post J (nI g) (nI c) (nI e) (nI x) (nI p) f_a f_b f_count xs ys (d + 1) (nI (N + cq p (rt p (cb p c (e * g) x)) y)) (nI y) := by
  have lo := pl_lo hp
  have rl := rt_le p (cb p c (e * g) x)
  have r2 : rt p (cb p c (e * g) x) < p → 2 * rt p (cb p c (e * g) x) < p := fun h => (rt_all hp h (rt_s h)).2.2
  intro d
  induction d with
  | zero =>
    intro y hy
    have e' : y = p := by omega
    subst e'
    refine br_t (nI_le (by omega) (by omega)) (nm_r (nI_1 x) ?_)
    rw [cq_p rl r2]
    exact H
  | succ d ih =>
    intro y hy
    have yy : y * y ≤ 61 * 61 := bm (by omega) (by omega)
    have xx : x * x ≤ 61 * 61 := bm (by omega) (by omega)
    have xxx : x * x * x ≤ 61 * 61 * 61 := bm xx (by omega)
    have ax : c * x ≤ 61 * 61 := bm (by omega) (by omega)
    have eg : e * g ≤ 61 * 61 := bm (by omega) (by omega)
    have cl := cq_le p (rt p (cb p c (e * g) x)) y
    have nx := ih (y + 1) (by omega)
    refine br_f (nI_ge (by omega) (by omega)) (Y_rest hp ((y : Int) * y - (x : Int) * x * x - (c : Int) * x - ((e * g : Nat) : Int)) ?_ ?_ ?_ ?_)
    · rw [ii_n, ii_n, ii_n, ii_n, ii_n, ii_m, ii_m, ii_m, ii_m, ii_m, ii_s, ii_s, ii_s, Int.natCast_mul]
    · rw [← Int.natCast_mul y y, ← Int.natCast_mul x x, ← Int.natCast_mul, ← Int.natCast_mul]; omega
    · rw [← Int.natCast_mul y y, ← Int.natCast_mul x x, ← Int.natCast_mul, ← Int.natCast_mul]; omega
    · have on := on_iff (p := p) (a := c) (b := e * g) (x := x) (y := y) (by omega)
      have ml := md_lt (p := p) (by omega) ((y : Int) * y - (x : Int) * x * x - (c : Int) * x - ((e * g : Nat) : Int))
      refine ni_eq (b := 0) (by omega) (by omega) (fun z => ?_) (fun z => ?_)
      · have o := on.mp z
        obtain ⟨q1, q2, q3⟩ := rt_all hp (show y < p by omega) o
        have st : cq p (rt p (cb p c (e * g) x)) (y + 1) = cq p (rt p (cb p c (e * g) x)) y + 1 := by
          rcases q2 with e1 | ⟨z0, e1⟩
          · have := cq_hit1 q1 q3
            rw [e1, this.1, this.2]
          · have e' : y = p - rt p (cb p c (e * g) x) := by omega
            have := cq_hit2 q1 z0 q3
            rw [e', this.1, this.2]
        rw [st, ← Nat.add_assoc] at nx
        exact nm_r (nI_1 _) (nm_r (nI_1 y) nx)
      · have m : cq p (rt p (cb p c (e * g) x)) (y + 1) = cq p (rt p (cb p c (e * g) x)) y := by
          refine cq_miss (fun e1 => ?_) (fun q1 q2 e1 => ?_)
          · exact z (on.mpr (by rw [e1]; exact rt_s (by omega)))
          · exact z (on.mpr (by rw [e1, sq_neg q1]; exact rt_s q1))
        rw [m] at nx
        exact nm_r (nI_1 y) nx
theorem Y_t48 (hp : p ∈ PL) {c e g : Nat} (hc : c < p) (he : e < p) (hg : g < p) {post : Int32 → Prop} (H : post (nI (off p c (e * g) p))) : ∀ d x : Nat, x + d = p → wY_twist_48 post (nI g) (nI c) (nI e) (nI p) f_a f_b f_count xs ys (d + 1) (nI (off p c (e * g) x)) (nI x) := by
  have lo := pl_lo hp
  intro d
  induction d with
  | zero =>
    intro x hx
    have e' : x = p := by omega
    subst e'
    exact br_t (nI_le (by omega) (by omega)) H
  | succ d ih =>
    intro x hx
    have ol := off_le p c (e * g) x
    refine br_f (nI_ge (by omega) (by omega)) ⟨p + 1, ?_⟩
    have := Y_t60 hp hc he hg (x := x) (N := off p c (e * g) x) (by omega) (by omega) (post := post) (J := wY_twist_48 post (nI g) (nI c) (nI e) (nI p) f_a f_b f_count xs ys (d + 1)) (f_a := f_a) (f_b := f_b) (f_count := f_count) (xs := xs) (ys := ys) (ih (x + 1) (by omega)) p 0 (by omega)
    rw [cq_0, Nat.add_zero] at this
    exact this
theorem Y_twist (hp : p ∈ PL) (ha : a < p) (hb : b < p) {post : Int32 → Prop} (H : post (nI (2 * p + 2 - off p a b p))) : wpY_twist post (nI p, nI a, nI b, f_count, xs, ys) := by
  have lo := pl_lo hp
  obtain ⟨g0, gl, gr, gs, -⟩ := nq_s hp
  have tw := tw_off (a := a) (b := b) hp
  have go : ∀ d g : Nat, g + d = nq p → 1 ≤ g → wY_twist_2 post (nI p) (nI a) (nI b) f_count xs ys (d + 1) (nI g) := by
    intro d
    induction d with
    | zero =>
      intro g hg g1
      have e : g = nq p := by omega
      unfold wY_twist_2
      refine Y_sq hp (show g < p by omega) (fun q => by rw [e] at q; omega) (fun _ => ?_)
      refine br_t rfl ?_
      have ag : a * g ≤ 61 * 61 := bm (by omega) (by omega)
      have agg : a * g * g ≤ 61 * 61 * 61 := bm ag (by omega)
      have bg : b * g ≤ 61 * 61 := bm (by omega) (by omega)
      have bgg : b * g * g ≤ 61 * 61 * 61 := bm bg (by omega)
      refine Y_rest hp ((a * g * g : Nat) : Int) (by rw [pk_mul, pk_mul, ii_n]) (by omega) (by omega) ?_
      rw [md_n]
      refine Y_rest hp ((b * g * g : Nat) : Int) (by rw [pk_mul, pk_mul, ii_n]) (by omega) (by omega) ?_
      rw [md_n]
      refine ⟨p + 1, Y_t48 hp (Nat.mod_lt _ (by omega)) (Nat.mod_lt _ (by omega)) (by omega) ?_ p 0 (by omega)⟩
      rw [e]
      have e2 : 2 * p + 2 - off p a b p = off p (a * nq p * nq p % p) (b * nq p * nq p % p * nq p) p := by omega
      rw [e2] at H
      exact H
    | succ d ih =>
      intro g hg g1
      unfold wY_twist_2
      have r := gs g (by omega) (by omega)
      refine Y_sq hp (show g < p by omega) (fun _ => ?_) (fun q => by omega)
      exact br_f (by decide) (nm_r (nI_1 g) (ih (g + 1) (by omega) (by omega)))
  exact ⟨_, go (nq p - 1) 1 (by omega) (by omega)⟩
/-! changes -/
/-- the change u takes the curve to (c, d) -/
def chg (p a b c d u : Nat) : Bool := (a * pw p u 4 % p == c) && (b * pw p u 6 % p == d)
theorem X_ch (hp : p ∈ PL) (ha : a < p) (hb : b < p) {c d : Nat} (hc : c < p) (hd : d < p) {post : Int32 → Prop} (H : post (nI (cn (fun u => chg p a b c d (u + 1)) (p - 1)))) : ∀ k u : Nat, u + k = p - 1 → wX_changes_31 post (nI c) (nI d) (nI p) (nI a) (nI b) f_count f_known f_most f_leastMost aX aY fA ro sm (k + 1) (nI (cn (fun u => chg p a b c d (u + 1)) u)) (nI (u + 1)) := by
  have lo := pl_lo hp
  intro k
  induction k with
  | zero =>
    intro u hu
    have e : u = p - 1 := by omega
    subst e
    exact br_t (nI_le (by omega) (by omega)) H
  | succ k ih =>
    intro u hu
    have nx := ih (u + 1) (by omega)
    have st := cn_s (fun u => chg p a b c d (u + 1)) u
    have mu1 : md p ((u + 1 : Nat) : Int) = u + 1 := by rw [md_n]; exact Nat.mod_eq_of_lt (by omega)
    have p4 := pw_lt hp (u + 1) 4
    have p6 := pw_lt hp (u + 1) 6
    have a4 : a * pw p (u + 1) 4 ≤ 61 * 61 := bm (by omega) (by omega)
    have b6 : b * pw p (u + 1) 6 ≤ 61 * 61 := bm (by omega) (by omega)
    have m4 : a * pw p (u + 1) 4 % p < p := Nat.mod_lt _ (by omega)
    have m6 : b * pw p (u + 1) 6 % p < p := Nat.mod_lt _ (by omega)
    have no : ¬ (a * pw p (u + 1) 4 % p = c ∧ b * pw p (u + 1) 6 % p = d) → ¬ chg p a b c d (u + 1) = true := by
      intro n z
      unfold chg at z
      rw [Bool.and_eq_true] at z
      exact n ⟨eq_of_beq z.1, eq_of_beq z.2⟩
    refine br_f (nI_ge (by omega) (by omega)) ?_
    refine X_pow hp ((u + 1 : Nat) : Int) (ii_n _) (by omega) (by omega) 4 (by omega) ?_
    refine X_pow hp ((u + 1 : Nat) : Int) (ii_n _) (by omega) (by omega) 6 (by omega) ?_
    rw [mu1]
    refine X_mod hp ((a * pw p (u + 1) 4 : Nat) : Int) (by rw [pk_mul, ii_n]) (by omega) (by omega) ?_
    rw [md_n]
    refine ni_eq (by omega) (by omega) (fun z => ?_) (fun z => ?_)
    · refine X_mod hp ((b * pw p (u + 1) 6 : Nat) : Int) (by rw [pk_mul, ii_n]) (by omega) (by omega) ?_
      rw [md_n]
      refine ni_eq (by omega) (by omega) (fun w => ?_) (fun w => ?_)
      · have y : chg p a b c d (u + 1) = true := by
          unfold chg
          rw [Bool.and_eq_true]
          exact ⟨beq_iff_eq.mpr z, beq_iff_eq.mpr w⟩
        rw [if_pos y] at st
        rw [st] at nx
        exact br_f (by decide) (nm_r (nI_1 _) (nm_r (nI_1 (u + 1)) nx))
      · rw [if_neg (no (fun q => w q.2))] at st
        rw [st] at nx
        exact br_t rfl (nm_r (nI_1 (u + 1)) nx)
    · rw [if_neg (no (fun q => z q.1))] at st
      rw [st] at nx
      exact br_t rfl (nm_r (nI_1 (u + 1)) nx)
theorem md_sub {w c : Nat} (p0 : 0 < p) (hc : c < p) : md p ((w : Int) - c) = 0 ↔ w % p = c := by
  rw [md_z p0, ← Int.emod_eq_emod_iff_emod_sub_eq_zero, ← Int.natCast_emod, ← Int.natCast_emod, Nat.mod_eq_of_lt hc]
  exact Int.ofNat_inj
theorem Y_ch (hp : p ∈ PL) (ha : a < p) (hb : b < p) {c d : Nat} (hc : c < p) (hd : d < p) {post : Int32 → Prop} (H : post (nI (cn (fun u => chg p a b c d (u + 1)) (p - 1)))) : ∀ k u : Nat, u + k = p - 1 → wY_changes_31 post (nI c) (nI d) (nI p) (nI a) (nI b) f_count xs ys (k + 1) (nI (cn (fun u => chg p a b c d (u + 1)) u)) (nI (u + 1)) := by
  have lo := pl_lo hp
  intro k
  induction k with
  | zero =>
    intro u hu
    have e : u = p - 1 := by omega
    subst e
    exact br_t (nI_le (by omega) (by omega)) H
  | succ k ih =>
    intro u hu
    have nx := ih (u + 1) (by omega)
    have st := cn_s (fun u => chg p a b c d (u + 1)) u
    have pp := pl_pow hp (show u + 1 < p by omega)
    have p4 := pw_lt hp (u + 1) 4
    have p6 := pw_lt hp (u + 1) 6
    have a4 : a * pw p (u + 1) 4 ≤ 61 * 61 := bm (by omega) (by omega)
    have b6 : b * pw p (u + 1) 6 ≤ 61 * 61 := bm (by omega) (by omega)
    have uu : (u + 1) * (u + 1) ≤ 61 * 61 := bm (by omega) (by omega)
    have ql : (u + 1) * (u + 1) % p < p := Nat.mod_lt _ (by omega)
    have qq : ((u + 1) * (u + 1) % p) * ((u + 1) * (u + 1) % p) ≤ 61 * 61 := bm (by omega) (by omega)
    have fl : ((u + 1) * (u + 1) % p) * ((u + 1) * (u + 1) % p) % p < p := Nat.mod_lt _ (by omega)
    have fq : (((u + 1) * (u + 1) % p) * ((u + 1) * (u + 1) % p) % p) * ((u + 1) * (u + 1) % p) ≤ 61 * 61 := bm (by omega) (by omega)
    have no : ¬ (a * pw p (u + 1) 4 % p = c ∧ b * pw p (u + 1) 6 % p = d) → ¬ chg p a b c d (u + 1) = true := by
      intro n z
      unfold chg at z
      rw [Bool.and_eq_true] at z
      exact n ⟨eq_of_beq z.1, eq_of_beq z.2⟩
    refine br_f (nI_ge (by omega) (by omega)) ?_
    refine Y_rest hp (((u + 1) * (u + 1) : Nat) : Int) (by rw [pk_mul, ii_n]) (by omega) (by omega) ?_
    rw [md_n]
    refine Y_rest hp ((((u + 1) * (u + 1) % p) * ((u + 1) * (u + 1) % p) : Nat) : Int) (by rw [pk_mul, ii_n]) (by omega) (by omega) ?_
    rw [md_n]
    refine Y_rest hp (((((u + 1) * (u + 1) % p) * ((u + 1) * (u + 1) % p) % p) * ((u + 1) * (u + 1) % p) : Nat) : Int) (by rw [pk_mul, ii_n]) (by omega) (by omega) ?_
    rw [md_n, ← pp.2, ← pp.1]
    have ml1 := md_lt (p := p) (by omega) (((a * pw p (u + 1) 4 : Nat) : Int) - c)
    have ml2 := md_lt (p := p) (by omega) (((b * pw p (u + 1) 6 : Nat) : Int) - d)
    refine Y_rest hp (((a * pw p (u + 1) 4 : Nat) : Int) - c) (by rw [pk_mul, ii_n, ii_n, ii_s]) (by omega) (by omega) ?_
    refine ni_eq (b := 0) (by omega) (by omega) (fun z => ?_) (fun z => ?_)
    · refine Y_rest hp (((b * pw p (u + 1) 6 : Nat) : Int) - d) (by rw [pk_mul, ii_n, ii_n, ii_s]) (by omega) (by omega) ?_
      refine ni_eq (b := 0) (by omega) (by omega) (fun w => ?_) (fun w => ?_)
      · have y : chg p a b c d (u + 1) = true := by
          unfold chg
          rw [Bool.and_eq_true]
          exact ⟨beq_iff_eq.mpr ((md_sub (by omega) hc).mp z), beq_iff_eq.mpr ((md_sub (by omega) hd).mp w)⟩
        rw [if_pos y] at st
        rw [st] at nx
        exact nm_r (nI_1 _) (nm_r (nI_1 (u + 1)) nx)
      · rw [if_neg (no (fun q => w ((md_sub (by omega) hd).mpr q.2)))] at st
        rw [st] at nx
        exact nm_r (nI_1 (u + 1)) nx
    · rw [if_neg (no (fun q => z ((md_sub (by omega) hc).mpr q.1)))] at st
      rw [st] at nx
      exact nm_r (nI_1 (u + 1)) nx
end
end
section
/-! Walks: primes, bounds of the arguments, search. -/
def prt (k : Nat) : Nat → Nat → Bool
  | 0, _ => true
  | d + 1, q => if k < q * q then true else if k % q = 0 then false else prt k d (q + 1)
theorem prt_ok : ar (fun k => Nat.blt k 5 || (prt k 6 2 == PL.contains k)) 62 = true := by decide +kernel
theorem prt_s {k : Nat} (h5 : 5 ≤ k) (h61 : k ≤ 61) : prt k 6 2 = true ↔ k ∈ PL := by
  have h := ar_s prt_ok (show k < 62 by omega)
  rw [Bool.or_eq_true] at h
  rcases h with h | h
  · have := Nat.le_of_ble_eq_true h
    omega
  · rw [eq_of_beq h]
    exact List.contains_iff_mem
section
variable {f_p f_a f_b f_count f_known f_most f_leastMost : Int32} {aX aY fA ro sm : Nat → Int32} {xs ys : Nat → Int32}
theorem X_ip0 (x : Int32) {post : Int32 → Prop} (h : post 0) : ∀ d q : Nat, q + d = 8 → wX_isPrime_19 post x f_p f_a f_b f_count f_known f_most f_leastMost aX aY fA ro sm (d + 1) 0 (nI q) := by
  intro d
  induction d with
  | zero =>
    intro q hq
    exact br_c (fun _ => And.intro narrow_b0 h) (fun _ => br_t (nI_le (a := 8) (by omega) (by omega)) (And.intro narrow_b0 h))
  | succ d ih =>
    intro q hq
    exact br_c (fun _ => And.intro narrow_b0 h) (fun _ => br_f (nI_ge (b := 8) (by omega) (by omega)) (br_t rfl (nm_r (nI_1 q) (ih (q + 1) (by omega)))))
theorem X_ip1 {k : Nat} (hk : k < 64) {post : Int32 → Prop} : ∀ d q : Nat, q + d = 8 → 2 ≤ q → post (if prt k d q = true then 1 else 0) → wX_isPrime_19 post (nI k) f_p f_a f_b f_count f_known f_most f_leastMost aX aY fA ro sm (d + 1) 1 (nI q) := by
  intro d
  induction d with
  | zero =>
    intro q hq q2 h
    have e : q = 8 := by omega
    subst e
    refine br_t ?_ (And.intro narrow_b1 h)
    rw [pk_mul]
    exact nI_lt (by omega) (by omega)
  | succ d ih =>
    intro q hq q2 h
    have e : prt k (d + 1) q = if k < q * q then true else if k % q = 0 then false else prt k d (q + 1) := rfl
    have qq : q * q ≤ 8 * 8 := bm (by omega) (by omega)
    rw [wX_isPrime_19]
    dsimp only
    rw [pk_mul]
    refine ni_lt (by omega) (by omega) (fun c => ?_) (fun c => ?_)
    · rw [if_pos c] at e
      rw [e, if_pos rfl] at h
      exact And.intro narrow_b1 h
    · have c' : ¬ k < q * q := by omega
      rw [if_neg c'] at e
      refine br_f (nI_ge (b := 8) (by omega) (by omega)) (br_f (by decide) (And.intro (nI_ne0 (by omega) (by omega)) ?_))
      rw [pk_rem (by omega) (by omega) (by omega)]
      have ml : k % q < q := Nat.mod_lt _ (by omega)
      refine ni_eq (b := 0) (by omega) (by omega) (fun z => ?_) (fun z => ?_)
      · rw [if_pos z] at e
        rw [e, if_neg (by decide)] at h
        exact nm_r (nI_1 q) (X_ip0 _ h d (q + 1) (by omega))
      · rw [if_neg z] at e
        rw [e] at h
        exact nm_r (nI_1 q) (ih (q + 1) (by omega) (by omega) h)
theorem Y_ip1 {k : Nat} (hk : k < 64) {post : Int32 → Prop} : ∀ d q : Nat, q + d = 8 → 2 ≤ q → post (if prt k d q = true then 1 else 0) → wY_isPrime_15 post (nI k) f_p f_a f_b f_count xs ys (d + 1) (nI q) := by
  intro d
  induction d with
  | zero =>
    intro q hq q2 h
    have e : q = 8 := by omega
    subst e
    refine br_t ?_ h
    rw [pk_mul]
    exact nI_lt (by omega) (by omega)
  | succ d ih =>
    intro q hq q2 h
    have e : prt k (d + 1) q = if k < q * q then true else if k % q = 0 then false else prt k d (q + 1) := rfl
    have qq : q * q ≤ 8 * 8 := bm (by omega) (by omega)
    rw [wY_isPrime_15]
    dsimp only
    rw [pk_mul]
    refine ni_lt (by omega) (by omega) (fun c => ?_) (fun c => ?_)
    · rw [if_pos c] at e
      rw [e, if_pos rfl] at h
      exact h
    · have c' : ¬ k < q * q := by omega
      rw [if_neg c'] at e
      refine And.intro (nI_ne0 (by omega) (by omega)) ?_
      rw [pk_rem (by omega) (by omega) (by omega)]
      have ml : k % q < q := Nat.mod_lt _ (by omega)
      refine ni_eq (b := 0) (by omega) (by omega) (fun z => ?_) (fun z => ?_)
      · rw [if_pos z] at e
        rw [e, if_neg (by decide)] at h
        exact h
      · rw [if_neg z] at e
        rw [e] at h
        exact nm_r (nI_1 q) (ih (q + 1) (by omega) (by omega) h)
theorem X_prime (x : Int32) {post : Int32 → Prop} (h0 : (∀ k, k ∈ PL → ¬ x = nI k) → post 0) (h1 : ∀ k, k ∈ PL → x = nI k → post 1) : wpX_isPrime post (f_p, f_a, f_b, f_count, f_known, f_most, f_leastMost, aX, aY, fA, ro, sm) x := by
  refine br_c (fun c => ⟨7, X_ip0 x (h0 (fun k hk e => ?_)) 6 2 (by omega)⟩) (fun c => br_c (fun c2 => ⟨7, X_ip0 x (h0 (fun k hk e => ?_)) 6 2 (by omega)⟩) (fun c2 => ⟨7, ?_⟩))
  · have lo := pl_lo hk
    rw [e] at c
    exact nI_ge (a := 4) (by omega) (by omega) c
  · have lo := pl_lo hk
    rw [e] at c2
    exact nI_ge (b := 62) (by omega) (by omega) c2
  · have n0 : ¬ x < 0 := fun z => c (Int32.le_of_lt (Int32.lt_of_lt_of_le z (by decide)))
    obtain ⟨k, hk, e⟩ := nI_of n0
    subst e
    have k5 : 5 ≤ k := by
      rcases Nat.lt_or_ge k 5 with z | z
      · exact absurd (nI_le (b := 4) (by omega) (by omega)) c
      · exact z
    have k61 : k ≤ 61 := by
      rcases Nat.lt_or_ge 61 k with z | z
      · exact absurd (nI_le (a := 62) (by omega) (by omega)) c2
      · exact z
    refine X_ip1 (by omega) 6 2 (by omega) (by omega) ?_
    have q := prt_s k5 k61
    by_cases z : prt k 6 2 = true
    · rw [if_pos z]; exact h1 k (q.mp z) rfl
    · rw [if_neg z]
      refine h0 (fun k' hk' e => z (q.mpr ?_))
      have := pl_lo hk'
      rw [nI_eq (by omega) (by omega)] at e
      rw [e]; exact hk'
theorem Y_prime (x : Int32) {post : Int32 → Prop} (h0 : (∀ k, k ∈ PL → ¬ x = nI k) → post 0) (h1 : ∀ k, k ∈ PL → x = nI k → post 1) : wpY_isPrime post (f_p, f_a, f_b, f_count, xs, ys) x := by
  refine br_c (fun c => h0 (fun k hk e => ?_)) (fun c => br_c (fun c2 => ⟨7, ?_⟩) (fun c2 => h0 (fun k hk e => ?_)))
  · have lo := pl_lo hk
    rw [e] at c
    exact nI_nlt (b := 5) (by omega) (by omega) c
  · have n0 : ¬ x < 0 := fun z => c (Int32.lt_trans z (by decide))
    obtain ⟨k, hk, e⟩ := nI_of n0
    subst e
    have k5 : 5 ≤ k := by
      rcases Nat.lt_or_ge k 5 with z | z
      · exact absurd (nI_lt (b := 5) (by omega) (by omega)) c
      · exact z
    have k61 : k ≤ 61 := (nI_leI (b := 61) hk (by omega)).mp c2
    refine Y_ip1 (by omega) 6 2 (by omega) (by omega) ?_
    have q := prt_s k5 k61
    by_cases z : prt k 6 2 = true
    · rw [if_pos z]; exact h1 k (q.mp z) rfl
    · rw [if_neg z]
      refine h0 (fun k' hk' e => z (q.mpr ?_))
      have := pl_lo hk'
      rw [nI_eq (by omega) (by omega)] at e
      rw [e]; exact hk'
  · have lo := pl_lo hk
    rw [e] at c2
    exact c2 (nI_le (b := 61) (by omega) (by omega))
/-! bounds -/
theorem X_bp {n : Nat} (x : Int32) {post : Int32 → Prop} (h1 : (x < 0 ∨ nI n ≤ x) → post 1) (h0 : ¬ (x < 0 ∨ nI n ≤ x) → post 0) : wpX_badPoint post (f_p, f_a, f_b, nI n, f_known, f_most, f_leastMost, aX, aY, fA, ro, sm) x :=
  br_c (fun c => h1 (Or.inl c)) (fun c => br_c (fun c2 => h0 (fun z => z.elim c (fun w => Int32.not_le.mpr c2 w))) (fun c2 => h1 (Or.inr (Int32.not_lt.mp c2))))
theorem Y_bp {n : Nat} (x : Int32) {post : Int32 → Prop} (h1 : (x < 0 ∨ nI n ≤ x) → post 1) (h0 : ¬ (x < 0 ∨ nI n ≤ x) → post 0) : wpY_noPoint post (f_p, f_a, f_b, nI n, xs, ys) x :=
  br_c (fun c => h1 (Or.inl c)) (fun c => br_c (fun c2 => h0 (fun z => z.elim c (fun w => Int32.not_le.mpr c2 w))) (fun c2 => h1 (Or.inr (Int32.not_lt.mp c2))))
theorem X_bm (x : Int32) {post : Int32 → Prop} (h1 : (x < 1 ∨ ¬ x ≤ 1000) → post 1) (h0 : ¬ (x < 1 ∨ ¬ x ≤ 1000) → post 0) : wpX_badMultiple post (f_p, f_a, f_b, f_count, f_known, f_most, f_leastMost, aX, aY, fA, ro, sm) x :=
  br_c (fun c => h1 (Or.inl c)) (fun c => br_c (fun c2 => h0 (fun z => z.elim c (fun w => w c2))) (fun c2 => h1 (Or.inr c2)))
theorem Y_bm (x : Int32) {post : Int32 → Prop} (h1 : (x < 1 ∨ ¬ x ≤ 1000) → post 1) (h0 : ¬ (x < 1 ∨ ¬ x ≤ 1000) → post 0) : wpY_noTimes post (f_p, f_a, f_b, f_count, xs, ys) x :=
  br_c (fun c => h1 (Or.inl c)) (fun c => br_c (fun c2 => h0 (fun z => z.elim c (fun w => w c2))) (fun c2 => h1 (Or.inr c2)))
end
theorem in_pt {x : Int32} {n : Nat} (hn : n < 1000) (h : ¬ (x < 0 ∨ nI n ≤ x)) : ∃ i, i < n ∧ x = nI i := by
  rcases pk_ix x (n := n) (by omega) with c | c | c
  · exact absurd (Or.inl c) h
  · exact absurd (Or.inr c) h
  · exact c
theorem in_ml {x : Int32} (h : ¬ (x < 1 ∨ ¬ x ≤ 1000)) : ∃ m, 1 ≤ m ∧ m ≤ 1000 ∧ x = nI m := by
  have h1 : ¬ x < 1 := fun z => h (Or.inl z)
  have h2 : x ≤ 1000 := Classical.byContradiction (fun z => h (Or.inr z))
  have n0 : ¬ x < 0 := fun z => h1 (Int32.lt_trans z (by decide))
  obtain ⟨k, hk, e⟩ := nI_of n0
  subst e
  refine ⟨k, ?_, (nI_leI (b := 1000) hk (by omega)).mp h2, rfl⟩
  rcases Nat.eq_zero_or_pos k with z | z
  · exact absurd (nI_lt (b := 1) (by omega) (by omega)) h1
  · exact z
end
section
/-! Walks: search for a point. -/
section
variable {p a b : Nat} {f_known f_most f_leastMost : Int32} {aX aY fA ro sm : Nat → Int32} {xs ys : Nat → Int32}
theorem X_fnd (hp : p ∈ PL) (ha : a < p) (hb : b < p) (h1 : HX p a b (off p a b p) aX aY) (h2 : HF p a b p fA) (x y : Int32) {post : Int32 → Prop} (hA : ∀ m r t, Pt p a b m r t → x = nI r → y = nI t → post (nI m)) (hB : (∀ m r t, Pt p a b m r t → ¬ (x = nI r ∧ y = nI t)) → post (-4)) : wpX_find post (nI p, nI a, nI b, nI (off p a b p), f_known, f_most, f_leastMost, aX, aY, fA, ro, sm) x y := by
  have lo := pl_lo hp
  have o8 := off_80 hp ha hb
  refine br_c (fun c => hB (fun m r t q e => ?_)) (fun c => br_c (fun c2 => hB (fun m r t q e => ?_)) (fun c2 => br_c (fun c3 => hB (fun m r t q e => ?_)) (fun c3 => br_c (fun c4 => hB (fun m r t q e => ?_)) (fun c4 => ?_))))
  · have on := Pt_on q
    rw [e.1] at c
    exact nI_pos (by omega) c
  · have on := Pt_on q
    rw [e.1] at c2
    exact nI_ge on.1 (by omega) c2
  · have on := Pt_on q
    rw [e.2] at c3
    exact nI_pos (by omega) c3
  · have on := Pt_on q
    rw [e.2] at c4
    exact nI_ge on.2.1 (by omega) c4
  · obtain ⟨r, hr, er⟩ := in_pt (x := x) (n := p) (by omega) (fun z => z.elim c c2)
    obtain ⟨t, ht, et⟩ := in_pt (x := y) (n := p) (by omega) (fun z => z.elim c3 c4)
    subst er
    subst et
    have v1 : vp_in (nI r) 61 := vp_in_nI (by omega) (by omega)
    have cr : (nI r).toNatClampNeg = r := nI_clamp (by omega)
    have rl := rt_le p (cb p a b r)
    have uni : ∀ m r' t', Pt p a b m r' t' → (nI r = nI r' ∧ nI t = nI t') → Pt p a b m r t := by
      intro m r' t' q e
      have on := Pt_on q
      have e1 := (nI_eq (by omega) (by omega)).mp e.1
      have e2 := (nI_eq (by omega) (by omega)).mp e.2
      rw [e1, e2]
      exact q
    refine And.intro v1 ?_
    rw [cr, h2 r hr]
    by_cases cp : rt p (cb p a b r) = p
    · have f0 : fa p a b r = 0 := if_pos cp
      rw [f0]
      refine br_t nI_0 (hB (fun m r' t' q e => ?_))
      have q' := uni m r' t' q e
      have := q'.2.1
      omega
    · have f0 : fa p a b r = off p a b r := if_neg cp
      have rp : rt p (cb p a b r) < p := by omega
      have P1 : Pt p a b (off p a b r) r (rt p (cb p a b r)) := ⟨hr, rp, Or.inl ⟨rfl, rfl⟩⟩
      have pn := Pt_n P1
      have v2 : vp_in (nI (off p a b r)) 80 := vp_in_nI (by omega) (by omega)
      have ey : aY (nI (off p a b r)).toNatClampNeg = nI (rt p (cb p a b r)) := by
        rw [nI_clamp (by omega), (h1 _ pn.1 pn.2).2, (Pt_e P1).2]
      rw [f0]
      refine br_f (nI_ne0 (by omega) (by omega)) (And.intro v1 (nm_e (And.intro v2 ?_)))
      rw [ey]
      refine ni_eq (by omega) (by omega) (fun e => ?_) (fun e => And.intro v2 ?_)
      · rw [e] at P1
        exact hA _ _ _ P1 rfl rfl
      · have none : ¬ (rt p (cb p a b r) ≠ 0 ∧ rt p (cb p a b r) + t = p) → post (-4) := by
          intro no
          refine hB (fun m r' t' q e' => no ?_)
          have q' := uni m r' t' q e'
          rcases q'.2.2 with ⟨_, w⟩ | ⟨w1, _, w3⟩
          · exact absurd w.symm e
          · exact ⟨w1, by omega⟩
        refine ni_le (b := 0) (by omega) (by omega) (fun w => none (fun q => q.1 (by omega))) (fun w => And.intro v2 ?_)
        rw [nI_add]
        refine ni_eq (by omega) (by omega) (fun w2 => ?_) (fun w2 => none (fun q => w2 q.2))
        have P2 : Pt p a b (off p a b r + 1) r t := ⟨hr, rp, Or.inr ⟨by omega, rfl, by omega⟩⟩
        rw [nI_1]
        exact hA _ _ _ P2 rfl rfl
theorem Y_fnd0 (hp : p ∈ PL) (ha : a < p) (hb : b < p) (h1 : HX p a b (off p a b p) xs ys) (x y : Int32) {post : Int32 → Prop} (no : ∀ m r t, Pt p a b m r t → ¬ (x = nI r ∧ y = nI t)) (h : post (-4)) : wpY_find post (nI p, nI a, nI b, nI (off p a b p), xs, ys) x y := by
  have o8 := off_80 hp ha hb
  have n1 := off_pos p a b p
  refine ⟨off p a b p - 1 + 1, Y_find0 o8 h (off p a b p - 1) 1 (by omega) (fun j j1 jn e => ?_)⟩
  have q := h1 j j1 jn
  rw [q.1, q.2] at e
  exact no j _ _ (Pt_p j1 jn) ⟨e.1.symm, e.2.symm⟩
end
/-- what is refused -/
def cvBad (v1 v2 v3 : Int32) : Prop := (∀ k, k ∈ PL → ¬ v1 = nI k) ∨ v2 < 0 ∨ v1 ≤ v2 ∨ v3 < 0 ∨ ¬ v3 < v1
theorem cv_ok {p a b : Nat} {v1 v2 v3 : Int32} (hp : p ∈ PL) (ha : a < p) (hb : b < p) (e1 : v1 = nI p) (e2 : v2 = nI a) (e3 : v3 = nI b) : ¬ cvBad v1 v2 v3 := by
  have lo := pl_lo hp
  subst e1
  subst e2
  subst e3
  rintro (h | h | h | h | h)
  · exact h p hp rfl
  · exact nI_pos (by omega) h
  · exact nI_ge ha (by omega) h
  · exact nI_pos (by omega) h
  · exact h (nI_lt hb (by omega))
theorem cv_same {p a b p2 a2 b2 : Nat} {v1 v2 v3 : Int32} (hp : p ∈ PL) (ha : a < p) (hb : b < p) (e1 : v1 = nI p) (e2 : v2 = nI a) (e3 : v3 = nI b) (hp2 : p2 ∈ PL) (ha2 : a2 < p2) (hb2 : b2 < p2) (q1 : v1 = nI p2) (q2 : v2 = nI a2) (q3 : v3 = nI b2) : p = p2 ∧ a = a2 ∧ b = b2 := by
  have lo := pl_lo hp
  have lo2 := pl_lo hp2
  exact ⟨(nI_eq (by omega) (by omega)).mp (e1.symm.trans q1), (nI_eq (by omega) (by omega)).mp (e2.symm.trans q2), (nI_eq (by omega) (by omega)).mp (e3.symm.trans q3)⟩
theorem cv_disc {p a b : Nat} (hp : p ∈ PL) (ha : a < p) (hb : b < p) : (((((4 * nI a) * nI a) * nI a) + ((27 * nI b) * nI b)) - ((((4 * nI a) * nI a) * nI a) + ((27 * nI b) * nI b)) / nI p * nI p) = nI ((4 * a * a * a + 27 * b * b) % p) := by
  have lo := pl_lo hp
  have aa : a * a ≤ 61 * 61 := bm (by omega) (by omega)
  have aaa : a * a * a ≤ 61 * 61 * 61 := bm aa (by omega)
  have bb : b * b ≤ 61 * 61 := bm (by omega) (by omega)
  have e1 : (((4 : Int32) * nI a) * nI a) * nI a + (27 * nI b) * nI b = nI (4 * a * a * a + 27 * b * b) := by
    have k4 : (4 : Int32) = nI 4 := rfl
    have k27 : (27 : Int32) = nI 27 := rfl
    rw [k4, k27, pk_mul, pk_mul, pk_mul, pk_mul, pk_mul, nI_add]
  have bd : 4 * a * a * a + 27 * b * b < 2 ^ 31 := by
    have w1 : 4 * a * a * a = 4 * (a * a * a) := by simp only [Nat.mul_assoc]
    have w2 : 27 * b * b = 27 * (b * b) := by simp only [Nat.mul_assoc]
    omega
  rw [e1]
  exact pk_rem bd (by omega) (by omega)
section
variable {f_p f_a f_b f_count f_known f_most f_leastMost : Int32} {aX aY fA ro sm : Nat → Int32} {xs ys : Nat → Int32}
theorem cv_get {p : Nat} {v2 v3 : Int32} (hp : p ∈ PL) (c : ¬ v2 < 0) (c2 : ¬ nI p ≤ v2) (c3 : ¬ v3 < 0) (c4 : v3 < nI p) : ∃ a b, a < p ∧ b < p ∧ v2 = nI a ∧ v3 = nI b := by
  have lo := pl_lo hp
  obtain ⟨a, ha, ea⟩ := in_pt (x := v2) (n := p) (by omega) (fun z => z.elim c c2)
  obtain ⟨b, hb, eb⟩ := in_pt (x := v3) (n := p) (by omega) (fun z => z.elim c3 (fun w => Int32.not_le.mpr c4 w))
  exact ⟨a, b, ha, hb, ea, eb⟩
theorem X_curve (v1 v2 v3 : Int32) {post : Int32 → SX → Prop} (h0 : cvBad v1 v2 v3 → post (-1) (f_p, f_a, f_b, f_count, f_known, f_most, f_leastMost, aX, aY, fA, ro, sm)) (h4 : ∀ p a b, p ∈ PL → a < p → b < p → v1 = nI p → v2 = nI a → v3 = nI b → (4 * a * a * a + 27 * b * b) % p = 0 → post (-4) (f_p, f_a, f_b, f_count, f_known, f_most, f_leastMost, aX, aY, fA, ro, sm)) (h : ∀ p a b, p ∈ PL → a < p → b < p → v1 = nI p → v2 = nI a → v3 = nI b → ¬ (4 * a * a * a + 27 * b * b) % p = 0 → ∀ aX aY fA ro, HX p a b (off p a b p) aX aY → HF p a b p fA → post (nI (off p a b p)) (nI p, nI a, nI b, nI (off p a b p), 0, f_most, f_leastMost, aX, aY, fA, ro, sm)) : wpX_curve post (f_p, f_a, f_b, f_count, f_known, f_most, f_leastMost, aX, aY, fA, ro, sm) v1 v2 v3 := by
  unfold wpX_curve
  dsimp only
  refine X_prime v1 (fun n => br_t rfl (h0 (Or.inl n))) (fun p hp e => br_f (by decide) ?_)
  subst e
  have lo := pl_lo hp
  refine br_c (fun c => h0 (Or.inr (Or.inl c))) (fun c => ?_)
  refine br_c (fun c2 => h0 (Or.inr (Or.inr (Or.inl c2)))) (fun c2 => ?_)
  refine br_c (fun c3 => h0 (Or.inr (Or.inr (Or.inr (Or.inl c3))))) (fun c3 => ?_)
  refine br_c (fun c4 => ?_) (fun c4 => h0 (Or.inr (Or.inr (Or.inr (Or.inr c4)))))
  obtain ⟨a, b, ha, hb, ea, eb⟩ := cv_get hp c c2 c3 c4
  subst ea
  subst eb
  have ml : (4 * a * a * a + 27 * b * b) % p < p := Nat.mod_lt _ (by omega)
  refine And.intro (nI_ne0 (by omega) (by omega)) ?_
  rw [cv_disc hp ha hb]
  refine ni_eq (b := 0) (by omega) (by omega) (fun z => h4 p a b hp ha hb rfl rfl rfl z) (fun z => ?_)
  exact X_findPoints hp ha hb (fun aX aY fA ro g1 g2 => h p a b hp ha hb rfl rfl rfl z aX aY fA ro g1 g2)
theorem Y_curve (v1 v2 v3 : Int32) {post : Int32 → SY → Prop} (h0 : cvBad v1 v2 v3 → post (-1) (f_p, f_a, f_b, f_count, xs, ys)) (h4 : ∀ p a b, p ∈ PL → a < p → b < p → v1 = nI p → v2 = nI a → v3 = nI b → (4 * a * a * a + 27 * b * b) % p = 0 → post (-4) (f_p, f_a, f_b, f_count, xs, ys)) (h : ∀ p a b, p ∈ PL → a < p → b < p → v1 = nI p → v2 = nI a → v3 = nI b → ¬ (4 * a * a * a + 27 * b * b) % p = 0 → ∀ xs ys, HX p a b (off p a b p) xs ys → post (nI (off p a b p)) (nI p, nI a, nI b, nI (off p a b p), xs, ys)) : wpY_curve post (f_p, f_a, f_b, f_count, xs, ys) v1 v2 v3 := by
  unfold wpY_curve
  dsimp only
  refine Y_prime v1 (fun n => br_t rfl (h0 (Or.inl n))) (fun p hp e => br_f (by decide) ?_)
  subst e
  have lo := pl_lo hp
  refine br_c (fun c => h0 (Or.inr (Or.inl c))) (fun c => ?_)
  refine br_c (fun c2 => h0 (Or.inr (Or.inr (Or.inl c2)))) (fun c2 => ?_)
  refine br_c (fun c3 => h0 (Or.inr (Or.inr (Or.inr (Or.inl c3))))) (fun c3 => ?_)
  refine br_c (fun c4 => ?_) (fun c4 => h0 (Or.inr (Or.inr (Or.inr (Or.inr c4)))))
  obtain ⟨a, b, ha, hb, ea, eb⟩ := cv_get hp c c2 c3 c4
  subst ea
  subst eb
  have ml : (4 * a * a * a + 27 * b * b) % p < p := Nat.mod_lt _ (by omega)
  refine And.intro (nI_ne0 (by omega) (by omega)) ?_
  rw [cv_disc hp ha hb]
  refine ni_eq (b := 0) (by omega) (by omega) (fun z => h4 p a b hp ha hb rfl rfl rfl z) (fun z => ?_)
  exact Y_list hp ha hb (fun xs ys g3 => h p a b hp ha hb rfl rfl rfl z xs ys g3)
end
end
section
/-! What is owed. -/
def i_Rel (k : Nat) (u : SX) (v : SY) : Prop := ∃ (p a b : Nat) (s : Nat → Nat → Nat) (kn mo lm : Int32) (aX aY fA ro sm xs ys : Nat → Int32), (Cv p a b s ∧ HX p a b (off p a b p) aX aY ∧ HF p a b p fA ∧ HX p a b (off p a b p) xs ys ∧ Kn s (off p a b p) kn mo lm) ∧ u = (nI p, nI a, nI b, nI (off p a b p), kn, mo, lm, aX, aY, fA, ro, sm) ∧ v = (nI p, nI a, nI b, nI (off p a b p), xs, ys)
theorem i_up {k : Nat} {u : SX} {v : SY} (h : i_Rel k u v) : i_Rel (k + 4) u v := h
theorem rel_i {k p a b : Nat} {s : Nat → Nat → Nat} {kn mo lm : Int32} {aX aY fA ro sm xs ys : Nat → Int32} (C : Cv p a b s) (h1 : HX p a b (off p a b p) aX aY) (h2 : HF p a b p fA) (h3 : HX p a b (off p a b p) xs ys) (h4 : Kn s (off p a b p) kn mo lm) : i_Rel k (nI p, nI a, nI b, nI (off p a b p), kn, mo, lm, aX, aY, fA, ro, sm) (nI p, nI a, nI b, nI (off p a b p), xs, ys) :=
  ⟨p, a, b, s, kn, mo, lm, aX, aY, fA, ro, sm, xs, ys, ⟨C, h1, h2, h3, h4⟩, rfl, rfl⟩
theorem i_vc0 : wpX_init (fun u => wpY_init (fun v => i_Rel 0 u v)) := by
  have hp : 5 ∈ PL := by decide
  obtain ⟨s, C⟩ := cv_ex (p := 5) (a := 1) (b := 1) hp (by omega) (by omega) (by decide)
  unfold wpX_init
  refine X_findPoints (p := 5) (a := 1) (b := 1) hp (by omega) (by omega) (fun aX aY fA ro h1 h2 => ?_)
  unfold wpY_init
  refine Y_list (p := 5) (a := 1) (b := 1) hp (by omega) (by omega) (fun xs ys h3 => ?_)
  exact rel_i C h1 h2 h3 (Or.inl rfl)
theorem i_vc_curve {k : Nat} {u : SX} {v : SY} (I : i_Rel k u v) (hk : k + 4 ≤ 2048) (v1 : Int32) (v2 : Int32) (v3 : Int32) : wpX_curve (fun r u' => wpY_curve (fun r' v' => r' = r ∧ i_Rel (k + 4) u' v') v v1 v2 v3) u v1 v2 v3 := by
  obtain ⟨p, a, b, s, kn, mo, lm, aX, aY, fA, ro, sm, xs, ys, ⟨C, h1, h2, h3, h4⟩, rfl, rfl⟩ := id I
  refine X_curve v1 v2 v3 (fun bad => ?_) (fun p' a' b' hp' ha' hb' e1 e2 e3 z => ?_) (fun p' a' b' hp' ha' hb' e1 e2 e3 z aX' aY' fA' ro' g1 g2 => ?_)
  · refine Y_curve v1 v2 v3 (fun _ => ⟨rfl, I⟩) (fun p' a' b' hp' ha' hb' e1 e2 e3 z => ?_) (fun p' a' b' hp' ha' hb' e1 e2 e3 z xs' ys' g3 => ?_)
    · exact absurd bad (cv_ok hp' ha' hb' e1 e2 e3)
    · exact absurd bad (cv_ok hp' ha' hb' e1 e2 e3)
  · refine Y_curve v1 v2 v3 (fun bad => ?_) (fun _ _ _ _ _ _ _ _ _ _ => ⟨rfl, I⟩) (fun p2 a2 b2 hp2 ha2 hb2 q1 q2 q3 z2 xs' ys' g3 => ?_)
    · exact absurd bad (cv_ok hp' ha' hb' e1 e2 e3)
    · obtain ⟨w1, w2, w3⟩ := cv_same hp' ha' hb' e1 e2 e3 hp2 ha2 hb2 q1 q2 q3
      subst w1
      subst w2
      subst w3
      exact absurd z z2
  · refine Y_curve v1 v2 v3 (fun bad => ?_) (fun p2 a2 b2 hp2 ha2 hb2 q1 q2 q3 z2 => ?_) (fun p2 a2 b2 hp2 ha2 hb2 q1 q2 q3 z2 xs' ys' g3 => ?_)
    · exact absurd bad (cv_ok hp' ha' hb' e1 e2 e3)
    · obtain ⟨w1, w2, w3⟩ := cv_same hp' ha' hb' e1 e2 e3 hp2 ha2 hb2 q1 q2 q3
      subst w1
      subst w2
      subst w3
      exact absurd z2 z
    · obtain ⟨w1, w2, w3⟩ := cv_same hp' ha' hb' e1 e2 e3 hp2 ha2 hb2 q1 q2 q3
      subst w1
      subst w2
      subst w3
      obtain ⟨s', C'⟩ := cv_ex hp' ha' hb' z
      exact ⟨rfl, rel_i C' g1 g2 g3 (Or.inl rfl)⟩
theorem i_vc_points {k : Nat} {u : SX} {v : SY} (I : i_Rel k u v) (hk : k + 4 ≤ 2048) : wpX_points (fun r => wpY_points (fun r' => r' = r ∧ i_Rel (k + 4) u v) v) u := by
  obtain ⟨p, a, b, s, kn, mo, lm, aX, aY, fA, ro, sm, xs, ys, ⟨C, h1, h2, h3, h4⟩, rfl, rfl⟩ := id I
  exact (⟨rfl, I⟩ : nI (off p a b p) = nI (off p a b p) ∧ _)
theorem i_vc_x {k : Nat} {u : SX} {v : SY} (I : i_Rel k u v) (hk : k + 4 ≤ 2048) (v1 : Int32) : wpX_x (fun r => wpY_x (fun r' => r' = r ∧ i_Rel (k + 4) u v) v v1) u v1 := by
  obtain ⟨p, a, b, s, kn, mo, lm, aX, aY, fA, ro, sm, xs, ys, ⟨C, h1, h2, h3, h4⟩, rfl, rfl⟩ := id I
  have o8 := off_80 C.1 C.2.1 C.2.2.1
  unfold wpX_x
  dsimp only
  refine X_bp v1 (fun c => ?_) (fun c => ?_)
  · refine br_f (by decide) ?_
    unfold wpY_x
    dsimp only
    exact Y_bp v1 (fun _ => br_f (by decide) ⟨rfl, I⟩) (fun n => absurd c n)
  · obtain ⟨i, hi, e⟩ := in_pt (by omega) c
    subst e
    refine br_t rfl (br_c (fun z => ?_) (fun z => ?_))
    · unfold wpY_x
      dsimp only
      exact Y_bp _ (fun n => absurd n c) (fun _ => br_t rfl (br_t z ⟨rfl, I⟩))
    · have i0 : i ≠ 0 := fun w => z (by rw [w]; exact nI_0)
      have ci : (nI i).toNatClampNeg = i := nI_clamp (by omega)
      refine And.intro (vp_in_nI (by omega) (by omega)) ?_
      unfold wpY_x
      dsimp only
      refine Y_bp _ (fun n => absurd n c) (fun _ => br_t rfl (br_f z (And.intro (vp_in_nI (by omega) (by omega)) ⟨?_, I⟩)))
      rw [ci, (h1 i (by omega) hi).1, (h3 i (by omega) hi).1]
theorem i_vc_y {k : Nat} {u : SX} {v : SY} (I : i_Rel k u v) (hk : k + 4 ≤ 2048) (v1 : Int32) : wpX_y (fun r => wpY_y (fun r' => r' = r ∧ i_Rel (k + 4) u v) v v1) u v1 := by
  obtain ⟨p, a, b, s, kn, mo, lm, aX, aY, fA, ro, sm, xs, ys, ⟨C, h1, h2, h3, h4⟩, rfl, rfl⟩ := id I
  have o8 := off_80 C.1 C.2.1 C.2.2.1
  unfold wpX_y
  dsimp only
  refine X_bp v1 (fun c => ?_) (fun c => ?_)
  · refine br_f (by decide) ?_
    unfold wpY_y
    dsimp only
    exact Y_bp v1 (fun _ => br_f (by decide) ⟨rfl, I⟩) (fun n => absurd c n)
  · obtain ⟨i, hi, e⟩ := in_pt (by omega) c
    subst e
    refine br_t rfl (br_c (fun z => ?_) (fun z => ?_))
    · unfold wpY_y
      dsimp only
      exact Y_bp _ (fun n => absurd n c) (fun _ => br_t rfl (br_t z ⟨rfl, I⟩))
    · have i0 : i ≠ 0 := fun w => z (by rw [w]; exact nI_0)
      have ci : (nI i).toNatClampNeg = i := nI_clamp (by omega)
      refine And.intro (vp_in_nI (by omega) (by omega)) ?_
      unfold wpY_y
      dsimp only
      refine Y_bp _ (fun n => absurd n c) (fun _ => br_t rfl (br_f z (And.intro (vp_in_nI (by omega) (by omega)) ⟨?_, I⟩)))
      rw [ci, (h1 i (by omega) hi).2, (h3 i (by omega) hi).2]
theorem i_vc_find {k : Nat} {u : SX} {v : SY} (I : i_Rel k u v) (hk : k + 4 ≤ 2048) (v1 : Int32) (v2 : Int32) : wpX_find (fun r => wpY_find (fun r' => r' = r ∧ i_Rel (k + 4) u v) v v1 v2) u v1 v2 := by
  obtain ⟨p, a, b, s, kn, mo, lm, aX, aY, fA, ro, sm, xs, ys, ⟨C, h1, h2, h3, h4⟩, rfl, rfl⟩ := id I
  refine X_fnd C.1 C.2.1 C.2.2.1 h1 h2 v1 v2 (fun m r t q e1 e2 => ?_) (fun no => ?_)
  · subst e1
    subst e2
    exact Y_num C.1 C.2.1 C.2.2.1 h3 q ⟨rfl, I⟩
  · exact Y_fnd0 C.1 C.2.1 C.2.2.1 h3 v1 v2 no ⟨rfl, I⟩
theorem i_vc_add {k : Nat} {u : SX} {v : SY} (I : i_Rel k u v) (hk : k + 4 ≤ 2048) (v1 : Int32) (v2 : Int32) : wpX_add (fun r => wpY_add (fun r' => r' = r ∧ i_Rel (k + 4) u v) v v1 v2) u v1 v2 := by
  obtain ⟨p, a, b, s, kn, mo, lm, aX, aY, fA, ro, sm, xs, ys, ⟨C, h1, h2, h3, h4⟩, rfl, rfl⟩ := id I
  have o8 := off_80 C.1 C.2.1 C.2.2.1
  unfold wpX_add
  dsimp only
  refine X_bp v1 (fun c => ?_) (fun c => ?_)
  · refine br_f (by decide) ?_
    unfold wpY_add
    dsimp only
    exact Y_bp v1 (fun _ => br_f (by decide) ⟨rfl, I⟩) (fun n => absurd c n)
  · refine br_t rfl (X_bp v2 (fun d => ?_) (fun d => ?_))
    · refine br_f (by decide) ?_
      unfold wpY_add
      dsimp only
      exact Y_bp v1 (fun n => absurd n c) (fun _ => br_t rfl (Y_bp v2 (fun _ => br_f (by decide) ⟨rfl, I⟩) (fun n => absurd d n)))
    · obtain ⟨i, hi, e⟩ := in_pt (by omega) c
      obtain ⟨j, hj, e'⟩ := in_pt (by omega) d
      subst e
      subst e'
      refine br_t rfl (X_sum C h1 h2 hi hj ?_)
      unfold wpY_add
      dsimp only
      exact Y_bp _ (fun n => absurd n c) (fun _ => br_t rfl (Y_bp _ (fun n => absurd n d) (fun _ => br_t rfl (Y_sum C h3 hi hj ⟨rfl, I⟩))))
theorem i_vc_negate {k : Nat} {u : SX} {v : SY} (I : i_Rel k u v) (hk : k + 4 ≤ 2048) (v1 : Int32) : wpX_negate (fun r => wpY_negate (fun r' => r' = r ∧ i_Rel (k + 4) u v) v v1) u v1 := by
  obtain ⟨p, a, b, s, kn, mo, lm, aX, aY, fA, ro, sm, xs, ys, ⟨C, h1, h2, h3, h4⟩, rfl, rfl⟩ := id I
  have o8 := off_80 C.1 C.2.1 C.2.2.1
  unfold wpX_negate
  dsimp only
  refine X_bp v1 (fun c => ?_) (fun c => ?_)
  · refine br_f (by decide) ?_
    unfold wpY_negate
    dsimp only
    exact Y_bp v1 (fun _ => br_f (by decide) ⟨rfl, I⟩) (fun n => absurd c n)
  · obtain ⟨i, hi, e⟩ := in_pt (by omega) c
    subst e
    refine br_t rfl (X_neg C h1 h2 hi ?_)
    unfold wpY_negate
    dsimp only
    exact Y_bp _ (fun n => absurd n c) (fun _ => br_t rfl (Y_opp C h3 hi ⟨rfl, I⟩))
theorem i_vc_times {k : Nat} {u : SX} {v : SY} (I : i_Rel k u v) (hk : k + 4 ≤ 2048) (v1 : Int32) (v2 : Int32) : wpX_times (fun r => wpY_times (fun r' => r' = r ∧ i_Rel (k + 4) u v) v v1 v2) u v1 v2 := by
  obtain ⟨p, a, b, s, kn, mo, lm, aX, aY, fA, ro, sm, xs, ys, ⟨C, h1, h2, h3, h4⟩, rfl, rfl⟩ := id I
  have o8 := off_80 C.1 C.2.1 C.2.2.1
  unfold wpX_times
  dsimp only
  refine X_bp v1 (fun c => ?_) (fun c => ?_)
  · refine br_f (by decide) ?_
    unfold wpY_times
    dsimp only
    exact Y_bp v1 (fun _ => br_f (by decide) ⟨rfl, I⟩) (fun n => absurd c n)
  · obtain ⟨i, hi, e⟩ := in_pt (by omega) c
    subst e
    refine br_t rfl (br_c (fun d => ?_) (fun d => br_c (fun d2 => ?_) (fun d2 => ?_)))
    · unfold wpY_times
      dsimp only
      exact Y_bp _ (fun n => absurd n c) (fun _ => br_t rfl (br_t d ⟨rfl, I⟩))
    · have t1 : (-1000000 : Int32).toInt = -1000000 := by decide
      have t2 : (1000000 : Int32).toInt = 1000000 := by decide
      have e1 : -1000000 ≤ v2.toInt := by
        rw [Int32.lt_iff_toInt_lt, t1] at d
        omega
      have e2 : v2.toInt ≤ 1000000 := by
        rw [Int32.le_iff_toInt_le, t2] at d2
        exact d2
      have ev : v2 = iI v2.toInt := (Int32.ofInt_toInt v2).symm
      refine X_mult C h1 h2 hi v2.toInt ev e1 e2 ?_
      unfold wpY_times
      dsimp only
      exact Y_bp _ (fun n => absurd n c) (fun _ => br_t rfl (br_f d (br_t d2 (Y_mult C h3 hi v2.toInt ev e1 e2 ⟨rfl, I⟩))))
    · unfold wpY_times
      dsimp only
      exact Y_bp _ (fun n => absurd n c) (fun _ => br_t rfl (br_f d (br_f d2 ⟨rfl, I⟩)))
theorem i_vc_order {k : Nat} {u : SX} {v : SY} (I : i_Rel k u v) (hk : k + 4 ≤ 2048) (v1 : Int32) : wpX_order (fun r => wpY_order (fun r' => r' = r ∧ i_Rel (k + 4) u v) v v1) u v1 := by
  obtain ⟨p, a, b, s, kn, mo, lm, aX, aY, fA, ro, sm, xs, ys, ⟨C, h1, h2, h3, h4⟩, rfl, rfl⟩ := id I
  have o8 := off_80 C.1 C.2.1 C.2.2.1
  unfold wpX_order
  dsimp only
  refine X_bp v1 (fun c => ?_) (fun c => ?_)
  · refine br_f (by decide) ?_
    unfold wpY_order
    dsimp only
    exact Y_bp v1 (fun _ => br_f (by decide) ⟨rfl, I⟩) (fun n => absurd c n)
  · obtain ⟨i, hi, e⟩ := in_pt (by omega) c
    subst e
    refine br_t rfl (X_ord C h1 h2 hi ?_)
    unfold wpY_order
    dsimp only
    exact Y_bp _ (fun n => absurd n c) (fun _ => br_t rfl (Y_ord C h3 hi ⟨rfl, I⟩))
theorem i_vc_exponent {k : Nat} {u : SX} {v : SY} (I : i_Rel k u v) (hk : k + 4 ≤ 2048) : wpX_exponent (fun r u' => wpY_exponent (fun r' => r' = r ∧ i_Rel (k + 4) u' v) v) u := by
  obtain ⟨p, a, b, s, kn, mo, lm, aX, aY, fA, ro, sm, xs, ys, ⟨C, h1, h2, h3, h4⟩, rfl, rfl⟩ := id I
  unfold wpX_exponent
  dsimp only
  refine X_fg C h1 h2 h4 ?_
  exact Y_exp C h3 ⟨rfl, rel_i C h1 h2 h3 (kn_1 s _)⟩
theorem i_vc_width {k : Nat} {u : SX} {v : SY} (I : i_Rel k u v) (hk : k + 4 ≤ 2048) : wpX_width (fun r u' => wpY_width (fun r' => r' = r ∧ i_Rel (k + 4) u' v) v) u := by
  obtain ⟨p, a, b, s, kn, mo, lm, aX, aY, fA, ro, sm, xs, ys, ⟨C, h1, h2, h3, h4⟩, rfl, rfl⟩ := id I
  have o8 := off_80 C.1 C.2.1 C.2.2.1
  obtain ⟨m0, m1, -⟩ := mxf_E C
  have ml : mxf s (off p a b p) ≤ off p a b p := Nat.le_of_dvd (off_pos p a b p) m1
  have n0 : ¬ nI (mxf s (off p a b p)) = 0 := nI_ne0 m0 (by omega)
  unfold wpX_width
  dsimp only
  refine X_fg C h1 h2 h4 (br_f (nI_nle m0 (by omega)) (And.intro n0 ?_))
  unfold wpY_width
  dsimp only
  exact Y_exp C h3 (And.intro n0 ⟨rfl, rel_i C h1 h2 h3 (kn_1 s _)⟩)
theorem i_vc_generator {k : Nat} {u : SX} {v : SY} (I : i_Rel k u v) (hk : k + 4 ≤ 2048) : wpX_generator (fun r u' => wpY_generator (fun r' => r' = r ∧ i_Rel (k + 4) u' v) v) u := by
  obtain ⟨p, a, b, s, kn, mo, lm, aX, aY, fA, ro, sm, xs, ys, ⟨C, h1, h2, h3, h4⟩, rfl, rfl⟩ := id I
  unfold wpX_generator
  dsimp only
  refine X_fg C h1 h2 h4 ?_
  exact Y_gen C h3 ⟨rfl, rel_i C h1 h2 h3 (kn_1 s _)⟩
theorem i_vc_torsion {k : Nat} {u : SX} {v : SY} (I : i_Rel k u v) (hk : k + 4 ≤ 2048) (v1 : Int32) : wpX_torsion (fun r u' => wpY_torsion (fun r' => r' = r ∧ i_Rel (k + 4) u' v) v v1) u v1 := by
  obtain ⟨p, a, b, s, kn, mo, lm, aX, aY, fA, ro, sm, xs, ys, ⟨C, h1, h2, h3, h4⟩, rfl, rfl⟩ := id I
  unfold wpX_torsion
  dsimp only
  refine X_bm v1 (fun c => ?_) (fun c => ?_)
  · refine br_f (by decide) ?_
    unfold wpY_torsion
    dsimp only
    exact Y_bm v1 (fun _ => br_f (by decide) ⟨rfl, I⟩) (fun n => absurd c n)
  · obtain ⟨m, m1, m2, e⟩ := in_ml c
    subst e
    refine br_t rfl (X_tors C h1 h2 h4 m2 ?_)
    unfold wpY_torsion
    dsimp only
    exact Y_bm _ (fun n => absurd n c) (fun _ => br_t rfl ⟨_, Y_tor C h3 m2 ⟨rfl, rel_i C h1 h2 h3 (kn_1 s _)⟩ (off p a b p) 0 (by omega)⟩)
theorem i_vc_ofOrder {k : Nat} {u : SX} {v : SY} (I : i_Rel k u v) (hk : k + 4 ≤ 2048) (v1 : Int32) : wpX_ofOrder (fun r u' => wpY_ofOrder (fun r' => r' = r ∧ i_Rel (k + 4) u' v) v v1) u v1 := by
  obtain ⟨p, a, b, s, kn, mo, lm, aX, aY, fA, ro, sm, xs, ys, ⟨C, h1, h2, h3, h4⟩, rfl, rfl⟩ := id I
  unfold wpX_ofOrder
  dsimp only
  refine X_bm v1 (fun c => ?_) (fun c => ?_)
  · refine br_f (by decide) ?_
    unfold wpY_ofOrder
    dsimp only
    exact Y_bm v1 (fun _ => br_f (by decide) ⟨rfl, I⟩) (fun n => absurd c n)
  · obtain ⟨m, m1, m2, e⟩ := in_ml c
    subst e
    refine br_t rfl ⟨m + 1, X_oo C h1 h2 m1 m2 (fun kn' mo' lm' q => ?_) m 0 kn mo lm (by omega) h4⟩
    unfold wpY_ofOrder
    dsimp only
    exact Y_bm _ (fun n => absurd n c) (fun _ => br_t rfl ⟨_, Y_oo C h3 m2 ⟨rfl, rel_i C h1 h2 h3 q⟩ (off p a b p) 0 (by omega)⟩)
theorem i_vc_logarithm {k : Nat} {u : SX} {v : SY} (I : i_Rel k u v) (hk : k + 4 ≤ 2048) (v1 : Int32) (v2 : Int32) : wpX_logarithm (fun r u' => wpY_logarithm (fun r' => r' = r ∧ i_Rel (k + 4) u' v) v v1 v2) u v1 v2 := by
  obtain ⟨p, a, b, s, kn, mo, lm, aX, aY, fA, ro, sm, xs, ys, ⟨C, h1, h2, h3, h4⟩, rfl, rfl⟩ := id I
  have o8 := off_80 C.1 C.2.1 C.2.2.1
  have g := cv_gp C
  unfold wpX_logarithm
  dsimp only
  refine X_bp v1 (fun c => ?_) (fun c => ?_)
  · refine br_f (by decide) ?_
    unfold wpY_logarithm
    dsimp only
    exact Y_bp v1 (fun _ => br_f (by decide) ⟨rfl, I⟩) (fun n => absurd c n)
  · refine br_t rfl (X_bp v2 (fun d => ?_) (fun d => ?_))
    · refine br_f (by decide) ?_
      unfold wpY_logarithm
      dsimp only
      exact Y_bp v1 (fun n => absurd n c) (fun _ => br_t rfl (Y_bp v2 (fun _ => br_f (by decide) ⟨rfl, I⟩) (fun n => absurd d n)))
    · obtain ⟨i, hi, e⟩ := in_pt (by omega) c
      obtain ⟨j, hj, e'⟩ := in_pt (by omega) d
      subst e
      subst e'
      obtain ⟨r, hr⟩ := lg_ex C (j := j) hi
      refine br_t rfl ⟨13, X_l23 C h1 h2 hi hj hr (fun sm' => ?_) 12 0 sm (by omega) (fun q hq => by omega)⟩
      unfold wpY_logarithm
      dsimp only
      refine Y_bp _ (fun n => absurd n c) (fun _ => br_t rfl (Y_bp _ (fun n => absurd n d) (fun _ => br_t rfl (Y_ord C h3 hi ⟨od s i + 1, ?_⟩))))
      exact Y_log C h3 hi hj hr ⟨rfl, rel_i C h1 h2 h3 h4⟩ (od s i) 0 (by omega) (fun q hq => by omega)
theorem i_vc_roots {k : Nat} {u : SX} {v : SY} (I : i_Rel k u v) (hk : k + 4 ≤ 2048) (v1 : Int32) (v2 : Int32) : wpX_roots (fun r u' => wpY_roots (fun r' => r' = r ∧ i_Rel (k + 4) u' v) v v1 v2) u v1 v2 := by
  obtain ⟨p, a, b, s, kn, mo, lm, aX, aY, fA, ro, sm, xs, ys, ⟨C, h1, h2, h3, h4⟩, rfl, rfl⟩ := id I
  have o8 := off_80 C.1 C.2.1 C.2.2.1
  unfold wpX_roots
  dsimp only
  refine X_bp v1 (fun c => ?_) (fun c => ?_)
  · refine br_f (by decide) ?_
    unfold wpY_roots
    dsimp only
    exact Y_bp v1 (fun _ => br_f (by decide) ⟨rfl, I⟩) (fun n => absurd c n)
  · refine br_t rfl (X_bm v2 (fun d => ?_) (fun d => ?_))
    · refine br_f (by decide) ?_
      unfold wpY_roots
      dsimp only
      exact Y_bp v1 (fun n => absurd n c) (fun _ => br_t rfl (Y_bm v2 (fun _ => br_f (by decide) ⟨rfl, I⟩) (fun n => absurd d n)))
    · obtain ⟨i, hi, e⟩ := in_pt (by omega) c
      obtain ⟨m, m1, m2, e'⟩ := in_ml d
      subst e
      subst e'
      refine br_t rfl ⟨off p a b p + 1, X_rt C h1 h2 h4 hi m2 (fun kn' mo' lm' q => ?_) (off p a b p) 0 (by omega) (fun q hq => by omega)⟩
      unfold wpY_roots
      dsimp only
      exact Y_bp _ (fun n => absurd n c) (fun _ => br_t rfl (Y_bm _ (fun n => absurd n d) (fun _ => br_t rfl ⟨_, Y_rts C h3 hi m2 ⟨rfl, rel_i C h1 h2 h3 q⟩ (off p a b p) 0 (by omega)⟩)))
theorem i_vc_twist {k : Nat} {u : SX} {v : SY} (I : i_Rel k u v) (hk : k + 4 ≤ 2048) : wpX_twist (fun r => wpY_twist (fun r' => r' = r ∧ i_Rel (k + 4) u v) v) u := by
  obtain ⟨p, a, b, s, kn, mo, lm, aX, aY, fA, ro, sm, xs, ys, ⟨C, h1, h2, h3, h4⟩, rfl, rfl⟩ := id I
  have tw := tw_off (a := a) (b := b) C.1
  have ol := off_le p a b p
  refine Y_twist C.1 C.2.1 C.2.2.1 ⟨?_, I⟩
  have k2 : (2 : Int32) = nI 2 := rfl
  rw [k2, pk_mul, nI_add, pk_sub (by omega)]
theorem i_vc_changes {k : Nat} {u : SX} {v : SY} (I : i_Rel k u v) (hk : k + 4 ≤ 2048) (v1 : Int32) (v2 : Int32) : wpX_changes (fun r => wpY_changes (fun r' => r' = r ∧ i_Rel (k + 4) u v) v v1 v2) u v1 v2 := by
  obtain ⟨p, a, b, s, kn, mo, lm, aX, aY, fA, ro, sm, xs, ys, ⟨C, h1, h2, h3, h4⟩, rfl, rfl⟩ := id I
  have lo := pl_lo C.1
  refine br_c (fun c => br_t c ⟨rfl, I⟩) (fun c => ?_)
  refine br_c (fun c2 => br_f c (br_t c2 ⟨rfl, I⟩)) (fun c2 => ?_)
  refine br_c (fun c3 => br_f c (br_f c2 (br_t c3 ⟨rfl, I⟩))) (fun c3 => ?_)
  refine br_c (fun c4 => ?_) (fun c4 => br_f c (br_f c2 (br_f c3 (br_f c4 ⟨rfl, I⟩))))
  obtain ⟨x, hx, ex⟩ := in_pt (x := v1) (n := p) (by omega) (fun z => z.elim c c2)
  obtain ⟨y, hy, ey⟩ := in_pt (x := v2) (n := p) (by omega) (fun z => z.elim c3 (fun w => Int32.not_le.mpr c4 w))
  subst ex
  subst ey
  refine ⟨p - 1 + 1, X_ch C.1 C.2.1 C.2.2.1 hx hy ?_ (p - 1) 0 (by omega)⟩
  exact br_f c (br_f c2 (br_f c3 (br_t c4 ⟨p - 1 + 1, Y_ch C.1 C.2.1 C.2.2.1 hx hy ⟨rfl, I⟩ (p - 1) 0 (by omega)⟩)))
end
