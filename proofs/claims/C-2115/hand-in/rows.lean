section
/-! rows of kit/rows (starting texts), pasted -/
theorem pk_us {f : Nat → Int32} {k : Nat} {x : Int32} : upd f k x k = x := if_pos rfl
theorem pk_un {f : Nat → Int32} {k j : Nat} {x : Int32} (h : j ≠ k) : upd f k x j = f j := if_neg h
theorem pk_sub {a b : Nat} (h : b ≤ a) : nI a - nI b = nI (a - b) := by
  obtain ⟨c, rfl⟩ : ∃ c, a = c + b := ⟨a - b, by omega⟩
  rw [← nI_add, Int32.add_sub_cancel, Nat.add_sub_cancel]
theorem pk_m1 (n : Nat) : nI (n + 1) + (-1) = nI n := by
  rw [← nI_1, Int32.add_assoc, show (1 : Int32) + (-1) = 0 from rfl, Int32.add_zero]
theorem pk_mul (a b : Nat) : nI a * nI b = nI (a * b) := (Int32.ofNat_mul a b).symm
theorem pk_div {a d : Nat} (ha : a < 2 ^ 31) (h0 : 0 < d) (hd : d < 2 ^ 31) : nI a / nI d = nI (a / d) := by
  apply Int32.toInt_inj.mp
  rw [lg_idiv_nonneg (by rw [nI_toInt ha]; omega) (by rw [nI_toInt hd]; omega), nI_toInt ha, nI_toInt hd, nI_toInt (Nat.lt_of_le_of_lt (Nat.div_le_self a d) ha)]
  first | rfl | exact (Int.natCast_ediv _ _).symm
theorem pk_rem {a d : Nat} (ha : a < 2 ^ 31) (h0 : 0 < d) (hd : d < 2 ^ 31) : nI a - nI a / nI d * nI d = nI (a % d) := by
  rw [pk_div ha h0 hd, pk_mul, pk_sub (Nat.div_mul_le_self a d)]
  exact congrArg nI (by have := Nat.div_add_mod' a d; omega)
theorem pk_sub_toInt {a b : Nat} (ha : a < 2 ^ 30) (hb : b < 2 ^ 30) : (nI a - nI b).toInt = (a : Int) - b := by
  rw [Int32.toInt_sub, nI_toInt (by omega), nI_toInt (by omega)]
  exact Int.bmod_eq_of_le (by omega) (by omega)
theorem pk_sneg {a b : Nat} (hb : b < 2 ^ 30) (h : a < b) : nI a - nI b < 0 := by
  rw [Int32.lt_iff_toInt_lt, pk_sub_toInt (by omega) hb, show (0 : Int32).toInt = 0 from by decide]
  omega
theorem pk_ix (x : Int32) {n : Nat} (hn : n < 2 ^ 31) : x < 0 ∨ nI n ≤ x ∨ ∃ j : Nat, j < n ∧ x = nI j := by
  by_cases h : x < 0
  · exact Or.inl h
  · obtain ⟨j, hj, rfl⟩ := nI_of h
    by_cases h2 : j < n
    · exact Or.inr (Or.inr ⟨j, h2, rfl⟩)
    · exact Or.inr (Or.inl (nI_le (by omega) hj))
theorem pk_le {x y : Int32} {A B : Prop} (a b : Nat) (f : a ≤ b → A) (g : b < a → B) (hx : x = nI a := by rfl) (hy : y = nI b := by rfl) (ha : a < 2 ^ 31 := by omega) (hb : b < 2 ^ 31 := by omega) : (x ≤ y → A) ∧ (¬ x ≤ y → B) := by
  subst hx hy
  rw [nI_leI ha hb]
  exact ⟨f, fun z => g (by omega)⟩
theorem pk_lt {x y : Int32} {A B : Prop} (a b : Nat) (f : a < b → A) (g : b ≤ a → B) (hx : x = nI a := by rfl) (hy : y = nI b := by rfl) (ha : a < 2 ^ 31 := by omega) (hb : b < 2 ^ 31 := by omega) : (x < y → A) ∧ (¬ x < y → B) := by
  subst hx hy
  rw [nI_ltI ha hb]
  exact ⟨f, fun z => g (by omega)⟩
theorem pk_eq {x y : Int32} {A B : Prop} (a b : Nat) (f : a = b → A) (g : a ≠ b → B) (hx : x = nI a := by rfl) (hy : y = nI b := by rfl) (ha : a < 2 ^ 31 := by omega) (hb : b < 2 ^ 31 := by omega) : (x = y → A) ∧ (¬ x = y → B) := by
  subst hx hy
  rw [nI_eq ha hb]
  exact ⟨f, g⟩
theorem pk_in {x : Int32} (n N : Nat) (h : n < N) (hx : x = nI n := by rfl) (hN : N < 2 ^ 31 := by omega) : vp_in x N := by
  subst hx
  exact vp_in_nI h hN
theorem pk_cl {x : Int32} (n : Nat) (hx : x = nI n := by rfl) (h : n < 2 ^ 31 := by omega) : x.toNatClampNeg = n := by
  subst hx
  exact nI_clamp h
theorem pk_tn {n : Nat} (h : n < 2 ^ 32) : (nI n).toBitVec.toNat = n := Nat.mod_eq_of_lt h
theorem pk_and (x : Int32) {m : Int32} (k : Nat) (hm : m.toBitVec.toNat = 2 ^ k - 1) : x &&& m = nI (x.toBitVec.toNat % 2 ^ k) := by
  apply Int32.toBitVec_inj.mp
  apply BitVec.eq_of_toNat_eq
  rw [Int32.toBitVec_and, BitVec.toNat_and, hm, Nat.and_two_pow_sub_one_eq_mod]
  show _ = (BitVec.ofNat 32 _).toNat
  rw [BitVec.toNat_ofNat]
  exact (Nat.mod_eq_of_lt (Nat.lt_of_le_of_lt (Nat.mod_le _ _) x.toBitVec.isLt)).symm
theorem pk_andN {n : Nat} (h : n < 2 ^ 32) {m : Int32} (k : Nat) (hm : m.toBitVec.toNat = 2 ^ k - 1) : nI n &&& m = nI (n % 2 ^ k) := by
  rw [pk_and _ k hm, pk_tn h]
theorem pk_andE (x : Int32) {m : Int32} (k : Nat) (hm : m.toBitVec.toNat = 2 ^ k - 1) : ∃ j : Nat, j < 2 ^ k ∧ x &&& m = nI j := ⟨_, Nat.mod_lt _ (Nat.two_pow_pos k), pk_and x k hm⟩
theorem pk_andIn (x : Int32) {m : Int32} (k : Nat) (hm : m.toBitVec.toNat = 2 ^ k - 1) (hk : k ≤ 30) : vp_in (x &&& m) (2 ^ k) := by
  obtain ⟨j, hj, e⟩ := pk_andE x k hm
  rw [e]
  exact vp_in_nI hj (Nat.lt_of_le_of_lt (Nat.pow_le_pow_right (by decide) hk) (by decide))
theorem pk_shl (a s : Int32) (k : Nat) (hs : (s.toBitVec.smod 32).toNat = k) : (a <<< s).toBitVec.toNat = a.toBitVec.toNat * 2 ^ k % 2 ^ 32 := by
  show (a.toBitVec <<< (s.toBitVec.smod 32).toNat).toNat = _
  rw [hs, BitVec.toNat_shiftLeft, Nat.shiftLeft_eq]
theorem pk_shlN {n : Nat} (s : Int32) (k : Nat) (hs : (s.toBitVec.smod 32).toNat = k) (h : n * 2 ^ k < 2 ^ 32) : nI n <<< s = nI (n * 2 ^ k) := by
  apply Int32.toBitVec_inj.mp
  apply BitVec.eq_of_toNat_eq
  have hn : n < 2 ^ 32 := Nat.lt_of_le_of_lt (Nat.le_mul_of_pos_right n (Nat.two_pow_pos k)) h
  rw [pk_shl _ _ k hs, pk_tn hn, pk_tn h, Nat.mod_eq_of_lt h]
theorem pk_shr (a s : Int32) (k : Nat) (hs : (s.toBitVec.smod 32).toNat = k) : (a >>> s).toInt = a.toInt >>> k := by
  show (a.toBitVec.sshiftRight (s.toBitVec.smod 32).toNat).toInt = _
  rw [hs, BitVec.toInt_sshiftRight]
  rfl
theorem pk_shrN {n : Nat} (h : n < 2 ^ 31) (s : Int32) (k : Nat) (hs : (s.toBitVec.smod 32).toNat = k) : nI n >>> s = nI (n / 2 ^ k) := by
  apply Int32.toInt_inj.mp
  have h2 : n / 2 ^ k ≤ n := Nat.div_le_self _ _
  rw [pk_shr _ _ k hs, nI_toInt h, nI_toInt (by omega), Int.shiftRight_eq_div_pow]
  rfl
theorem s_l : ∀ n, n < 32 → ((nI n &&& 31).toBitVec.smod 32).toNat = n := by decide +kernel
theorem nx_and (a b : Nat) : nI a &&& nI b = nI (a &&& b) := by
  apply Int32.toBitVec_inj.1
  show BitVec.ofNat 32 a &&& BitVec.ofNat 32 b = BitVec.ofNat 32 (a &&& b)
  apply BitVec.eq_of_getLsbD_eq
  intro i hi
  simp [hi]
theorem nx_xor (a b : Nat) : nI a ^^^ nI b = nI (a ^^^ b) := by
  apply Int32.toBitVec_inj.1
  show BitVec.ofNat 32 a ^^^ BitVec.ofNat 32 b = BitVec.ofNat 32 (a ^^^ b)
  apply BitVec.eq_of_getLsbD_eq
  intro i hi
  simp [hi]
end
section
/-! the field of seven elements, equations, echelon forms: no program in sight -/
abbrev ms_F : Type := Fin 7
abbrev ms_sat (v x : Nat → ms_F) : Prop := v 0 * x 0 + v 1 * x 1 + v 2 * x 2 + v 3 * x 3 = v 4
def ms_row (R : Nat → ms_F) (u : Nat) : Nat → ms_F := fun i => R (u * 5 + i)
theorem ms_sat_c {v v' x : Nat → ms_F} (h : ∀ i, i < 5 → v i = v' i) : ms_sat v x ↔ ms_sat v' x := by
  have h0 := h 0 (by decide)
  have h1 := h 1 (by decide)
  have h2 := h 2 (by decide)
  have h3 := h 3 (by decide)
  have h4 := h 4 (by decide)
  unfold ms_sat
  rw [h0, h1, h2, h3, h4]
theorem ms_lin (w0 w1 w2 w3 w4 r0 r1 r2 r3 r4 x0 x1 x2 x3 f : ms_F) (h : r0 * x0 + r1 * x1 + r2 * x2 + r3 * x3 = r4) : ((w0 - f * r0) * x0 + (w1 - f * r1) * x1 + (w2 - f * r2) * x2 + (w3 - f * r3) * x3 = w4 - f * r4) ↔ (w0 * x0 + w1 * x1 + w2 * x2 + w3 * x3 = w4) := by
  constructor <;> intro h2 <;> grind
theorem ms_sat_sub {w r x : Nat → ms_F} (f : ms_F) (h : ms_sat r x) : ms_sat (fun i => w i - f * r i) x ↔ ms_sat w x :=
  ms_lin _ _ _ _ _ _ _ _ _ _ _ _ _ _ f h
theorem ms_mul (w0 w1 w2 w3 w4 x0 x1 x2 x3 a b : ms_F) (h : a * b = 1) : ((w0 * b) * x0 + (w1 * b) * x1 + (w2 * b) * x2 + (w3 * b) * x3 = w4 * b) ↔ (w0 * x0 + w1 * x1 + w2 * x2 + w3 * x3 = w4) := by
  constructor <;> intro h2 <;> grind
theorem ms_sat_mul {w x : Nat → ms_F} {a b : ms_F} (h : a * b = 1) : ms_sat (fun i => w i * b) x ↔ ms_sat w x :=
  ms_mul _ _ _ _ _ _ _ _ _ a b h
theorem ms_s0 (a : ms_F) : a - a * 1 = 0 := by revert a; decide
theorem ms_s1 (a b : ms_F) : a - b * 0 = a := by revert a b; decide
theorem ms_s2 (a b : ms_F) : a - 0 * b = a := by revert a b; decide
theorem ms_z0 (b : ms_F) : 0 * b = 0 := by revert b; decide
/-! echelon form -/
def ms_Ech (D : Nat → Bool) (R : Nat → ms_F) : Prop := ∀ u, u < 4 → D u = true → R (u * 5 + u) = 1 ∧ (∀ w, u < w → w < 4 → R (u * 5 + w) = 0) ∧ (∀ w, w < u → D w = true → R (u * 5 + w) = 0)
def ms_Rows (D : Nat → Bool) (R x : Nat → ms_F) : Prop := ∀ u, u < 4 → D u = true → ms_sat (ms_row R u) x
/-! the reduction, from the last unknown on: u unknowns are still to come -/
def ms_Red (D : Nat → Bool) (R W0 : Nat → ms_F) (u : Nat) (W : Nat → ms_F) (t : Option Nat) : Prop :=
  (∀ x, ms_Rows D R x → (ms_sat W x ↔ ms_sat W0 x)) ∧
  (∀ j, u ≤ j → j < 4 → D j = true → W j = 0) ∧
  (t = none → ∀ j, u ≤ j → j < 4 → W j = 0) ∧
  (∀ s, t = some s → s < 4 ∧ u ≤ s ∧ D s = false ∧ W s ≠ 0 ∧ ∀ j, s < j → j < 4 → W j = 0)
theorem ms_Red_0 (D : Nat → Bool) (R W0 : Nat → ms_F) : ms_Red D R W0 4 W0 none := by
  refine ⟨fun x _ => Iff.rfl, fun j h1 h2 => ?_, fun _ j h1 h2 => ?_, fun s h => ?_⟩
  · omega
  · omega
  · exact nomatch h
def ms_sb (R W : Nat → ms_F) (k : Nat) (f : ms_F) (i : Nat) : Nat → ms_F := fun j => if j < i then W j - f * R (k * 5 + j) else W j
theorem ms_Red_sub {D : Nat → Bool} {R W0 W : Nat → ms_F} {k : Nat} {t : Option Nat} (hE : ms_Ech D R) (h : ms_Red D R W0 (k + 1) W t) (hk : k < 4) (hD : D k = true) : ms_Red D R W0 k (ms_sb R W k (W k) 5) t := by
  obtain ⟨hA, hB, hC, hS⟩ := h
  obtain ⟨e1, e2, e3⟩ := hE k hk hD
  have hv : ∀ j, j < 5 → ms_sb R W k (W k) 5 j = W j - W k * R (k * 5 + j) := fun j hj => if_pos hj
  have hkk : ms_sb R W k (W k) 5 k = 0 := by rw [hv k (by omega), e1, ms_s0]
  have hgt : ∀ j, k < j → j < 4 → ms_sb R W k (W k) 5 j = W j := fun j h1 h2 => by rw [hv j (by omega), e2 j h1 h2, ms_s1]
  refine ⟨fun x hx => ?_, fun j h1 h2 h3 => ?_, fun ht j h1 h2 => ?_, fun s hs => ?_⟩
  · refine Iff.trans (ms_sat_c (v' := fun i => W i - W k * ms_row R k i) (fun j hj => hv j hj)) ?_
    exact Iff.trans (ms_sat_sub (W k) (hx k hk hD)) (hA x hx)
  · rcases Nat.lt_or_ge k j with z | z
    · rw [hgt j z h2]; exact hB j z h2 h3
    · have : j = k := by omega
      rw [this]; exact hkk
  · rcases Nat.lt_or_ge k j with z | z
    · rw [hgt j z h2]; exact hC ht j z h2
    · have : j = k := by omega
      rw [this]; exact hkk
  · obtain ⟨s1, s2, s3, s4, s5⟩ := hS s hs
    refine ⟨s1, by omega, s3, ?_, fun j h1 h2 => ?_⟩
    · rw [hgt s (by omega) s1]; exact s4
    · rw [hgt j (by omega) h2]; exact s5 j h1 h2
theorem ms_Red_zero {D : Nat → Bool} {R W0 W : Nat → ms_F} {k : Nat} {t : Option Nat} (h : ms_Red D R W0 (k + 1) W t) (h0 : W k = 0) : ms_Red D R W0 k W t := by
  obtain ⟨hA, hB, hC, hS⟩ := h
  refine ⟨hA, fun j h1 h2 h3 => ?_, fun ht j h1 h2 => ?_, fun s hs => ?_⟩
  · rcases Nat.lt_or_ge k j with z | z
    · exact hB j z h2 h3
    · have : j = k := by omega
      rw [this]; exact h0
  · rcases Nat.lt_or_ge k j with z | z
    · exact hC ht j z h2
    · have : j = k := by omega
      rw [this]; exact h0
  · obtain ⟨s1, s2, s3, s4, s5⟩ := hS s hs
    exact ⟨s1, by omega, s3, s4, s5⟩
theorem ms_Red_new {D : Nat → Bool} {R W0 W : Nat → ms_F} {k : Nat} (h : ms_Red D R W0 (k + 1) W none) (hk : k < 4) (hD : D k = false) (h0 : W k ≠ 0) : ms_Red D R W0 k W (some k) := by
  obtain ⟨hA, hB, hC, hS⟩ := h
  refine ⟨hA, fun j h1 h2 h3 => ?_, (fun ht => nomatch ht), fun s hs => ?_⟩
  · rcases Nat.lt_or_ge k j with z | z
    · exact hB j z h2 h3
    · have : j = k := by omega
      rw [this, hD] at h3
      exact nomatch h3
  · cases hs
    exact ⟨hk, Nat.le_refl k, hD, h0, fun j h1 h2 => hC rfl j h1 h2⟩
theorem ms_Red_old {D : Nat → Bool} {R W0 W : Nat → ms_F} {k s : Nat} (h : ms_Red D R W0 (k + 1) W (some s)) (hD : D k = false) : ms_Red D R W0 k W (some s) := by
  obtain ⟨hA, hB, hC, hS⟩ := h
  refine ⟨hA, fun j h1 h2 h3 => ?_, (fun ht => nomatch ht), fun s' hs => ?_⟩
  · rcases Nat.lt_or_ge k j with z | z
    · exact hB j z h2 h3
    · have : j = k := by omega
      rw [this, hD] at h3
      exact nomatch h3
  · obtain ⟨s1, s2, s3, s4, s5⟩ := hS s' hs
    exact ⟨s1, by omega, s3, s4, s5⟩
/-! keeping an equation: V is the new row of u, rows u+1 .. w-1 are done -/
def ms_Kp (u : Nat) (D : Nat → Bool) (R V : Nat → ms_F) (w : Nat) (R' : Nat → ms_F) : Prop :=
  (∀ i, i < 5 → R' (u * 5 + i) = V i) ∧
  (∀ q, q < 4 → q ≠ u → (q < u ∨ w ≤ q) → ∀ i, i < 5 → R' (q * 5 + i) = R (q * 5 + i)) ∧
  (∀ q, u < q → q < w → q < 4 → D q = true → ∀ i, i < 5 → R' (q * 5 + i) = R (q * 5 + i) - R (q * 5 + u) * V i)
/-- the first i places of row w replaced by V's -/
def ms_put (R V : Nat → ms_F) (w i : Nat) : Nat → ms_F := fun j => if w * 5 ≤ j ∧ j < w * 5 + i then V (j - w * 5) else R j
theorem ms_put_in {R V : Nat → ms_F} {w i k : Nat} (h : k < i) : ms_put R V w i (w * 5 + k) = V k := by
  unfold ms_put
  rw [if_pos ⟨by omega, by omega⟩, Nat.add_sub_cancel_left]
theorem ms_put_out {R V : Nat → ms_F} {w i j : Nat} (h : j < w * 5 ∨ w * 5 + i ≤ j) : ms_put R V w i j = R j := by
  unfold ms_put
  rw [if_neg (by omega)]
theorem ms_put_row {R V : Nat → ms_F} {w i q k : Nat} (hi : i ≤ 5) (hk : k < 5) (h : q ≠ w) : ms_put R V w i (q * 5 + k) = R (q * 5 + k) := by
  apply ms_put_out
  omega
theorem ms_Kp_0 {u : Nat} {D : Nat → Bool} {R V : Nat → ms_F} : ms_Kp u D R V (u + 1) (ms_put R V u 5) := by
  refine ⟨fun i hi => ms_put_in hi, fun q h1 h2 h3 i hi => ms_put_row (Nat.le_refl 5) hi h2, fun q h1 h2 => ?_⟩
  omega
theorem ms_Kp_skip {u w : Nat} {D : Nat → Bool} {R V R' : Nat → ms_F} (h : ms_Kp u D R V w R') (hD : D w = false) : ms_Kp u D R V (w + 1) R' := by
  obtain ⟨h1, h2, h3⟩ := h
  refine ⟨h1, fun q a b c => h2 q a b (by omega), fun q a b c d => ?_⟩
  by_cases z : q = w
  · rw [z, hD] at d; exact nomatch d
  · exact h3 q a (by omega) c d
theorem ms_Kp_same {u w : Nat} {D : Nat → Bool} {R V R' : Nat → ms_F} (h : ms_Kp u D R V w R') (hu : u < w) (hw : w < 4) (h0 : R' (w * 5 + u) = 0) : ms_Kp u D R V (w + 1) R' := by
  obtain ⟨h1, h2, h3⟩ := h
  refine ⟨h1, fun q a b c => h2 q a b (by omega), fun q a b c d i hi => ?_⟩
  by_cases z : q = w
  · subst z
    have e := h2 q c (by omega) (Or.inr (Nat.le_refl q)) u (by omega)
    rw [h0] at e
    rw [← e, ms_s2]
    exact h2 q c (by omega) (Or.inr (Nat.le_refl q)) i hi
  · exact h3 q a (by omega) c d i hi
theorem ms_Kp_sub {u w : Nat} {D : Nat → Bool} {R V R' : Nat → ms_F} (h : ms_Kp u D R V w R') (hu : u < w) (hw : w < 4) : ms_Kp u D R V (w + 1) (ms_put R' (fun i => R' (w * 5 + i) - R' (w * 5 + u) * R' (u * 5 + i)) w 5) := by
  obtain ⟨h1, h2, h3⟩ := h
  refine ⟨fun i hi => ?_, fun q a b c i hi => ?_, fun q a b c d i hi => ?_⟩
  · rw [ms_put_row (Nat.le_refl 5) hi (by omega)]; exact h1 i hi
  · rw [ms_put_row (Nat.le_refl 5) hi (by omega)]; exact h2 q a b (by omega) i hi
  · by_cases z : q = w
    · subst z
      rw [ms_put_in hi]
      show R' (q * 5 + i) - R' (q * 5 + u) * R' (u * 5 + i) = _
      rw [h1 i hi, h2 q c (by omega) (Or.inr (Nat.le_refl q)) i hi, h2 q c (by omega) (Or.inr (Nat.le_refl q)) u (by omega)]
    · rw [ms_put_row (Nat.le_refl 5) hi z]; exact h3 q a (by omega) c d i hi
def ms_on (D : Nat → Bool) (u : Nat) : Nat → Bool := fun j => if j = u then true else D j
theorem ms_on_s {D : Nat → Bool} {u : Nat} : ms_on D u u = true := if_pos rfl
theorem ms_on_n {D : Nat → Bool} {u j : Nat} (h : j ≠ u) : ms_on D u j = D j := if_neg h
theorem ms_keep_E {u : Nat} {D : Nat → Bool} {R V R' : Nat → ms_F} (hE : ms_Ech D R) (hu : u < 4) (hV : V u = 1) (hz : ∀ j, u < j → j < 4 → V j = 0) (hd : ∀ j, j < 4 → D j = true → V j = 0) (h : ms_Kp u D R V 4 R') : ms_Ech (ms_on D u) R' := by
  obtain ⟨h1, h2, h3⟩ := h
  intro q hq hD
  by_cases z : q = u
  · subst z
    refine ⟨by rw [h1 q (by omega), hV], fun w a b => by rw [h1 w (by omega), hz w a b], fun w a b => ?_⟩
    rw [ms_on_n (by omega)] at b
    rw [h1 w (by omega), hd w (by omega) b]
  · rw [ms_on_n z] at hD
    obtain ⟨e1, e2, e3⟩ := hE q hq hD
    rcases Nat.lt_or_ge q u with y | y
    · have e : ∀ i, i < 5 → R' (q * 5 + i) = R (q * 5 + i) := h2 q hq z (Or.inl y)
      refine ⟨by rw [e q (by omega), e1], fun w a b => by rw [e w (by omega), e2 w a b], fun w a b => ?_⟩
      rw [ms_on_n (by omega)] at b
      rw [e w (by omega), e3 w a b]
    · have e : ∀ i, i < 5 → R' (q * 5 + i) = R (q * 5 + i) - R (q * 5 + u) * V i := h3 q (by omega) hq hq hD
      refine ⟨by rw [e q (by omega), e1, hz q (by omega) hq, ms_s1], fun w a b => by rw [e w (by omega), e2 w a b, hz w (by omega) b, ms_s1], fun w a b => ?_⟩
      by_cases x : w = u
      · subst x
        rw [e w (by omega), hV, ms_s0]
      · rw [ms_on_n x] at b
        rw [e w (by omega), e3 w a b, hd w (by omega) b, ms_s1]
theorem ms_keep_R {u : Nat} {D : Nat → Bool} {R V R' : Nat → ms_F} (hu : u < 4) (hDu : D u = false) (h : ms_Kp u D R V 4 R') (x : Nat → ms_F) : ms_Rows (ms_on D u) R' x ↔ (ms_Rows D R x ∧ ms_sat V x) := by
  obtain ⟨h1, h2, h3⟩ := h
  have eu : ms_sat (ms_row R' u) x ↔ ms_sat V x := ms_sat_c (fun i hi => h1 i hi)
  have eq : ∀ q, q < 4 → D q = true → ms_sat V x → (ms_sat (ms_row R' q) x ↔ ms_sat (ms_row R q) x) := by
    intro q hq hD hx
    have z : q ≠ u := by
      intro z
      rw [z, hDu] at hD
      exact nomatch hD
    rcases Nat.lt_or_ge q u with y | y
    · exact ms_sat_c (fun i hi => h2 q hq z (Or.inl y) i hi)
    · refine Iff.trans (ms_sat_c (v' := fun i => ms_row R q i - R (q * 5 + u) * V i) (fun i hi => h3 q (by omega) hq hq hD i hi)) ?_
      exact ms_sat_sub _ hx
  constructor
  · intro hR
    have hx : ms_sat V x := eu.mp (hR u hu ms_on_s)
    refine ⟨fun q hq hD => (eq q hq hD hx).mp (hR q hq ?_), hx⟩
    by_cases z : q = u
    · rw [z]; exact ms_on_s
    · rw [ms_on_n z]; exact hD
  · intro hR q hq hD
    by_cases z : q = u
    · rw [z]; exact eu.mpr hR.2
    · rw [ms_on_n z] at hD
      exact (eq q hq hD hR.2).mpr (hR.1 q hq hD)
end
section
/-! sets of equations as numbers below 64, and what the elimination keeps -/
def ms_nd (D : Nat → Bool) : Nat := (D 0).toNat + (D 1).toNat + (D 2).toNat + (D 3).toNat
def ms_ones (s : Nat) : Nat := (s.testBit 0).toNat + (s.testBit 1).toNat + (s.testBit 2).toNat + (s.testBit 3).toNat + (s.testBit 4).toNat + (s.testBit 5).toNat
def ms_All (N : Nat → ms_F) (s e : Nat) (x : Nat → ms_F) : Prop := ∀ q, q < e → s.testBit q = true → ms_sat (ms_row N q) x
theorem ms_All_s {N : Nat → ms_F} {s e : Nat} {x : Nat → ms_F} : ms_All N s (e + 1) x ↔ (ms_All N s e x ∧ (s.testBit e = true → ms_sat (ms_row N e) x)) := by
  constructor
  · intro h
    exact ⟨fun q hq => h q (by omega), h e (by omega)⟩
  · intro h q hq
    by_cases z : q = e
    · rw [z]; exact h.2
    · exact h.1 q (by omega)
theorem ms_or_lt : ∀ S, S < 64 → ∀ e, e < 6 → S ||| 2 ^ e < 64 := by decide +kernel
theorem ms_ones_or : ∀ S, S < 64 → ∀ e, e < 6 → S.testBit e = false → ms_ones (S ||| 2 ^ e) = ms_ones S + 1 := by decide +kernel
theorem ms_ones_le {S s : Nat} (h : ∀ q, S.testBit q = true → s.testBit q = true) : ms_ones S ≤ ms_ones s := by
  have k : ∀ q, (S.testBit q).toNat ≤ (s.testBit q).toNat := by
    intro q
    have := h q
    revert this
    cases S.testBit q <;> cases s.testBit q <;> simp
  have k0 := k 0
  have k1 := k 1
  have k2 := k 2
  have k3 := k 3
  have k4 := k 4
  have k5 := k 5
  unfold ms_ones
  omega
theorem ms_tb_or (S e q : Nat) : (S ||| 2 ^ e).testBit q = (S.testBit q || decide (e = q)) := by
  rw [Nat.testBit_or, Nat.testBit_two_pow]
theorem ms_nd_on {D : Nat → Bool} {u : Nat} (hu : u < 4) (h : D u = false) : ms_nd (ms_on D u) = ms_nd D + 1 := by
  unfold ms_nd
  rcases (show u = 0 ∨ u = 1 ∨ u = 2 ∨ u = 3 by omega) with rfl | rfl | rfl | rfl
  · rw [ms_on_s, ms_on_n (by decide), ms_on_n (by decide), ms_on_n (by decide), h]; simp only [Bool.toNat_true, Bool.toNat_false]; omega
  · rw [ms_on_s, ms_on_n (by decide), ms_on_n (by decide), ms_on_n (by decide), h]; simp only [Bool.toNat_true, Bool.toNat_false]; omega
  · rw [ms_on_s, ms_on_n (by decide), ms_on_n (by decide), ms_on_n (by decide), h]; simp only [Bool.toNat_true, Bool.toNat_false]; omega
  · rw [ms_on_s, ms_on_n (by decide), ms_on_n (by decide), ms_on_n (by decide), h]; simp only [Bool.toNat_true, Bool.toNat_false]
def ms_Inv (N : Nat → ms_F) (s e : Nat) (D : Nat → Bool) (R : Nat → ms_F) (C : Bool) : Prop :=
  ms_Ech D R ∧ (∀ x, ms_All N s e x ↔ (C = false ∧ ms_Rows D R x)) ∧
  ∃ S, S < 64 ∧ (∀ q, S.testBit q = true → q < e ∧ s.testBit q = true) ∧ ms_ones S = ms_nd D ∧ (C = false → ∀ x, ms_All N S e x ↔ ms_Rows D R x)
theorem ms_Inv_0 {N : Nat → ms_F} {s : Nat} {D : Nat → Bool} {R : Nat → ms_F} (h : ∀ u, u < 4 → D u = false) : ms_Inv N s 0 D R false := by
  have hr : ∀ x, ms_Rows D R x := fun x u hu hD => by rw [h u hu] at hD; exact nomatch hD
  have ha : ∀ S x, ms_All N S 0 x := fun S x q hq => absurd hq (Nat.not_lt_zero q)
  refine ⟨fun u hu hD => ?_, fun x => ⟨fun _ => ⟨rfl, hr x⟩, fun _ => ha s x⟩, 0, by decide, fun q hq => ?_, ?_, fun _ x => ⟨fun _ => hr x, fun _ => ha 0 x⟩⟩
  · rw [h u hu] at hD; exact nomatch hD
  · rw [Nat.zero_testBit] at hq; exact nomatch hq
  · unfold ms_nd
    rw [h 0 (by decide), h 1 (by decide), h 2 (by decide), h 3 (by decide)]
    decide
theorem ms_Inv_in {N : Nat → ms_F} {s e : Nat} {D : Nat → Bool} {R : Nat → ms_F} {C : Bool} (I : ms_Inv N s e D R C) (h : s.testBit e = true → ∀ x, ms_Rows D R x → ms_sat (ms_row N e) x) : ms_Inv N s (e + 1) D R C := by
  obtain ⟨hE, hA, S, hS, hq, ho, hx⟩ := I
  refine ⟨hE, fun x => ?_, S, hS, fun q z => ⟨by have := (hq q z).1; omega, (hq q z).2⟩, ho, fun hC x => ?_⟩
  · rw [ms_All_s, hA x]
    exact ⟨fun z => z.1, fun z => ⟨z, fun b => h b x z.2⟩⟩
  · rw [ms_All_s, hx hC x]
    refine ⟨fun z => z.1, fun z => ⟨z, fun b => ?_⟩⟩
    have := (hq e b).1
    omega
theorem ms_Inv_bad {N : Nat → ms_F} {s e : Nat} {D : Nat → Bool} {R : Nat → ms_F} {C : Bool} (I : ms_Inv N s e D R C) (hb : s.testBit e = true) (h : ∀ x, ms_Rows D R x → ¬ ms_sat (ms_row N e) x) : ms_Inv N s (e + 1) D R true := by
  obtain ⟨hE, hA, S, hS, hq, ho, hx⟩ := I
  refine ⟨hE, fun x => ?_, S, hS, fun q z => ⟨by have := (hq q z).1; omega, (hq q z).2⟩, ho, fun hC => nomatch hC⟩
  rw [ms_All_s, hA x]
  exact ⟨fun z => absurd (z.2 hb) (h x z.1.2), fun z => nomatch z.1⟩
theorem ms_Inv_keep {N : Nat → ms_F} {s e u : Nat} {D : Nat → Bool} {R R' : Nat → ms_F} {C : Bool} {V : Nat → ms_F} (I : ms_Inv N s e D R C) (hb : s.testBit e = true) (he : e < 6) (hu : u < 4) (hD : D u = false)
    (hV : ∀ x, ms_Rows D R x → (ms_sat V x ↔ ms_sat (ms_row N e) x)) (hE' : ms_Ech (ms_on D u) R') (hR' : ∀ x, ms_Rows (ms_on D u) R' x ↔ (ms_Rows D R x ∧ ms_sat V x)) : ms_Inv N s (e + 1) (ms_on D u) R' C := by
  obtain ⟨hE, hA, S, hS, hq, ho, hx⟩ := I
  have hSe : S.testBit e = false := by
    cases z : S.testBit e with
    | false => rfl
    | true => have := (hq e z).1; omega
  refine ⟨hE', fun x => ?_, S ||| 2 ^ e, ms_or_lt S hS e he, fun q z => ?_, ?_, fun hC x => ?_⟩
  · rw [ms_All_s, hA x, hR' x]
    constructor
    · intro z
      exact ⟨z.1.1, z.1.2, (hV x z.1.2).mpr (z.2 hb)⟩
    · intro z
      exact ⟨⟨z.1, z.2.1⟩, fun _ => (hV x z.2.1).mp z.2.2⟩
  · rw [ms_tb_or] at z
    by_cases y : q = e
    · rw [y]; exact ⟨by omega, hb⟩
    · have y' : decide (e = q) = false := decide_eq_false (fun h => y h.symm)
      rw [y', Bool.or_false] at z
      have := hq q z
      exact ⟨by omega, this.2⟩
  · rw [ms_ones_or S hS e he hSe, ho, ms_nd_on hu hD]
  · have k : ms_All N (S ||| 2 ^ e) e x ↔ ms_All N S e x := by
      constructor
      · intro h q hq' hb'
        refine h q hq' ?_
        rw [ms_tb_or, hb', Bool.true_or]
      · intro h q hq' hb'
        rw [ms_tb_or, decide_eq_false (show ¬ e = q by omega), Bool.or_false] at hb'
        exact h q hq' hb'
    rw [ms_All_s, k, hx hC x, hR' x]
    constructor
    · intro z
      refine ⟨z.1, (hV x z.1).mpr (z.2 ?_)⟩
      rw [ms_tb_or, decide_eq_true rfl, Bool.or_true]
    · intro z
      exact ⟨z.1, fun _ => (hV x z.1).mp z.2⟩
end
section
/-! counting: a chain of levels, each free (seven ways) or determined by what stands before it -/
def ms_Q (D : Nat → Bool) (m : Nat → Nat → Nat) : Nat → Nat → Bool
  | 0, _ => true
  | u + 1, p => ms_Q D m u (p / 7) && (!D u || decide (p % 7 = m u (p / 7)))
def ms_cn (P : Nat → Bool) : Nat → Nat
  | 0 => 0
  | n + 1 => ms_cn P n + (P n).toNat
def ms_f (D : Nat → Bool) (u : Nat) : Nat := if D u = true then 1 else 7
def ms_wz (D : Nat → Bool) : Nat → Nat
  | 0 => 1
  | k + 1 => ms_f D (3 - k) * ms_wz D k
theorem ms_Q_d (D : Nat → Bool) (m : Nat → Nat → Nat) (u p d : Nat) (hd : d < 7) : ms_Q D m (u + 1) (7 * p + d) = (ms_Q D m u p && (!D u || decide (d = m u p))) := by
  show (ms_Q D m u ((7 * p + d) / 7) && (!D u || decide ((7 * p + d) % 7 = m u ((7 * p + d) / 7)))) = _
  rw [show (7 * p + d) / 7 = p by omega, show (7 * p + d) % 7 = d by omega]
def ms_part (D : Nat → Bool) (m : Nat → Nat → Nat) (u p d : Nat) : Nat := if ms_Q D m u p = true then (if D u = true then (if m u p < d then 1 else 0) else d) else 0
theorem ms_cn_d (D : Nat → Bool) (m : Nat → Nat → Nat) (u p : Nat) : ∀ d, d ≤ 7 → ms_cn (ms_Q D m (u + 1)) (7 * p + d) = ms_cn (ms_Q D m (u + 1)) (7 * p) + ms_part D m u p d := by
  intro d
  induction d with
  | zero =>
    intro _
    have e : ms_part D m u p 0 = 0 := by
      unfold ms_part
      split
      · split
        · rw [if_neg (Nat.not_lt_zero _)]
        · rfl
      · rfl
    rw [e]
    rfl
  | succ d ih =>
    intro hd
    show ms_cn (ms_Q D m (u + 1)) (7 * p + d) + (ms_Q D m (u + 1) (7 * p + d)).toNat = _
    rw [ih (by omega), ms_Q_d D m u p d (by omega), Nat.add_assoc]
    apply congrArg (fun z => ms_cn (ms_Q D m (u + 1)) (7 * p) + z)
    unfold ms_part
    cases hq : ms_Q D m u p with
    | false => simp
    | true =>
      cases hD : D u with
      | false => simp
      | true =>
        by_cases z : d = m u p
        · simp [z]
        · by_cases y : m u p < d
          · simp [z, y, show m u p < d + 1 by omega]
          · simp [z, y, show ¬ m u p < d + 1 by omega]
theorem ms_part_7 {D : Nat → Bool} {m : Nat → Nat → Nat} (hm : ∀ u p, m u p < 7) (u p : Nat) : ms_part D m u p 7 = ms_f D u * (ms_Q D m u p).toNat := by
  unfold ms_part ms_f
  rw [if_pos (hm u p)]
  cases ms_Q D m u p <;> cases D u <;> rfl
theorem ms_cn_7 {D : Nat → Bool} {m : Nat → Nat → Nat} (hm : ∀ u p, m u p < 7) (u : Nat) : ∀ p, ms_cn (ms_Q D m (u + 1)) (7 * p) = ms_f D u * ms_cn (ms_Q D m u) p := by
  intro p
  induction p with
  | zero => rfl
  | succ p ih =>
    rw [show 7 * (p + 1) = 7 * p + 7 by omega, ms_cn_d D m u p 7 (Nat.le_refl 7), ih, ms_part_7 hm]
    show _ = ms_f D u * (ms_cn (ms_Q D m u) p + (ms_Q D m u p).toNat)
    rw [Nat.mul_add]
theorem ms_cn_s {D : Nat → Bool} {m : Nat → Nat → Nat} (hm : ∀ u p, m u p < 7) (u p d : Nat) (hd : d ≤ 7) : ms_cn (ms_Q D m (u + 1)) (7 * p + d) = ms_f D u * ms_cn (ms_Q D m u) p + ms_part D m u p d := by
  rw [ms_cn_d D m u p d hd, ms_cn_7 hm]
theorem ms_cn_4 {D : Nat → Bool} {m : Nat → Nat → Nat} (hm : ∀ u p, m u p < 7) : ∀ k, k ≤ 4 → ∀ p, ms_cn (ms_Q D m 4) (p * 7 ^ k) = ms_cn (ms_Q D m (4 - k)) p * ms_wz D k := by
  intro k
  induction k with
  | zero =>
    intro _ p
    show ms_cn (ms_Q D m 4) (p * 1) = ms_cn (ms_Q D m 4) p * 1
    rw [Nat.mul_one, Nat.mul_one]
  | succ k ih =>
    intro hk p
    rw [show p * 7 ^ (k + 1) = (7 * p) * 7 ^ k by rw [Nat.pow_succ]; ac_rfl, ih (by omega) (7 * p), show 4 - k = (3 - k) + 1 by omega, ms_cn_7 hm, show 4 - (k + 1) = 3 - k by omega]
    show _ = ms_cn (ms_Q D m (3 - k)) p * (ms_f D (3 - k) * ms_wz D k)
    ac_rfl
theorem ms_Q_up (D : Nat → Bool) (m : Nat → Nat → Nat) (i : Nat) (h : ms_Q D m 4 i = true) : ∀ k, k ≤ 4 → ms_Q D m (4 - k) (i / 7 ^ k) = true := by
  intro k
  induction k with
  | zero =>
    intro _
    rw [show i / 7 ^ 0 = i by rw [Nat.pow_zero, Nat.div_one]]
    exact h
  | succ k ih =>
    intro hk
    have e := ih (by omega)
    rw [show 4 - k = (3 - k) + 1 by omega] at e
    have e2 : (ms_Q D m (3 - k) (i / 7 ^ k / 7) && (!D (3 - k) || decide (i / 7 ^ k % 7 = m (3 - k) (i / 7 ^ k / 7)))) = true := e
    rw [show 4 - (k + 1) = 3 - k by omega, Nat.pow_succ, ← Nat.div_div_eq_div_mul]
    rw [Bool.and_eq_true] at e2
    exact e2.1
theorem ms_cn_out {D : Nat → Bool} {m : Nat → Nat → Nat} {k p : Nat} (hk : k ≤ 4) (h : ms_Q D m (4 - k) p = false) : ∀ r, r ≤ 7 ^ k → ms_cn (ms_Q D m 4) (p * 7 ^ k + r) = ms_cn (ms_Q D m 4) (p * 7 ^ k) := by
  intro r
  induction r with
  | zero => intro _; rfl
  | succ r ih =>
    intro hr
    show ms_cn (ms_Q D m 4) (p * 7 ^ k + r) + (ms_Q D m 4 (p * 7 ^ k + r)).toNat = _
    have hz : ms_Q D m 4 (p * 7 ^ k + r) = false := by
      cases z : ms_Q D m 4 (p * 7 ^ k + r) with
      | false => rfl
      | true =>
        have y := ms_Q_up D m _ z k hk
        rw [Nat.div_eq_of_lt_le (m := p * 7 ^ k + r) (n := 7 ^ k) (k := p) (by omega) (by rw [Nat.succ_mul]; omega), h] at y
        exact nomatch y
    rw [ih (by omega), hz]
    rfl
theorem ms_cn_mono (P : Nat → Bool) (a : Nat) : ∀ k, ms_cn P a ≤ ms_cn P (a + k) := by
  intro k
  induction k with
  | zero => exact Nat.le_refl _
  | succ k ih => exact Nat.le_trans ih (Nat.le_add_right _ _)
theorem ms_cn_le {P : Nat → Bool} {a b : Nat} (h : a ≤ b) : ms_cn P a ≤ ms_cn P b := by
  have := ms_cn_mono P a (b - a)
  rw [show a + (b - a) = b by omega] at this
  exact this
theorem ms_cn_t {P : Nat → Bool} {a b : Nat} (h : a < b) (ha : P a = true) : ms_cn P a < ms_cn P b := by
  have : ms_cn P (a + 1) ≤ ms_cn P b := ms_cn_le h
  have e : ms_cn P (a + 1) = ms_cn P a + 1 := by
    show ms_cn P a + (P a).toNat = _
    rw [ha]; rfl
  omega
theorem ms_cn_c {P P' : Nat → Bool} : ∀ n, (∀ i, i < n → P i = P' i) → ms_cn P n = ms_cn P' n := by
  intro n
  induction n with
  | zero => intro _; rfl
  | succ n ih =>
    intro h
    show ms_cn P n + (P n).toNat = ms_cn P' n + (P' n).toNat
    rw [ih (fun i hi => h i (by omega)), h n (by omega)]
theorem ms_cn_b (P : Nat → Bool) : ∀ n, ms_cn P n ≤ n := by
  intro n
  induction n with
  | zero => exact Nat.le_refl 0
  | succ n ih =>
    show ms_cn P n + (P n).toNat ≤ n + 1
    have : (P n).toNat ≤ 1 := Bool.toNat_le _
    omega
theorem ms_cn_0 {P : Nat → Bool} : ∀ n, (∀ i, i < n → P i = false) → ms_cn P n = 0 := by
  intro n
  induction n with
  | zero => intro _; rfl
  | succ n ih =>
    intro h
    show ms_cn P n + (P n).toNat = 0
    rw [ih (fun i hi => h i (by omega)), h n (by omega)]
    rfl
/-! numbers by their digits, from the front and from the back -/
def ms_be (x : Nat → ms_F) : Nat → Nat
  | 0 => 0
  | u + 1 => 7 * ms_be x u + (x u).val
def ms_le (x : Nat → ms_F) : Nat → Nat
  | 0 => 0
  | u + 1 => ms_le x u + (x u).val * 7 ^ u
theorem ms_be_k (x : Nat → ms_F) (u : Nat) : ∀ k, ∃ r, r < 7 ^ k ∧ ms_be x (u + k) = ms_be x u * 7 ^ k + r := by
  intro k
  induction k with
  | zero => exact ⟨0, by decide, by rw [Nat.pow_zero, Nat.mul_one]; rfl⟩
  | succ k ih =>
    obtain ⟨r, hr, e⟩ := ih
    have hx := (x (u + k)).isLt
    refine ⟨7 * r + (x (u + k)).val, by rw [Nat.pow_succ]; omega, ?_⟩
    show 7 * ms_be x (u + k) + (x (u + k)).val = _
    rw [e, Nat.pow_succ, Nat.mul_add, Nat.add_assoc]
    apply congrArg (fun z => z + (7 * r + (x (u + k)).val))
    ac_rfl
/-- the number of solutions before a number, when its front part is no beginning of one -/
theorem ms_rk_no {D : Nat → Bool} {m : Nat → Nat → Nat} (hm : ∀ u p, m u p < 7) {x : Nat → ms_F} {u : Nat} (hu : u < 4) (h : ms_Q D m (u + 1) (ms_be x (u + 1)) = false) : ms_cn (ms_Q D m 4) (ms_be x 4) = ms_cn (ms_Q D m (u + 1)) (ms_be x (u + 1)) * ms_wz D (3 - u) := by
  obtain ⟨r, hr, e⟩ := ms_be_k x (u + 1) (3 - u)
  rw [show u + 1 + (3 - u) = 4 by omega] at e
  have e4 : 4 - (3 - u) = u + 1 := by omega
  have h' : ms_Q D m (4 - (3 - u)) (ms_be x (u + 1)) = false := by rw [e4]; exact h
  rw [e, ms_cn_out (by omega) h' r (by omega), ms_cn_4 hm (3 - u) (by omega), e4]
end
section
/-! the chain that an echelon form is; solutions by their number -/
def ms_pd (u p : Nat) : Nat → ms_F := fun w => Fin.ofNat 7 (p / 7 ^ (u - 1 - w))
def ms_dg (i : Nat) : Nat → ms_F := ms_pd 4 i
theorem ms_dg_val (i w : Nat) : (ms_dg i w).val = i / 7 ^ (4 - 1 - w) % 7 := rfl
def ms_acc (R x : Nat → ms_F) (u : Nat) : Nat → ms_F
  | 0 => R (u * 5 + 4)
  | k + 1 => ms_acc R x u k - R (u * 5 + k) * x k
theorem ms_acc_c {R x y : Nat → ms_F} {u : Nat} : ∀ k, (∀ w, w < k → R (u * 5 + w) * x w = R (u * 5 + w) * y w) → ms_acc R x u k = ms_acc R y u k := by
  intro k
  induction k with
  | zero => intro _; rfl
  | succ k ih =>
    intro h
    show ms_acc R x u k - R (u * 5 + k) * x k = ms_acc R y u k - R (u * 5 + k) * y k
    rw [ih (fun w hw => h w (by omega)), h k (by omega)]
def ms_mm (R : Nat → ms_F) (u p : Nat) : Nat := (ms_acc R (ms_pd u p) u u).val
theorem ms_mm_lt (R : Nat → ms_F) (u p : Nat) : ms_mm R u p < 7 := (ms_acc R (ms_pd u p) u u).isLt
theorem ms_dp (p a : Nat) : p / 7 / 7 ^ a = p / 7 ^ (a + 1) := by rw [Nat.div_div_eq_div_mul, Nat.pow_succ, Nat.mul_comm]
theorem ms_Q_lev (D : Nat → Bool) (m : Nat → Nat → Nat) : ∀ u p, ms_Q D m u p = true ↔ ∀ w, w < u → D w = true → p / 7 ^ (u - 1 - w) % 7 = m w (p / 7 ^ (u - w)) := by
  intro u
  induction u with
  | zero => exact fun p => ⟨fun _ w hw => absurd hw (Nat.not_lt_zero w), fun _ => rfl⟩
  | succ u ih =>
    intro p
    show (ms_Q D m u (p / 7) && (!D u || decide (p % 7 = m u (p / 7)))) = true ↔ _
    rw [Bool.and_eq_true, ih (p / 7)]
    have key : ∀ w, w < u → (p / 7 / 7 ^ (u - 1 - w) % 7 = m w (p / 7 / 7 ^ (u - w)) ↔ p / 7 ^ (u + 1 - 1 - w) % 7 = m w (p / 7 ^ (u + 1 - w))) := by
      intro w hw
      rw [ms_dp, ms_dp, show u - 1 - w + 1 = u + 1 - 1 - w by omega, show u - w + 1 = u + 1 - w by omega]
    have keyu : (!D u || decide (p % 7 = m u (p / 7))) = true ↔ (D u = true → p / 7 ^ (u + 1 - 1 - u) % 7 = m u (p / 7 ^ (u + 1 - u))) := by
      rw [show u + 1 - 1 - u = 0 by omega, show u + 1 - u = 1 by omega, Nat.pow_zero, Nat.div_one, Nat.pow_one]
      cases D u <;> simp
    rw [keyu]
    constructor
    · intro h w hw hD
      by_cases z : w = u
      · subst z; exact h.2 hD
      · exact (key w (by omega)).mp (h.1 w (by omega) hD)
    · intro h
      exact ⟨fun w hw hD => (key w hw).mpr (h w (by omega) hD), h u (by omega)⟩
theorem ms_r0 (x0 x1 x2 x3 r4 : ms_F) : 1 * x0 + 0 * x1 + 0 * x2 + 0 * x3 = r4 ↔ x0 = r4 := by
  constructor <;> intro h <;> grind
theorem ms_r1 (x0 x1 x2 x3 r0 r4 : ms_F) : r0 * x0 + 1 * x1 + 0 * x2 + 0 * x3 = r4 ↔ x1 = r4 - r0 * x0 := by
  constructor <;> intro h <;> grind
theorem ms_r2 (x0 x1 x2 x3 r0 r1 r4 : ms_F) : r0 * x0 + r1 * x1 + 1 * x2 + 0 * x3 = r4 ↔ x2 = r4 - r0 * x0 - r1 * x1 := by
  constructor <;> intro h <;> grind
theorem ms_r3 (x0 x1 x2 x3 r0 r1 r2 r4 : ms_F) : r0 * x0 + r1 * x1 + r2 * x2 + 1 * x3 = r4 ↔ x3 = r4 - r0 * x0 - r1 * x1 - r2 * x2 := by
  constructor <;> intro h <;> grind
theorem ms_sat_e {D : Nat → Bool} {R : Nat → ms_F} (hE : ms_Ech D R) {u : Nat} (hu : u < 4) (hD : D u = true) (x : Nat → ms_F) : ms_sat (ms_row R u) x ↔ x u = ms_acc R x u u := by
  obtain ⟨e1, e2, e3⟩ := hE u hu hD
  show R (u * 5 + 0) * x 0 + R (u * 5 + 1) * x 1 + R (u * 5 + 2) * x 2 + R (u * 5 + 3) * x 3 = R (u * 5 + 4) ↔ _
  rcases (show u = 0 ∨ u = 1 ∨ u = 2 ∨ u = 3 by omega) with rfl | rfl | rfl | rfl
  · rw [e1, e2 1 (by decide) (by decide), e2 2 (by decide) (by decide), e2 3 (by decide) (by decide)]
    exact ms_r0 _ _ _ _ _
  · rw [e1, e2 2 (by decide) (by decide), e2 3 (by decide) (by decide)]
    exact ms_r1 _ _ _ _ _ _
  · rw [e1, e2 3 (by decide) (by decide)]
    exact ms_r2 _ _ _ _ _ _ _
  · rw [e1]
    exact ms_r3 _ _ _ _ _ _ _ _
theorem ms_Q_iff {D : Nat → Bool} {R : Nat → ms_F} (hE : ms_Ech D R) (i : Nat) : ms_Q D (ms_mm R) 4 i = true ↔ ms_Rows D R (ms_dg i) := by
  rw [ms_Q_lev]
  have key : ∀ w, w < 4 → D w = true → ((i / 7 ^ (4 - 1 - w) % 7 = ms_mm R w (i / 7 ^ (4 - w))) ↔ ms_sat (ms_row R w) (ms_dg i)) := by
    intro w hw hD
    rw [ms_sat_e hE hw hD, Fin.ext_iff, ms_dg_val]
    have e : ms_acc R (ms_pd w (i / 7 ^ (4 - w))) w w = ms_acc R (ms_dg i) w w := by
      apply ms_acc_c
      intro v hv
      have : ms_pd w (i / 7 ^ (4 - w)) v = ms_dg i v := by
        show Fin.ofNat 7 (i / 7 ^ (4 - w) / 7 ^ (w - 1 - v)) = Fin.ofNat 7 (i / 7 ^ (4 - 1 - v))
        rw [Nat.div_div_eq_div_mul, ← Nat.pow_add, show 4 - w + (w - 1 - v) = 4 - 1 - v by omega]
      rw [this]
    unfold ms_mm
    rw [e]
  exact ⟨fun h w hw hD => (key w hw hD).mp (h w hw hD), fun h w hw hD => (key w hw hD).mpr (h w hw hD)⟩
theorem ms_sat_x {v x y : Nat → ms_F} (h : ∀ w, w < 4 → x w = y w) : ms_sat v x ↔ ms_sat v y := by
  have h0 := h 0 (by decide)
  have h1 := h 1 (by decide)
  have h2 := h 2 (by decide)
  have h3 := h 3 (by decide)
  unfold ms_sat
  rw [h0, h1, h2, h3]
theorem ms_Rows_x {D : Nat → Bool} {R x y : Nat → ms_F} (h : ∀ w, w < 4 → x w = y w) : ms_Rows D R x ↔ ms_Rows D R y :=
  ⟨fun z u hu hD => (ms_sat_x h).mp (z u hu hD), fun z u hu hD => (ms_sat_x h).mpr (z u hu hD)⟩
/-- the solution with given values at the free unknowns -/
def ms_sol (D : Nat → Bool) (R y : Nat → ms_F) : Nat → ms_F := fun q => if D q = true then ms_acc R y q q else y q
theorem ms_sol_t {D : Nat → Bool} {R y : Nat → ms_F} {q : Nat} (h : D q = true) : ms_sol D R y q = ms_acc R y q q := if_pos h
theorem ms_sol_f {D : Nat → Bool} {R y : Nat → ms_F} {q : Nat} (h : D q = false) : ms_sol D R y q = y q := if_neg (by rw [h]; decide)
theorem ms_sol_R {D : Nat → Bool} {R : Nat → ms_F} (hE : ms_Ech D R) (y : Nat → ms_F) : ms_Rows D R (ms_sol D R y) := by
  intro q hq hD
  rw [ms_sat_e hE hq hD, ms_sol_t hD]
  apply ms_acc_c
  intro w hw
  cases z : D w with
  | true => rw [(hE q hq hD).2.2 w hw z, ms_z0, ms_z0]
  | false => rw [ms_sol_f z]
theorem ms_sol_sat {D : Nat → Bool} {R W : Nat → ms_F} (hW : ∀ j, j < 4 → D j = true → W j = 0) (y : Nat → ms_F) : ms_sat W (ms_sol D R y) ↔ ms_sat W y := by
  have k : ∀ j, j < 4 → W j * ms_sol D R y j = W j * y j := by
    intro j hj
    cases z : D j with
    | true => rw [hW j hj z, ms_z0, ms_z0]
    | false => rw [ms_sol_f z]
  unfold ms_sat
  rw [k 0 (by decide), k 1 (by decide), k 2 (by decide), k 3 (by decide)]
theorem ms_be_lt (x : Nat → ms_F) : ms_be x 4 < 2401 := by
  have h0 := (x 0).isLt
  have h1 := (x 1).isLt
  have h2 := (x 2).isLt
  have h3 := (x 3).isLt
  show 7 * (7 * (7 * (7 * 0 + (x 0).val) + (x 1).val) + (x 2).val) + (x 3).val < 2401
  omega
theorem ms_dg_be (x : Nat → ms_F) : ∀ w, w < 4 → ms_dg (ms_be x 4) w = x w := by
  intro w hw
  have h0 := (x 0).isLt
  have h1 := (x 1).isLt
  have h2 := (x 2).isLt
  have h3 := (x 3).isLt
  apply Fin.ext
  rw [ms_dg_val]
  show (7 * (7 * (7 * (7 * 0 + (x 0).val) + (x 1).val) + (x 2).val) + (x 3).val) / 7 ^ (4 - 1 - w) % 7 = (x w).val
  rcases (show w = 0 ∨ w = 1 ∨ w = 2 ∨ w = 3 by omega) with rfl | rfl | rfl | rfl
  · show _ / 343 % 7 = _
    omega
  · show _ / 49 % 7 = _
    omega
  · show _ / 7 % 7 = _
    omega
  · show _ / 1 % 7 = _
    omega
/-- any values at the free unknowns: a numbered solution -/
theorem ms_sol_i {D : Nat → Bool} {R : Nat → ms_F} (hE : ms_Ech D R) (y : Nat → ms_F) : ∃ i, i < 2401 ∧ ms_Rows D R (ms_dg i) ∧ ∀ w, w < 4 → ms_dg i w = ms_sol D R y w :=
  ⟨ms_be (ms_sol D R y) 4, ms_be_lt _, (ms_Rows_x (ms_dg_be _)).mpr (ms_sol_R hE y), ms_dg_be _⟩
/-- a single free value -/
def ms_one (w : Nat) (t : ms_F) : Nat → ms_F := fun j => if j = w then t else 0
theorem ms_z1 (b : ms_F) : b * 0 = 0 := by revert b; decide
theorem ms_s3 (b : ms_F) : b - 0 = b := by revert b; decide
theorem ms_acc_one (R : Nat → ms_F) (u w : Nat) (t : ms_F) : ∀ k, ms_acc R (ms_one w t) u k = R (u * 5 + 4) - (if w < k then R (u * 5 + w) * t else 0) := by
  intro k
  induction k with
  | zero =>
    rw [if_neg (Nat.not_lt_zero w), ms_s3]
    rfl
  | succ k ih =>
    show ms_acc R (ms_one w t) u k - R (u * 5 + k) * (if k = w then t else 0) = _
    rw [ih]
    by_cases z : k = w
    · subst z
      rw [if_pos rfl, if_neg (Nat.lt_irrefl k), if_pos (Nat.lt_succ_self k), ms_s3]
    · rw [if_neg z, ms_z1, ms_s3]
      by_cases y : w < k
      · rw [if_pos y, if_pos (by omega)]
      · rw [if_neg y, if_neg (by omega)]
theorem ms_solve1 : ∀ r a v : ms_F, r ≠ 0 → ∃ t : ms_F, a - r * t = v := by decide +kernel
theorem ms_solve2 : ∀ r a : ms_F, r ≠ 0 → ∃ t : ms_F, r * t ≠ a := by decide +kernel
end
section
/-! the assignments that break no equation of a set, as the reference keeps them -/
def ms_bk (N x : Nat → ms_F) : Nat → Nat
  | 0 => 0
  | q + 1 => if ms_sat (ms_row N q) x then ms_bk N x q else ms_bk N x q ||| 2 ^ q
theorem ms_bk_tb (N x : Nat → ms_F) (j : Nat) : ∀ q, (ms_bk N x q).testBit j = true ↔ (j < q ∧ ¬ ms_sat (ms_row N j) x) := by
  intro q
  induction q with
  | zero =>
    show (0 : Nat).testBit j = true ↔ _
    rw [Nat.zero_testBit]
    exact ⟨(fun h => nomatch h), fun h => absurd h.1 (Nat.not_lt_zero j)⟩
  | succ q ih =>
    show (if ms_sat (ms_row N q) x then ms_bk N x q else ms_bk N x q ||| 2 ^ q).testBit j = true ↔ _
    by_cases z : ms_sat (ms_row N q) x
    · rw [if_pos z, ih]
      constructor
      · intro h; exact ⟨by omega, h.2⟩
      · intro h
        refine ⟨?_, h.2⟩
        by_cases y : j = q
        · rw [y] at h; exact absurd z h.2
        · omega
    · rw [if_neg z, ms_tb_or]
      by_cases y : q = j
      · rw [decide_eq_true y, Bool.or_true]
        subst y
        exact ⟨fun _ => ⟨Nat.lt_succ_self q, z⟩, fun _ => rfl⟩
      · rw [decide_eq_false y, Bool.or_false, ih]
        exact ⟨fun h => ⟨by omega, h.2⟩, fun h => ⟨by omega, h.2⟩⟩
theorem ms_bk_lt (N x : Nat → ms_F) : ∀ q, q ≤ 6 → ms_bk N x q < 64 := by
  intro q
  induction q with
  | zero => intro _; exact (by decide : 0 < 64)
  | succ q ih =>
    intro hq
    show (if ms_sat (ms_row N q) x then ms_bk N x q else ms_bk N x q ||| 2 ^ q) < 64
    split
    · exact ih (by omega)
    · exact ms_or_lt _ (ih (by omega)) q (by omega)
def ms_os (on : Nat → Int32) : Nat → Nat
  | 0 => 0
  | q + 1 => if on q = 0 then ms_os on q else ms_os on q ||| 2 ^ q
theorem ms_os_lt (on : Nat → Int32) : ∀ q, q ≤ 6 → ms_os on q < 64 := by
  intro q
  induction q with
  | zero => intro _; exact (by decide : 0 < 64)
  | succ q ih =>
    intro hq
    show (if on q = 0 then ms_os on q else ms_os on q ||| 2 ^ q) < 64
    split
    · exact ih (by omega)
    · exact ms_or_lt _ (ih (by omega)) q (by omega)
theorem ms_os_tb (on : Nat → Int32) (j : Nat) : ∀ q, (ms_os on q).testBit j = true → j < q := by
  intro q
  induction q with
  | zero =>
    intro h
    have h' : (0 : Nat).testBit j = true := h
    rw [Nat.zero_testBit] at h'
    exact nomatch h'
  | succ q ih =>
    intro h
    have h' : (if on q = 0 then ms_os on q else ms_os on q ||| 2 ^ q).testBit j = true := h
    by_cases z : on q = 0
    · rw [if_pos z] at h'
      have := ih h'
      omega
    · rw [if_neg z, ms_tb_or] at h'
      by_cases y : q = j
      · omega
      · rw [decide_eq_false y, Bool.or_false] at h'
        have := ih h'
        omega
def ms_P (N : Nat → ms_F) (c s i : Nat) : Bool := decide (ms_bk N (ms_dg i) c &&& s = 0)
theorem ms_P_iff (N : Nat → ms_F) (c s i : Nat) : ms_P N c s i = true ↔ ms_All N s c (ms_dg i) := by
  unfold ms_P
  rw [decide_eq_true_iff]
  constructor
  · intro h q hq hb
    apply Decidable.byContradiction
    intro hn
    have h1 : (ms_bk N (ms_dg i) c &&& s).testBit q = true := by
      rw [Nat.testBit_and, (ms_bk_tb N (ms_dg i) q c).mpr ⟨hq, hn⟩, hb]
      rfl
    rw [h, Nat.zero_testBit] at h1
    exact nomatch h1
  · intro h
    apply Nat.eq_of_testBit_eq
    intro q
    rw [Nat.testBit_and, Nat.zero_testBit]
    cases z : (ms_bk N (ms_dg i) c).testBit q with
    | false => rfl
    | true =>
      cases y : s.testBit q with
      | false => rfl
      | true =>
        have w := (ms_bk_tb N (ms_dg i) q c).mp z
        exact absurd (h q w.1 y) w.2
theorem ms_PQ {N : Nat → ms_F} {s c : Nat} {D : Nat → Bool} {R : Nat → ms_F} (I : ms_Inv N s c D R false) (i : Nat) : ms_P N c s i = ms_Q D (ms_mm R) 4 i := by
  rw [Bool.eq_iff_iff, ms_P_iff, ms_Q_iff I.1, I.2.1]
  exact ⟨fun h => h.2, fun h => ⟨rfl, h⟩⟩
theorem ms_Pt {N : Nat → ms_F} {s c : Nat} {D : Nat → Bool} {R : Nat → ms_F} (I : ms_Inv N s c D R true) (i : Nat) : ms_P N c s i = false := by
  cases z : ms_P N c s i with
  | false => rfl
  | true =>
    rw [ms_P_iff, I.2.1] at z
    exact nomatch z.1
def ms_M (N : Nat → ms_F) (c s : Nat) : Nat := ms_cn (ms_P N c s) 2401
theorem ms_Qn {D : Nat → Bool} {m : Nat → Nat → Nat} (hm : ∀ u p, m u p < 7) : ms_cn (ms_Q D m 4) 2401 = ms_wz D 4 := by
  have e := ms_cn_4 (D := D) hm 4 (Nat.le_refl 4) 1
  rw [show (1 : Nat) * 7 ^ 4 = 2401 by decide] at e
  rw [e]
  show 1 * ms_wz D 4 = _
  rw [Nat.one_mul]
theorem ms_M_f {N : Nat → ms_F} {s c : Nat} {D : Nat → Bool} {R : Nat → ms_F} (I : ms_Inv N s c D R false) : ms_M N c s = ms_wz D 4 := by
  unfold ms_M
  rw [ms_cn_c 2401 (fun i _ => ms_PQ I i), ms_Qn (ms_mm_lt R)]
theorem ms_M_t {N : Nat → ms_F} {s c : Nat} {D : Nat → Bool} {R : Nat → ms_F} (I : ms_Inv N s c D R true) : ms_M N c s = 0 :=
  ms_cn_0 2401 (fun i _ => ms_Pt I i)
theorem ms_wz_nd (D : Nat → Bool) : ms_wz D 4 = 7 ^ (4 - ms_nd D) := by
  show ms_f D 0 * (ms_f D 1 * (ms_f D 2 * (ms_f D 3 * 1))) = _
  unfold ms_f ms_nd
  cases D 0 <;> cases D 1 <;> cases D 2 <;> cases D 3 <;> rfl
theorem ms_nd_le (D : Nat → Bool) : ms_nd D ≤ 4 := by
  unfold ms_nd
  cases D 0 <;> cases D 1 <;> cases D 2 <;> cases D 3 <;> decide
theorem ms_wz_pos (D : Nat → Bool) : 0 < ms_wz D 4 := by
  rw [ms_wz_nd]
  exact Nat.pow_pos (by decide)
theorem ms_wz_inj {D D' : Nat → Bool} (h : ms_wz D 4 = ms_wz D' 4) : ms_nd D = ms_nd D' := by
  rw [ms_wz_nd, ms_wz_nd] at h
  have h1 := ms_nd_le D
  have h2 := ms_nd_le D'
  have h3 : 4 - ms_nd D = 4 - ms_nd D' := (by decide : ∀ a, a < 5 → ∀ b, b < 5 → 7 ^ a = 7 ^ b → a = b) _ (by omega) _ (by omega) h
  omega
theorem ms_M_zero {N : Nat → ms_F} {s c : Nat} {D : Nat → Bool} {R : Nat → ms_F} {C : Bool} (I : ms_Inv N s c D R C) : ms_M N c s = 0 ↔ C = true := by
  cases C with
  | true => rw [ms_M_t I]; exact ⟨fun _ => rfl, fun _ => rfl⟩
  | false =>
    rw [ms_M_f I]
    have := ms_wz_pos D
    exact ⟨fun h => by omega, fun h => nomatch h⟩
/-- the least set with as many solutions -/
theorem ms_need {N : Nat → ms_F} {a c : Nat} {D : Nat → Bool} {R : Nat → ms_F} (hX : ∀ s, s < 64 → ∃ D' R' C', ms_Inv N s c D' R' C') (I : ms_Inv N a c D R false) :
    (∃ S, S < 64 ∧ (∀ q, S.testBit q = true → a.testBit q = true) ∧ ms_ones S = ms_nd D ∧ ms_M N c S = ms_M N c a) ∧
    (∀ s, s < 64 → (∀ q, s.testBit q = true → a.testBit q = true) → ms_M N c s = ms_M N c a → ms_nd D ≤ ms_ones s) := by
  constructor
  · obtain ⟨hE, hA, S, hS, hq, ho, hx⟩ := I
    refine ⟨S, hS, fun q z => (hq q z).2, ho, ?_⟩
    unfold ms_M
    apply ms_cn_c
    intro i _
    rw [Bool.eq_iff_iff, ms_P_iff, ms_P_iff, hx rfl, hA]
    exact ⟨fun h => ⟨rfl, h⟩, fun h => h.2⟩
  · intro s hs hsub hM
    obtain ⟨D', R', C', I'⟩ := hX s hs
    cases C' with
    | true =>
      rw [ms_M_t I', ms_M_f I] at hM
      have := ms_wz_pos D
      omega
    | false =>
      rw [ms_M_f I', ms_M_f I] at hM
      rw [← ms_wz_inj hM]
      obtain ⟨hE, hA, S, hS, hq, ho, hx⟩ := I'
      rw [← ho]
      exact ms_ones_le (fun q z => (hq q z).2)
end
section
/-! the component's elimination against the pure picture -/
def ms_v (N : Nat → ms_F) : Nat → Int32 := fun j => nI (N j).val
def ms_bI (b : Bool) : Int32 := if b = true then 1 else 0
def ms_b (D : Nat → Bool) : Nat → Int32 := fun j => ms_bI (D j)
def ms_sv (W : Nat → ms_F) (k : Nat) (f : ms_F) : Nat → ms_F := fun j => if j = k then f else W j
theorem ms_upd_v (W : Nat → ms_F) (k : Nat) (f : ms_F) : upd (ms_v W) k (nI f.val) = ms_v (ms_sv W k f) := by
  funext j
  show (if j = k then nI f.val else nI (W j).val) = nI (if j = k then f else W j).val
  split <;> rfl
theorem ms_upd_b (D : Nat → Bool) (k : Nat) (f : Bool) : upd (ms_b D) k (ms_bI f) = ms_b (fun j => if j = k then f else D j) := by
  funext j
  show (if j = k then ms_bI f else ms_bI (D j)) = ms_bI (if j = k then f else D j)
  split <;> rfl
theorem ms_n1 : vp_nar .boolean 1 = ms_bI true := rfl
theorem ms_n0 : vp_nar .boolean 0 = ms_bI false := rfl
theorem ms_v0 (f : ms_F) : nI f.val = 0 ↔ f = 0 := by revert f; decide +kernel
theorem ms_b0 (b : Bool) : ms_bI b = 0 ↔ b = false := by revert b; decide +kernel
theorem ms_b1 {b : Bool} (h : b = true) : ¬ ms_bI b = 0 := by rw [h]; decide +kernel
theorem ms_ix (e i : Nat) : nI e * 5 + nI i = nI (e * 5 + i) := by
  rw [show (5 : Int32) = nI 5 from rfl, pk_mul, nI_add]
theorem ms_70 : ¬ (7 : Int32) = 0 := by decide
theorem ms_cl {j : Nat} (h : j < 2401) : (nI j).toNatClampNeg = j := nI_clamp (by omega)
/-! load -/
def ms_ld (N : Nat → ms_F) (e : Nat) (W : Nat → ms_F) (i : Nat) : Nat → ms_F := fun j => if j < i then N (e * 5 + j) else W j
theorem ms_ld_s (N : Nat → ms_F) (e : Nat) (W : Nat → ms_F) (i : Nat) : ms_sv (ms_ld N e W i) i (N (e * 5 + i)) = ms_ld N e W (i + 1) := by
  funext j
  unfold ms_sv ms_ld
  by_cases z : j = i
  · subst z
    rw [if_pos rfl, if_pos (Nat.lt_succ_self j)]
  · rw [if_neg z]
    by_cases y : j < i
    · rw [if_pos y, if_pos (by omega)]
    · rw [if_neg y, if_neg (by omega)]
theorem ms_load_lp {post : SX → Prop} {e : Nat} {fe fC : Int32} {N W : Nat → ms_F} {on dd rr : Nat → Int32} (he : e < 6) (h : post (fe, fC, ms_v N, on, dd, rr, ms_v (ms_ld N e W 5))) : ∀ k i, i + k = 5 → wX_load_2 post (nI e) fe fC (k + 1) (nI i) (ms_v N) on dd rr (ms_v (ms_ld N e W i)) := by
  intro k
  induction k with
  | zero =>
    intro i hi
    have : i = 5 := by omega
    subst this
    exact br_t (nI_le (Nat.le_refl 5) (by decide)) h
  | succ k ih =>
    intro i hi
    refine br_f (nI_ge (b := 5) (by omega) (by decide)) ⟨?_, ?_, nm_r (e' := ms_v (ms_ld N e W (i + 1))) ?_ (nm_r (nI_1 i) (ih (i + 1) (by omega)))⟩
    · rw [ms_ix]; exact vp_in_nI (by omega) (by decide)
    · exact vp_in_nI (by omega) (by decide)
    · rw [ms_ix, ms_cl (by omega), ms_cl (by omega)]
      exact (ms_upd_v _ _ (N (e * 5 + i))).trans (congrArg ms_v (ms_ld_s N e W i))
theorem ms_load {post : SX → Prop} {e : Nat} {fe fC : Int32} {N W : Nat → ms_F} {on dd rr : Nat → Int32} (he : e < 6) (h : post (fe, fC, ms_v N, on, dd, rr, ms_v (ms_ld N e W 5))) : wpX_load post (fe, fC, ms_v N, on, dd, rr, ms_v W) (nI e) := by
  have e0 : ms_ld N e W 0 = W := funext fun j => if_neg (Nat.not_lt_zero j)
  have k := ms_load_lp (W := W) he h 5 0 rfl
  rw [e0] at k
  exact ⟨6, k⟩
/-! mod -/
theorem ms_modT : ∀ a b d : ms_F, (0 ≤ (nI a.val - nI b.val * nI d.val) - (nI a.val - nI b.val * nI d.val) / 7 * 7 ∧ (nI a.val - nI b.val * nI d.val) - (nI a.val - nI b.val * nI d.val) / 7 * 7 = nI (a - b * d).val) ∨ (¬ 0 ≤ (nI a.val - nI b.val * nI d.val) - (nI a.val - nI b.val * nI d.val) / 7 * 7 ∧ (nI a.val - nI b.val * nI d.val) - (nI a.val - nI b.val * nI d.val) / 7 * 7 + 7 = nI (a - b * d).val) := by decide +kernel
theorem ms_modE {post : Int32 → Prop} {x : Int32} (a b d : ms_F) (e : x = nI a.val - nI b.val * nI d.val) (h : post (nI (a - b * d).val)) : wpX_mod post x := by
  subst e
  refine And.intro ms_70 (nm_e ?_)
  rcases ms_modT a b d with z | z
  · exact br_t z.1 (by rw [z.2]; exact h)
  · exact br_f z.1 (by rw [z.2]; exact h)
/-! reduce -/
def ms_tI : Option Nat → Int32
  | none => -1
  | some s => nI s
theorem ms_sb_s (R W : Nat → ms_F) (k : Nat) (f : ms_F) (i : Nat) : ms_sv (ms_sb R W k f i) i (W i - f * R (k * 5 + i)) = ms_sb R W k f (i + 1) := by
  funext j
  unfold ms_sv ms_sb
  by_cases z : j = i
  · subst z
    rw [if_pos rfl, if_pos (Nat.lt_succ_self j)]
  · rw [if_neg z]
    by_cases y : j < i
    · rw [if_pos y, if_pos (by omega)]
    · rw [if_neg y, if_neg (by omega)]
theorem ms_red31 {post : Int32 → SX → Prop} {J4 : Int32 → Int32 → (Nat → Int32) → (Nat → Int32) → (Nat → Int32) → (Nat → Int32) → (Nat → Int32) → Prop} {x1 fe fC : Int32} {u : Nat} {f : ms_F} {R W : Nat → ms_F} {an on dd : Nat → Int32} (hu : u < 4)
    (h : J4 x1 (nI u + (-1)) an on dd (ms_v R) (ms_v (ms_sb R W u f 5))) : ∀ k i, i + k = 5 → wX_reduce_31 post J4 x1 (nI u) (nI f.val) fe fC (k + 1) (nI i) an on dd (ms_v R) (ms_v (ms_sb R W u f i)) := by
  intro k
  induction k with
  | zero =>
    intro i hi
    have : i = 5 := by omega
    subst this
    exact br_t (nI_le (Nat.le_refl 5) (by decide)) (nm_e h)
  | succ k ih =>
    intro i hi
    refine br_f (nI_ge (b := 5) (by omega) (by decide)) ⟨vp_in_nI (by omega) (by decide), ?_, ms_modE (W i) f (R (u * 5 + i)) ?_ ⟨vp_in_nI (by omega) (by decide), nm_r (e' := ms_v (ms_sb R W u f (i + 1))) ?_ (nm_r (nI_1 i) (ih (i + 1) (by omega)))⟩⟩
    · rw [ms_ix]; exact vp_in_nI (by omega) (by decide)
    · rw [ms_ix, ms_cl (by omega), ms_cl (by omega)]
      have e : ms_sb R W u f i i = W i := if_neg (Nat.lt_irrefl i)
      show nI (ms_sb R W u f i i).val - nI f.val * nI (R (u * 5 + i)).val = _
      rw [e]
    · rw [ms_cl (by omega)]
      exact (ms_upd_v _ _ _).trans (congrArg ms_v (ms_sb_s R W u f i))
theorem ms_red_lp {D : Nat → Bool} {R W0 : Nat → ms_F} (hE : ms_Ech D R) {fe fC : Int32} {an on : Nat → Int32} : ∀ u, u ≤ 4 → ∀ W t, ms_Red D R W0 u W t → ∃ W' t', ms_Red D R W0 0 W' t' ∧ ∀ post : Int32 → SX → Prop, post (ms_tI t') (fe, fC, an, on, ms_b D, ms_v R, ms_v W') → wX_reduce_4 post fe fC (u + 1) (ms_tI t) (nI u + (-1)) an on (ms_b D) (ms_v R) (ms_v W) := by
  intro u
  induction u with
  | zero =>
    intro _ W t h
    exact ⟨W, t, h, fun post hp => br_t (by decide +kernel) hp⟩
  | succ u ih =>
    intro hu W t h
    have hx : (nI u).toNatClampNeg = u := ms_cl (by omega)
    have hw : ms_v W (nI u).toNatClampNeg = nI (W u).val := by rw [hx]; rfl
    have hd : ms_b D (nI u).toNatClampNeg = ms_bI (D u) := by rw [hx]; rfl
    by_cases z : W u = 0
    · obtain ⟨W', t', h', f⟩ := ih (by omega) W t (ms_Red_zero h z)
      refine ⟨W', t', h', fun post hp => ?_⟩
      rw [pk_m1]
      refine br_f (nI_pos (by omega)) ⟨vp_in_nI (by omega) (by decide), nm_r hw (br_t ((ms_v0 _).mpr z) ?_)⟩
      exact br_t ((ms_v0 _).mpr z) (nm_e (f post hp))
    · have z' : ¬ nI (W u).val = 0 := fun q => z ((ms_v0 _).mp q)
      cases hD : D u with
      | true =>
        obtain ⟨W', t', h', f⟩ := ih (by omega) _ t (ms_Red_sub hE h (by omega) hD)
        refine ⟨W', t', h', fun post hp => ?_⟩
        rw [pk_m1]
        refine br_f (nI_pos (by omega)) ⟨vp_in_nI (by omega) (by decide), nm_r hw (br_f z' ⟨vp_in_nI (by omega) (by decide), br_f (by rw [hd]; exact ms_b1 hD) ?_⟩)⟩
        have e0 : ms_sb R W u (W u) 0 = W := funext fun j => if_neg (Nat.not_lt_zero j)
        have k := ms_red31 (post := post) (J4 := wX_reduce_4 post fe fC (u + 1)) (x1 := ms_tI t) (fe := fe) (fC := fC) (f := W u) (by omega) (f post hp) 5 0 rfl
        rw [e0] at k
        exact ⟨6, k⟩
      | false =>
        cases t with
        | none =>
          obtain ⟨W', t', h', f⟩ := ih (by omega) W (some u) (ms_Red_new h (by omega) hD z)
          refine ⟨W', t', h', fun post hp => ?_⟩
          rw [pk_m1]
          refine br_f (nI_pos (by omega)) ⟨vp_in_nI (by omega) (by decide), nm_r hw (br_f z' ⟨vp_in_nI (by omega) (by decide), br_t (by rw [hd]; exact (ms_b0 _).mpr hD) ?_⟩)⟩
          exact br_f z' (br_f (show ¬ (0 : Int32) ≤ -1 by decide) (nm_e (f post hp)))
        | some s =>
          obtain ⟨W', t', h', f⟩ := ih (by omega) W (some s) (ms_Red_old h hD)
          have hs := (h.2.2.2 s rfl).1
          refine ⟨W', t', h', fun post hp => ?_⟩
          rw [pk_m1]
          refine br_f (nI_pos (by omega)) ⟨vp_in_nI (by omega) (by decide), nm_r hw (br_f z' ⟨vp_in_nI (by omega) (by decide), br_t (by rw [hd]; exact (ms_b0 _).mpr hD) ?_⟩)⟩
          exact br_f z' (br_t (show (0 : Int32) ≤ nI s from nI_pos' (by omega)) (nm_e (f post hp)))
theorem ms_reduce {D : Nat → Bool} {R W : Nat → ms_F} (hE : ms_Ech D R) {fe fC : Int32} {an on : Nat → Int32} : ∃ W' t', ms_Red D R W 0 W' t' ∧ ∀ post : Int32 → SX → Prop, post (ms_tI t') (fe, fC, an, on, ms_b D, ms_v R, ms_v W') → wpX_reduce post (fe, fC, an, on, ms_b D, ms_v R, ms_v W) := by
  obtain ⟨W', t', h, f⟩ := ms_red_lp hE (fe := fe) (fC := fC) (an := an) (on := on) 4 (Nat.le_refl 4) W none (ms_Red_0 D R W)
  exact ⟨W', t', h, fun post hp => ⟨5, f post hp⟩⟩
/-! inverse -/
def ms_inv (f : ms_F) : ms_F := f * f * f * f * f
theorem ms_inv_1 : ∀ f : ms_F, f ≠ 0 → f * ms_inv f = 1 := by decide +kernel
theorem ms_inv_2 : ∀ f : ms_F, f ≠ 0 → 1 ≤ (ms_inv f).val := by decide +kernel
theorem ms_inv_3 : ∀ f : ms_F, f ≠ 0 → ∀ y : ms_F, (nI f.val * nI y.val - nI f.val * nI y.val / 7 * 7 = 1 ↔ y = ms_inv f) := by decide +kernel
theorem ms_inverse {post : Int32 → Prop} {f : ms_F} (hf : f ≠ 0) (h : post (nI (ms_inv f).val)) : wpX_inverse post (nI f.val) := by
  have key : ∀ k y, y + k = (ms_inv f).val → wX_inverse_2 post (nI f.val) (k + 1) (nI y) := by
    have hl := (ms_inv f).isLt
    intro k
    induction k with
    | zero =>
      intro y hy
      have : y = (ms_inv f).val := by omega
      subst this
      exact br_f (nI_ge (b := 7) hl (by decide)) ⟨ms_70, br_t ((ms_inv_3 f hf _).mpr rfl) h⟩
    | succ k ih =>
      intro y hy
      refine br_f (nI_ge (b := 7) (by omega) (by decide)) ⟨ms_70, br_f (fun q => ?_) (nm_r (nI_1 y) (ih (y + 1) (by omega)))⟩
      have := (ms_inv_3 f hf ⟨y, by omega⟩).mp q
      rw [← this] at hy
      simp only at hy
      omega
  have h1 := ms_inv_2 f hf
  exact ⟨_, key ((ms_inv f).val - 1) 1 (by omega)⟩
end
section
/-! the component's keep and solveSet -/
theorem ms_mulrem : ∀ a b : ms_F, nI a.val * nI b.val - nI a.val * nI b.val / 7 * 7 = nI (a * b).val := by decide +kernel
theorem ms_put_s (R V : Nat → ms_F) (w i : Nat) : ms_sv (ms_put R V w i) (w * 5 + i) (V i) = ms_put R V w (i + 1) := by
  funext j
  unfold ms_sv ms_put
  by_cases z : j = w * 5 + i
  · rw [if_pos z, if_pos (by omega), show j - w * 5 = i by omega]
  · rw [if_neg z]
    by_cases y : w * 5 ≤ j ∧ j < w * 5 + i
    · rw [if_pos y, if_pos (by omega)]
    · rw [if_neg y, if_neg (by omega)]
theorem ms_put_0 (R V : Nat → ms_F) (w : Nat) : ms_put R V w 0 = R := by
  funext j
  unfold ms_put
  rw [if_neg (by omega)]
theorem ms_keep19 {post : SX → Prop} {fe fC : Int32} {u : Nat} {b : ms_F} {R W : Nat → ms_F} {an on dd : Nat → Int32} (hu : u < 4)
    (h : ∃ n, wX_keep_55 post (nI u) fe fC n (nI (u + 1)) an on dd (ms_v (ms_put R (fun i => W i * b) u 5)) (ms_v W)) : ∀ k i, i + k = 5 → wX_keep_19 post (nI u) (nI b.val) fe fC (k + 1) (nI i) an on dd (ms_v (ms_put R (fun i => W i * b) u i)) (ms_v W) := by
  intro k
  induction k with
  | zero =>
    intro i hi
    have : i = 5 := by omega
    subst this
    exact br_t (nI_le (Nat.le_refl 5) (by decide)) (nm_r (nI_1 u) h)
  | succ k ih =>
    intro i hi
    refine br_f (nI_ge (b := 5) (by omega) (by decide)) ⟨vp_in_nI (by omega) (by decide), ms_70, ?_, nm_r (e' := ms_v (ms_put R (fun i => W i * b) u (i + 1))) ?_ (nm_r (nI_1 i) (ih (i + 1) (by omega)))⟩
    · rw [ms_ix]; exact vp_in_nI (by omega) (by decide)
    · rw [ms_ix, ms_cl (by omega), ms_cl (by omega)]
      show upd _ _ (nI (W i).val * nI b.val - nI (W i).val * nI b.val / 7 * 7) = _
      rw [ms_mulrem]
      exact (ms_upd_v _ _ _).trans (congrArg ms_v (ms_put_s R (fun i => W i * b) u i))
theorem ms_keep75 {post : SX → Prop} {J55 : Int32 → (Nat → Int32) → (Nat → Int32) → (Nat → Int32) → (Nat → Int32) → (Nat → Int32) → Prop} {fe fC : Int32} {u w : Nat} {f : ms_F} {R : Nat → ms_F} {D : Nat → Bool} {an on ww : Nat → Int32} (hu : u < w) (hw : w < 4) (hD : D w = true) (hf : f ≠ 0)
    (h : J55 (nI (w + 1)) an on (ms_b D) (ms_v (ms_put R (fun i => R (w * 5 + i) - f * R (u * 5 + i)) w 5)) ww) : ∀ k i, i + k = 5 → wX_keep_75 post J55 (nI u) (nI w) (nI f.val) fe fC (k + 1) (nI i) an on (ms_b D) (ms_v (ms_put R (fun i => R (w * 5 + i) - f * R (u * 5 + i)) w i)) ww := by
  intro k
  induction k with
  | zero =>
    intro i hi
    have : i = 5 := by omega
    subst this
    exact br_t (nI_le (Nat.le_refl 5) (by decide)) (nm_r (nI_1 w) h)
  | succ k ih =>
    intro i hi
    have hd : ¬ ms_b D (nI w).toNatClampNeg = 0 := by rw [ms_cl (by omega)]; exact ms_b1 hD
    refine br_f (nI_ge (b := 5) (by omega) (by decide)) ⟨vp_in_nI (by omega) (by decide), br_f hd (br_f (fun q => hf ((ms_v0 _).mp q)) ⟨?_, ?_, ms_modE (R (w * 5 + i)) f (R (u * 5 + i)) ?_ ⟨?_, nm_r (e' := ms_v (ms_put R (fun i => R (w * 5 + i) - f * R (u * 5 + i)) w (i + 1))) ?_ (nm_r (nI_1 i) (ih (i + 1) (by omega)))⟩⟩)⟩
    · rw [ms_ix]; exact vp_in_nI (by omega) (by decide)
    · rw [ms_ix]; exact vp_in_nI (by omega) (by decide)
    · rw [ms_ix, ms_ix, ms_cl (by omega), ms_cl (by omega)]
      show nI (ms_put R _ w i (w * 5 + i)).val - nI f.val * nI (ms_put R _ w i (u * 5 + i)).val = _
      rw [ms_put_out (by omega), ms_put_out (by omega)]
    · rw [ms_ix]; exact vp_in_nI (by omega) (by decide)
    · rw [ms_ix, ms_cl (by omega)]
      exact (ms_upd_v _ _ _).trans (congrArg ms_v (ms_put_s R (fun i => R (w * 5 + i) - f * R (u * 5 + i)) w i))
theorem ms_keep55 {fe fC : Int32} {u : Nat} {D : Nat → Bool} {R V : Nat → ms_F} {an on ww : Nat → Int32} : ∀ k w, w + k = 4 → u < w → ∀ R', ms_Kp u D R V w R' → ∃ R'', ms_Kp u D R V 4 R'' ∧ ∀ post : SX → Prop, post (fe, fC, an, on, ms_b (ms_on D u), ms_v R'', ww) → wX_keep_55 post (nI u) fe fC (k + 1) (nI w) an on (ms_b (ms_on D u)) (ms_v R') ww := by
  intro k
  induction k with
  | zero =>
    intro w hw hu R' h
    have : w = 4 := by omega
    subst this
    exact ⟨R', h, fun post hp => br_t (nI_le (Nat.le_refl 4) (by decide)) hp⟩
  | succ k ih =>
    intro w hw hu R' h
    have hin : vp_in (nI w * 5 + nI u) 20 := by rw [ms_ix]; exact vp_in_nI (by omega) (by decide)
    have hrd : ms_v R' (nI w * 5 + nI u).toNatClampNeg = nI (R' (w * 5 + u)).val := by rw [ms_ix, ms_cl (by omega)]; rfl
    have hdd : ms_b (ms_on D u) (nI w).toNatClampNeg = ms_bI (D w) := by
      rw [ms_cl (by omega)]
      show ms_bI (ms_on D u w) = _
      rw [ms_on_n (by omega)]
    cases hD : D w with
    | false =>
      obtain ⟨R'', h', f⟩ := ih (w + 1) (by omega) (by omega) R' (ms_Kp_skip h hD)
      refine ⟨R'', h', fun post hp => br_f (nI_ge (b := 4) (by omega) (by decide)) ⟨hin, nm_r hrd ⟨1, ?_⟩⟩⟩
      exact br_f (by decide +kernel) ⟨vp_in_nI (by omega) (by decide), br_t (by rw [hdd]; exact (ms_b0 _).mpr hD) (nm_r (nI_1 w) (f post hp))⟩
    | true =>
      have hdn : ¬ ms_b (ms_on D u) (nI w).toNatClampNeg = 0 := by rw [hdd]; exact ms_b1 hD
      by_cases z : R' (w * 5 + u) = 0
      · obtain ⟨R'', h', f⟩ := ih (w + 1) (by omega) (by omega) R' (ms_Kp_same h hu (by omega) z)
        refine ⟨R'', h', fun post hp => br_f (nI_ge (b := 4) (by omega) (by decide)) ⟨hin, nm_r hrd ⟨1, ?_⟩⟩⟩
        exact br_f (by decide +kernel) ⟨vp_in_nI (by omega) (by decide), br_f hdn (br_t ((ms_v0 _).mpr z) (nm_r (nI_1 w) (f post hp)))⟩
      · obtain ⟨R'', h', f⟩ := ih (w + 1) (by omega) (by omega) _ (ms_Kp_sub h hu (by omega))
        refine ⟨R'', h', fun post hp => br_f (nI_ge (b := 4) (by omega) (by decide)) ⟨hin, nm_r hrd ⟨6, ?_⟩⟩⟩
        have hD' : ms_on D u w = true := by rw [ms_on_n (by omega)]; exact hD
        have q := ms_keep75 (post := post) (J55 := wX_keep_55 post (nI u) fe fC (k + 1)) (fe := fe) (fC := fC) hu (by omega) hD' z (f post hp) 5 0 rfl
        rw [ms_put_0] at q
        exact q
theorem ms_keepX {D : Nat → Bool} {R W : Nat → ms_F} {u : Nat} (hE : ms_Ech D R) (hu : u < 4) (hDu : D u = false) (hW : W u ≠ 0) (hz : ∀ j, u < j → j < 4 → W j = 0) (hd : ∀ j, j < 4 → D j = true → W j = 0) {fe fC : Int32} {an on : Nat → Int32} :
    ∃ R', ms_Ech (ms_on D u) R' ∧ (∀ x, ms_Rows (ms_on D u) R' x ↔ (ms_Rows D R x ∧ ms_sat W x)) ∧ ∀ post : SX → Prop, post (fe, fC, an, on, ms_b (ms_on D u), ms_v R', ms_v W) → wpX_keep post (fe, fC, an, on, ms_b D, ms_v R, ms_v W) (nI u) := by
  obtain ⟨R', h, f⟩ := ms_keep55 (fe := fe) (fC := fC) (an := an) (on := on) (ww := ms_v W) (3 - u) (u + 1) (by omega) (by omega) _ (ms_Kp_0 (u := u) (D := D) (R := R) (V := fun i => W i * ms_inv (W u)))
  refine ⟨R', ms_keep_E hE hu (ms_inv_1 _ hW) (fun j a b => ?_) (fun j a b => ?_) h, fun x => ?_, fun post hp => ?_⟩
  · show W j * ms_inv (W u) = 0
    rw [hz j a b, ms_z0]
  · show W j * ms_inv (W u) = 0
    rw [hd j a b, ms_z0]
  · rw [ms_keep_R hu hDu h x, ms_sat_mul (ms_inv_1 _ hW)]
  · have hw : ms_v W (nI u).toNatClampNeg = nI (W u).val := by rw [ms_cl (by omega)]; rfl
    refine And.intro (vp_in_nI (by omega) (by decide)) ?_
    rw [hw]
    refine ms_inverse hW ⟨vp_in_nI (by omega) (by decide), nm_r (e' := ms_b (ms_on D u)) ?_ ?_⟩
    · rw [ms_cl (by omega), ms_n1]
      exact ms_upd_b D u true
    · have q := ms_keep19 (post := post) (fe := fe) (fC := fC) (an := an) (on := on) (dd := ms_b (ms_on D u)) (R := R) (W := W) (b := ms_inv (W u)) hu ⟨_, f post hp⟩ 5 0 rfl
      rw [ms_put_0] at q
      exact ⟨6, q⟩
theorem ms_bit : ∀ s, s < 64 → ∀ e, e < 6 → ((nI s >>> (nI e &&& 31)) &&& 1 = 1 ↔ s.testBit e = true) := by decide +kernel
theorem ms_ld_row (N : Nat → ms_F) (e : Nat) (W x : Nat → ms_F) : ms_sat (ms_ld N e W 5) x ↔ ms_sat (ms_row N e) x :=
  ms_sat_c (fun i hi => if_pos hi)
theorem ms_solve27 {N : Nat → ms_F} {on : Nat → Int32} {c s : Nat} (hc : c ≤ 6) (hs : s < 64) : ∀ k e, e + k = c → ∀ C D R W, ms_Inv N s e D R C → ∃ C' D' R' W', ms_Inv N s c D' R' C' ∧ ∀ post : SX → Prop, post (nI c, ms_bI C', ms_v N, on, ms_b D', ms_v R', ms_v W') → wX_solveSet_27 post (nI s) (k + 1) (nI e) (nI c) (ms_bI C) (ms_v N) on (ms_b D) (ms_v R) (ms_v W) := by
  intro k
  induction k with
  | zero =>
    intro e he C D R W I
    have : e = c := by omega
    subst this
    exact ⟨C, D, R, W, I, fun post hp => br_t (nI_le (Nat.le_refl _) (by omega)) hp⟩
  | succ k ih =>
    intro e he C D R W I
    have hb := ms_bit s hs e (by omega)
    have hlt : ¬ nI c ≤ nI e := nI_ge (by omega) (by omega)
    cases hbit : s.testBit e with
    | false =>
      obtain ⟨C', D', R', W', I', f⟩ := ih (e + 1) (by omega) C D R W (ms_Inv_in I (fun q => by rw [hbit] at q; exact nomatch q))
      exact ⟨C', D', R', W', I', fun post hp => br_f hlt (br_f (fun q => by rw [hb.mp q] at hbit; exact nomatch hbit) (nm_r (nI_1 e) (f post hp)))⟩
    | true =>
      have hbt := hb.mpr hbit
      obtain ⟨W1, t, hr, fr⟩ := ms_reduce (D := D) (R := R) (W := ms_ld N e W 5) I.1 (fe := nI c) (fC := ms_bI C) (an := ms_v N) (on := on)
      obtain ⟨rA, rB, rC, rS⟩ := hr
      have rA' : ∀ x, ms_Rows D R x → (ms_sat W1 x ↔ ms_sat (ms_row N e) x) := fun x hx => (rA x hx).trans (ms_ld_row N e W x)
      cases t with
      | none =>
        have hz := rC rfl
        have h0 : ∀ x, ms_sat W1 x ↔ 0 = W1 4 := by
          intro x
          unfold ms_sat
          rw [hz 0 (by decide) (by decide), hz 1 (by decide) (by decide), hz 2 (by decide) (by decide), hz 3 (by decide) (by decide), ms_z0, ms_z0, ms_z0, ms_z0]
          exact Iff.rfl
        by_cases z : W1 4 = 0
        · obtain ⟨C', D', R', W', I', f⟩ := ih (e + 1) (by omega) C D R W1 (ms_Inv_in I (fun _ x hx => (rA' x hx).mp ((h0 x).mpr z.symm)))
          refine ⟨C', D', R', W', I', fun post hp => br_f hlt (br_t hbt (ms_load (by omega) (fr _ ?_)))⟩
          exact br_t (show (-1 : Int32) < 0 by decide) (br_t ((ms_v0 _).mpr z) (nm_r (nI_1 e) (f post hp)))
        · obtain ⟨C', D', R', W', I', f⟩ := ih (e + 1) (by omega) true D R W1 (ms_Inv_bad I hbit (fun x hx q => z ((h0 x).mp ((rA' x hx).mpr q)).symm))
          refine ⟨C', D', R', W', I', fun post hp => br_f hlt (br_t hbt (ms_load (by omega) (fr _ ?_)))⟩
          exact br_t (show (-1 : Int32) < 0 by decide) (br_f (fun q => z ((ms_v0 _).mp q)) (nm_r (nI_1 e) (f post hp)))
      | some u =>
        obtain ⟨u1, u2, u3, u4, u5⟩ := rS u rfl
        obtain ⟨R1, kE, kR, fk⟩ := ms_keepX I.1 u1 u3 u4 u5 (fun j a b => rB j (by omega) a b) (fe := nI c) (fC := ms_bI C) (an := ms_v N) (on := on)
        obtain ⟨C', D', R', W', I', f⟩ := ih (e + 1) (by omega) C (ms_on D u) R1 W1 (ms_Inv_keep I hbit (by omega) u1 u3 rA' kE kR)
        refine ⟨C', D', R', W', I', fun post hp => br_f hlt (br_t hbt (ms_load (by omega) (fr _ ?_)))⟩
        exact br_f (nI_pos (by omega)) (fk _ (nm_r (nI_1 e) (f post hp)))
theorem ms_solve7 {post : SX → Prop} {x1 fe fC : Int32} {D : Nat → Bool} {an on rr ww : Nat → Int32} (h : ∃ n, wX_solveSet_27 post x1 n 0 fe fC an on (ms_b (fun j => if j < 4 then false else D j)) rr ww) : ∀ k i, i + k = 4 → wX_solveSet_7 post x1 fe fC (k + 1) (nI i) an on (ms_b (fun j => if j < i then false else D j)) rr ww := by
  intro k
  induction k with
  | zero =>
    intro i hi
    have : i = 4 := by omega
    subst this
    exact br_t (nI_le (Nat.le_refl 4) (by decide)) h
  | succ k ih =>
    intro i hi
    refine br_f (nI_ge (b := 4) (by omega) (by decide)) ⟨vp_in_nI (by omega) (by decide), nm_r (e' := ms_b (fun j => if j < i + 1 then false else D j)) ?_ (nm_r (nI_1 i) (ih (i + 1) (by omega)))⟩
    rw [ms_cl (by omega), ms_n0, ms_upd_b]
    apply congrArg ms_b
    funext j
    by_cases z : j = i
    · rw [if_pos z, if_pos (by omega)]
    · rw [if_neg z]
      by_cases y : j < i
      · rw [if_pos y, if_pos (by omega)]
      · rw [if_neg y, if_neg (by omega)]
theorem ms_solveSet {N : Nat → ms_F} {on : Nat → Int32} {c s : Nat} (hc : c ≤ 6) (hs : s < 64) (fC : Int32) (D : Nat → Bool) (R W : Nat → ms_F) : ∃ C' D' R' W', ms_Inv N s c D' R' C' ∧ ∀ post : SX → Prop, post (nI c, ms_bI C', ms_v N, on, ms_b D', ms_v R', ms_v W') → wpX_solveSet post (nI c, fC, ms_v N, on, ms_b D, ms_v R, ms_v W) (nI s) := by
  obtain ⟨C', D', R', W', I, f⟩ := ms_solve27 (N := N) (on := on) hc hs c 0 (Nat.zero_add c) false (fun j => if j < 4 then false else D j) R W (ms_Inv_0 (fun u hu => if_pos hu))
  refine ⟨C', D', R', W', I, fun post hp => ?_⟩
  have q := ms_solve7 (post := post) (x1 := nI s) (fe := nI c) (fC := 0) (D := D) (an := ms_v N) (on := on) (rr := ms_v R) (ww := ms_v W) ⟨_, f post hp⟩ 4 0 rfl
  have e0 : (fun j => if j < 0 then false else D j) = D := funext fun j => if_neg (Nat.not_lt_zero j)
  rw [e0] at q
  exact ⟨5, q⟩
theorem ms_orI : ∀ s, s < 64 → ∀ e, e < 6 → nI s ||| ((1 : Int32) <<< (nI e &&& 31)) = nI (s ||| 2 ^ e) := by decide +kernel
theorem ms_onSet {fC : Int32} {an on dd rr ww : Nat → Int32} {c : Nat} (hc : c ≤ 6) {post : Int32 → Prop} (h : post (nI (ms_os on c))) : wpX_onSet post (nI c, fC, an, on, dd, rr, ww) := by
  have key : ∀ k e, e + k = c → wX_onSet_4 post (nI c) fC an on dd rr ww (k + 1) (nI (ms_os on e)) (nI e) := by
    intro k
    induction k with
    | zero =>
      intro e he
      have : e = c := by omega
      subst this
      exact br_t (nI_le (Nat.le_refl _) (by omega)) h
    | succ k ih =>
      intro e he
      have hq := ih (e + 1) (by omega)
      have hs : ms_os on (e + 1) = if on e = 0 then ms_os on e else ms_os on e ||| 2 ^ e := rfl
      refine br_f (nI_ge (by omega) (by omega)) ⟨vp_in_nI (by omega) (by decide), ?_⟩
      rw [ms_cl (by omega)]
      by_cases z : on e = 0
      · rw [hs, if_pos z] at hq
        exact br_t z (nm_r (nI_1 e) hq)
      · rw [hs, if_neg z] at hq
        exact br_f z (nm_r (ms_orI _ (ms_os_lt on e (by omega)) e (by omega)) (nm_r (nI_1 e) hq))
  exact ⟨_, key c 0 (Nat.zero_add c)⟩
theorem ms_solve {N : Nat → ms_F} {on : Nat → Int32} {c : Nat} (hc : c ≤ 6) (fC : Int32) (D : Nat → Bool) (R W : Nat → ms_F) : ∃ C' D' R' W', ms_Inv N (ms_os on c) c D' R' C' ∧ ∀ post : SX → Prop, post (nI c, ms_bI C', ms_v N, on, ms_b D', ms_v R', ms_v W') → wpX_solve post (nI c, fC, ms_v N, on, ms_b D, ms_v R, ms_v W) := by
  obtain ⟨C', D', R', W', I, f⟩ := ms_solveSet (N := N) (on := on) hc (ms_os_lt on c hc) fC D R W
  exact ⟨C', D', R', W', I, fun post hp => ms_onSet hc (f _ hp)⟩
end
section
/-! the component's helpers for questions -/
theorem ms_wz_p (D : Nat → Bool) : ∀ k, 0 < ms_wz D k ∧ ms_wz D k ≤ 7 ^ k := by
  intro k
  induction k with
  | zero => exact ⟨by exact Nat.one_pos, Nat.le_refl _⟩
  | succ k ih =>
    have h : ms_wz D (k + 1) = ms_f D (3 - k) * ms_wz D k := rfl
    have h2 : ms_f D (3 - k) = 1 ∨ ms_f D (3 - k) = 7 := by
      unfold ms_f
      split
      · exact Or.inl rfl
      · exact Or.inr rfl
    rw [h, Nat.pow_succ]
    rcases h2 with e | e <;> rw [e] <;> omega
theorem ms_p7 {k : Nat} (h : k ≤ 4) : 7 ^ k ≤ 2401 := Nat.pow_le_pow_right (by decide) h
theorem ms_ways_lp {post : Int32 → Prop} {fe fC : Int32} {an on rr ww : Nat → Int32} {D : Nat → Bool} : ∀ k a, k ≤ 4 → post (nI (a * ms_wz D k)) → wX_waysFrom_4 post fe fC an on (ms_b D) rr ww (k + 1) (nI a) (nI (4 - k)) := by
  intro k
  induction k with
  | zero =>
    intro a _ h
    have h' : post (nI (a * 1)) := h
    rw [Nat.mul_one] at h'
    exact br_t (nI_le (Nat.le_refl 4) (by decide)) h'
  | succ k ih =>
    intro a hk h
    have h' : post (nI (a * (ms_f D (3 - k) * ms_wz D k))) := h
    rw [← Nat.mul_assoc] at h'
    have e : 4 - (k + 1) = 3 - k := by omega
    have e1 : nI (3 - k) + 1 = nI (4 - k) := by rw [nI_1, show 3 - k + 1 = 4 - k by omega]
    have hd : ms_b D (nI (3 - k)).toNatClampNeg = ms_bI (D (3 - k)) := by rw [ms_cl (by omega)]; rfl
    rw [e]
    refine br_f (nI_ge (b := 4) (by omega) (by decide)) ⟨vp_in_nI (by omega) (by decide), ?_⟩
    rw [hd]
    cases z : D (3 - k) with
    | false =>
      have q := ih (a * 7) (by omega) (by rw [show ms_f D (3 - k) = 7 from if_neg (by rw [z]; decide)] at h'; exact h')
      exact br_t rfl (nm_r (pk_mul a 7) (nm_r e1 q))
    | true =>
      have q := ih a (by omega) (by rw [show ms_f D (3 - k) = 1 from if_pos z, Nat.mul_one] at h'; exact h')
      exact br_f (by decide +kernel) (nm_r e1 q)
theorem ms_waysFrom {post : Int32 → Prop} {fe fC : Int32} {an on rr ww : Nat → Int32} {D : Nat → Bool} (u : Nat) {x : Int32} (hx : x = nI u) (hu : u ≤ 4) (h : post (nI (ms_wz D (4 - u)))) : wpX_waysFrom post (fe, fC, an, on, ms_b D, rr, ww) x := by
  have q := ms_ways_lp (post := post) (fe := fe) (fC := fC) (an := an) (on := on) (rr := rr) (ww := ww) (D := D) (4 - u) 1 (by omega) (by rw [Nat.one_mul]; exact h)
  rw [show 4 - (4 - u) = u by omega, ← hx] at q
  exact ⟨_, q⟩
theorem ms_le_lt (x : Nat → ms_F) : ∀ u, ms_le x u < 7 ^ u := by
  intro u
  induction u with
  | zero => exact (by decide : 0 < 1)
  | succ u ih =>
    have h := (x u).isLt
    show ms_le x u + (x u).val * 7 ^ u < 7 ^ (u + 1)
    have h2 : (x u).val * 7 ^ u ≤ 6 * 7 ^ u := Nat.mul_le_mul_right _ (by omega)
    rw [Nat.pow_succ]
    omega
theorem ms_le_dig (x : Nat → ms_F) {k : Nat} : ∀ u, k < u → ms_le x u / 7 ^ k % 7 = (x k).val := by
  intro u
  induction u with
  | zero => intro h; exact absurd h (Nat.not_lt_zero k)
  | succ u ih =>
    intro h
    show (ms_le x u + (x u).val * 7 ^ u) / 7 ^ k % 7 = _
    have hp : 0 < 7 ^ k := Nat.pow_pos (by decide)
    by_cases z : k = u
    · subst z
      rw [Nat.add_mul_div_right _ _ hp, Nat.div_eq_of_lt (ms_le_lt x k), Nat.zero_add]
      exact Nat.mod_eq_of_lt (x k).isLt
    · have e : (x u).val * 7 ^ u = (((x u).val * 7 ^ (u - k - 1)) * 7) * 7 ^ k := by
        rw [show u = (u - k - 1) + 1 + k by omega, Nat.pow_add, Nat.pow_succ, show u - k - 1 + 1 + k - k - 1 = u - k - 1 by omega]
        ac_rfl
      rw [e, Nat.add_mul_div_right _ _ hp, Nat.add_mul_mod_self_right]
      exact ih (by omega)
theorem ms_mod252 : ∀ n, n < 259 → (0 ≤ (nI n - nI 252) - (nI n - nI 252) / 7 * 7 ∧ (nI n - nI 252) - (nI n - nI 252) / 7 * 7 = nI (n % 7)) ∨ (¬ 0 ≤ (nI n - nI 252) - (nI n - nI 252) / 7 * 7 ∧ (nI n - nI 252) - (nI n - nI 252) / 7 * 7 + 7 = nI (n % 7)) := by decide +kernel
theorem ms_subv {n : Nat} (a r x : ms_F) (h : n % 7 = a.val) (hn : 36 ≤ n) : (n - r.val * x.val) % 7 = (a - r * x).val := by
  have e : (a - r * x).val = (7 - (r.val * x.val) % 7 + a.val) % 7 := rfl
  have hr := r.isLt
  have hx := x.isLt
  have hp : r.val * x.val ≤ 6 * 6 := Nat.mul_le_mul (by omega) (by omega)
  rw [e, ← h]
  generalize r.val * x.val = p at hp
  omega
theorem ms_sub3 {n p : Nat} (h : p ≤ n) : nI n - nI 252 - nI p = nI (n - p) - nI 252 := by
  rw [← pk_sub h]
  grind
theorem ms_res_lp {post : Int32 → Prop} {fe fC : Int32} {an on dd ww : Nat → Int32} {R x : Nat → ms_F} {u : Nat} (hu : u < 4) (h : post (nI (ms_acc R x u u).val)) : ∀ j k, k + j = u → ∀ n, n % 7 = (ms_acc R x u k).val → 252 ≤ n + 36 * k → n < 259 → wX_resultOf_17 post (nI u) fe fC an on dd (ms_v R) ww (j + 1) (nI n - nI 252) (nI (ms_le x u / 7 ^ k)) (nI k) := by
  have hl : ms_le x u < 2401 := Nat.lt_of_lt_of_le (ms_le_lt x u) (ms_p7 (by omega))
  intro j
  induction j with
  | zero =>
    intro k hk n h1 h2 h3
    have : k = u := by omega
    subst this
    refine br_t (nI_le (Nat.le_refl _) (by omega)) (And.intro ms_70 (nm_e ?_))
    rw [← h1] at h
    rcases ms_mod252 n h3 with z | z
    · exact br_t z.1 (by rw [z.2]; exact h)
    · exact br_f z.1 (by rw [z.2]; exact h)
  | succ j ih =>
    intro k hk n h1 h2 h3
    have hd : ms_le x u / 7 ^ k < 2401 := Nat.lt_of_le_of_lt (Nat.div_le_self _ _) hl
    have hr := (R (u * 5 + k)).isLt
    have hx := (x k).isLt
    have hp : (R (u * 5 + k)).val * (x k).val ≤ 6 * 6 := Nat.mul_le_mul (by omega) (by omega)
    refine br_f (nI_ge (by omega) (by omega)) ⟨?_, ms_70, nm_r (e' := nI (n - (R (u * 5 + k)).val * (x k).val) - nI 252) ?_ ⟨ms_70, nm_r (e' := nI (ms_le x u / 7 ^ (k + 1))) ?_ (nm_r (nI_1 k) (ih (k + 1) (by omega) _ ?_ ?_ ?_))⟩⟩
    · rw [ms_ix]; exact vp_in_nI (by omega) (by decide)
    · have er : nI (ms_le x u / 7 ^ k) - nI (ms_le x u / 7 ^ k) / 7 * 7 = nI (x k).val := by
        have := pk_rem (a := ms_le x u / 7 ^ k) (d := 7) (by omega) (by decide) (by decide)
        rw [ms_le_dig x u (by omega)] at this
        exact this
      rw [er, ms_ix, ms_cl (by omega)]
      show nI n - nI 252 - nI (R (u * 5 + k)).val * nI (x k).val = _
      rw [pk_mul, ms_sub3 (by omega)]
    · have := pk_div (a := ms_le x u / 7 ^ k) (d := 7) (by omega) (by decide) (by decide)
      rw [Nat.div_div_eq_div_mul, ← Nat.pow_succ] at this
      exact this
    · exact ms_subv _ _ _ h1 (by omega)
    · omega
    · omega
theorem ms_resultOf {post : Int32 → Prop} {fe fC : Int32} {an on dd ww : Nat → Int32} {R x : Nat → ms_F} {u : Nat} (hu : u < 4) (h : post (nI (ms_acc R x u u).val)) : wpX_resultOf post (fe, fC, an, on, dd, ms_v R, ww) (nI u) (nI (ms_le x u)) := by
  have e4 : nI u * 5 + 4 = nI (u * 5 + 4) := ms_ix u 4
  have hr := (R (u * 5 + 4)).isLt
  have q := ms_res_lp (post := post) (fe := fe) (fC := fC) (an := an) (on := on) (dd := dd) (ww := ww) hu h u 0 (Nat.zero_add u) (252 + (R (u * 5 + 4)).val) (by show _ = (R (u * 5 + 4)).val; omega) (by omega) (by omega)
  rw [Nat.pow_zero, Nat.div_one, pk_sub (by omega), Nat.add_sub_cancel_left] at q
  refine And.intro (by rw [e4]; exact vp_in_nI (by omega) (by decide)) (nm_r (e' := nI (R (u * 5 + 4)).val) ?_ ⟨_, q⟩)
  rw [e4, ms_cl (by omega)]
  rfl
theorem ms_power {post : Int32 → Prop} {u : Nat} (hu : u < 4) (h : post (nI (7 ^ u))) : wpX_power post (nI u) := by
  have key : ∀ k i, i + k = u → wX_power_4 post (nI u) (k + 1) (nI (7 ^ i)) (nI i) := by
    intro k
    induction k with
    | zero =>
      intro i hi
      have : i = u := by omega
      subst this
      exact br_t (nI_le (Nat.le_refl _) (by omega)) h
    | succ k ih =>
      intro i hi
      exact br_f (nI_ge (by omega) (by omega)) (nm_r (pk_mul (7 ^ i) 7) (nm_r (nI_1 i) (ih (i + 1) (by omega))))
  exact ⟨_, key u 0 (Nat.zero_add u)⟩
theorem ms_pd_be (x : Nat → ms_F) : ∀ u w, w < u → ms_pd u (ms_be x u) w = x w := by
  intro u
  induction u with
  | zero => intro w hw; exact absurd hw (Nat.not_lt_zero w)
  | succ u ih =>
    intro w hw
    have hx := (x u).isLt
    have e : ms_be x (u + 1) = 7 * ms_be x u + (x u).val := rfl
    by_cases z : w = u
    · subst z
      apply Fin.ext
      show ms_be x (w + 1) / 7 ^ (w + 1 - 1 - w) % 7 = (x w).val
      rw [show w + 1 - 1 - w = 0 by omega, Nat.pow_zero, Nat.div_one, e]
      omega
    · rw [← ih w (by omega)]
      show Fin.ofNat 7 (ms_be x (u + 1) / 7 ^ (u + 1 - 1 - w)) = Fin.ofNat 7 (ms_be x u / 7 ^ (u - 1 - w))
      rw [show u + 1 - 1 - w = (u - 1 - w) + 1 by omega, ← ms_dp, e, show (7 * ms_be x u + (x u).val) / 7 = ms_be x u by omega]
theorem ms_mm_be (R x : Nat → ms_F) (u : Nat) : ms_mm R u (ms_be x u) = (ms_acc R x u u).val := by
  unfold ms_mm
  rw [ms_acc_c (R := R) (x := ms_pd u (ms_be x u)) (y := x) (u := u) u (fun w hw => by rw [ms_pd_be x u w hw])]
theorem ms_be_c {x y : Nat → ms_F} : ∀ u, (∀ w, w < u → x w = y w) → ms_be x u = ms_be y u ∧ ms_le x u = ms_le y u := by
  intro u
  induction u with
  | zero => intro _; exact ⟨rfl, rfl⟩
  | succ u ih =>
    intro h
    have q := ih (fun w hw => h w (by omega))
    have hu := h u (by omega)
    exact ⟨by show 7 * ms_be x u + (x u).val = 7 * ms_be y u + (y u).val; rw [q.1, hu], by show ms_le x u + (x u).val * 7 ^ u = ms_le y u + (y u).val * 7 ^ u; rw [q.2, hu]⟩
theorem ms_sv_s (x : Nat → ms_F) (u : Nat) (d : ms_F) : ms_sv x u d u = d := if_pos rfl
theorem ms_sv_be (x : Nat → ms_F) (u : Nat) (d : ms_F) : ms_be (ms_sv x u d) (u + 1) = 7 * ms_be x u + d.val ∧ ms_le (ms_sv x u d) (u + 1) = ms_le x u + d.val * 7 ^ u := by
  have h := ms_be_c (x := ms_sv x u d) (y := x) u (fun w hw => if_neg (by omega))
  exact ⟨by show 7 * ms_be (ms_sv x u d) u + (ms_sv x u d u).val = _; rw [h.1, ms_sv_s], by show ms_le (ms_sv x u d) u + (ms_sv x u d u).val * 7 ^ u = _; rw [h.2, ms_sv_s]⟩
/-- one level of the count -/
theorem ms_lev_f {D : Nat → Bool} {R : Nat → ms_F} {u p d : Nat} (hD : D u = false) (hd : d < 7) (hQ : ms_Q D (ms_mm R) u p = true) : ms_Q D (ms_mm R) (u + 1) (7 * p + d) = true ∧ ms_cn (ms_Q D (ms_mm R) (u + 1)) (7 * p + d) = 7 * ms_cn (ms_Q D (ms_mm R) u) p + d := by
  constructor
  · rw [ms_Q_d _ _ _ _ _ hd, hQ, hD]; rfl
  · rw [ms_cn_s (ms_mm_lt R) u p d (by omega), show ms_f D u = 7 from if_neg (by rw [hD]; decide)]
    unfold ms_part
    rw [if_pos hQ, if_neg (by rw [hD]; decide)]
theorem ms_lev_t {D : Nat → Bool} {R : Nat → ms_F} {u p d : Nat} (hD : D u = true) (hd : d < 7) (hQ : ms_Q D (ms_mm R) u p = true) : ms_Q D (ms_mm R) (u + 1) (7 * p + d) = decide (d = ms_mm R u p) ∧ ms_cn (ms_Q D (ms_mm R) (u + 1)) (7 * p + d) = ms_cn (ms_Q D (ms_mm R) u) p + (if ms_mm R u p < d then 1 else 0) := by
  constructor
  · rw [ms_Q_d _ _ _ _ _ hd, hQ, hD]; rfl
  · rw [ms_cn_s (ms_mm_lt R) u p d (by omega), show ms_f D u = 1 from if_pos hD]
    unfold ms_part
    rw [if_pos hQ, if_pos hD, Nat.one_mul]
theorem ms_wz_s {D : Nat → Bool} {k u : Nat} (h : u + (k + 1) = 4) : ms_wz D (k + 1) = (if D u = true then 1 else 7) * ms_wz D k := by
  show ms_f D (3 - k) * ms_wz D k = _
  rw [show 3 - k = u by omega]
  rfl
end
section
/-! solution by number, rank, varies, ones -/
theorem ms_sol67 {post : Int32 → Prop} {J10 : Int32 → Int32 → Int32 → Int32 → Prop} {x2 : Int32} {fe fC : Int32} {an on dd rr ww : Nat → Int32} {x : Nat → ms_F} {u : Nat} (d : ms_F) {v : Int32} (hv : v = nI d.val)
    (h : J10 x2 (nI (ms_le (ms_sv x u d) (u + 1))) (nI (7 ^ (u + 1))) (nI (u + 1))) : wX_solutionAt_67 post J10 x2 (nI (ms_le x u)) (nI (7 ^ u)) (nI u) v fe fC an on dd rr ww := by
  refine nm_r (e' := nI (ms_le (ms_sv x u d) (u + 1))) ?_ (nm_r (pk_mul (7 ^ u) 7) (nm_r (nI_1 u) h))
  rw [hv, pk_mul, nI_add, (ms_sv_be x u d).2]
theorem ms_solAt_lp {D : Nat → Bool} {R : Nat → ms_F} {fe fC : Int32} {an on ww : Nat → Int32} : ∀ k u, u + k = 4 → ∀ x left, ms_Q D (ms_mm R) u (ms_be x u) = true → left < ms_wz D k →
    ∃ y, ms_Q D (ms_mm R) 4 (ms_be y 4) = true ∧ ms_cn (ms_Q D (ms_mm R) 4) (ms_be y 4) = ms_cn (ms_Q D (ms_mm R) u) (ms_be x u) * ms_wz D k + left ∧
    ∀ post : Int32 → Prop, post (nI (ms_le y 4)) → wX_solutionAt_10 post fe fC an on (ms_b D) (ms_v R) ww (k + 1) (nI left) (nI (ms_le x u)) (nI (7 ^ u)) (nI u) := by
  intro k
  induction k with
  | zero =>
    intro u hu x left hQ hl
    have : u = 4 := by omega
    subst this
    have hl' : left < 1 := hl
    refine ⟨x, hQ, ?_, fun post hp => br_t (nI_le (Nat.le_refl 4) (by decide)) hp⟩
    show _ = ms_cn (ms_Q D (ms_mm R) 4) (ms_be x 4) * 1 + left
    omega
  | succ k ih =>
    intro u hu x left hQ hl
    have hd : ms_b D (nI u).toNatClampNeg = ms_bI (D u) := by rw [ms_cl (by omega)]; rfl
    have hw := ms_wz_p D k
    have h7 := ms_p7 (k := k) (by omega)
    rw [ms_wz_s hu] at hl
    cases hD : D u with
    | true =>
      rw [hD, if_pos rfl, Nat.one_mul] at hl
      have hlev := ms_lev_t (R := R) hD (ms_acc R x u u).isLt hQ
      rw [ms_mm_be, if_neg (Nat.lt_irrefl _), decide_eq_true rfl, Nat.add_zero, ← (ms_sv_be x u (ms_acc R x u u)).1] at hlev
      obtain ⟨y, y1, y2, f⟩ := ih (u + 1) (by omega) (ms_sv x u (ms_acc R x u u)) left hlev.1 hl
      refine ⟨y, y1, ?_, fun post hp => ?_⟩
      · rw [y2, hlev.2, Nat.add_zero, ms_wz_s hu, hD, if_pos rfl, Nat.one_mul]
      · refine br_f (nI_ge (b := 4) (by omega) (by decide)) ⟨vp_in_nI (by omega) (by decide), br_f (by rw [hd]; exact ms_b1 hD) ?_⟩
        exact ms_resultOf (by omega) (ms_sol67 _ rfl (f post hp))
    | false =>
      rw [hD, if_neg (by decide)] at hl
      have hdd : left / ms_wz D k < 7 := (Nat.div_lt_iff_lt_mul hw.1).mpr hl
      have hlev := ms_lev_f (R := R) hD hdd hQ
      have e1 := (ms_sv_be x u ⟨left / ms_wz D k, hdd⟩).1
      rw [← e1] at hlev
      obtain ⟨y, y1, y2, f⟩ := ih (u + 1) (by omega) (ms_sv x u ⟨left / ms_wz D k, hdd⟩) (left % ms_wz D k) hlev.1 (Nat.mod_lt _ hw.1)
      refine ⟨y, y1, ?_, fun post hp => ?_⟩
      · rw [y2, hlev.2, ms_wz_s hu, hD, if_neg (by decide), Nat.add_mul]
        have := Nat.div_add_mod' left (ms_wz D k)
        have e : 7 * ms_cn (ms_Q D (ms_mm R) u) (ms_be x u) * ms_wz D k = ms_cn (ms_Q D (ms_mm R) u) (ms_be x u) * (7 * ms_wz D k) := by ac_rfl
        omega
      · refine br_f (nI_ge (b := 4) (by omega) (by decide)) ⟨vp_in_nI (by omega) (by decide), br_t (by rw [hd]; exact (ms_b0 _).mpr hD) ?_⟩
        refine ms_waysFrom (u + 1) (nI_1 u) (by omega) ?_
        rw [show 4 - (u + 1) = k by omega]
        have hll : left < 2 ^ 31 := by omega
        refine br_f (nI_nle hw.1 (by omega)) ⟨nI_ne0 hw.1 (by omega), nm_r (pk_div hll hw.1 (by omega)) ⟨nI_ne0 hw.1 (by omega), nm_r (pk_rem hll hw.1 (by omega)) ?_⟩⟩
        exact ms_sol67 ⟨left / ms_wz D k, hdd⟩ rfl (f post hp)
theorem ms_solAt {D : Nat → Bool} {R : Nat → ms_F} {fe fC : Int32} {an on ww : Nat → Int32} {n : Nat} (hn : n < ms_wz D 4) :
    ∃ y, ms_Q D (ms_mm R) 4 (ms_be y 4) = true ∧ ms_cn (ms_Q D (ms_mm R) 4) (ms_be y 4) = n ∧ ∀ post : Int32 → Prop, post (nI (ms_le y 4)) → wpX_solutionAt post (fe, fC, an, on, ms_b D, ms_v R, ww) (nI n) := by
  obtain ⟨y, y1, y2, f⟩ := ms_solAt_lp (D := D) (R := R) (fe := fe) (fC := fC) (an := an) (on := on) (ww := ww) 4 0 rfl (fun _ => 0) n rfl hn
  refine ⟨y, y1, ?_, fun post hp => ⟨5, f post hp⟩⟩
  rw [y2]
  show 0 * ms_wz D 4 + n = n
  omega
/-! rank -/
theorem ms_rank108 {post : Int32 → SX → Prop} {J26 : Int32 → Int32 → Int32 → Int32 → Prop} {x2 x4 : Int32} {fe fC : Int32} {an on dd rr ww : Nat → Int32} {x : Nat → ms_F} {u : Nat} (hu : u < 4)
    (h : J26 x2 (nI (ms_le x (u + 1))) x4 (nI (u + 1))) : wX_rank_108 post J26 x2 (nI (ms_le x u)) x4 (nI u) (nI (x u).val) fe fC an on dd rr ww := by
  refine ms_power hu (nm_r (e' := nI (ms_le x (u + 1))) ?_ (nm_r (nI_1 u) h))
  rw [pk_mul, nI_add]
  rfl
theorem ms_rank_lp {D : Nat → Bool} {R : Nat → ms_F} {fe fC : Int32} {an on ww : Nat → Int32} {L : Nat} (hL : L < 2 ^ 31) {x : Nat → ms_F} (hx : ∀ u, (x u).val = L / 7 ^ u % 7) {post : Int32 → SX → Prop}
    (h : post (nI (ms_cn (ms_Q D (ms_mm R) 4) (ms_be x 4))) (fe, fC, an, on, ms_b D, ms_v R, ww)) : ∀ k u, u + k = 4 → ms_Q D (ms_mm R) u (ms_be x u) = true →
    wX_rank_26 post fe fC an on (ms_b D) (ms_v R) ww (k + 1) (nI (L / 7 ^ u)) (nI (ms_le x u)) (nI (ms_cn (ms_Q D (ms_mm R) u) (ms_be x u) * ms_wz D k)) (nI u) := by
  intro k
  induction k with
  | zero =>
    intro u hu hQ
    have : u = 4 := by omega
    subst this
    refine br_t (nI_le (Nat.le_refl 4) (by decide)) ?_
    show post (nI (ms_cn (ms_Q D (ms_mm R) 4) (ms_be x 4) * 1)) _
    rw [Nat.mul_one]
    exact h
  | succ k ih =>
    intro u hu hQ
    have hd : ms_b D (nI u).toNatClampNeg = ms_bI (D u) := by rw [ms_cl (by omega)]; rfl
    have hw := ms_wz_p D k
    have h7 := ms_p7 (k := k) (by omega)
    have hLu : L / 7 ^ u < 2 ^ 31 := Nat.lt_of_le_of_lt (Nat.div_le_self _ _) hL
    have hxu := (x u).isLt
    have hbe : ms_be x (u + 1) = 7 * ms_be x u + (x u).val := rfl
    have e6 : nI (L / 7 ^ u) - nI (L / 7 ^ u) / 7 * 7 = nI (x u).val := by
      rw [hx u]
      exact pk_rem (d := 7) hLu (by decide) (by decide)
    have e2 : nI (L / 7 ^ u) / 7 = nI (L / 7 ^ (u + 1)) := by
      have := pk_div (d := 7) hLu (by decide) (by decide)
      rw [Nat.div_div_eq_div_mul, ← Nat.pow_succ] at this
      exact this
    refine br_f (nI_ge (b := 4) (by omega) (by decide)) ⟨ms_70, nm_r e6 ⟨ms_70, nm_r e2 (ms_waysFrom (u + 1) (nI_1 u) (by omega) ⟨vp_in_nI (by omega) (by decide), ?_⟩)⟩⟩
    rw [show 4 - (u + 1) = k by omega, hd]
    cases hD : D u with
    | false =>
      have hlev := ms_lev_f (R := R) hD hxu hQ
      rw [← hbe] at hlev
      refine br_t rfl (nm_r (e' := nI (ms_cn (ms_Q D (ms_mm R) (u + 1)) (ms_be x (u + 1)) * ms_wz D k)) ?_ (ms_rank108 (by omega) (ih (u + 1) (by omega) hlev.1)))
      rw [pk_mul, nI_add, hlev.2, ms_wz_s hu, hD, if_neg (by decide), Nat.add_mul]
      apply congrArg nI
      apply congrArg (fun z => z + (x u).val * ms_wz D k)
      ac_rfl
    | true =>
      have hlev := ms_lev_t (R := R) hD hxu hQ
      rw [← hbe, ms_mm_be] at hlev
      have hacc := (ms_acc R x u u).isLt
      have hwz : ms_wz D (k + 1) = ms_wz D k := by rw [ms_wz_s hu, hD, if_pos rfl, Nat.one_mul]
      refine br_f (by decide +kernel) (ms_resultOf (by omega) ?_)
      rw [hwz]
      refine pk_le (x u).val (ms_acc R x u u).val (fun a => ?_) (fun a => ?_)
      · refine pk_le (ms_acc R x u u).val (x u).val (fun b => ?_) (fun b => ?_)
        · have e : (x u).val = (ms_acc R x u u).val := by omega
          rw [decide_eq_true e, if_neg (by omega), Nat.add_zero] at hlev
          have q := ih (u + 1) (by omega) hlev.1
          rw [hlev.2] at q
          exact ms_rank108 (by omega) q
        · rw [decide_eq_false (by omega), if_neg (by omega), Nat.add_zero] at hlev
          have e := ms_rk_no (ms_mm_lt R) (by omega) hlev.1
          rw [hlev.2, show 3 - u = k by omega] at e
          rw [e] at h
          exact h
      · rw [decide_eq_false (by omega), if_pos a] at hlev
        have e := ms_rk_no (ms_mm_lt R) (by omega) hlev.1
        rw [hlev.2, show 3 - u = k by omega, Nat.add_mul, Nat.one_mul] at e
        rw [e] at h
        rw [nI_add]
        exact h
/-! varies -/
theorem ms_var0 {post : Int32 → Prop} {fe fC : Int32} {an on ww : Nat → Int32} {D : Nat → Bool} {R : Nat → ms_F} {u : Nat} (hu : u < 4) (hD : D u = true) (h : ∀ w, w < u → R (u * 5 + w) = 0) (hp : post 0) : wpX_varies post (fe, fC, an, on, ms_b D, ms_v R, ww) (nI u) := by
  have key : ∀ k i, i + k = u → wX_varies_13 post (nI u) fe fC an on (ms_b D) (ms_v R) ww (k + 1) (nI i) := by
    intro k
    induction k with
    | zero =>
      intro i hi
      have : i = u := by omega
      subst this
      exact br_t (nI_le (Nat.le_refl _) (by omega)) hp
    | succ k ih =>
      intro i hi
      refine br_f (nI_ge (by omega) (by omega)) ⟨by rw [ms_ix]; exact vp_in_nI (by omega) (by decide), br_t ?_ (nm_r (nI_1 i) (ih (i + 1) (by omega)))⟩
      rw [ms_ix, ms_cl (by omega)]
      exact (ms_v0 _).mpr (h i (by omega))
  refine And.intro (vp_in_nI (by omega) (by decide)) (br_f ?_ ⟨_, key u 0 (Nat.zero_add u)⟩)
  rw [ms_cl (by omega)]
  exact ms_b1 hD
theorem ms_var1 {post : Int32 → Prop} {fe fC : Int32} {an on ww : Nat → Int32} {D : Nat → Bool} {R : Nat → ms_F} {u : Nat} (hu : u < 4) (hD : D u = true) {w : Nat} (hw : w < u) (h : R (u * 5 + w) ≠ 0) (hp : post 1) : wpX_varies post (fe, fC, an, on, ms_b D, ms_v R, ww) (nI u) := by
  have key : ∀ k i, i + k = w → wX_varies_13 post (nI u) fe fC an on (ms_b D) (ms_v R) ww (k + 1) (nI i) := by
    intro k
    induction k with
    | zero =>
      intro i hi
      have : i = w := by omega
      subst this
      refine br_f (nI_ge (by omega) (by omega)) ⟨by rw [ms_ix]; exact vp_in_nI (by omega) (by decide), br_f ?_ hp⟩
      rw [ms_ix, ms_cl (by omega)]
      exact fun q => h ((ms_v0 _).mp q)
    | succ k ih =>
      intro i hi
      refine br_f (nI_ge (by omega) (by omega)) ⟨by rw [ms_ix]; exact vp_in_nI (by omega) (by decide), br_c (fun _ => nm_r (nI_1 i) (ih (i + 1) (by omega))) (fun _ => hp)⟩
  refine And.intro (vp_in_nI (by omega) (by decide)) (br_f ?_ ⟨_, key w 0 (Nat.zero_add w)⟩)
  rw [ms_cl (by omega)]
  exact ms_b1 hD
theorem ms_varf {post : Int32 → Prop} {fe fC : Int32} {an on rr ww : Nat → Int32} {D : Nat → Bool} {u : Nat} (hu : u < 4) (hD : D u = false) (hp : post 1) : wpX_varies post (fe, fC, an, on, ms_b D, rr, ww) (nI u) := by
  refine And.intro (vp_in_nI (by omega) (by decide)) (br_t ?_ hp)
  rw [ms_cl (by omega)]
  exact (ms_b0 _).mpr hD
/-! ones -/
def ms_o6 (s : Nat) : Nat → Nat
  | 0 => 0
  | k + 1 => ms_o6 s k + (s.testBit k).toNat
theorem ms_o6_6 (s : Nat) : ms_o6 s 6 = ms_ones s := by
  show 0 + (s.testBit 0).toNat + (s.testBit 1).toNat + (s.testBit 2).toNat + (s.testBit 3).toNat + (s.testBit 4).toNat + (s.testBit 5).toNat = _
  rw [Nat.zero_add]
  rfl
theorem ms_bitv : ∀ s, s < 64 → ∀ e, e < 6 → (nI s >>> (nI e &&& 31)) &&& 1 = nI (s.testBit e).toNat := by decide +kernel
theorem ms_onesX {post : Int32 → Prop} {s : Nat} (hs : s < 64) (h : post (nI (ms_ones s))) : wpX_ones post (nI s) := by
  have key : ∀ k i, i + k = 6 → wX_ones_4 post (nI s) (k + 1) (nI (ms_o6 s i)) (nI i) := by
    intro k
    induction k with
    | zero =>
      intro i hi
      have : i = 6 := by omega
      subst this
      rw [ms_o6_6]
      exact br_t (nI_le (Nat.le_refl 6) (by decide)) h
    | succ k ih =>
      intro i hi
      refine br_f (nI_ge (b := 6) (by omega) (by decide)) (nm_r (e' := nI (ms_o6 s (i + 1))) ?_ (nm_r (nI_1 i) (ih (i + 1) (by omega))))
      rw [ms_bitv s hs i (by omega), nI_add]
      rfl
  exact ⟨7, key 6 0 rfl⟩
end
section
/-! the reference's walks against the pure picture -/
theorem ms_sumv (a b c d x y z w e : ms_F) : (a * x + b * y + c * z + d * w = e) ↔ (a.val * x.val + b.val * y.val + c.val * z.val + d.val * w.val) % 7 = e.val := by
  rw [Fin.ext_iff]
  simp only [Fin.val_add, Fin.val_mul]
  generalize a.val * x.val = p
  generalize b.val * y.val = q
  generalize c.val * z.val = r
  generalize d.val * w.val = s
  omega
theorem ms_bk_s (N x : Nat → ms_F) (q : Nat) : ms_bk N x (q + 1) = if ms_sat (ms_row N q) x then ms_bk N x q else ms_bk N x q ||| 2 ^ q := rfl
theorem ms_brokenBy {post : Int32 → Prop} {N x : Nat → ms_F} {kn : Int32} {on br ct : Nat → Int32} {c : Nat} (hc : c ≤ 6) (h : post (nI (ms_bk N x c))) : wpY_brokenBy post (nI c, kn, ms_v N, on, br, ct) (nI (x 0).val) (nI (x 1).val) (nI (x 2).val) (nI (x 3).val) := by
  have key : ∀ k q, q + k = c → wY_brokenBy_6 post (nI (x 0).val) (nI (x 1).val) (nI (x 2).val) (nI (x 3).val) (nI c) kn (ms_v N) on br ct (k + 1) (nI (ms_bk N x q)) (nI q) := by
    intro k
    induction k with
    | zero =>
      intro q hq
      have : q = c := by omega
      subst this
      exact br_t (nI_le (Nat.le_refl _) (by omega)) h
    | succ k ih =>
      intro q hq
      have hih := ih (q + 1) (by omega)
      rw [ms_bk_s] at hih
      have i1 : nI (q * 5) + 1 = nI (q * 5 + 1) := nI_add _ 1
      have i2 : nI (q * 5) + 2 = nI (q * 5 + 2) := nI_add _ 2
      have i3 : nI (q * 5) + 3 = nI (q * 5 + 3) := nI_add _ 3
      have i4 : nI (q * 5) + 4 = nI (q * 5 + 4) := nI_add _ 4
      have hS : (N (q * 5)).val * (x 0).val + (N (q * 5 + 1)).val * (x 1).val + (N (q * 5 + 2)).val * (x 2).val + (N (q * 5 + 3)).val * (x 3).val < 1000 := by
        have hm : ∀ a b : ms_F, a.val * b.val ≤ 36 := fun a b => Nat.mul_le_mul (show a.val ≤ 6 by omega) (show b.val ≤ 6 by omega)
        have h0 := hm (N (q * 5)) (x 0)
        have h1 := hm (N (q * 5 + 1)) (x 1)
        have h2 := hm (N (q * 5 + 2)) (x 2)
        have h3 := hm (N (q * 5 + 3)) (x 3)
        omega
      have hsat := ms_sumv (N (q * 5)) (N (q * 5 + 1)) (N (q * 5 + 2)) (N (q * 5 + 3)) (x 0) (x 1) (x 2) (x 3) (N (q * 5 + 4))
      refine br_f (nI_ge (by omega) (by omega)) (nm_r (pk_mul q 5) ⟨vp_in_nI (by omega) (by decide), by rw [i1]; exact vp_in_nI (by omega) (by decide), by rw [i2]; exact vp_in_nI (by omega) (by decide), by rw [i3]; exact vp_in_nI (by omega) (by decide), nm_r (e' := nI ((N (q * 5)).val * (x 0).val + (N (q * 5 + 1)).val * (x 1).val + (N (q * 5 + 2)).val * (x 2).val + (N (q * 5 + 3)).val * (x 3).val)) ?_ ⟨ms_70, by rw [i4]; exact vp_in_nI (by omega) (by decide), ?_⟩⟩)
      · rw [i1, i2, i3, ms_cl (by omega), ms_cl (by omega), ms_cl (by omega), ms_cl (by omega)]
        show nI _ * nI _ + nI _ * nI _ + nI _ * nI _ + nI _ * nI _ = _
        rw [pk_mul, pk_mul, pk_mul, pk_mul, nI_add, nI_add, nI_add]
      · rw [i4, ms_cl (by omega)]
        generalize hg : (N (q * 5)).val * (x 0).val + (N (q * 5 + 1)).val * (x 1).val + (N (q * 5 + 2)).val * (x 2).val + (N (q * 5 + 3)).val * (x 3).val = S at hS hsat ⊢
        have er : nI S - nI S / 7 * 7 = nI (S % 7) := pk_rem (d := 7) (by omega) (by decide) (by decide)
        have h4 := (N (q * 5 + 4)).isLt
        have hiff : (nI S - nI S / 7 * 7 = ms_v N (q * 5 + 4)) ↔ ms_sat (ms_row N q) x := by
          rw [er]
          exact Iff.trans (nI_eq (by omega) (by omega)) hsat.symm
        by_cases z : ms_sat (ms_row N q) x
        · rw [if_pos z] at hih
          exact br_t (hiff.mpr z) (nm_r (nI_1 q) hih)
        · rw [if_neg z] at hih
          exact br_f (fun y => z (hiff.mp y)) (nm_r (ms_orI _ (ms_bk_lt N x q (by omega)) q (by omega)) (nm_r (nI_1 q) hih))
  exact ⟨_, key c 0 (Nat.zero_add c)⟩
/-- what a table that is known holds -/
def ms_G (N : Nat → ms_F) (c : Nat) (br : Nat → Int32) : Prop := ∀ i, i < 2401 → br i = nI (ms_bk N (ms_dg i) c)
def ms_wo (N : Nat → ms_F) (c : Nat) (br : Nat → Int32) (i : Nat) : Nat → Int32 := fun j => if j < i then nI (ms_bk N (ms_dg j) c) else br j
theorem ms_343 : ¬ (343 : Int32) = 0 := by decide
theorem ms_49 : ¬ (49 : Int32) = 0 := by decide
theorem ms_d0 {i : Nat} (hi : i < 2401) : nI i / 343 = nI (ms_dg i 0).val := by
  have e := pk_div (a := i) (d := 343) (by omega) (by decide) (by decide)
  have e2 : (ms_dg i 0).val = i / 343 := by
    rw [ms_dg_val]
    show i / 343 % 7 = i / 343
    omega
  rw [e2]
  exact e
theorem ms_d1 {i : Nat} (hi : i < 2401) : nI i / 49 - nI i / 49 / 7 * 7 = nI (ms_dg i 1).val := by
  have e := pk_div (a := i) (d := 49) (by omega) (by decide) (by decide)
  have e1 := pk_rem (a := i / 49) (d := 7) (by omega) (by decide) (by decide)
  have e2 : (ms_dg i 1).val = i / 49 % 7 := ms_dg_val i 1
  rw [e2, ← e1, ← e]
  rfl
theorem ms_d2 {i : Nat} (hi : i < 2401) : nI i / 7 - nI i / 7 / 7 * 7 = nI (ms_dg i 2).val := by
  have e := pk_div (a := i) (d := 7) (by omega) (by decide) (by decide)
  have e1 := pk_rem (a := i / 7) (d := 7) (by omega) (by decide) (by decide)
  have e2 : (ms_dg i 2).val = i / 7 % 7 := ms_dg_val i 2
  rw [e2, ← e1, ← e]
  rfl
theorem ms_d3 {i : Nat} (hi : i < 2401) : nI i - nI i / 7 * 7 = nI (ms_dg i 3).val := by
  have e1 := pk_rem (a := i) (d := 7) (by omega) (by decide) (by decide)
  have e2 : (ms_dg i 3).val = i % 7 := by
    rw [ms_dg_val]
    show i / 1 % 7 = i % 7
    rw [Nat.div_one]
  rw [e2]
  exact e1
theorem ms_wo_lp {post : SY → Prop} {N : Nat → ms_F} {kn : Int32} {on br ct : Nat → Int32} {c : Nat} (hc : c ≤ 6) (h : post (nI c, kn, ms_v N, on, ms_wo N c br 2401, ct)) : ∀ k i, i + k = 2401 → wY_workOut_15 post (nI c) kn (k + 1) (nI i) (ms_v N) on (ms_wo N c br i) ct := by
  intro k
  induction k with
  | zero =>
    intro i hi
    have : i = 2401 := by omega
    subst this
    exact br_t (nI_le (Nat.le_refl 2401) (by decide)) h
  | succ k ih =>
    intro i hi
    have hi' : i < 2401 := by omega
    refine br_f (nI_ge (b := 2401) (by omega) (by decide)) ⟨ms_343, ms_49, ms_70, ms_70, ms_70, ms_70, ?_⟩
    rw [ms_d0 hi', ms_d1 hi', ms_d2 hi', ms_d3 hi']
    refine ms_brokenBy hc ⟨vp_in_nI (by omega) (by decide), nm_r (e' := ms_wo N c br (i + 1)) ?_ (nm_r (nI_1 i) (ih (i + 1) (by omega)))⟩
    rw [ms_cl (by omega)]
    funext j
    unfold upd ms_wo
    by_cases z : j = i
    · rw [if_pos z, if_pos (by omega), z]
    · rw [if_neg z]
      by_cases y : j < i
      · rw [if_pos y, if_pos (by omega)]
      · rw [if_neg y, if_neg (by omega)]
theorem ms_workOut {N : Nat → ms_F} {kn : Int32} {on br ct : Nat → Int32} {c : Nat} (hc : c ≤ 6) (hk : kn = 0 ∨ ms_G N c br) : ∃ kn' br', ms_G N c br' ∧ ∀ post : SY → Prop, post (nI c, kn', ms_v N, on, br', ct) → wpY_workOut post (nI c, kn, ms_v N, on, br, ct) := by
  by_cases z : kn = 0
  · refine ⟨1, ms_wo N c br 2401, fun i hi => if_pos hi, fun post hp => br_t z ?_⟩
    have q := ms_wo_lp (post := post) (br := br) hc hp 2401 0 rfl
    have e0 : ms_wo N c br 0 = br := funext fun j => if_neg (Nat.not_lt_zero j)
    rw [e0] at q
    exact ⟨_, q⟩
  · rcases hk with y | y
    · exact absurd y z
    · exact ⟨kn, br, y, fun post hp => br_f z hp⟩
theorem ms_ons {kn : Int32} {an on br ct : Nat → Int32} {c : Nat} (hc : c ≤ 6) {post : Int32 → Prop} (h : post (nI (ms_os on c))) : wpY_ons post (nI c, kn, an, on, br, ct) := by
  have key : ∀ k e, e + k = c → wY_ons_4 post (nI c) kn an on br ct (k + 1) (nI (ms_os on e)) (nI e) := by
    intro k
    induction k with
    | zero =>
      intro e he
      have : e = c := by omega
      subst this
      exact br_t (nI_le (Nat.le_refl _) (by omega)) h
    | succ k ih =>
      intro e he
      have hq := ih (e + 1) (by omega)
      have hs : ms_os on (e + 1) = if on e = 0 then ms_os on e else ms_os on e ||| 2 ^ e := rfl
      refine br_f (nI_ge (by omega) (by omega)) ⟨vp_in_nI (by omega) (by decide), ?_⟩
      rw [ms_cl (by omega)]
      by_cases z : on e = 0
      · rw [hs, if_pos z] at hq
        exact br_t z (nm_r (nI_1 e) hq)
      · rw [hs, if_neg z] at hq
        exact br_f z (nm_r (ms_orI _ (ms_os_lt on e (by omega)) e (by omega)) (nm_r (nI_1 e) hq))
  exact ⟨_, key c 0 (Nat.zero_add c)⟩
theorem ms_nz {a : Nat} (h : a < 2 ^ 31) : nI a = 0 ↔ a = 0 := nI_eq (b := 0) h (by decide)
theorem ms_brP {N : Nat → ms_F} {c : Nat} {br : Nat → Int32} (hG : ms_G N c br) (hc : c ≤ 6) (s : Nat) {i : Nat} (hi : i < 2401) : (br (nI i).toNatClampNeg &&& nI s = 0) ↔ ms_P N c s i = true := by
  rw [ms_cl hi, hG i hi, nx_and, ms_nz (Nat.lt_of_le_of_lt Nat.and_le_left (Nat.lt_of_lt_of_le (ms_bk_lt N (ms_dg i) c hc) (by decide)))]
  unfold ms_P
  rw [decide_eq_true_iff]
theorem ms_cn_y {P : Nat → Bool} {i : Nat} (h : P i = true) : ms_cn P (i + 1) = ms_cn P i + 1 := by
  show ms_cn P i + (P i).toNat = _
  rw [h]; rfl
theorem ms_cn_n {P : Nat → Bool} {i : Nat} (h : ¬ P i = true) : ms_cn P (i + 1) = ms_cn P i := by
  show ms_cn P i + (P i).toNat = _
  rw [Bool.eq_false_iff.mpr h]; rfl
section
variable {N : Nat → ms_F} {kn : Int32} {an on br ct : Nat → Int32} {c s : Nat}
theorem ms_before {post : Int32 → SY → Prop} (hG : ms_G N c br) (hc : c ≤ 6) {to : Nat} (ht : to ≤ 2401) (h : post (nI (ms_cn (ms_P N c s) to)) (nI c, kn, an, on, br, ct)) : ∃ n, wY_before_14 post (nI to) (nI s) (nI c) kn an on br ct n 0 0 := by
  have key : ∀ k i, i + k = to → wY_before_14 post (nI to) (nI s) (nI c) kn an on br ct (k + 1) (nI (ms_cn (ms_P N c s) i)) (nI i) := by
    intro k
    induction k with
    | zero =>
      intro i hi
      have : i = to := by omega
      subst this
      exact br_t (nI_le (Nat.le_refl _) (by omega)) h
    | succ k ih =>
      intro i hi
      have q := ih (i + 1) (by omega)
      refine br_f (nI_ge (by omega) (by omega)) ⟨vp_in_nI (by omega) (by decide), ?_⟩
      by_cases z : ms_P N c s i = true
      · rw [ms_cn_y z] at q
        exact br_t ((ms_brP hG hc s (by omega)).mpr z) (nm_r (nI_1 _) (nm_r (nI_1 i) q))
      · rw [ms_cn_n z] at q
        exact br_f (fun y => z ((ms_brP hG hc s (by omega)).mp y)) (nm_r (nI_1 i) q)
  exact ⟨_, key to 0 (Nat.zero_add to)⟩
theorem ms_digit {post : Int32 → Prop} {S : SY} {i w : Nat} (hi : i < 2401) (hw : w < 4) (h : post (nI (ms_dg i w).val)) : wpY_digit post S (nI i) (nI w) := by
  obtain ⟨a1, a2, a3, a4, a5, a6⟩ := S
  rcases (show w = 0 ∨ w = 1 ∨ w = 2 ∨ w = 3 by omega) with rfl | rfl | rfl | rfl
  · exact br_t (show nI 0 = 0 by decide +kernel) ⟨ms_343, by rw [ms_d0 hi]; exact h⟩
  · exact br_f (show ¬ nI 1 = 0 by decide +kernel) (br_t (show nI 1 = 1 by decide +kernel) ⟨ms_49, ms_70, by rw [ms_d1 hi]; exact h⟩)
  · exact br_f (show ¬ nI 2 = 0 by decide +kernel) (br_f (show ¬ nI 2 = 1 by decide +kernel) (br_t (show nI 2 = 2 by decide +kernel) ⟨ms_70, ms_70, by rw [ms_d2 hi]; exact h⟩))
  · exact br_f (show ¬ nI 3 = 0 by decide +kernel) (br_f (show ¬ nI 3 = 1 by decide +kernel) (br_f (show ¬ nI 3 = 2 by decide +kernel) ⟨ms_70, by rw [ms_d3 hi]; exact h⟩))
theorem ms_val_hit {post : Int32 → SY → Prop} (hG : ms_G N c br) (hc : c ≤ 6) {t n w : Nat} (ht : t < 2401) (hw : w < 4) (hP : ms_P N c s t = true) (hn : ms_cn (ms_P N c s) t = n) (h : post (nI (ms_dg t w).val) (nI c, kn, an, on, br, ct)) : ∃ m, wY_value_27 post (nI n) (nI w) (nI s) (nI c) kn an on br ct m 0 0 := by
  have key : ∀ k i, i + k = t → wY_value_27 post (nI n) (nI w) (nI s) (nI c) kn an on br ct (k + 1) (nI (ms_cn (ms_P N c s) i)) (nI i) := by
    intro k
    induction k with
    | zero =>
      intro i hi
      have : i = t := by omega
      subst this
      exact br_f (nI_ge (b := 2401) (by omega) (by decide)) ⟨vp_in_nI (by omega) (by decide), br_t ((ms_brP hG hc s (by omega)).mpr hP) (br_t (by rw [hn]) (ms_digit ht hw h))⟩
    | succ k ih =>
      intro i hi
      have q := ih (i + 1) (by omega)
      refine br_f (nI_ge (b := 2401) (by omega) (by decide)) ⟨vp_in_nI (by omega) (by decide), ?_⟩
      by_cases z : ms_P N c s i = true
      · rw [ms_cn_y z] at q
        have h1 := ms_cn_t (P := ms_P N c s) (a := i) (b := t) (by omega) z
        have h2 := ms_cn_b (ms_P N c s) t
        refine br_t ((ms_brP hG hc s (by omega)).mpr z) (br_f (fun y => ?_) (nm_r (nI_1 _) (nm_r (nI_1 i) q)))
        have := (nI_eq (by omega) (by omega)).mp y
        omega
      · rw [ms_cn_n z] at q
        exact br_f (fun y => z ((ms_brP hG hc s (by omega)).mp y)) (nm_r (nI_1 i) q)
  exact ⟨_, key t 0 (Nat.zero_add t)⟩
theorem ms_val_miss {post : Int32 → SY → Prop} (hG : ms_G N c br) (hc : c ≤ 6) {v1 x2 : Int32} (hm : ∀ i, i < 2401 → ms_P N c s i = true → ¬ nI (ms_cn (ms_P N c s) i) = v1) (h : post (-4) (nI c, kn, an, on, br, ct)) : ∃ m, wY_value_27 post v1 x2 (nI s) (nI c) kn an on br ct m 0 0 := by
  have key : ∀ k i, i + k = 2401 → wY_value_27 post v1 x2 (nI s) (nI c) kn an on br ct (k + 1) (nI (ms_cn (ms_P N c s) i)) (nI i) := by
    intro k
    induction k with
    | zero =>
      intro i hi
      have : i = 2401 := by omega
      subst this
      exact br_t (nI_le (Nat.le_refl _) (by omega)) h
    | succ k ih =>
      intro i hi
      have q := ih (i + 1) (by omega)
      refine br_f (nI_ge (b := 2401) (by omega) (by decide)) ⟨vp_in_nI (by omega) (by decide), ?_⟩
      by_cases z : ms_P N c s i = true
      · rw [ms_cn_y z] at q
        exact br_t ((ms_brP hG hc s (by omega)).mpr z) (br_f (hm i (by omega) z) (nm_r (nI_1 _) (nm_r (nI_1 i) q)))
      · rw [ms_cn_n z] at q
        exact br_f (fun y => z ((ms_brP hG hc s (by omega)).mp y)) (nm_r (nI_1 i) q)
  exact ⟨_, key 2401 0 rfl⟩
theorem ms_fol_1 {post : Int32 → SY → Prop} (hG : ms_G N c br) (hc : c ≤ 6) {e : Nat} (he : e < c) (hm : ∀ i, i < 2401 → ms_P N c s i = true → ms_sat (ms_row N e) (ms_dg i)) (h : post 1 (nI c, kn, an, on, br, ct)) : ∃ m, wY_follows_21 post (nI e) (nI s) (nI c) kn an on br ct m 0 := by
  have key : ∀ k i, i + k = 2401 → wY_follows_21 post (nI e) (nI s) (nI c) kn an on br ct (k + 1) (nI i) := by
    intro k
    induction k with
    | zero =>
      intro i hi
      have : i = 2401 := by omega
      subst this
      exact br_t (nI_le (Nat.le_refl _) (by omega)) h
    | succ k ih =>
      intro i hi
      have q := ih (i + 1) (by omega)
      refine br_f (nI_ge (b := 2401) (by omega) (by decide)) ⟨vp_in_nI (by omega) (by decide), ?_⟩
      by_cases z : ms_P N c s i = true
      · refine br_t ((ms_brP hG hc s (by omega)).mpr z) ⟨vp_in_nI (by omega) (by decide), br_f (fun y => ?_) (nm_r (nI_1 i) q)⟩
        rw [ms_cl (by omega), hG i (by omega), ms_bit _ (ms_bk_lt N _ c hc) e (by omega), ms_bk_tb] at y
        exact y.2 (hm i (by omega) z)
      · exact br_f (fun y => z ((ms_brP hG hc s (by omega)).mp y)) (nm_r (nI_1 i) q)
  exact ⟨_, key 2401 0 rfl⟩
theorem ms_fol_0 {post : Int32 → SY → Prop} (hG : ms_G N c br) (hc : c ≤ 6) {e t : Nat} (he : e < c) (ht : t < 2401) (hP : ms_P N c s t = true) (hb : ¬ ms_sat (ms_row N e) (ms_dg t)) (h : post 0 (nI c, kn, an, on, br, ct)) : ∃ m, wY_follows_21 post (nI e) (nI s) (nI c) kn an on br ct m 0 := by
  have key : ∀ k i, i + k = t → wY_follows_21 post (nI e) (nI s) (nI c) kn an on br ct (k + 1) (nI i) := by
    intro k
    induction k with
    | zero =>
      intro i hi
      have : i = t := by omega
      subst this
      refine br_f (nI_ge (b := 2401) (by omega) (by decide)) ⟨vp_in_nI (by omega) (by decide), br_t ((ms_brP hG hc s (by omega)).mpr hP) ⟨vp_in_nI (by omega) (by decide), br_t ?_ h⟩⟩
      rw [ms_cl (by omega), hG i (by omega), ms_bit _ (ms_bk_lt N _ c hc) e (by omega), ms_bk_tb]
      exact ⟨he, hb⟩
    | succ k ih =>
      intro i hi
      have q := ih (i + 1) (by omega)
      refine br_f (nI_ge (b := 2401) (by omega) (by decide)) ⟨vp_in_nI (by omega) (by decide), br_c (fun _ => ⟨vp_in_nI (by omega) (by decide), br_c (fun _ => h) (fun _ => nm_r (nI_1 i) q)⟩) (fun _ => nm_r (nI_1 i) q)⟩
  exact ⟨_, key t 0 (Nat.zero_add t)⟩
/-! possible -/
def ms_pz (P : Nat → Bool) (w : Nat) : Nat → Nat
  | 0 => 0
  | i + 1 => if P i = true then ms_pz P w i ||| 2 ^ (ms_dg i w).val else ms_pz P w i
theorem ms_or7 : ∀ z, z < 128 → ∀ v, v < 7 → z ||| 2 ^ v < 128 ∧ nI z ||| ((1 : Int32) <<< (nI v &&& 31)) = nI (z ||| 2 ^ v) := by decide +kernel
theorem ms_pz_lt (P : Nat → Bool) (w : Nat) : ∀ i, ms_pz P w i < 128 := by
  intro i
  induction i with
  | zero => exact (by decide : 0 < 128)
  | succ i ih =>
    show (if P i = true then ms_pz P w i ||| 2 ^ (ms_dg i w).val else ms_pz P w i) < 128
    split
    · exact (ms_or7 _ ih _ (ms_dg i w).isLt).1
    · exact ih
theorem ms_pz_tb (P : Nat → Bool) (w v : Nat) : ∀ i, (ms_pz P w i).testBit v = true ↔ ∃ j, j < i ∧ P j = true ∧ (ms_dg j w).val = v := by
  intro i
  induction i with
  | zero =>
    show (0 : Nat).testBit v = true ↔ _
    rw [Nat.zero_testBit]
    exact ⟨(fun h => nomatch h), fun ⟨j, h, _⟩ => absurd h (Nat.not_lt_zero j)⟩
  | succ i ih =>
    show (if P i = true then ms_pz P w i ||| 2 ^ (ms_dg i w).val else ms_pz P w i).testBit v = true ↔ _
    by_cases z : P i = true
    · rw [if_pos z, ms_tb_or, Bool.or_eq_true, ih, decide_eq_true_iff]
      constructor
      · intro h
        rcases h with ⟨j, a, b⟩ | h
        · exact ⟨j, by omega, b⟩
        · exact ⟨i, by omega, z, h⟩
      · rintro ⟨j, a, b, d⟩
        by_cases y : j = i
        · rw [y] at d; exact Or.inr d
        · exact Or.inl ⟨j, by omega, b, d⟩
    · rw [if_neg z, ih]
      constructor
      · rintro ⟨j, a, b⟩
        exact ⟨j, by omega, b⟩
      · rintro ⟨j, a, b, d⟩
        by_cases y : j = i
        · rw [y] at b; exact absurd b z
        · exact ⟨j, by omega, b, d⟩
theorem ms_poss {post : Int32 → SY → Prop} (hG : ms_G N c br) (hc : c ≤ 6) {w : Nat} (hw : w < 4) (h : post (nI (ms_pz (ms_P N c s) w 2401)) (nI c, kn, an, on, br, ct)) : ∃ m, wY_possible_25 post (nI w) (nI s) (nI c) kn an on br ct m 0 0 := by
  have key : ∀ k i, i + k = 2401 → wY_possible_25 post (nI w) (nI s) (nI c) kn an on br ct (k + 1) (nI (ms_pz (ms_P N c s) w i)) (nI i) := by
    intro k
    induction k with
    | zero =>
      intro i hi
      have : i = 2401 := by omega
      subst this
      exact br_t (nI_le (Nat.le_refl _) (by omega)) h
    | succ k ih =>
      intro i hi
      have q := ih (i + 1) (by omega)
      have e : ms_pz (ms_P N c s) w (i + 1) = if ms_P N c s i = true then ms_pz (ms_P N c s) w i ||| 2 ^ (ms_dg i w).val else ms_pz (ms_P N c s) w i := rfl
      refine br_f (nI_ge (b := 2401) (by omega) (by decide)) ⟨vp_in_nI (by omega) (by decide), ?_⟩
      by_cases z : ms_P N c s i = true
      · rw [e, if_pos z] at q
        exact br_t ((ms_brP hG hc s (by omega)).mpr z) (ms_digit (by omega) hw (nm_r (ms_or7 _ (ms_pz_lt _ _ _) _ (ms_dg i w).isLt).2 (nm_r (nI_1 i) q)))
      · rw [e, if_neg z] at q
        exact br_f (fun y => z ((ms_brP hG hc s (by omega)).mp y)) (nm_r (nI_1 i) q)
  exact ⟨_, key 2401 0 rfl⟩
theorem ms_sh1 : ∀ v, v < 7 → (1 : Int32) <<< (nI v &&& 31) = nI (2 ^ v) := by decide +kernel
theorem ms_pw7 : ∀ v, v < 7 → 2 ^ v < 128 := by decide +kernel
theorem ms_fix_0 {post : Int32 → SY → Prop} {f2 : Int32} {z : Nat} (hz : z < 128) (hn : ∀ v, v < 7 → z ≠ 2 ^ v) (h : post 0 (f2, kn, an, on, br, ct)) : ∃ m, wY_fixed_8 post (nI z) f2 kn an on br ct m 0 := by
  have key : ∀ k i, i + k = 7 → wY_fixed_8 post (nI z) f2 kn an on br ct (k + 1) (nI i) := by
    intro k
    induction k with
    | zero =>
      intro i hi
      have : i = 7 := by omega
      subst this
      exact br_t (nI_le (Nat.le_refl _) (by omega)) h
    | succ k ih =>
      intro i hi
      refine br_f (nI_ge (b := 7) (by omega) (by decide)) (br_f (fun y => ?_) (nm_r (nI_1 i) (ih (i + 1) (by omega))))
      have h7 := ms_pw7 i (by omega)
      rw [ms_sh1 i (by omega)] at y
      exact hn i (by omega) ((nI_eq (by omega) (by omega)).mp y)
  exact ⟨_, key 7 0 rfl⟩
theorem ms_fix_1 {post : Int32 → SY → Prop} {f2 : Int32} {v : Nat} (hv : v < 7) (h : post 1 (f2, kn, an, on, br, ct)) : ∃ m, wY_fixed_8 post (nI (2 ^ v)) f2 kn an on br ct m 0 := by
  have key : ∀ k i, i + k = v → wY_fixed_8 post (nI (2 ^ v)) f2 kn an on br ct (k + 1) (nI i) := by
    intro k
    induction k with
    | zero =>
      intro i hi
      have : i = v := by omega
      subst this
      exact br_f (nI_ge (b := 7) (by omega) (by decide)) (br_t (ms_sh1 i hv).symm h)
    | succ k ih =>
      intro i hi
      exact br_f (nI_ge (b := 7) (by omega) (by decide)) (br_c (fun _ => h) (fun _ => nm_r (nI_1 i) (ih (i + 1) (by omega))))
  exact ⟨_, key v 0 (Nat.zero_add v)⟩
end
end
section
/-! needed: the reference's counts and meetings; the run over all sets, common to both -/
def ms_mt (g : Nat → Nat) (s : Nat) : Nat → Nat
  | 0 => 0
  | m + 1 => ms_mt g s m + (if m &&& s = 0 then g m else 0)
theorem ms_mt_add (g h : Nat → Nat) (s : Nat) : ∀ K, ms_mt (fun m => g m + h m) s K = ms_mt g s K + ms_mt h s K := by
  intro K
  induction K with
  | zero => rfl
  | succ K ih =>
    show ms_mt (fun m => g m + h m) s K + (if K &&& s = 0 then g K + h K else 0) = (ms_mt g s K + (if K &&& s = 0 then g K else 0)) + (ms_mt h s K + (if K &&& s = 0 then h K else 0))
    rw [ih]
    by_cases z : K &&& s = 0
    · rw [if_pos z, if_pos z, if_pos z]; omega
    · rw [if_neg z, if_neg z, if_neg z]; omega
theorem ms_mt_z (s : Nat) : ∀ K, ms_mt (fun _ => 0) s K = 0 := by
  intro K
  induction K with
  | zero => rfl
  | succ K ih =>
    show ms_mt (fun _ => 0) s K + (if K &&& s = 0 then 0 else 0) = 0
    rw [ih]
    split <;> rfl
theorem ms_mt_d (b s : Nat) : ∀ K, ms_mt (fun m => (decide (b = m)).toNat) s K = if b < K then (decide (b &&& s = 0)).toNat else 0 := by
  intro K
  induction K with
  | zero => rfl
  | succ K ih =>
    show ms_mt (fun m => (decide (b = m)).toNat) s K + (if K &&& s = 0 then (decide (b = K)).toNat else 0) = _
    rw [ih]
    by_cases z : b = K
    · subst z
      rw [if_neg (Nat.lt_irrefl b), if_pos (Nat.lt_succ_self b), decide_eq_true (p := b = b) rfl]
      by_cases y : b &&& s = 0
      · rw [if_pos y, decide_eq_true y]; rfl
      · rw [if_neg y, decide_eq_false y]; rfl
    · rw [decide_eq_false z]
      have e : (if K &&& s = 0 then (false).toNat else 0) = 0 := by split <;> rfl
      rw [e]
      by_cases y : b < K
      · rw [if_pos y, if_pos (by omega)]; rfl
      · rw [if_neg y, if_neg (by omega)]
theorem ms_mt_cn {B : Nat → Nat} (s : Nat) : ∀ t, (∀ i, i < t → B i < 64) → ms_mt (fun m => ms_cn (fun i => decide (B i = m)) t) s 64 = ms_cn (fun i => decide (B i &&& s = 0)) t := by
  intro t
  induction t with
  | zero => intro _; exact ms_mt_z s 64
  | succ t ih =>
    intro h
    have e : ms_mt (fun m => ms_cn (fun i => decide (B i = m)) (t + 1)) s 64 = ms_mt (fun m => ms_cn (fun i => decide (B i = m)) t) s 64 + ms_mt (fun m => (decide (B t = m)).toNat) s 64 := ms_mt_add _ _ s 64
    rw [e, ih (fun i hi => h i (by omega)), ms_mt_d, if_pos (h t (by omega))]
    rfl
/-! the reference -/
def ms_ctf (N : Nat → ms_F) (c : Nat) (ct : Nat → Int32) (t : Nat) : Nat → Int32 := fun j => if j < 64 then nI (ms_cn (fun i => decide (ms_bk N (ms_dg i) c = j)) t) else ct j
section
variable {N : Nat → ms_F} {kn : Int32} {an on br ct : Nat → Int32} {c s : Nat}
theorem ms_meet {post : Int32 → Prop} (hc : c ≤ 6) (h : post (nI (ms_M N c s))) : wpY_meeting post (nI c, kn, an, on, br, ms_ctf N c ct 2401) (nI s) := by
  have key : ∀ k m, m + k = 64 → wY_meeting_4 post (nI s) (nI c) kn an on br (ms_ctf N c ct 2401) (k + 1) (nI (ms_mt (fun m => ms_cn (fun i => decide (ms_bk N (ms_dg i) c = m)) 2401) s m)) (nI m) := by
    intro k
    induction k with
    | zero =>
      intro m hm
      have : m = 64 := by omega
      subst this
      rw [ms_mt_cn s 2401 (fun i _ => ms_bk_lt N (ms_dg i) c hc)]
      exact br_t (nI_le (Nat.le_refl _) (by omega)) h
    | succ k ih =>
      intro m hm
      have q := ih (m + 1) (by omega)
      have e : ms_mt (fun m => ms_cn (fun i => decide (ms_bk N (ms_dg i) c = m)) 2401) s (m + 1) = ms_mt (fun m => ms_cn (fun i => decide (ms_bk N (ms_dg i) c = m)) 2401) s m + (if m &&& s = 0 then ms_cn (fun i => decide (ms_bk N (ms_dg i) c = m)) 2401 else 0) := rfl
      have hz : nI m &&& nI s = 0 ↔ m &&& s = 0 := by
        rw [nx_and]
        exact ms_nz (Nat.lt_of_le_of_lt Nat.and_le_left (by omega))
      refine br_f (nI_ge (b := 64) (by omega) (by decide)) ?_
      by_cases z : m &&& s = 0
      · rw [e, if_pos z] at q
        refine br_t (hz.mpr z) ⟨vp_in_nI (by omega) (by decide), nm_r ?_ (nm_r (nI_1 m) q)⟩
        rw [ms_cl (by omega)]
        have e2 : ms_ctf N c ct 2401 m = nI (ms_cn (fun i => decide (ms_bk N (ms_dg i) c = m)) 2401) := if_pos (by omega)
        rw [e2, nI_add]
      · rw [e, if_neg z, Nat.add_zero] at q
        exact br_f (fun y => z (hz.mp y)) (nm_r (nI_1 m) q)
  exact ⟨65, key 64 0 rfl⟩
theorem ms_br63 (hG : ms_G N c br) (hc : c ≤ 6) {i : Nat} (hi : i < 2401) : br (nI i).toNatClampNeg &&& 63 = nI (ms_bk N (ms_dg i) c) := by
  have hb := ms_bk_lt N (ms_dg i) c hc
  rw [ms_cl hi, hG i hi, pk_andN (k := 6) (by omega) (by decide)]
  exact congrArg nI (Nat.mod_eq_of_lt hb)
theorem ms_n27 {post : Int32 → SY → Prop} (hG : ms_G N c br) (hc : c ≤ 6) (h : ∃ n, wY_needed_87 post (nI (ms_os on c)) (nI (ms_M N c (ms_os on c))) (nI c) kn an on br (ms_ctf N c ct 2401) n 6 0) : ∀ k i, i + k = 2401 → wY_needed_27 post (nI c) kn (k + 1) (nI i) an on br (ms_ctf N c ct i) := by
  intro k
  induction k with
  | zero =>
    intro i hi
    have : i = 2401 := by omega
    subst this
    exact br_t (nI_le (Nat.le_refl _) (by omega)) (ms_ons hc (ms_meet hc h))
  | succ k ih =>
    intro i hi
    have hb := ms_bk_lt N (ms_dg i) c hc
    have e := ms_br63 hG hc (i := i) (by omega)
    have hin : vp_in (br (nI i).toNatClampNeg &&& 63) 64 := by rw [e]; exact vp_in_nI hb (by decide)
    refine br_f (nI_ge (b := 2401) (by omega) (by decide)) ⟨vp_in_nI (by omega) (by decide), vp_in_nI (by omega) (by decide), hin, hin, nm_r (e' := ms_ctf N c ct (i + 1)) ?_ (nm_r (nI_1 i) (ih (i + 1) (by omega)))⟩
    rw [e, ms_cl (by omega)]
    funext j
    have hj : ms_ctf N c ct (i + 1) j = if j < 64 then nI (ms_cn (fun i => decide (ms_bk N (ms_dg i) c = j)) i + (decide (ms_bk N (ms_dg i) c = j)).toNat) else ct j := rfl
    rw [hj]
    by_cases z : j = ms_bk N (ms_dg i) c
    · rw [z, pk_us, if_pos hb, decide_eq_true (p := ms_bk N (ms_dg i) c = ms_bk N (ms_dg i) c) rfl]
      have e2 : ms_ctf N c ct i (ms_bk N (ms_dg i) c) = nI (ms_cn (fun i' => decide (ms_bk N (ms_dg i') c = ms_bk N (ms_dg i) c)) i) := if_pos hb
      rw [e2, nI_1]
      rfl
    · rw [pk_un z, decide_eq_false (fun y => z y.symm)]
      rfl
theorem ms_n6 {post : Int32 → SY → Prop} (h : ∃ n, wY_needed_27 post (nI c) kn n 0 an on br (ms_ctf N c ct 0)) : ∀ k i, i + k = 64 → wY_needed_6 post (nI c) kn (k + 1) (nI i) an on br (fun j => if j < i then nI 0 else ct j) := by
  intro k
  induction k with
  | zero =>
    intro i hi
    have : i = 64 := by omega
    subst this
    exact br_t (nI_le (Nat.le_refl _) (by omega)) h
  | succ k ih =>
    intro i hi
    refine br_f (nI_ge (b := 64) (by omega) (by decide)) ⟨vp_in_nI (by omega) (by decide), nm_r (e' := fun j => if j < i + 1 then nI 0 else ct j) ?_ (nm_r (nI_1 i) (ih (i + 1) (by omega)))⟩
    rw [ms_cl (by omega)]
    funext j
    unfold upd
    by_cases z : j = i
    · rw [if_pos z, if_pos (by omega)]
      exact nI_0.symm
    · rw [if_neg z]
      dsimp only
      by_cases y : j < i
      · rw [if_pos y, if_pos (by omega)]
      · rw [if_neg y, if_neg (by omega)]
/-! the run over all sets -/
def ms_nxt (N : Nat → ms_F) (c a due l s0 : Nat) : Nat := if s0 &&& a = s0 ∧ ms_ones s0 < l ∧ ms_M N c s0 = due then ms_ones s0 else l
def ms_run (N : Nat → ms_F) (c a due : Nat) : Nat → Nat → Nat → Nat
  | 0, l, _ => l
  | k + 1, l, s0 => ms_run N c a due k (ms_nxt N c a due l s0) (s0 + 1)
theorem ms_nxt_le (N : Nat → ms_F) (c a due l s0 : Nat) : ms_nxt N c a due l s0 ≤ l := by
  unfold ms_nxt
  split
  · omega
  · exact Nat.le_refl l
theorem ms_subI : ∀ s, s < 64 → ∀ a, a < 64 → (nI s &&& (nI a ^^^ (-1)) = 0 ↔ s &&& a = s) := by decide +kernel
theorem ms_ones6 (s : Nat) : ms_ones s ≤ 6 := by
  have h : ∀ b : Bool, b.toNat ≤ 1 := Bool.toNat_le
  have h0 := h (s.testBit 0)
  have h1 := h (s.testBit 1)
  have h2 := h (s.testBit 2)
  have h3 := h (s.testBit 3)
  have h4 := h (s.testBit 4)
  have h5 := h (s.testBit 5)
  unfold ms_ones
  omega
theorem ms_M_b (N : Nat → ms_F) (c s : Nat) : ms_M N c s ≤ 2401 := ms_cn_b _ 2401
theorem ms_n100 {post : Int32 → SY → Prop} {J87 : Int32 → Int32 → Prop} {a due l s0 : Nat} (hc : c ≤ 6) (ha : a < 64) (hd : due ≤ 2401) (hl : l ≤ 6) (hs : s0 < 64) (h : J87 (nI (ms_nxt N c a due l s0)) (nI (s0 + 1))) : ∃ n, wY_needed_100 post J87 (nI a) (nI due) (nI l) (nI s0) (nI c) kn an on br (ms_ctf N c ct 2401) n 0 0 := by
  have key : ∀ k i, i + k = 6 → wY_needed_100 post J87 (nI a) (nI due) (nI l) (nI s0) (nI c) kn an on br (ms_ctf N c ct 2401) (k + 1) (nI (ms_o6 s0 i)) (nI i) := by
    intro k
    induction k with
    | zero =>
      intro i hi
      have : i = 6 := by omega
      subst this
      rw [ms_o6_6]
      have ho := ms_ones6 s0
      refine br_t (nI_le (Nat.le_refl _) (by omega)) ?_
      unfold ms_nxt at h
      by_cases z : s0 &&& a = s0
      · refine br_t ((ms_subI s0 hs a ha).mpr z) (pk_le l (ms_ones s0) (fun y => ?_) (fun y => ?_))
        · rw [if_neg (by omega)] at h
          exact nm_r (nI_1 s0) h
        · refine ms_meet hc ?_
          have hm := ms_M_b N c s0
          refine pk_eq (ms_M N c s0) due (fun x => ?_) (fun x => ?_)
          · rw [if_pos ⟨z, y, x⟩] at h
            exact nm_r (nI_1 s0) h
          · rw [if_neg (fun w => x w.2.2)] at h
            exact nm_r (nI_1 s0) h
      · rw [if_neg (fun w => z w.1)] at h
        exact br_f (fun y => z ((ms_subI s0 hs a ha).mp y)) (nm_r (nI_1 s0) h)
    | succ k ih =>
      intro i hi
      refine br_f (nI_ge (b := 6) (by omega) (by decide)) (nm_r (e' := nI (ms_o6 s0 (i + 1))) ?_ (nm_r (nI_1 i) (ih (i + 1) (by omega))))
      rw [ms_bitv s0 hs i (by omega), nI_add]
      rfl
  exact ⟨7, key 6 0 rfl⟩
theorem ms_n87 {post : Int32 → SY → Prop} {a due : Nat} (hc : c ≤ 6) (ha : a < 64) (hd : due ≤ 2401) : ∀ k s0, s0 + k = 64 → ∀ l, l ≤ 6 → post (nI (ms_run N c a due k l s0)) (nI c, kn, an, on, br, ms_ctf N c ct 2401) → wY_needed_87 post (nI a) (nI due) (nI c) kn an on br (ms_ctf N c ct 2401) (k + 1) (nI l) (nI s0) := by
  intro k
  induction k with
  | zero =>
    intro s0 hs l hl h
    have : s0 = 64 := by omega
    subst this
    exact br_t (nI_le (Nat.le_refl _) (by omega)) h
  | succ k ih =>
    intro s0 hs l hl h
    refine br_f (nI_ge (b := 64) (by omega) (by decide)) ?_
    exact ms_n100 hc ha hd hl (by omega) (ih (s0 + 1) (by omega) _ (Nat.le_trans (ms_nxt_le N c a due l s0) hl) h)
end
theorem ms_neededY {N : Nat → ms_F} {kn : Int32} {on br ct : Nat → Int32} {c : Nat} (hc : c ≤ 6) (hk : kn = 0 ∨ ms_G N c br) : ∃ kn' br' ct', ms_G N c br' ∧ ∀ post : Int32 → SY → Prop, post (nI (ms_run N c (ms_os on c) (ms_M N c (ms_os on c)) 64 6 0)) (nI c, kn', ms_v N, on, br', ct') → wpY_needed post (nI c, kn, ms_v N, on, br, ct) := by
  obtain ⟨kn', br', hG, f⟩ := ms_workOut (on := on) (ct := ct) hc hk
  refine ⟨kn', br', ms_ctf N c ct 2401, hG, fun post hp => f _ ?_⟩
  have h87 := ms_n87 (post := post) (N := N) (kn := kn') (an := ms_v N) (on := on) (br := br') (ct := ct) hc (ms_os_lt on c hc) (ms_M_b N c (ms_os on c)) 64 0 rfl 6 (Nat.le_refl 6) hp
  have h27 := ms_n27 (post := post) hG hc ⟨_, h87⟩ 2401 0 rfl
  have h6 := ms_n6 (post := post) ⟨_, h27⟩ 64 0 rfl
  have e0 : (fun j => if j < 0 then nI 0 else ct j) = ct := funext fun j => if_neg (Nat.not_lt_zero j)
  rw [e0] at h6
  exact ⟨_, h6⟩
theorem ms_and_sub {s a : Nat} (h : s &&& a = s) : ∀ q, s.testBit q = true → a.testBit q = true := by
  intro q hq
  rw [← h, Nat.testBit_and, Bool.and_eq_true] at hq
  exact hq.2
theorem ms_sub_and {s a : Nat} (h : ∀ q, s.testBit q = true → a.testBit q = true) : s &&& a = s := by
  apply Nat.eq_of_testBit_eq
  intro q
  rw [Nat.testBit_and]
  have := h q
  revert this
  cases s.testBit q <;> cases a.testBit q <;> simp
theorem ms_run_n {N : Nat → ms_F} {c a due n S : Nat} (hS : S < 64) (h1 : S &&& a = S) (h2 : ms_ones S = n) (h3 : ms_M N c S = due) (h4 : ∀ s, s < 64 → s &&& a = s → ms_M N c s = due → n ≤ ms_ones s) : ∀ k s0, s0 + k = 64 → ∀ l, n ≤ l → (S < s0 → l ≤ n) → ms_run N c a due k l s0 = n := by
  intro k
  induction k with
  | zero =>
    intro s0 hs l hl h
    have := h (by omega)
    show l = n
    omega
  | succ k ih =>
    intro s0 hs l hl h
    refine ih (s0 + 1) (by omega) _ ?_ ?_
    · unfold ms_nxt
      split
      · rename_i z
        exact h4 s0 (by omega) z.1 z.2.2
      · exact hl
    · intro hx
      by_cases y : S = s0
      · subst y
        unfold ms_nxt
        split
        · omega
        · rename_i z
          have : ¬ ms_ones S < l := fun w => z ⟨h1, w, h3⟩
          omega
      · have := h (by omega)
        exact Nat.le_trans (ms_nxt_le N c a due l s0) this
/-! the component -/
def ms_nk (D : Nat → Bool) : Nat → Nat
  | 0 => 0
  | k + 1 => ms_nk D k + (D k).toNat
theorem ms_nk_4 (D : Nat → Bool) : ms_nk D 4 = ms_nd D := by
  show 0 + (D 0).toNat + (D 1).toNat + (D 2).toNat + (D 3).toNat = _
  rw [Nat.zero_add]
  rfl
theorem ms_n15 {post : Int32 → SX → Prop} {fe fC : Int32} {an on rr ww : Nat → Int32} {D : Nat → Bool} (h : post (nI (ms_nd D)) (fe, fC, an, on, ms_b D, rr, ww)) : ∃ n, wX_needed_15 post fe fC an on (ms_b D) rr ww n 0 0 := by
  have key : ∀ k i, i + k = 4 → wX_needed_15 post fe fC an on (ms_b D) rr ww (k + 1) (nI (ms_nk D i)) (nI i) := by
    intro k
    induction k with
    | zero =>
      intro i hi
      have : i = 4 := by omega
      subst this
      rw [ms_nk_4]
      exact br_t (nI_le (Nat.le_refl _) (by omega)) h
    | succ k ih =>
      intro i hi
      have q := ih (i + 1) (by omega)
      have e : ms_nk D (i + 1) = ms_nk D i + (D i).toNat := rfl
      have hd : ms_b D (nI i).toNatClampNeg = ms_bI (D i) := by rw [ms_cl (by omega)]; rfl
      refine br_f (nI_ge (b := 4) (by omega) (by decide)) ⟨vp_in_nI (by omega) (by decide), ?_⟩
      rw [hd]
      cases z : D i with
      | false =>
        rw [e, z] at q
        exact br_t rfl (nm_r (nI_1 i) q)
      | true =>
        rw [e, z] at q
        exact br_f (by decide +kernel) (nm_r (nI_1 _) (nm_r (nI_1 i) q))
  exact ⟨5, key 4 0 rfl⟩
theorem ms_n50 {N : Nat → ms_F} {on : Nat → Int32} {c a : Nat} (hc : c ≤ 6) (ha : a < 64) : ∀ k s0, s0 + k = 64 → ∀ l, l ≤ 6 → ∀ C D R W, ∃ C' D' R' W', ∀ post : Int32 → SX → Prop, post (nI (ms_run N c a 0 k l s0)) (nI c, ms_bI C', ms_v N, on, ms_b D', ms_v R', ms_v W') → wX_needed_50 post (nI a) (k + 1) (nI l) (nI s0) (nI c) (ms_bI C) (ms_v N) on (ms_b D) (ms_v R) (ms_v W) := by
  intro k
  induction k with
  | zero =>
    intro s0 hs l hl C D R W
    have : s0 = 64 := by omega
    subst this
    exact ⟨C, D, R, W, fun post hp => br_t (nI_le (Nat.le_refl _) (by omega)) hp⟩
  | succ k ih =>
    intro s0 hs l hl C D R W
    have hs0 : s0 < 64 := by omega
    have ho := ms_ones6 s0
    have e : ms_run N c a 0 (k + 1) l s0 = ms_run N c a 0 k (ms_nxt N c a 0 l s0) (s0 + 1) := rfl
    rw [e]
    unfold ms_nxt
    by_cases z : s0 &&& a = s0
    · by_cases y : ms_ones s0 < l
      · obtain ⟨C1, D1, R1, W1, I, f1⟩ := ms_solveSet (N := N) (on := on) hc hs0 (ms_bI C) D R W
        have hM := ms_M_zero I
        cases C1 with
        | true =>
          rw [if_pos ⟨z, y, hM.mpr rfl⟩]
          obtain ⟨C', D', R', W', f⟩ := ih (s0 + 1) (by omega) (ms_ones s0) ho true D1 R1 W1
          refine ⟨C', D', R', W', fun post hp => br_f (nI_ge (b := 64) (by omega) (by decide)) (ms_onesX hs0 (br_t ((ms_subI s0 hs0 a ha).mpr z) (br_f (nI_ge y (by omega)) (f1 _ ?_))))⟩
          exact br_f (by decide +kernel) (nm_r (nI_1 s0) (f post hp))
        | false =>
          rw [if_neg (fun w => nomatch hM.mp w.2.2)]
          obtain ⟨C', D', R', W', f⟩ := ih (s0 + 1) (by omega) l hl false D1 R1 W1
          refine ⟨C', D', R', W', fun post hp => br_f (nI_ge (b := 64) (by omega) (by decide)) (ms_onesX hs0 (br_t ((ms_subI s0 hs0 a ha).mpr z) (br_f (nI_ge y (by omega)) (f1 _ ?_))))⟩
          exact br_t rfl (nm_r (nI_1 s0) (f post hp))
      · rw [if_neg (fun w => y w.2.1)]
        obtain ⟨C', D', R', W', f⟩ := ih (s0 + 1) (by omega) l hl C D R W
        exact ⟨C', D', R', W', fun post hp => br_f (nI_ge (b := 64) (by omega) (by decide)) (ms_onesX hs0 (br_t ((ms_subI s0 hs0 a ha).mpr z) (br_t (nI_le (by omega) (by omega)) (nm_r (nI_1 s0) (f post hp)))))⟩
    · rw [if_neg (fun w => z w.1)]
      obtain ⟨C', D', R', W', f⟩ := ih (s0 + 1) (by omega) l hl C D R W
      exact ⟨C', D', R', W', fun post hp => br_f (nI_ge (b := 64) (by omega) (by decide)) (ms_onesX hs0 (br_f (fun w => z ((ms_subI s0 hs0 a ha).mp w)) (nm_r (nI_1 s0) (f post hp))))⟩
theorem ms_neededX {N : Nat → ms_F} {on : Nat → Int32} {c : Nat} (hc : c ≤ 6) (fC : Int32) (D : Nat → Bool) (R W : Nat → ms_F) : ∃ C' D' R' W', ∀ post : Int32 → SX → Prop, post (nI (ms_run N c (ms_os on c) (ms_M N c (ms_os on c)) 64 6 0)) (nI c, ms_bI C', ms_v N, on, ms_b D', ms_v R', ms_v W') → wpX_needed post (nI c, fC, ms_v N, on, ms_b D, ms_v R, ms_v W) := by
  obtain ⟨C1, D1, R1, W1, I, f1⟩ := ms_solve (N := N) (on := on) hc fC D R W
  have ha := ms_os_lt on c hc
  cases C1 with
  | false =>
    have hX : ∀ s, s < 64 → ∃ D' R' C', ms_Inv N s c D' R' C' := by
      intro s hs
      obtain ⟨C2, D2, R2, W2, I2, _⟩ := ms_solveSet (N := N) (on := on) hc hs fC D R W
      exact ⟨D2, R2, C2, I2⟩
    obtain ⟨⟨S, hS, hsub, hon, hM⟩, hmin⟩ := ms_need hX I
    have e := ms_run_n hS (ms_sub_and hsub) hon hM (fun s hs h1 h2 => hmin s hs (ms_and_sub h1) h2) 64 0 rfl 6 (by have := ms_nd_le D1; omega) (fun h => absurd h (Nat.not_lt_zero S))
    rw [e]
    refine ⟨false, D1, R1, W1, fun post hp => ?_⟩
    unfold wpX_needed
    refine f1 _ ?_
    exact br_t rfl (ms_n15 hp)
  | true =>
    rw [ms_M_t I]
    obtain ⟨C', D', R', W', f⟩ := ms_n50 (N := N) (on := on) hc ha 64 0 rfl 6 (Nat.le_refl 6) true D1 R1 W1
    refine ⟨C', D', R', W', fun post hp => ?_⟩
    unfold wpX_needed
    refine f1 _ ?_
    refine br_f (by decide +kernel) (ms_onSet hc ?_)
    exact ⟨_, f post hp⟩
end
section
/-! the relation, and the methods' small walks -/
/-- the two objects hold the same equations and switches; a table that is known holds what the equations break; the component's echelon form is no matter between two calls -/
def i_Rel (k : Nat) (u : SX) (v : SY) : Prop := ∃ (c : Nat) (C : Bool) (N : Nat → ms_F) (on : Nat → Int32) (D : Nat → Bool) (R W : Nat → ms_F) (kn : Int32) (br ct : Nat → Int32), c ≤ 6 ∧ (kn = 0 ∨ ms_G N c br) ∧ u = (nI c, ms_bI C, ms_v N, on, ms_b D, ms_v R, ms_v W) ∧ v = (nI c, kn, ms_v N, on, br, ct)
theorem ms_rel {k c : Nat} {C : Bool} {N : Nat → ms_F} {on : Nat → Int32} {D : Nat → Bool} {R W : Nat → ms_F} {kn : Int32} {br ct : Nat → Int32} (hc : c ≤ 6) (hk : kn = 0 ∨ ms_G N c br) : i_Rel k (nI c, ms_bI C, ms_v N, on, ms_b D, ms_v R, ms_v W) (nI c, kn, ms_v N, on, br, ct) :=
  ⟨c, C, N, on, D, R, W, kn, br, ct, hc, hk, rfl, rfl⟩
theorem i_up {k : Nat} {u : SX} {v : SY} (h : i_Rel k u v) : i_Rel (k + 4) u v := h
theorem i_vc0 : wpX_init (fun u => wpY_init (fun v => i_Rel 0 u v)) := by
  have h := ms_rel (k := 0) (c := 0) (C := false) (N := fun _ => 0) (on := fun _ => 0) (D := fun _ => false) (R := fun _ => 0) (W := fun _ => 0) (kn := 0) (br := fun _ => 0) (ct := fun _ => 0) (by decide) (Or.inl rfl)
  exact h
/-! numbers of a call -/
theorem ms_31 (v : Int32) : ∃ L, L < 2 ^ 31 ∧ v &&& 2147483647 = nI L := pk_andE v 31 (by decide)
def ms_dl (L : Nat) : Nat → ms_F := fun i => Fin.ofNat 7 (L / 7 ^ i)
theorem ms_dl_r {L i : Nat} (hL : L < 2 ^ 31) : nI (L / 7 ^ i) - nI (L / 7 ^ i) / 7 * 7 = nI (ms_dl L i).val :=
  pk_rem (d := 7) (Nat.lt_of_le_of_lt (Nat.div_le_self _ _) hL) (by decide) (by decide)
theorem ms_dl_d {L i : Nat} (hL : L < 2 ^ 31) : nI (L / 7 ^ i) / 7 = nI (L / 7 ^ (i + 1)) := by
  have := pk_div (a := L / 7 ^ i) (d := 7) (Nat.lt_of_le_of_lt (Nat.div_le_self _ _) hL) (by decide) (by decide)
  rw [Nat.div_div_eq_div_mul, ← Nat.pow_succ] at this
  exact this
theorem ms_p0 (L : Nat) : L / 7 ^ 0 = L := by rw [Nat.pow_zero, Nat.div_one]
/-! add -/
theorem ms_addX {post : Int32 → SX → Prop} {c L : Nat} {fC : Int32} {N : Nat → ms_F} {on dd rr ww : Nat → Int32} (hc : c < 6) (hL : L < 2 ^ 31) (h : post (nI c) (nI (c + 1), fC, ms_v (ms_put N (ms_dl L) c 5), upd on c (vp_nar .boolean 1), dd, rr, ww)) : ∃ n, wX_add_19 post (nI c) fC n (nI L) 0 (ms_v N) on dd rr ww := by
  have key : ∀ k i, i + k = 5 → wX_add_19 post (nI c) fC (k + 1) (nI (L / 7 ^ i)) (nI i) (ms_v (ms_put N (ms_dl L) c i)) on dd rr ww := by
    intro k
    induction k with
    | zero =>
      intro i hi
      have : i = 5 := by omega
      subst this
      refine br_t (nI_le (Nat.le_refl _) (by omega)) ⟨vp_in_nI (by omega) (by decide), nm_r (e' := upd on c (vp_nar .boolean 1)) (by rw [ms_cl (by omega)]) (nm_r (nI_1 c) ?_)⟩
      rw [nI_pred]
      exact h
    | succ k ih =>
      intro i hi
      refine br_f (nI_ge (b := 5) (by omega) (by decide)) ⟨ms_70, by rw [ms_ix]; exact vp_in_nI (by omega) (by decide), nm_r (e' := ms_v (ms_put N (ms_dl L) c (i + 1))) ?_ ⟨ms_70, nm_r (ms_dl_d hL) (nm_r (nI_1 i) (ih (i + 1) (by omega)))⟩⟩
      rw [ms_ix, ms_cl (by omega), ms_dl_r hL]
      exact (ms_upd_v _ _ _).trans (congrArg ms_v (ms_put_s N (ms_dl L) c i))
  have q := key 5 0 rfl
  rw [ms_put_0, ms_p0] at q
  exact ⟨6, q⟩
theorem ms_addY {post : Int32 → SY → Prop} {c L : Nat} {kn : Int32} {N : Nat → ms_F} {on br ct : Nat → Int32} (hc : c < 6) (hL : L < 2 ^ 31) (h : post (nI c) (nI (c + 1), 0, ms_v (ms_put N (ms_dl L) c 5), upd on c (vp_nar .boolean 1), br, ct)) : ∃ n, wY_add_20 post (nI c) kn n (nI L) 0 (ms_v N) on br ct := by
  have key : ∀ k i, i + k = 5 → wY_add_20 post (nI c) kn (k + 1) (nI (L / 7 ^ i)) (nI i) (ms_v (ms_put N (ms_dl L) c i)) on br ct := by
    intro k
    induction k with
    | zero =>
      intro i hi
      have : i = 5 := by omega
      subst this
      refine br_t (nI_le (Nat.le_refl _) (by omega)) ⟨vp_in_nI (by omega) (by decide), nm_r (e' := upd on c (vp_nar .boolean 1)) (by rw [ms_cl (by omega)]) (nm_r (nI_1 c) ?_)⟩
      rw [nI_pred]
      exact h
    | succ k ih =>
      intro i hi
      refine br_f (nI_ge (b := 5) (by omega) (by decide)) ⟨ms_70, by rw [ms_ix]; exact vp_in_nI (by omega) (by decide), nm_r (e' := ms_v (ms_put N (ms_dl L) c (i + 1))) ?_ ⟨ms_70, nm_r (ms_dl_d hL) (nm_r (nI_1 i) (ih (i + 1) (by omega)))⟩⟩
      rw [ms_ix, ms_cl (by omega), ms_dl_r hL]
      exact (ms_upd_v _ _ _).trans (congrArg ms_v (ms_put_s N (ms_dl L) c i))
  have q := key 5 0 rfl
  rw [ms_put_0, ms_p0] at q
  exact ⟨6, q⟩
/-! no such equation -/
theorem ms_noX1 {post : Int32 → Prop} {c : Nat} {x fC : Int32} {an on dd rr ww : Nat → Int32} (hx : x < 0 ∨ nI c ≤ x) (h : post 1) : wpX_noEquation post (nI c, fC, an, on, dd, rr, ww) x := by
  refine br_c (fun _ => h) (fun z => br_f (fun y => ?_) h)
  rcases hx with w | w
  · exact z w
  · exact Int32.not_lt.mpr w y
theorem ms_noX0 {post : Int32 → Prop} {c j : Nat} {fC : Int32} {an on dd rr ww : Nat → Int32} (hc : c ≤ 6) (hj : j < c) (h : post 0) : wpX_noEquation post (nI c, fC, an, on, dd, rr, ww) (nI j) :=
  br_f (nI_pos (by omega)) (br_t (nI_lt hj (by omega)) h)
theorem ms_noY1 {post : Int32 → Prop} {c : Nat} {x kn : Int32} {an on br ct : Nat → Int32} (hx : x < 0 ∨ nI c ≤ x) (h : post 1) : wpY_bad post (nI c, kn, an, on, br, ct) x := by
  refine br_c (fun _ => h) (fun z => br_f (fun y => ?_) h)
  rcases hx with w | w
  · exact z w
  · exact Int32.not_lt.mpr w y
theorem ms_noY0 {post : Int32 → Prop} {c j : Nat} {kn : Int32} {an on br ct : Nat → Int32} (hc : c ≤ 6) (hj : j < c) (h : post 0) : wpY_bad post (nI c, kn, an, on, br, ct) (nI j) :=
  br_f (nI_pos (by omega)) (br_t (nI_lt hj (by omega)) h)
theorem ms_ix3 (x : Int32) {c : Nat} (hc : c ≤ 6) : (x < 0 ∨ nI c ≤ x) ∨ ∃ j, j < c ∧ x = nI j := by
  rcases pk_ix x (n := c) (by omega) with z | z | z
  · exact Or.inl (Or.inl z)
  · exact Or.inl (Or.inr z)
  · exact Or.inr z
theorem ms_10 : ¬ (1 : Int32) = 0 := by decide
/-! any value, modulo seven -/
theorem ms_mod13 : ∀ n, n < 13 → (0 ≤ nI n - nI 6 ∧ nI n - nI 6 = nI ((n + 1) % 7) ∨ ¬ 0 ≤ nI n - nI 6 ∧ nI n - nI 6 + 7 = nI ((n + 1) % 7)) ∧ (nI n - nI 6 + 7) - (nI n - nI 6 + 7) / 7 * 7 = nI ((n + 1) % 7) := by decide +kernel
theorem ms_mod_any (v : Int32) : ∃ f : ms_F, (∀ post : Int32 → Prop, post (nI f.val) → wpX_mod post v) ∧ ((v - v / 7 * 7) + 7) - ((v - v / 7 * 7) + 7) / 7 * 7 = nI f.val := by
  have h7 : (7 : Int32).toInt = 7 := by decide
  have e : (v - v / 7 * 7).toInt = v.toInt.tmod 7 := by
    have := rem_toInt v 7
    rw [h7] at this
    exact this
  have hb := tmod_bounds (a := v.toInt) (M := 7) (by decide)
  have hr : v - v / 7 * 7 = nI (v.toInt.tmod 7 + 6).toNat - nI 6 := by
    apply Int32.toInt_inj.mp
    rw [e, pk_sub_toInt (by omega) (by decide)]
    omega
  have hn : (v.toInt.tmod 7 + 6).toNat < 13 := by omega
  generalize (v.toInt.tmod 7 + 6).toNat = n at hr hn
  obtain ⟨h1, h2⟩ := ms_mod13 n hn
  refine ⟨Fin.ofNat 7 (n + 1), fun post hp => And.intro ms_70 (nm_r hr ?_), by rw [hr]; exact h2⟩
  rcases h1 with z | z
  · exact br_t z.1 (by rw [z.2]; exact hp)
  · exact br_f z.1 (by rw [z.2]; exact hp)
/-! digits of a solution -/
theorem ms_valX {post : Int32 → SX → Prop} {fe fC : Int32} {an on dd rr ww : Nat → Int32} {y : Nat → ms_F} {w : Nat} (hw : w < 4) (h : post (nI (y w).val) (fe, fC, an, on, dd, rr, ww)) : ∃ n, wX_value_48 post (nI w) fe fC an on dd rr ww n (nI (ms_le y 4)) 0 := by
  have hl : ms_le y 4 < 2 ^ 31 := Nat.lt_of_lt_of_le (ms_le_lt y 4) (by decide)
  have key : ∀ k i, i + k = w → wX_value_48 post (nI w) fe fC an on dd rr ww (k + 1) (nI (ms_le y 4 / 7 ^ i)) (nI i) := by
    intro k
    induction k with
    | zero =>
      intro i hi
      have : i = w := by omega
      subst this
      have er : nI (ms_le y 4 / 7 ^ i) - nI (ms_le y 4 / 7 ^ i) / 7 * 7 = nI (y i).val := by
        have := pk_rem (a := ms_le y 4 / 7 ^ i) (d := 7) (Nat.lt_of_le_of_lt (Nat.div_le_self _ _) hl) (by decide) (by decide)
        rw [ms_le_dig y 4 hw] at this
        exact this
      exact br_t (nI_le (Nat.le_refl _) (by omega)) ⟨ms_70, by rw [er]; exact h⟩
    | succ k ih =>
      intro i hi
      exact br_f (nI_ge (by omega) (by omega)) ⟨ms_70, nm_r (ms_dl_d hl) (nm_r (nI_1 i) (ih (i + 1) (by omega)))⟩
  have q := key w 0 (Nat.zero_add w)
  rw [ms_p0] at q
  exact ⟨_, q⟩
/-! the reference's common helpers -/
theorem ms_beforeY {N : Nat → ms_F} {kn : Int32} {on br ct : Nat → Int32} {c : Nat} (hc : c ≤ 6) (hk : kn = 0 ∨ ms_G N c br) : ∃ kn' br', ms_G N c br' ∧ ∀ (to : Nat) (post : Int32 → SY → Prop), to ≤ 2401 → post (nI (ms_cn (ms_P N c (ms_os on c)) to)) (nI c, kn', ms_v N, on, br', ct) → wpY_before post (nI c, kn, ms_v N, on, br, ct) (nI to) := by
  obtain ⟨kn', br', hG, f⟩ := ms_workOut (on := on) (ct := ct) hc hk
  refine ⟨kn', br', hG, fun to post ht hp => ?_⟩
  unfold wpY_before
  refine f _ ?_
  exact ms_ons hc (ms_before hG hc ht hp)
theorem ms_possY {N : Nat → ms_F} {kn : Int32} {on br ct : Nat → Int32} {c w : Nat} (hc : c ≤ 6) (hk : kn = 0 ∨ ms_G N c br) (hw : w < 4) : ∃ kn' br', ms_G N c br' ∧ ∀ (post : Int32 → SY → Prop), post (nI (ms_pz (ms_P N c (ms_os on c)) w 2401)) (nI c, kn', ms_v N, on, br', ct) → wpY_possible post (nI c, kn, ms_v N, on, br, ct) (nI w) := by
  obtain ⟨kn', br', hG, f⟩ := ms_workOut (on := on) (ct := ct) hc hk
  refine ⟨kn', br', hG, fun post hp => ?_⟩
  refine br_f (nI_pos (by omega)) (br_t (nI_le (b := 3) (by omega) (by decide)) (f _ ?_))
  exact ms_ons hc (ms_poss hG hc hw hp)
theorem ms_out4 (x : Int32) (h : x < 0 ∨ nI 4 ≤ x) : (¬ x < 0 → ¬ x < 4) ∧ (¬ x < 0 → ¬ x ≤ 3) := by
  constructor
  · intro z y
    rcases h with w | w
    · exact z w
    · exact Int32.not_lt.mpr w y
  · intro z y
    rcases h with w | w
    · exact z w
    · have h4 : (nI 4).toInt = 4 := by decide +kernel
      have h3 : (3 : Int32).toInt = 3 := by decide
      rw [Int32.le_iff_toInt_le] at w y
      omega
theorem ms_possY0 {post : Int32 → SY → Prop} {v : SY} {x : Int32} (h : x < 0 ∨ nI 4 ≤ x) (hp : post 0 v) : wpY_possible post v x := by
  obtain ⟨a1, a2, a3, a4, a5, a6⟩ := v
  exact br_c (fun _ => hp) (fun z => br_f ((ms_out4 x h).2 z) hp)
/-! the values that an unknown takes -/
theorem ms_pz127 : ∀ z, z < 128 → (∀ v, v < 7 → z.testBit v = true) → z = 127 := by decide +kernel
theorem ms_pz2 : ∀ z, z < 128 → ∀ r, r < 7 → (∀ v, v < 7 → z.testBit v = decide (v = r)) → z = 2 ^ r := by decide +kernel
theorem ms_pz0 : ∀ z, z < 128 → (∀ v, v < 7 → z.testBit v = false) → z = 0 := by decide +kernel
theorem ms_pz_t {N : Nat → ms_F} {s c : Nat} {D : Nat → Bool} {R : Nat → ms_F} (I : ms_Inv N s c D R true) (u : Nat) : ms_pz (ms_P N c s) u 2401 = 0 := by
  apply ms_pz0 _ (ms_pz_lt _ _ _)
  intro v _
  cases z : (ms_pz (ms_P N c s) u 2401).testBit v with
  | false => rfl
  | true =>
    obtain ⟨j, _, h, _⟩ := (ms_pz_tb _ _ _ _).mp z
    rw [ms_Pt I] at h
    exact nomatch h
theorem ms_P_rows {N : Nat → ms_F} {s c : Nat} {D : Nat → Bool} {R : Nat → ms_F} (I : ms_Inv N s c D R false) (i : Nat) : ms_P N c s i = true ↔ ms_Rows D R (ms_dg i) := by
  rw [ms_P_iff, I.2.1]
  exact ⟨fun h => h.2, fun h => ⟨rfl, h⟩⟩
theorem ms_pz_free {N : Nat → ms_F} {s c : Nat} {D : Nat → Bool} {R : Nat → ms_F} (I : ms_Inv N s c D R false) {u : Nat} (hu : u < 4) (hD : D u = false) : ms_pz (ms_P N c s) u 2401 = 127 := by
  apply ms_pz127 _ (ms_pz_lt _ _ _)
  intro v hv
  obtain ⟨i, hi, hR, hx⟩ := ms_sol_i I.1 (fun _ => (⟨v, hv⟩ : ms_F))
  exact (ms_pz_tb _ _ _ _).mpr ⟨i, hi, (ms_P_rows I i).mpr hR, by rw [hx u hu, ms_sol_f hD]⟩
theorem ms_pz_dep {N : Nat → ms_F} {s c : Nat} {D : Nat → Bool} {R : Nat → ms_F} (I : ms_Inv N s c D R false) {u w : Nat} (hu : u < 4) (hD : D u = true) (hw : w < u) (h : R (u * 5 + w) ≠ 0) : ms_pz (ms_P N c s) u 2401 = 127 := by
  apply ms_pz127 _ (ms_pz_lt _ _ _)
  intro v hv
  obtain ⟨t, ht⟩ := ms_solve1 (R (u * 5 + w)) (R (u * 5 + 4)) ⟨v, hv⟩ h
  obtain ⟨i, hi, hR, hx⟩ := ms_sol_i I.1 (ms_one w t)
  refine (ms_pz_tb _ _ _ _).mpr ⟨i, hi, (ms_P_rows I i).mpr hR, ?_⟩
  rw [hx u hu, ms_sol_t hD, ms_acc_one, if_pos hw, ht]
theorem ms_acc_0 {R x : Nat → ms_F} {u : Nat} : ∀ k, (∀ w, w < k → R (u * 5 + w) = 0) → ms_acc R x u k = R (u * 5 + 4) := by
  intro k
  induction k with
  | zero => intro _; rfl
  | succ k ih =>
    intro h
    show ms_acc R x u k - R (u * 5 + k) * x k = _
    rw [ih (fun w hw => h w (by omega)), h k (by omega), ms_s2]
theorem ms_pz_fix {N : Nat → ms_F} {s c : Nat} {D : Nat → Bool} {R : Nat → ms_F} (I : ms_Inv N s c D R false) {u : Nat} (hu : u < 4) (hD : D u = true) (h : ∀ w, w < u → R (u * 5 + w) = 0) : ms_pz (ms_P N c s) u 2401 = 2 ^ (R (u * 5 + 4)).val := by
  apply ms_pz2 _ (ms_pz_lt _ _ _) _ (R (u * 5 + 4)).isLt
  intro v hv
  have key : ∀ i, ms_P N c s i = true → (ms_dg i u).val = (R (u * 5 + 4)).val := by
    intro i hP
    have hR := (ms_P_rows I i).mp hP u hu hD
    rw [ms_sat_e I.1 hu hD, ms_acc_0 u h] at hR
    rw [hR]
  by_cases z : v = (R (u * 5 + 4)).val
  · rw [decide_eq_true z]
    obtain ⟨i, hi, hR, hx⟩ := ms_sol_i I.1 (fun _ => 0)
    have hP := (ms_P_rows I i).mpr hR
    exact (ms_pz_tb _ _ _ _).mpr ⟨i, hi, hP, by rw [key i hP, z]⟩
  · rw [decide_eq_false z]
    cases y : (ms_pz (ms_P N c s) u 2401).testBit v with
    | false => rfl
    | true =>
      obtain ⟨j, _, hP, hj⟩ := (ms_pz_tb _ _ _ _).mp y
      rw [key j hP] at hj
      exact absurd hj.symm z
/-- what the component asks of an unknown: it varies and takes all values, or it has one value -/
theorem ms_varX {N : Nat → ms_F} {s c : Nat} {D : Nat → Bool} {R : Nat → ms_F} (I : ms_Inv N s c D R false) {u : Nat} (hu : u < 4) {fe fC : Int32} {an on ww : Nat → Int32} :
    (ms_pz (ms_P N c s) u 2401 = 127 ∧ ∀ post : Int32 → Prop, post 1 → wpX_varies post (fe, fC, an, on, ms_b D, ms_v R, ww) (nI u)) ∨
    (ms_pz (ms_P N c s) u 2401 = 2 ^ (R (u * 5 + 4)).val ∧ ∀ post : Int32 → Prop, post 0 → wpX_varies post (fe, fC, an, on, ms_b D, ms_v R, ww) (nI u)) := by
  cases hD : D u with
  | false => exact Or.inl ⟨ms_pz_free I hu hD, fun post hp => ms_varf hu hD hp⟩
  | true =>
    by_cases z : ∃ w, w < u ∧ R (u * 5 + w) ≠ 0
    · obtain ⟨w, hw, h⟩ := z
      exact Or.inl ⟨ms_pz_dep I hu hD hw h, fun post hp => ms_var1 hu hD hw h hp⟩
    · have h : ∀ w, w < u → R (u * 5 + w) = 0 := fun w hw => Decidable.byContradiction (fun y => z ⟨w, hw, y⟩)
      exact Or.inr ⟨ms_pz_fix I hu hD h, fun post hp => ms_var0 hu hD h hp⟩
end
section
/-! what is owed -/
theorem i_vc_add {k : Nat} {u : SX} {v : SY} (I : i_Rel k u v) (hk : k + 4 ≤ 2048) (v1 : Int32) : wpX_add (fun r u' => wpY_add (fun r' v' => r' = r ∧ i_Rel (k + 4) u' v') v v1) u v1 := by
  obtain ⟨c, C, N, on, D, R, W, kn, br, ct, hc, hkn, rfl, rfl⟩ := I
  obtain ⟨L, hL, eL⟩ := ms_31 v1
  by_cases z : c < 6
  · refine br_t (nI_lt (b := 6) z (by decide)) (nm_r eL (ms_addX z hL ?_))
    refine br_f (fun y => ?_) ?_
    · have := (nI_eq (b := 6) (by omega) (by decide)).mp y
      omega
    · show ∃ n20 : Nat, wY_add_20 _ _ _ n20 (v1 &&& 2147483647) 0 _ _ _ _
      rw [eL]
      exact ms_addY z hL ⟨rfl, ms_rel (by omega) (Or.inl rfl)⟩
  · have : c = 6 := by omega
    subst this
    refine br_f (nI_nlt (Nat.le_refl 6) (by decide)) ?_
    exact br_t (show nI 6 = 6 from rfl) ⟨rfl, ms_rel hc hkn⟩
theorem i_vc_set {k : Nat} {u : SX} {v : SY} (I : i_Rel k u v) (hk : k + 4 ≤ 2048) (v1 : Int32) (v2 : Int32) (v3 : Int32) : wpX_set (fun r u' => wpY_set (fun r' v' => r' = r ∧ i_Rel (k + 4) u' v') v v1 v2 v3) u v1 v2 v3 := by
  obtain ⟨c, C, N, on, D, R, W, kn, br, ct, hc, hkn, rfl, rfl⟩ := I
  unfold wpX_set wpY_set
  dsimp only
  rcases ms_ix3 v1 hc with z | ⟨j, hj, rfl⟩
  · refine ms_noX1 z ?_
    refine br_f ms_10 ?_
    refine ms_noY1 z ?_
    exact br_f ms_10 ⟨rfl, ms_rel hc hkn⟩
  · refine ms_noX0 hc hj ?_
    refine br_t rfl ?_
    rcases pk_ix v2 (n := 5) (by decide) with y | y | ⟨i, hi, rfl⟩
    · refine br_t y ?_
      refine ms_noY0 hc hj ?_
      exact br_t rfl (br_t y ⟨rfl, ms_rel hc hkn⟩)
    · have h5 : (nI 5).toInt = 5 := by decide +kernel
      have h4 : (4 : Int32).toInt = 4 := by decide
      have h0 : (0 : Int32).toInt = 0 := by decide
      have y1 : ¬ v2 < 0 := by
        rw [Int32.le_iff_toInt_le] at y
        rw [Int32.lt_iff_toInt_lt]
        omega
      have y2 : ¬ v2 ≤ 4 := by
        rw [Int32.le_iff_toInt_le] at y ⊢
        omega
      refine br_f y1 (br_f y2 ?_)
      refine ms_noY0 hc hj ?_
      exact br_t rfl (br_f y1 (br_f y2 ⟨rfl, ms_rel hc hkn⟩))
    · obtain ⟨f, hf, ef⟩ := ms_mod_any v3
      have hin : vp_in (nI j * 5 + nI i) 30 := by rw [ms_ix]; exact vp_in_nI (by omega) (by decide)
      have hcl : (nI j * 5 + nI i).toNatClampNeg = j * 5 + i := by rw [ms_ix]; exact ms_cl (by omega)
      have y1 : ¬ nI i < 0 := nI_pos (by omega)
      have y2 : nI i ≤ 4 := nI_le (b := 4) (by omega) (by decide)
      refine br_f y1 (br_t y2 ⟨hin, nm_e (hf _ ⟨hin, nm_r (e' := ms_v (ms_sv N (j * 5 + i) f)) (by rw [hcl]; exact ms_upd_v _ _ _) ?_⟩)⟩)
      refine ms_noY0 hc hj ?_
      refine br_t rfl (br_f y1 (br_t y2 ⟨hin, nm_e ⟨ms_70, ms_70, hin, nm_r (e' := ms_v (ms_sv N (j * 5 + i) f)) (by rw [hcl, ef]; exact ms_upd_v _ _ _) ?_⟩⟩))
      exact ⟨rfl, ms_rel hc (Or.inl rfl)⟩
theorem i_vc_turn {k : Nat} {u : SX} {v : SY} (I : i_Rel k u v) (hk : k + 4 ≤ 2048) (v1 : Int32) (v2 : Int32) : wpX_turn (fun r u' => wpY_turn (fun r' v' => r' = r ∧ i_Rel (k + 4) u' v') v v1 (lw_bz v2)) u v1 (lw_bz v2) := by
  obtain ⟨c, C, N, on, D, R, W, kn, br, ct, hc, hkn, rfl, rfl⟩ := I
  unfold wpX_turn wpY_turn
  dsimp only
  rcases ms_ix3 v1 hc with z | ⟨j, hj, rfl⟩
  · refine ms_noX1 z ?_
    refine br_f ms_10 ?_
    refine ms_noY1 z ?_
    exact br_f ms_10 ⟨rfl, ms_rel hc hkn⟩
  · have hin : vp_in (nI j) 6 := vp_in_nI (by omega) (by decide)
    refine ms_noX0 hc hj ?_
    refine br_t rfl ⟨hin, ?_⟩
    by_cases z : on (nI j).toNatClampNeg = 0
    · refine br_t z (And.intro hin (nm_e ?_))
      refine ms_noY0 hc hj ?_
      refine br_t rfl ⟨hin, br_t z (And.intro hin (nm_e ?_))⟩
      exact ⟨rfl, ms_rel hc hkn⟩
    · refine br_f z (And.intro hin (nm_e ?_))
      refine ms_noY0 hc hj ?_
      refine br_t rfl ⟨hin, br_f z (And.intro hin (nm_e ?_))⟩
      exact ⟨rfl, ms_rel hc hkn⟩
theorem i_vc_drop {k : Nat} {u : SX} {v : SY} (I : i_Rel k u v) (hk : k + 4 ≤ 2048) : wpX_drop (fun r u' => wpY_drop (fun r' v' => r' = r ∧ i_Rel (k + 4) u' v') v) u := by
  obtain ⟨c, C, N, on, D, R, W, kn, br, ct, hc, hkn, rfl, rfl⟩ := I
  cases c with
  | zero => exact br_t (show nI 0 = 0 from rfl) (br_t (show nI 0 = 0 from rfl) ⟨rfl, ms_rel hc hkn⟩)
  | succ c =>
    have h : ¬ nI (c + 1) = 0 := nI_ne0 (by omega) (by omega)
    refine br_f h (nm_r (nI_pred c) ?_)
    refine br_f h (nm_r (nI_pred c) ?_)
    exact ⟨rfl, ms_rel (by omega) (Or.inl rfl)⟩
theorem i_vc_solutions {k : Nat} {u : SX} {v : SY} (I : i_Rel k u v) (hk : k + 4 ≤ 2048) : wpX_solutions (fun r u' => wpY_solutions (fun r' v' => r' = r ∧ i_Rel (k + 4) u' v') v) u := by
  obtain ⟨c, C, N, on, D, R, W, kn, br, ct, hc, hkn, rfl, rfl⟩ := I
  obtain ⟨C1, D1, R1, W1, I, f1⟩ := ms_solve (N := N) (on := on) hc (ms_bI C) D R W
  obtain ⟨kn', br', hG, f2⟩ := ms_beforeY (on := on) (ct := ct) hc hkn
  unfold wpX_solutions wpY_solutions
  refine f1 _ ?_
  cases C1 with
  | false =>
    refine br_t rfl (ms_waysFrom 0 rfl (by decide) ?_)
    refine f2 2401 _ (Nat.le_refl _) ?_
    exact ⟨congrArg nI (ms_M_f I), ms_rel hc (Or.inr hG)⟩
  | true =>
    refine br_f (by decide +kernel) ?_
    refine f2 2401 _ (Nat.le_refl _) ?_
    exact ⟨congrArg nI (ms_M_t I), ms_rel hc (Or.inr hG)⟩
theorem i_vc_value {k : Nat} {u : SX} {v : SY} (I : i_Rel k u v) (hk : k + 4 ≤ 2048) (v1 : Int32) (v2 : Int32) : wpX_value (fun r u' => wpY_value (fun r' v' => r' = r ∧ i_Rel (k + 4) u' v') v v1 v2) u v1 v2 := by
  obtain ⟨c, C, N, on, D, R, W, kn, br, ct, hc, hkn, rfl, rfl⟩ := I
  rcases ms_ix3 v2 (c := 4) (by decide) with z | ⟨w, hw, rfl⟩
  · have hz := ms_out4 v2 z
    refine br_c (fun a => br_t a ⟨rfl, ms_rel hc hkn⟩) (fun a => br_f (hz.1 a) (br_f a (br_f (hz.2 a) ⟨rfl, ms_rel hc hkn⟩)))
  · obtain ⟨C1, D1, R1, W1, I, f1⟩ := ms_solve (N := N) (on := on) hc (ms_bI C) D R W
    obtain ⟨kn', br', hG, f2⟩ := ms_workOut (on := on) (ct := ct) hc hkn
    have y0 : ¬ nI w < 0 := nI_pos (by omega)
    have y4 : nI w < 4 := nI_lt (b := 4) (by omega) (by decide)
    have y3 : nI w ≤ 3 := nI_le (b := 3) (by omega) (by decide)
    refine br_f y0 (br_t y4 (f1 _ ?_))
    cases C1 with
    | true =>
      refine br_f (by decide +kernel) (br_f y0 (br_t y3 (f2 _ ?_)))
      exact ms_ons hc (ms_val_miss hG hc (fun i _ hP => by rw [ms_Pt I] at hP; exact nomatch hP) ⟨rfl, ms_rel hc (Or.inr hG)⟩)
    | false =>
      have hM : ms_cn (ms_P N c (ms_os on c)) 2401 = ms_wz D1 4 := ms_M_f I
      refine br_t rfl ?_
      by_cases n0 : v1 < 0
      · refine br_t n0 (br_f y0 (br_t y3 (f2 _ ?_)))
        refine ms_ons hc (ms_val_miss hG hc (fun i hi hP e => ?_) ⟨rfl, ms_rel hc (Or.inr hG)⟩)
        rw [← e] at n0
        exact nI_pos (Nat.lt_of_le_of_lt (ms_cn_b _ i) (by omega)) n0
      · obtain ⟨n, hn, rfl⟩ := nI_of n0
        have h7 := (ms_wz_p D1 4).2
        refine br_f n0 (ms_waysFrom 0 rfl (by decide) ?_)
        refine pk_lt n (ms_wz D1 4) (fun a => ?_) (fun a => ?_)
        · obtain ⟨y, hQ, hcn, f3⟩ := ms_solAt (D := D1) (R := R1) (fe := nI c) (fC := ms_bI false) (an := ms_v N) (on := on) (ww := ms_v W1) a
          refine f3 _ (ms_valX hw ?_)
          refine br_f y0 (br_t y3 (f2 _ ?_))
          have hP : ms_P N c (ms_os on c) (ms_be y 4) = true := by rw [ms_PQ I]; exact hQ
          have hcn' : ms_cn (ms_P N c (ms_os on c)) (ms_be y 4) = n := by rw [ms_cn_c _ (fun i _ => ms_PQ I i)]; exact hcn
          refine ms_ons hc (ms_val_hit hG hc (ms_be_lt y) hw hP hcn' ⟨?_, ms_rel hc (Or.inr hG)⟩)
          rw [ms_dg_be y w hw]
        · refine br_f y0 (br_t y3 (f2 _ ?_))
          refine ms_ons hc (ms_val_miss hG hc (fun i hi hP e => ?_) ⟨rfl, ms_rel hc (Or.inr hG)⟩)
          have h1 := ms_cn_t hi hP
          have h2 := ms_cn_b (ms_P N c (ms_os on c)) i
          have := (nI_eq (by omega) hn).mp e
          omega
theorem i_vc_possible {k : Nat} {u : SX} {v : SY} (I : i_Rel k u v) (hk : k + 4 ≤ 2048) (v1 : Int32) : wpX_possible (fun r u' => wpY_possible (fun r' v' => r' = r ∧ i_Rel (k + 4) u' v') v v1) u v1 := by
  obtain ⟨c, C, N, on, D, R, W, kn, br, ct, hc, hkn, rfl, rfl⟩ := I
  rcases ms_ix3 v1 (c := 4) (by decide) with z | ⟨w, hw, rfl⟩
  · have hz := ms_out4 v1 z
    refine br_c (fun a => ?_) (fun a => br_f (hz.1 a) ?_)
    · exact ms_possY0 z ⟨rfl, ms_rel hc hkn⟩
    · exact ms_possY0 z ⟨rfl, ms_rel hc hkn⟩
  · obtain ⟨C1, D1, R1, W1, I, f1⟩ := ms_solve (N := N) (on := on) hc (ms_bI C) D R W
    obtain ⟨kn', br', hG, f2⟩ := ms_possY (on := on) (ct := ct) hc hkn hw
    have y0 : ¬ nI w < 0 := nI_pos (by omega)
    have y4 : nI w < 4 := nI_lt (b := 4) (by omega) (by decide)
    refine br_f y0 (br_t y4 (f1 _ ?_))
    cases C1 with
    | true =>
      refine br_f (by decide +kernel) (f2 _ ?_)
      exact ⟨by rw [ms_pz_t I]; rfl, ms_rel hc (Or.inr hG)⟩
    | false =>
      refine br_t rfl ?_
      rcases ms_varX I hw (fe := nI c) (fC := ms_bI false) (an := ms_v N) (on := on) (ww := ms_v W1) with ⟨e, f3⟩ | ⟨e, f3⟩
      · refine f3 _ (br_f ms_10 (f2 _ ?_))
        exact ⟨by rw [e]; rfl, ms_rel hc (Or.inr hG)⟩
      · have e4 : nI w * 5 + 4 = nI (w * 5 + 4) := ms_ix w 4
        have hr : ms_v R1 (nI w * 5 + 4).toNatClampNeg = nI (R1 (w * 5 + 4)).val := by rw [e4, ms_cl (by omega)]; rfl
        refine f3 _ (br_t rfl ⟨by rw [e4]; exact vp_in_nI (by omega) (by decide), f2 _ ?_⟩)
        exact ⟨by rw [e, hr, ms_sh1 _ (R1 (w * 5 + 4)).isLt], ms_rel hc (Or.inr hG)⟩
theorem ms_127 : ∀ v, v < 7 → 127 ≠ 2 ^ v := by decide +kernel
theorem ms_020 : ∀ v, v < 7 → 0 ≠ 2 ^ v := by decide +kernel
theorem i_vc_fixed {k : Nat} {u : SX} {v : SY} (I : i_Rel k u v) (hk : k + 4 ≤ 2048) (v1 : Int32) : wpX_fixed (fun r u' => wpY_fixed (fun r' v' => r' = r ∧ i_Rel (k + 4) u' v') v v1) u v1 := by
  obtain ⟨c, C, N, on, D, R, W, kn, br, ct, hc, hkn, rfl, rfl⟩ := I
  unfold wpY_fixed
  dsimp only
  rcases ms_ix3 v1 (c := 4) (by decide) with z | ⟨w, hw, rfl⟩
  · have hz := ms_out4 v1 z
    refine br_c (fun a => ?_) (fun a => br_f (hz.1 a) ?_)
    · refine ms_possY0 z ?_
      exact ms_fix_0 (z := 0) (by decide) ms_020 ⟨rfl, ms_rel hc hkn⟩
    · refine ms_possY0 z ?_
      exact ms_fix_0 (z := 0) (by decide) ms_020 ⟨rfl, ms_rel hc hkn⟩
  · obtain ⟨C1, D1, R1, W1, I, f1⟩ := ms_solve (N := N) (on := on) hc (ms_bI C) D R W
    obtain ⟨kn', br', hG, f2⟩ := ms_possY (on := on) (ct := ct) hc hkn hw
    have y0 : ¬ nI w < 0 := nI_pos (by omega)
    have y4 : nI w < 4 := nI_lt (b := 4) (by omega) (by decide)
    refine br_f y0 (br_t y4 (f1 _ ?_))
    cases C1 with
    | true =>
      refine br_f (by decide +kernel) (f2 _ ?_)
      rw [ms_pz_t I]
      exact ms_fix_0 (by decide) ms_020 ⟨rfl, ms_rel hc (Or.inr hG)⟩
    | false =>
      refine br_t rfl ?_
      rcases ms_varX I hw (fe := nI c) (fC := ms_bI false) (an := ms_v N) (on := on) (ww := ms_v W1) with ⟨e, f3⟩ | ⟨e, f3⟩
      · refine f3 _ (br_f ms_10 (f2 _ ?_))
        rw [e]
        exact ms_fix_0 (by decide) ms_127 ⟨rfl, ms_rel hc (Or.inr hG)⟩
      · refine f3 _ (br_t rfl (f2 _ ?_))
        rw [e]
        exact ms_fix_1 (R1 (w * 5 + 4)).isLt ⟨rfl, ms_rel hc (Or.inr hG)⟩
theorem ms_rankY {post : Int32 → SY → Prop} {L : Nat} {f2 kn : Int32} {an on br ct : Nat → Int32} (hL : L < 2 ^ 31) (h : wpY_before post (f2, kn, an, on, br, ct) (nI (ms_be (ms_dl L) 4))) : ∃ n, wY_rank_11 post f2 kn an on br ct n (nI L) 0 0 := by
  have key : ∀ k i, i + k = 4 → wY_rank_11 post f2 kn an on br ct (k + 1) (nI (L / 7 ^ i)) (nI (ms_be (ms_dl L) i)) (nI i) := by
    intro k
    induction k with
    | zero =>
      intro i hi
      have : i = 4 := by omega
      subst this
      exact br_t (nI_le (Nat.le_refl _) (by omega)) h
    | succ k ih =>
      intro i hi
      refine br_f (nI_ge (b := 4) (by omega) (by decide)) ⟨ms_70, nm_r (e' := nI (ms_be (ms_dl L) (i + 1))) ?_ ⟨ms_70, nm_r (ms_dl_d hL) (nm_r (nI_1 i) (ih (i + 1) (by omega)))⟩⟩
      rw [ms_dl_r hL]
      have e : nI (ms_be (ms_dl L) i) * 7 = nI (ms_be (ms_dl L) i * 7) := pk_mul _ 7
      rw [e, nI_add, Nat.mul_comm]
      rfl
  have q := key 4 0 rfl
  rw [ms_p0] at q
  exact ⟨5, q⟩
theorem i_vc_rank {k : Nat} {u : SX} {v : SY} (I : i_Rel k u v) (hk : k + 4 ≤ 2048) (v1 : Int32) : wpX_rank (fun r u' => wpY_rank (fun r' v' => r' = r ∧ i_Rel (k + 4) u' v') v v1) u v1 := by
  obtain ⟨c, C, N, on, D, R, W, kn, br, ct, hc, hkn, rfl, rfl⟩ := I
  obtain ⟨L, hL, eL⟩ := ms_31 v1
  obtain ⟨C1, D1, R1, W1, I, f1⟩ := ms_solve (N := N) (on := on) hc (ms_bI C) D R W
  obtain ⟨kn', br', hG, f2⟩ := ms_beforeY (on := on) (ct := ct) hc hkn
  have hY : ∀ post : Int32 → SY → Prop, post (nI (ms_cn (ms_P N c (ms_os on c)) (ms_be (ms_dl L) 4))) (nI c, kn', ms_v N, on, br', ct) → wpY_rank post (nI c, kn, ms_v N, on, br, ct) v1 := by
    intro post hp
    show ∃ n11 : Nat, wY_rank_11 post _ _ _ _ _ _ n11 (v1 &&& 2147483647) 0 0
    rw [eL]
    exact ms_rankY hL (f2 _ post (Nat.le_of_lt (ms_be_lt _)) hp)
  unfold wpX_rank
  refine f1 _ ?_
  cases C1 with
  | true =>
    refine br_f (by decide +kernel) (hY _ ?_)
    exact ⟨by rw [ms_cn_0 _ (fun i _ => ms_Pt I i)]; rfl, ms_rel hc (Or.inr hG)⟩
  | false =>
    have hpost : ms_cn (ms_P N c (ms_os on c)) (ms_be (ms_dl L) 4) = ms_cn (ms_Q D1 (ms_mm R1) 4) (ms_be (ms_dl L) 4) := ms_cn_c _ (fun i _ => ms_PQ I i)
    have q := ms_rank_lp (D := D1) (R := R1) (fe := nI c) (fC := ms_bI false) (an := ms_v N) (on := on) (ww := ms_v W1) hL (x := ms_dl L) (fun _ => rfl) (post := fun r u' => wpY_rank (fun r' v' => r' = r ∧ i_Rel (k + 4) u' v') (nI c, kn, ms_v N, on, br, ct) v1) (hY _ ⟨by rw [hpost], ms_rel hc (Or.inr hG)⟩) 4 0 rfl rfl
    have e0 : ms_cn (ms_Q D1 (ms_mm R1) 0) (ms_be (ms_dl L) 0) * ms_wz D1 4 = 0 := Nat.zero_mul _
    rw [ms_p0, e0] at q
    exact br_t rfl (nm_r eL ⟨_, q⟩)
theorem i_vc_follows {k : Nat} {u : SX} {v : SY} (I : i_Rel k u v) (hk : k + 4 ≤ 2048) (v1 : Int32) : wpX_follows (fun r u' => wpY_follows (fun r' v' => r' = r ∧ i_Rel (k + 4) u' v') v v1) u v1 := by
  obtain ⟨c, C, N, on, D, R, W, kn, br, ct, hc, hkn, rfl, rfl⟩ := I
  unfold wpX_follows wpY_follows
  rcases ms_ix3 v1 hc with z | ⟨e, he, rfl⟩
  · refine ms_noX1 z ?_
    refine br_f ms_10 ?_
    refine ms_noY1 z ?_
    exact br_f ms_10 ⟨rfl, ms_rel hc hkn⟩
  · obtain ⟨C1, D1, R1, W1, I, f1⟩ := ms_solve (N := N) (on := on) hc (ms_bI C) D R W
    obtain ⟨kn', br', hG, f2⟩ := ms_workOut (on := on) (ct := ct) hc hkn
    refine ms_noX0 hc he ?_
    refine br_t rfl (f1 _ ?_)
    cases C1 with
    | true =>
      refine br_f (by decide +kernel) ?_
      refine ms_noY0 hc he ?_
      refine br_t rfl (f2 _ ?_)
      exact ms_ons hc (ms_fol_1 hG hc he (fun i _ hP => by rw [ms_Pt I] at hP; exact nomatch hP) ⟨rfl, ms_rel hc (Or.inr hG)⟩)
    | false =>
      obtain ⟨W2, t, ⟨rA, rB, rC, rS⟩, f3⟩ := ms_reduce (D := D1) (R := R1) (W := ms_ld N e W1 5) I.1 (fe := nI c) (fC := ms_bI false) (an := ms_v N) (on := on)
      have rA' : ∀ x, ms_Rows D1 R1 x → (ms_sat W2 x ↔ ms_sat (ms_row N e) x) := fun x hx => (rA x hx).trans (ms_ld_row N e W1 x)
      refine br_t rfl (ms_load (by omega) (f3 _ ?_))
      cases t with
      | some s =>
        obtain ⟨s1, s2, s3, s4, s5⟩ := rS s rfl
        refine br_t (nI_pos' (by omega)) ?_
        refine ms_noY0 hc he ?_
        refine br_t rfl (f2 _ ?_)
        obtain ⟨q, hq⟩ := ms_solve2 (W2 s) (W2 4) s4
        obtain ⟨i, hi, hR, hx⟩ := ms_sol_i I.1 (ms_one s q)
        refine ms_ons hc (ms_fol_0 hG hc he hi ((ms_P_rows I i).mpr hR) ?_ ⟨rfl, ms_rel hc (Or.inr hG)⟩)
        rw [← rA' _ hR, ms_sat_x hx, ms_sol_sat (fun j a b => rB j (Nat.zero_le j) a b)]
        intro h
        apply hq
        rw [← h]
        have hone : ∀ j, j ≠ s → W2 j * ms_one s q j = 0 := fun j hj => by
          show W2 j * (if j = s then q else 0) = 0
          rw [if_neg hj, ms_z1]
        have hons : ms_one s q s = q := if_pos rfl
        rcases (show s = 0 ∨ s = 1 ∨ s = 2 ∨ s = 3 by omega) with rfl | rfl | rfl | rfl
        · rw [hone 1 (by decide), hone 2 (by decide), hone 3 (by decide), hons]; grind
        · rw [hone 0 (by decide), hone 2 (by decide), hone 3 (by decide), hons]; grind
        · rw [hone 0 (by decide), hone 1 (by decide), hone 3 (by decide), hons]; grind
        · rw [hone 0 (by decide), hone 1 (by decide), hone 2 (by decide), hons]; grind
      | none =>
        have hz := rC rfl
        have h0 : ∀ x, ms_sat W2 x ↔ 0 = W2 4 := by
          intro x
          unfold ms_sat
          rw [hz 0 (by decide) (by decide), hz 1 (by decide) (by decide), hz 2 (by decide) (by decide), hz 3 (by decide) (by decide), ms_z0, ms_z0, ms_z0, ms_z0]
          exact Iff.rfl
        refine br_f (show ¬ (0 : Int32) ≤ -1 by decide) ?_
        by_cases y : W2 4 = 0
        · refine br_t ((ms_v0 _).mpr y) ?_
          refine ms_noY0 hc he ?_
          refine br_t rfl (f2 _ ?_)
          exact ms_ons hc (ms_fol_1 hG hc he (fun i _ hP => (rA' _ ((ms_P_rows I i).mp hP)).mp ((h0 _).mpr y.symm)) ⟨rfl, ms_rel hc (Or.inr hG)⟩)
        · refine br_f (fun q => y ((ms_v0 _).mp q)) ?_
          refine ms_noY0 hc he ?_
          refine br_t rfl (f2 _ ?_)
          obtain ⟨i, hi, hR, hx⟩ := ms_sol_i I.1 (fun _ => 0)
          exact ms_ons hc (ms_fol_0 hG hc he hi ((ms_P_rows I i).mpr hR) (fun q => y ((h0 _).mp ((rA' _ hR).mpr q)).symm) ⟨rfl, ms_rel hc (Or.inr hG)⟩)
theorem i_vc_needed {k : Nat} {u : SX} {v : SY} (I : i_Rel k u v) (hk : k + 4 ≤ 2048) : wpX_needed (fun r u' => wpY_needed (fun r' v' => r' = r ∧ i_Rel (k + 4) u' v') v) u := by
  obtain ⟨c, C, N, on, D, R, W, kn, br, ct, hc, hkn, rfl, rfl⟩ := I
  obtain ⟨C', D', R', W', f1⟩ := ms_neededX (N := N) (on := on) hc (ms_bI C) D R W
  obtain ⟨kn', br', ct', hG, f2⟩ := ms_neededY (on := on) (ct := ct) hc hkn
  refine f1 _ (f2 _ ?_)
  exact ⟨rfl, ms_rel hc (Or.inr hG)⟩
end
