section
/-! rows of kit/rows (starting texts), pasted -/
def bt (x : Int32) (i : Nat) : Bool := x.toBitVec.getLsbD i
theorem b_ext {x y : Int32} (h : ∀ i, i < 32 → bt x i = bt y i) : x = y := Int32.toBitVec_inj.mp (BitVec.eq_of_getLsbD_eq (fun i hi => h i hi))
theorem b_or (x y : Int32) (i : Nat) : bt (x ||| y) i = (bt x i || bt y i) := by unfold bt; rw [Int32.toBitVec_or, BitVec.getLsbD_or]
theorem b_and (x y : Int32) (i : Nat) : bt (x &&& y) i = (bt x i && bt y i) := by unfold bt; rw [Int32.toBitVec_and, BitVec.getLsbD_and]
theorem b_xor (x y : Int32) (i : Nat) : bt (x ^^^ y) i = (bt x i ^^ bt y i) := by unfold bt; rw [Int32.toBitVec_xor, BitVec.getLsbD_xor]
theorem b_big {x : Int32} {i : Nat} (h : 32 ≤ i) : bt x i = false := BitVec.getLsbD_of_ge _ _ h
theorem b_255 (i : Nat) : bt 255 i = decide (i < 8) := by
  rcases Nat.lt_or_ge i 32 with h | h
  · exact (by decide +kernel : ∀ i, i < 32 → bt 255 i = decide (i < 8)) i h
  · rw [b_big h, decide_eq_false (by omega)]
theorem b_65535 (i : Nat) : bt 65535 i = decide (i < 16) := by
  rcases Nat.lt_or_ge i 32 with h | h
  · exact (by decide +kernel : ∀ i, i < 32 → bt 65535 i = decide (i < 16)) i h
  · rw [b_big h, decide_eq_false (by omega)]
theorem b_m1 : ∀ i, i < 32 → bt (-1) i = true := by decide +kernel
theorem b_0 (i : Nat) : bt 0 i = false := BitVec.getLsbD_zero
theorem s_l : ∀ n, n < 32 → ((nI n &&& 31).toBitVec.smod 32).toNat = n := by decide +kernel
theorem s_u : ∀ n, n < 32 → (((nI n).toUInt32 &&& Int32.toUInt32 31).toBitVec % 32).toNat = n := by decide +kernel
theorem b_shl (n : Nat) (hn : n < 32) (x : Int32) {i : Nat} (hi : i < 32) : bt (x <<< (nI n &&& 31)) i = (decide (n ≤ i) && bt x (i - n)) := by
  unfold bt
  rw [Int32.toBitVec_shiftLeft]
  show (x.toBitVec <<< ((nI n &&& 31).toBitVec.smod 32).toNat).getLsbD i = _
  rw [s_l n hn, BitVec.getLsbD_shiftLeft]
  rcases Nat.lt_or_ge i n with h | h
  · simp [h, Nat.not_le.mpr h]
  · simp [hi, h, Nat.not_lt.mpr h]
theorem b_ushr (n : Nat) (hn : n < 32) (x : Int32) (i : Nat) : bt ((x.toUInt32 >>> ((nI n).toUInt32 &&& Int32.toUInt32 31)).toInt32) i = bt x (n + i) := by
  show (x.toUInt32 >>> ((nI n).toUInt32 &&& Int32.toUInt32 31)).toBitVec.getLsbD i = x.toUInt32.toBitVec.getLsbD (n + i)
  rw [UInt32.toBitVec_shiftRight]
  show (x.toUInt32.toBitVec >>> (((nI n).toUInt32 &&& Int32.toUInt32 31).toBitVec % 32).toNat).getLsbD i = _
  rw [s_u n hn, BitVec.getLsbD_ushiftRight]
theorem b_sshr (n : Nat) (hn : n < 32) (x : Int32) {i : Nat} (hi : i < 32) : bt (x >>> (nI n &&& 31)) i = if n + i < 32 then bt x (n + i) else bt x 31 := by
  unfold bt
  rw [Int32.toBitVec_shiftRight]
  show (x.toBitVec.sshiftRight ((nI n &&& 31).toBitVec.smod 32).toNat).getLsbD i = _
  rw [s_l n hn, BitVec.getLsbD_sshiftRight, BitVec.msb_eq_getLsbD_last]
  simp [hi]
theorem b_shl8 (x : Int32) {i : Nat} (hi : i < 32) : bt (x <<< ((8 : Int32) &&& 31)) i = (decide (8 ≤ i) && bt x (i - 8)) := b_shl 8 (by omega) x hi
theorem b_shl16 (x : Int32) {i : Nat} (hi : i < 32) : bt (x <<< ((16 : Int32) &&& 31)) i = (decide (16 ≤ i) && bt x (i - 16)) := b_shl 16 (by omega) x hi
theorem b_shl24 (x : Int32) {i : Nat} (hi : i < 32) : bt (x <<< ((24 : Int32) &&& 31)) i = (decide (24 ≤ i) && bt x (i - 24)) := b_shl 24 (by omega) x hi
theorem b_sshr8 (x : Int32) {i : Nat} (hi : i < 32) : bt (x >>> ((8 : Int32) &&& 31)) i = if 8 + i < 32 then bt x (8 + i) else bt x 31 := b_sshr 8 (by omega) x hi
theorem pk_us {f : Nat → Int32} {k : Nat} {x : Int32} : upd f k x k = x := if_pos rfl
theorem pk_un {f : Nat → Int32} {k j : Nat} {x : Int32} (h : j ≠ k) : upd f k x j = f j := if_neg h
theorem pk_sub {a b : Nat} (h : b ≤ a) : nI a - nI b = nI (a - b) := by
  obtain ⟨c, rfl⟩ : ∃ c, a = c + b := ⟨a - b, by omega⟩
  rw [← nI_add, Int32.add_sub_cancel, Nat.add_sub_cancel]
theorem pk_m1 (n : Nat) : nI (n + 1) + (-1) = nI n := by
  rw [← nI_1, Int32.add_assoc, show (1 : Int32) + (-1) = 0 from rfl, Int32.add_zero]
theorem pk_ix (x : Int32) {n : Nat} (hn : n < 2 ^ 31) : x < 0 ∨ nI n ≤ x ∨ ∃ j : Nat, j < n ∧ x = nI j := by
  by_cases h : x < 0
  · exact Or.inl h
  · obtain ⟨j, hj, rfl⟩ := nI_of h
    by_cases h2 : j < n
    · exact Or.inr (Or.inr ⟨j, h2, rfl⟩)
    · exact Or.inr (Or.inl (nI_le (by omega) hj))
theorem pk_le {x y : Int32} {A B : Prop} (a b : Nat) (f : a ≤ b → A) (g : b < a → B) (hx : x = nI a := by rfl) (hy : y = nI b := by rfl) (ha : a < 2 ^ 31 := by omega) (hb : b < 2 ^ 31 := by omega) : (x ≤ y → A) ∧ (¬ x ≤ y → B) := by
  subst hx hy
  rw [nI_leI ha hb]
  exact ⟨f, fun z => g (by omega)⟩
theorem pk_lt {x y : Int32} {A B : Prop} (a b : Nat) (f : a < b → A) (g : b ≤ a → B) (hx : x = nI a := by rfl) (hy : y = nI b := by rfl) (ha : a < 2 ^ 31 := by omega) (hb : b < 2 ^ 31 := by omega) : (x < y → A) ∧ (¬ x < y → B) := by
  subst hx hy
  rw [nI_ltI ha hb]
  exact ⟨f, fun z => g (by omega)⟩
theorem pk_eq {x y : Int32} {A B : Prop} (a b : Nat) (f : a = b → A) (g : a ≠ b → B) (hx : x = nI a := by rfl) (hy : y = nI b := by rfl) (ha : a < 2 ^ 31 := by omega) (hb : b < 2 ^ 31 := by omega) : (x = y → A) ∧ (¬ x = y → B) := by
  subst hx hy
  rw [nI_eq ha hb]
  exact ⟨f, g⟩
theorem pk_in {x : Int32} (n N : Nat) (h : n < N) (hx : x = nI n := by rfl) (hN : N < 2 ^ 31 := by omega) : vp_in x N := by
  subst hx
  exact vp_in_nI h hN
theorem pk_cl {x : Int32} (n : Nat) (hx : x = nI n := by rfl) (h : n < 2 ^ 31 := by omega) : x.toNatClampNeg = n := by
  subst hx
  exact nI_clamp h
theorem pk_tn {n : Nat} (h : n < 2 ^ 32) : (nI n).toBitVec.toNat = n := Nat.mod_eq_of_lt h
theorem pk_and (x : Int32) {m : Int32} (k : Nat) (hm : m.toBitVec.toNat = 2 ^ k - 1) : x &&& m = nI (x.toBitVec.toNat % 2 ^ k) := by
  apply Int32.toBitVec_inj.mp
  apply BitVec.eq_of_toNat_eq
  rw [Int32.toBitVec_and, BitVec.toNat_and, hm, Nat.and_two_pow_sub_one_eq_mod]
  show _ = (BitVec.ofNat 32 _).toNat
  rw [BitVec.toNat_ofNat]
  exact (Nat.mod_eq_of_lt (Nat.lt_of_le_of_lt (Nat.mod_le _ _) x.toBitVec.isLt)).symm
theorem pk_andN {n : Nat} (h : n < 2 ^ 32) {m : Int32} (k : Nat) (hm : m.toBitVec.toNat = 2 ^ k - 1) : nI n &&& m = nI (n % 2 ^ k) := by
  rw [pk_and _ k hm, pk_tn h]
theorem pk_andE (x : Int32) {m : Int32} (k : Nat) (hm : m.toBitVec.toNat = 2 ^ k - 1) : ∃ j : Nat, j < 2 ^ k ∧ x &&& m = nI j := ⟨_, Nat.mod_lt _ (Nat.two_pow_pos k), pk_and x k hm⟩
theorem pk_andIn (x : Int32) {m : Int32} (k : Nat) (hm : m.toBitVec.toNat = 2 ^ k - 1) (hk : k ≤ 30) : vp_in (x &&& m) (2 ^ k) := by
  obtain ⟨j, hj, e⟩ := pk_andE x k hm
  rw [e]
  exact vp_in_nI hj (Nat.lt_of_le_of_lt (Nat.pow_le_pow_right (by decide) hk) (by decide))
theorem pk_least (P : Nat → Prop) (h : ∃ k, P k) : ∃ k, P k ∧ ∀ j, j < k → ¬ P j := by
  obtain ⟨k, hk⟩ := h
  induction k using Nat.strongRecOn with
  | ind k ih =>
    by_cases e : ∃ j, j < k ∧ P j
    · obtain ⟨j, hj, pj⟩ := e
      exact ih j hj pj
    · exact ⟨k, hk, fun j hj pj => e ⟨j, hj, pj⟩⟩
end
section
/-! ===== counting, levels, bits of small masks ===== -/
noncomputable def ov_cn (P : Nat → Prop) : Nat → Nat
  | 0 => 0
  | n + 1 => ov_cn P n + @ite Nat (P n) (Classical.propDecidable _) 1 0
theorem ov_cn_t {P : Nat → Prop} {n : Nat} (h : P n) : ov_cn P (n + 1) = ov_cn P n + 1 := by
  show ov_cn P n + @ite Nat (P n) (Classical.propDecidable _) 1 0 = _
  rw [if_pos h]
theorem ov_cn_f {P : Nat → Prop} {n : Nat} (h : ¬ P n) : ov_cn P (n + 1) = ov_cn P n := by
  show ov_cn P n + @ite Nat (P n) (Classical.propDecidable _) 1 0 = _
  rw [if_neg h]; rfl
theorem ov_cn_le (P : Nat → Prop) (n : Nat) : ov_cn P n ≤ n := by
  induction n with
  | zero => exact Nat.le_refl _
  | succ n ih =>
    by_cases h : P n
    · rw [ov_cn_t h]; omega
    · rw [ov_cn_f h]; omega
theorem ov_cn_mono {P Q : Nat → Prop} (n : Nat) (h : ∀ i, i < n → P i → Q i) : ov_cn P n ≤ ov_cn Q n := by
  induction n with
  | zero => exact Nat.le_refl _
  | succ n ih =>
    have ih' := ih (fun i hi => h i (by omega))
    by_cases hp : P n
    · rw [ov_cn_t hp, ov_cn_t (h n (by omega) hp)]; omega
    · rw [ov_cn_f hp]
      by_cases hq : Q n
      · rw [ov_cn_t hq]; omega
      · rw [ov_cn_f hq]; omega
theorem ov_cn_lt {P Q : Nat → Prop} (n : Nat) (h : ∀ i, i < n → P i → Q i) (m : Nat) (hm : m < n) (hq : Q m) (hp : ¬ P m) : ov_cn P n + 1 ≤ ov_cn Q n := by
  induction n with
  | zero => omega
  | succ n ih =>
    by_cases e : m = n
    · subst e
      rw [ov_cn_t hq, ov_cn_f hp]
      have := ov_cn_mono (P := P) (Q := Q) m (fun i hi => h i (by omega))
      omega
    · have := ih (fun i hi => h i (by omega)) (by omega)
      by_cases hpn : P n
      · rw [ov_cn_t hpn, ov_cn_t (h n (by omega) hpn)]; omega
      · rw [ov_cn_f hpn]
        by_cases hqn : Q n
        · rw [ov_cn_t hqn]; omega
        · rw [ov_cn_f hqn]; omega
theorem ov_cn_pos {P : Nat → Prop} {n m : Nat} (hm : m < n) (h : P m) : 1 ≤ ov_cn P n := by
  have := ov_cn_lt (P := fun _ => False) (Q := P) n (fun i _ z => z.elim) m hm h (fun z => z)
  omega
/-- levels of a finite set that stop once they stand still: level N is the last -/
theorem ov_stab (D : Nat → Nat → Prop) (N : Nat) (h1 : ∀ k n, D k n → n < N) (h2 : ∀ k n, D k n → D (k + 1) n)
    (h3 : ∀ k, (∀ n, D (k + 1) n → D k n) → ∀ n, D (k + 2) n → D (k + 1) n) : ∀ k n, D k n → D N n := by
  have A : ∀ k, (∃ j, j < k ∧ ∀ n, D (j + 1) n → D j n) ∨ k ≤ ov_cn (D k) N := by
    intro k
    induction k with
    | zero => exact Or.inr (Nat.zero_le _)
    | succ k ih =>
      rcases ih with ⟨j, hj, hs⟩ | hc
      · exact Or.inl ⟨j, by omega, hs⟩
      · by_cases hs : ∀ n, D (k + 1) n → D k n
        · exact Or.inl ⟨k, by omega, hs⟩
        · right
          obtain ⟨m, hm⟩ := Classical.not_forall.mp hs
          obtain ⟨hm1, hm2⟩ := Classical.not_imp.mp hm
          have := ov_cn_lt N (fun i _ => h2 k i) m (h1 _ _ hm1) hm1 hm2
          omega
  have B : ∃ j, j ≤ N ∧ ∀ n, D (j + 1) n → D j n := by
    rcases A (N + 1) with ⟨j, hj, hs⟩ | hc
    · exact ⟨j, by omega, hs⟩
    · have := ov_cn_le (D (N + 1)) N
      omega
  obtain ⟨j, hj, hs⟩ := B
  have E : ∀ i n, D (j + i + 1) n → D (j + i) n := by
    intro i
    induction i with
    | zero => exact hs
    | succ i ih => exact h3 (j + i) ih
  have U : ∀ i n, D (j + i) n → D j n := by
    intro i
    induction i with
    | zero => intro n h; exact h
    | succ i ih => intro n h; exact ih n (E i n h)
  have V : ∀ i k n, D k n → D (k + i) n := by
    intro i
    induction i with
    | zero => intro k n h; exact h
    | succ i ih => intro k n h; exact h2 (k + i) n (ih k n h)
  intro k n h
  have a : D (j + k) n := by
    have := V j k n h
    rwa [Nat.add_comm] at this
  have a2 := V (N - j) j n (U k n a)
  rwa [show j + (N - j) = N from by omega] at a2
/-! bits -/
theorem ov_b1 : ∀ n, n < 32 → ∀ i, i < 32 → bt ((1 : Int32) <<< (nI n &&& 31)) i = decide (n = i) := by decide +kernel
theorem ov_bOne : ∀ i, i < 32 → bt (1 : Int32) i = decide (i = 0) := by decide +kernel
theorem ov_b15 (n : Nat) (hn : n < 32) (i : Nat) (hi : i < 32) : bt ((15 : Int32) <<< (nI n &&& 31)) i = decide (n ≤ i ∧ i ≤ n + 3) := by
  rw [b_shl n hn _ hi]
  have e : ∀ k, k < 32 → bt (15 : Int32) k = decide (k ≤ 3) := by decide +kernel
  rw [e (i - n) (by omega)]
  by_cases h1 : n ≤ i
  · by_cases h2 : i ≤ n + 3
    · rw [decide_eq_true h1, decide_eq_true (show i - n ≤ 3 by omega), decide_eq_true ⟨h1, h2⟩]; rfl
    · rw [decide_eq_false (p := i - n ≤ 3) (by omega), decide_eq_false (p := n ≤ i ∧ i ≤ n + 3) (by omega), Bool.and_false]
  · rw [decide_eq_false h1, decide_eq_false (p := n ≤ i ∧ i ≤ n + 3) (by omega), Bool.false_and]
def ov_al (M : Nat) : Int32 := ((1 : Int32) <<< (nI M &&& 31)) - 1
theorem ov_al_b : ∀ M, M < 17 → ∀ i, i < 32 → bt (ov_al M) i = decide (i < M) := by decide +kernel
theorem ov_bn (x : Int32) {i : Nat} (hi : i < 32) : bt (x ^^^ (-1)) i = !(bt x i) := by
  rw [b_xor, b_m1 i hi]
  cases bt x i <;> rfl
theorem ov_z {x : Int32} (h : ∀ i, i < 32 → bt x i = false) : x = 0 := b_ext (fun i hi => by rw [h i hi, b_0])
theorem ov_nz {x : Int32} (h : ¬ x = 0) : ∃ i, i < 32 ∧ bt x i = true := by
  apply Classical.byContradiction
  intro hc
  apply h
  apply ov_z
  intro i hi
  cases e : bt x i
  · rfl
  · exact absurd ⟨i, hi, e⟩ hc
theorem ov_ne {x y : Int32} (h : ¬ x = y) : ∃ i, i < 32 ∧ bt x i ≠ bt y i := by
  apply Classical.byContradiction
  intro hc
  apply h
  apply b_ext
  intro i hi
  apply Classical.byContradiction
  intro hd
  exact hc ⟨i, hi, hd⟩
theorem ov_nIe {n i : Nat} (hn : n < 32) (hi : i < 32) : nI n = nI i ↔ n = i := nI_eq (by omega) (by omega)
/-- one bit by the unsigned shift -/
theorem ov_ub (x : Int32) {n : Nat} (hn : n < 32) : ((x.toUInt32 >>> ((nI n).toUInt32 &&& Int32.toUInt32 31)).toInt32 &&& 1) = 0 ↔ bt x n = false := by
  constructor
  · intro h
    have e : bt ((x.toUInt32 >>> ((nI n).toUInt32 &&& Int32.toUInt32 31)).toInt32 &&& 1) 0 = false := by rw [h]; exact b_0 0
    rw [b_and, b_ushr n hn, ov_bOne 0 (by omega)] at e
    simpa using e
  · intro h
    apply ov_z
    intro i hi
    rw [b_and, b_ushr n hn, ov_bOne i hi]
    by_cases h0 : i = 0
    · subst h0
      rw [Nat.add_zero, h]; rfl
    · rw [decide_eq_false h0, Bool.and_false]
theorem ov_ub1 (x : Int32) {n : Nat} (hn : n < 32) (h : bt x n = true) : ((x.toUInt32 >>> ((nI n).toUInt32 &&& Int32.toUInt32 31)).toInt32 &&& 1) = 1 := by
  apply b_ext
  intro i hi
  rw [b_and, b_ushr n hn, ov_bOne i hi]
  by_cases h0 : i = 0
  · subst h0
    rw [Nat.add_zero, h]; rfl
  · rw [decide_eq_false h0, Bool.and_false]
/-- one bit by the signed shift -/
theorem ov_sb (x : Int32) {n : Nat} (hn : n < 32) : ((x >>> (nI n &&& 31)) &&& 1) = 0 ↔ bt x n = false := by
  constructor
  · intro h
    have e : bt ((x >>> (nI n &&& 31)) &&& 1) 0 = false := by rw [h]; exact b_0 0
    rw [b_and, b_sshr n hn _ (by omega), ov_bOne 0 (by omega), if_pos (by omega)] at e
    simpa using e
  · intro h
    apply ov_z
    intro i hi
    rw [b_and, b_sshr n hn _ hi, ov_bOne i hi]
    by_cases h0 : i = 0
    · subst h0
      rw [Nat.add_zero, if_pos hn, h]; rfl
    · rw [decide_eq_false h0, Bool.and_false]
/-- no bit at n or above, by either shift -/
theorem ov_uset (x : Int32) {n : Nat} (hn : n < 32) : ((x.toUInt32 >>> ((nI n).toUInt32 &&& Int32.toUInt32 31)).toInt32) = 0 ↔ ∀ i, i < 32 → n ≤ i → bt x i = false := by
  constructor
  · intro h i hi hni
    have e : bt ((x.toUInt32 >>> ((nI n).toUInt32 &&& Int32.toUInt32 31)).toInt32) (i - n) = false := by rw [h]; exact b_0 _
    rwa [b_ushr n hn, show n + (i - n) = i from by omega] at e
  · intro h
    apply ov_z
    intro i hi
    rw [b_ushr n hn]
    rcases Nat.lt_or_ge (n + i) 32 with z | z
    · exact h _ z (by omega)
    · exact b_big z
theorem ov_sset (x : Int32) {n : Nat} (hn : n < 32) : (x >>> (nI n &&& 31)) = 0 ↔ ∀ i, i < 32 → n ≤ i → bt x i = false := by
  constructor
  · intro h i hi hni
    have e : bt (x >>> (nI n &&& 31)) (i - n) = false := by rw [h]; exact b_0 _
    rwa [b_sshr n hn _ (by omega), if_pos (by omega), show n + (i - n) = i from by omega] at e
  · intro h
    apply ov_z
    intro i hi
    rw [b_sshr n hn _ hi]
    split
    · exact h _ (by assumption) (by omega)
    · exact h 31 (by omega) (by omega)
end
section
/-! ===== the code: cells, successors, reads and writes of registers ===== -/
def ov_R (x : Int32) : Prop := ∃ i, i < 8 ∧ x = nI i
def ov_K (C : Nat) (x : Int32) : Prop := ∃ i, i ≤ C ∧ x = nI i
def ov_Mm (M : Nat) (x : Int32) : Prop := ∃ i, i < M ∧ x = nI i
def ov_Wn (M : Nat) (x : Int32) : Prop := ∃ i, i + 4 ≤ M ∧ x = nI i
def ov_ok (C M : Nat) (o a b c : Int32) : Prop :=
  (o = 0 ∧ ov_R a) ∨ (o = 1 ∧ ov_R a) ∨ (o = 2 ∧ ov_R a ∧ ov_R b) ∨ (o = 3 ∧ ov_R a ∧ ov_R b ∧ ov_R c) ∨ (o = 4 ∧ ov_R a ∧ ov_R b ∧ ov_R c) ∨ (o = 5 ∧ ov_R a ∧ ov_R b ∧ ov_R c) ∨ (o = 6 ∧ ov_R a ∧ ov_Mm M b) ∨ (o = 7 ∧ ov_R a ∧ ov_Wn M b ∧ ov_R c) ∨ (o = 8 ∧ ov_R a ∧ ov_Mm M b) ∨ (o = 9 ∧ ov_R a ∧ ov_Wn M b ∧ ov_R c) ∨ (o = 10 ∧ ov_K C a) ∨ (o = 11 ∧ ov_R a ∧ ov_K C b) ∨ (o = 12 ∧ ov_R a ∧ ov_R b ∧ ov_K C c) ∨ (o = 13 ∧ ov_R a)
def ov_cA (x : Int32) : Prop := x = 0 ∨ x = 8 ∨ x = 9 ∨ x = 11 ∨ x = 12 ∨ x = 13
def ov_cB (x : Int32) : Prop := x = 2 ∨ x = 3 ∨ x = 4 ∨ x = 5 ∨ x = 12
def ov_cC (x : Int32) : Prop := x = 3 ∨ x = 4 ∨ x = 5 ∨ x = 7 ∨ x = 9
def ov_cW (x : Int32) : Prop := x = 1 ∨ x = 2 ∨ x = 3 ∨ x = 4 ∨ x = 5 ∨ x = 6 ∨ x = 7
def ov_ft (x : Int32) : Prop := ¬ x = 0 ∧ ¬ x = 10
def ov_ht (x : Int32) : Prop := x = 10 ∨ x = 11 ∨ x = 12
def ov_tx (o a b c : Int32) : Int32 := if o = 10 then a else if o = 11 then b else c
theorem ov_wA {C M : Nat} {o a b c : Int32} (h : ov_ok C M o a b c) (k : ov_cA o) : ov_R a := by
  unfold ov_ok at h
  rcases h with h | h | h | h | h | h | h | h | h | h | h | h | h | h <;> obtain ⟨rfl, h⟩ := h <;> first | exact absurd k (by unfold ov_cA; decide) | exact h | exact h.1
theorem ov_wB {C M : Nat} {o a b c : Int32} (h : ov_ok C M o a b c) (k : ov_cB o) : ov_R b := by
  unfold ov_ok at h
  rcases h with h | h | h | h | h | h | h | h | h | h | h | h | h | h <;> obtain ⟨rfl, h⟩ := h <;> first | exact absurd k (by unfold ov_cB; decide) | exact h.2 | exact h.2.1
theorem ov_wC {C M : Nat} {o a b c : Int32} (h : ov_ok C M o a b c) (k : ov_cC o) : ov_R c := by
  unfold ov_ok at h
  rcases h with h | h | h | h | h | h | h | h | h | h | h | h | h | h <;> obtain ⟨rfl, h⟩ := h <;> first | exact absurd k (by unfold ov_cC; decide) | exact h.2.2
theorem ov_wW {C M : Nat} {o a b c : Int32} (h : ov_ok C M o a b c) (k : ov_cW o) : ov_R a := by
  unfold ov_ok at h
  rcases h with h | h | h | h | h | h | h | h | h | h | h | h | h | h <;> obtain ⟨rfl, h⟩ := h <;> first | exact absurd k (by unfold ov_cW; decide) | exact h | exact h.1
theorem ov_w68 {C M : Nat} {o a b c : Int32} (h : ov_ok C M o a b c) (k : o = 6 ∨ o = 8) : ov_Mm M b := by
  unfold ov_ok at h
  rcases h with h | h | h | h | h | h | h | h | h | h | h | h | h | h <;> obtain ⟨rfl, h⟩ := h <;> first | exact absurd k (by decide) | exact h.2
theorem ov_w79 {C M : Nat} {o a b c : Int32} (h : ov_ok C M o a b c) (k : o = 7 ∨ o = 9) : ov_Wn M b := by
  unfold ov_ok at h
  rcases h with h | h | h | h | h | h | h | h | h | h | h | h | h | h <;> obtain ⟨rfl, h⟩ := h <;> first | exact absurd k (by decide) | exact h.2.1
theorem ov_wT {C M : Nat} {o a b c : Int32} (h : ov_ok C M o a b c) (k : ov_ht o) : ov_K C (ov_tx o a b c) := by
  unfold ov_ok at h
  rcases h with h | h | h | h | h | h | h | h | h | h | h | h | h | h <;> obtain ⟨rfl, h⟩ := h <;> first | exact absurd k (by unfold ov_ht; decide) | exact h | exact h.2 | exact h.2.2
theorem ov_w14 {C M : Nat} {o a b c : Int32} (h : ov_ok C M o a b c) : o = 0 ∨ o = 1 ∨ o = 2 ∨ o = 3 ∨ o = 4 ∨ o = 5 ∨ o = 6 ∨ o = 7 ∨ o = 8 ∨ o = 9 ∨ o = 10 ∨ o = 11 ∨ o = 12 ∨ o = 13 := by
  unfold ov_ok at h
  rcases h with h | h | h | h | h | h | h | h | h | h | h | h | h | h <;> obtain ⟨rfl, h⟩ := h <;> decide
theorem ov_op14 {x : Int32} (h0 : ¬ x < 0) (h1 : x ≤ 13) : x = 0 ∨ x = 1 ∨ x = 2 ∨ x = 3 ∨ x = 4 ∨ x = 5 ∨ x = 6 ∨ x = 7 ∨ x = 8 ∨ x = 9 ∨ x = 10 ∨ x = 11 ∨ x = 12 ∨ x = 13 := by
  obtain ⟨j, hj, rfl⟩ := nI_of2 (n := 13) (by decide) h0 h1
  exact (by decide +kernel : ∀ j, j < 14 → (nI j = 0 ∨ nI j = 1 ∨ nI j = 2 ∨ nI j = 3 ∨ nI j = 4 ∨ nI j = 5 ∨ nI j = 6 ∨ nI j = 7 ∨ nI j = 8 ∨ nI j = 9 ∨ nI j = 10 ∨ nI j = 11 ∨ nI j = 12 ∨ nI j = 13)) j (by omega)
def ov_sc (oo aa bb cc : Nat → Int32) (p q : Nat) : Prop := (ov_ft (oo p) ∧ q = p + 1) ∨ (ov_ht (oo p) ∧ q < 32 ∧ ov_tx (oo p) (aa p) (bb p) (cc p) = nI q)
def ov_rd (oo aa bb cc : Nat → Int32) (p r : Nat) : Prop := (ov_cA (oo p) ∧ aa p = nI r) ∨ (ov_cB (oo p) ∧ bb p = nI r) ∨ (ov_cC (oo p) ∧ cc p = nI r)
def ov_wr (oo aa bb cc : Nat → Int32) (p r : Nat) : Prop := ov_cW (oo p) ∧ aa p = nI r
def ov_wf (C M : Nat) (oo aa bb cc : Nat → Int32) : Prop := 8 ≤ C ∧ C ≤ 24 ∧ 8 ≤ M ∧ M ≤ 16 ∧ oo C = 0 ∧ ∀ p, p ≤ C → ov_ok C M (oo p) (aa p) (bb p) (cc p)
section
variable {oo aa bb cc : Nat → Int32} {C M : Nat}
theorem ov_sc_ft (w : ov_wf C M oo aa bb cc) {p : Nat} (hp : p ≤ C) (h : ov_ft (oo p)) : p + 1 ≤ C := by
  have : p ≠ C := by
    rintro rfl
    exact h.1 w.2.2.2.2.1
  omega
theorem ov_sc_le (w : ov_wf C M oo aa bb cc) {p q : Nat} (hp : p ≤ C) (h : ov_sc oo aa bb cc p q) : q ≤ C := by
  rcases h with ⟨hf, rfl⟩ | ⟨hh, hq, e⟩
  · exact ov_sc_ft w hp hf
  · obtain ⟨t, ht, et⟩ := ov_wT (w.2.2.2.2.2 p hp) hh
    rw [et] at e
    have := (ov_nIe (by have := w.2.1; omega) hq).mp e
    omega
theorem ov_tg (w : ov_wf C M oo aa bb cc) {p : Nat} (hp : p ≤ C) (h : ov_ht (oo p)) : ∃ t, t ≤ C ∧ ov_tx (oo p) (aa p) (bb p) (cc p) = nI t ∧ ∀ q, q < 32 → (ov_tx (oo p) (aa p) (bb p) (cc p) = nI q ↔ q = t) := by
  obtain ⟨t, ht, et⟩ := ov_wT (w.2.2.2.2.2 p hp) h
  refine ⟨t, ht, et, fun q hq => ?_⟩
  rw [et, ov_nIe (by have := w.2.1; omega) hq]
  exact ⟨fun z => z.symm, fun z => z.symm⟩
theorem ov_sc_32 (w : ov_wf C M oo aa bb cc) {p q : Nat} (hp : p ≤ C) (h : ov_sc oo aa bb cc p q) : q < 32 := by
  have := ov_sc_le w hp h
  have := w.2.1
  omega
end
/-! ===== live registers, by levels ===== -/
def ov_LVk (oo aa bb cc : Nat → Int32) (r : Nat) : Nat → Nat → Prop
  | 0 => fun _ => False
  | k + 1 => fun p => ov_rd oo aa bb cc p r ∨ (¬ ov_wr oo aa bb cc p r ∧ ∃ q, ov_sc oo aa bb cc p q ∧ ov_LVk oo aa bb cc r k q)
def ov_LV (oo aa bb cc : Nat → Int32) (r p : Nat) : Prop := ∃ k, ov_LVk oo aa bb cc r k p
section
variable {oo aa bb cc : Nat → Int32} {C M : Nat}
theorem ov_LVk_s {r : Nat} : ∀ {k p : Nat}, ov_LVk oo aa bb cc r k p → ov_LVk oo aa bb cc r (k + 1) p := by
  intro k
  induction k with
  | zero => intro p h; exact h.elim
  | succ k ih =>
    intro p h
    rcases h with h | ⟨h1, q, h2, h3⟩
    · exact Or.inl h
    · exact Or.inr ⟨h1, q, h2, ih h3⟩
theorem ov_LVk_m {r : Nat} (i : Nat) {k p : Nat} (h : ov_LVk oo aa bb cc r k p) : ov_LVk oo aa bb cc r (k + i) p := by
  induction i with
  | zero => exact h
  | succ i ih => exact ov_LVk_s ih
theorem ov_LV_rd {r p : Nat} (h : ov_rd oo aa bb cc p r) : ov_LV oo aa bb cc r p := ⟨1, Or.inl h⟩
theorem ov_LV_st {r p q : Nat} (h1 : ¬ ov_wr oo aa bb cc p r) (h2 : ov_sc oo aa bb cc p q) (h3 : ov_LV oo aa bb cc r q) : ov_LV oo aa bb cc r p := by
  obtain ⟨k, h3⟩ := h3
  exact ⟨k + 1, Or.inr ⟨h1, q, h2, h3⟩⟩
theorem ov_LV_in {r p : Nat} (h : ov_LV oo aa bb cc r p) : ov_rd oo aa bb cc p r ∨ (¬ ov_wr oo aa bb cc p r ∧ ∃ q, ov_sc oo aa bb cc p q ∧ ov_LV oo aa bb cc r q) := by
  obtain ⟨k, h⟩ := h
  cases k with
  | zero => exact h.elim
  | succ k =>
    rcases h with h | ⟨h1, q, h2, h3⟩
    · exact Or.inl h
    · exact Or.inr ⟨h1, q, h2, k, h3⟩
theorem ov_LV_30 (w : ov_wf C M oo aa bb cc) {r p : Nat} (hp : p ≤ C) (h : ov_LV oo aa bb cc r p) : ov_LVk oo aa bb cc r 30 p := by
  obtain ⟨k, h⟩ := h
  have S := ov_stab (fun k n => n ≤ C ∧ ov_LVk oo aa bb cc r k n) (C + 1) (fun k n z => Nat.lt_succ_of_le z.1) (fun k n z => ⟨z.1, ov_LVk_s z.2⟩) (by
    intro k hk n z
    refine ⟨z.1, ?_⟩
    rcases z.2 with h | ⟨h1, q, h2, h3⟩
    · exact Or.inl h
    · exact Or.inr ⟨h1, q, h2, (hk q ⟨ov_sc_le w z.1 h2, h3⟩).2⟩) k p ⟨hp, h⟩
  have := ov_LVk_m (30 - (C + 1)) S.2
  rwa [show C + 1 + (30 - (C + 1)) = 30 from by have := w.2.1; omega] at this
theorem ov_LV_8 (w : ov_wf C M oo aa bb cc) {r : Nat} (hr : r < 32) : ∀ {k p : Nat}, p ≤ C → ov_LVk oo aa bb cc r k p → r < 8 := by
  intro k
  induction k with
  | zero => intro p _ h; exact h.elim
  | succ k ih =>
    intro p hp h
    have a : ∀ x : Int32, ov_R x → x = nI r → r < 8 := by
      rintro x ⟨i, hi, rfl⟩ e
      have := (ov_nIe (by omega) hr).mp e
      omega
    rcases h with (⟨h1, h2⟩ | ⟨h1, h2⟩ | ⟨h1, h2⟩) | ⟨h1, q, h2, h3⟩
    · exact a _ (ov_wA (w.2.2.2.2.2 p hp) h1) h2
    · exact a _ (ov_wB (w.2.2.2.2.2 p hp) h1) h2
    · exact a _ (ov_wC (w.2.2.2.2.2 p hp) h1) h2
    · exact ih (ov_sc_le w hp h2) h3
end
end
section
/-! ===== memory cells: three states on X's paths, two on Y's; hazards ===== -/
def ov_rm (oo aa bb cc : Nat → Int32) (p x : Nat) : Prop := (oo p = 6 ∧ bb p = nI x) ∨ (oo p = 7 ∧ ∃ j, j < 32 ∧ bb p = nI j ∧ j ≤ x ∧ x ≤ j + 3)
def ov_wm (oo aa bb cc : Nat → Int32) (p x : Nat) : Prop := (oo p = 8 ∧ bb p = nI x) ∨ (oo p = 9 ∧ ∃ j, j < 32 ∧ bb p = nI j ∧ j ≤ x ∧ x ≤ j + 3)
def ov_su (oo aa bb cc : Nat → Int32) (p x : Nat) : Prop := oo p = 8 ∧ bb p = nI x
def ov_mv (oo aa bb cc : Nat → Int32) (x p s s' : Nat) : Prop := (s = 0 ∧ ov_rm oo aa bb cc p x ∧ s' = 2) ∨ (s = 0 ∧ ov_su oo aa bb cc p x ∧ s' = 1) ∨ (s = 0 ∧ ¬ ov_rm oo aa bb cc p x ∧ ¬ ov_su oo aa bb cc p x ∧ s' = 0) ∨ (s ≠ 0 ∧ s' = s)
def ov_T (oo aa bb cc : Nat → Int32) (set : Int32) (x p s q s' : Nat) : Prop := ov_sc oo aa bb cc p q ∧ ((bt set q = true ∧ s' = 0) ∨ (bt set q = false ∧ ov_mv oo aa bb cc x p s s'))
def ov_FRk (oo aa bb cc : Nat → Int32) (set : Int32) (x : Nat) : Nat → Nat → Nat → Prop
  | 0 => fun p s => p = 0 ∧ s = 0
  | k + 1 => fun q s' => ov_FRk oo aa bb cc set x k q s' ∨ ∃ p s, ov_FRk oo aa bb cc set x k p s ∧ ov_T oo aa bb cc set x p s q s'
def ov_FR (oo aa bb cc : Nat → Int32) (set : Int32) (x p s : Nat) : Prop := ∃ k, ov_FRk oo aa bb cc set x k p s
def ov_YT (oo aa bb cc : Nat → Int32) (set : Int32) (x q s q' s' : Nat) : Prop := ov_sc oo aa bb cc q q' ∧ ((s = 0 ∧ ¬ ov_su oo aa bb cc q x ∧ s' = 0) ∨ ((s = 1 ∨ ov_su oo aa bb cc q x) ∧ ((bt set q' = true ∧ s' = 0) ∨ (bt set q' = false ∧ s' = 1))))
def ov_YR (oo aa bb cc : Nat → Int32) (set : Int32) (x q s : Nat) : Prop := ∀ P : Nat → Nat → Prop, P 0 0 → (∀ q s q' s', P q s → ov_YT oo aa bb cc set x q s q' s' → P q' s') → P q s
def ov_RR (oo aa bb cc : Nat → Int32) (set : Int32) (i v : Nat) : Prop := ∀ P : Nat → Prop, (∀ q, ov_sc oo aa bb cc i q → bt set q = false → P q) → (∀ q q', P q → ov_sc oo aa bb cc q q' → bt set q' = false → P q') → P v
def ov_HX (M : Nat) (oo aa bb cc : Nat → Int32) (set : Int32) (v : Nat) : Prop := ∃ x, x < M ∧ ov_wm oo aa bb cc v x ∧ ov_FR oo aa bb cc set x v 2
def ov_HY (C M : Nat) (oo aa bb cc : Nat → Int32) (set : Int32) (v : Nat) : Prop := ∃ x i, x < M ∧ i ≤ C ∧ ov_wm oo aa bb cc v x ∧ ov_rm oo aa bb cc i x ∧ ov_YR oo aa bb cc set x i 0 ∧ ov_RR oo aa bb cc set i v
def ov_LH (C : Nat) (H : Nat → Prop) (r : Int32) : Prop := (∃ v, v ≤ C ∧ r = nI v ∧ H v ∧ ∀ w, w < v → ¬ H w) ∨ (r = -1 ∧ ∀ w, w ≤ C → ¬ H w)
section
variable {oo aa bb cc : Nat → Int32} {C M : Nat} {set : Int32}
theorem ov_FR_0 {x : Nat} : ov_FR oo aa bb cc set x 0 0 := ⟨0, rfl, rfl⟩
theorem ov_FR_s {x p s q s' : Nat} (h : ov_FR oo aa bb cc set x p s) (t : ov_T oo aa bb cc set x p s q s') : ov_FR oo aa bb cc set x q s' := by
  obtain ⟨k, h⟩ := h
  exact ⟨k + 1, Or.inr ⟨p, s, h, t⟩⟩
theorem ov_FR_i {x : Nat} (P : Nat → Nat → Prop) (h0 : P 0 0) (hs : ∀ p s q s', P p s → ov_T oo aa bb cc set x p s q s' → P q s') {p s : Nat} (h : ov_FR oo aa bb cc set x p s) : P p s := by
  obtain ⟨k, h⟩ := h
  induction k generalizing p s with
  | zero =>
    obtain ⟨rfl, rfl⟩ := h
    exact h0
  | succ k ih =>
    rcases h with h | ⟨p', s', h, t⟩
    · exact ih h
    · exact hs _ _ _ _ (ih h) t
theorem ov_FR_b (w : ov_wf C M oo aa bb cc) {x p s : Nat} (h : ov_FR oo aa bb cc set x p s) : p ≤ C ∧ s < 3 := by
  refine ov_FR_i (fun p s => p ≤ C ∧ s < 3) ⟨Nat.zero_le _, by omega⟩ ?_ h
  rintro p s q s' ⟨hp, hs⟩ ⟨t1, t2⟩
  refine ⟨ov_sc_le w hp t1, ?_⟩
  rcases t2 with ⟨_, e⟩ | ⟨_, ⟨_, _, e⟩ | ⟨_, _, e⟩ | ⟨_, _, _, e⟩ | ⟨_, e⟩⟩ <;> omega
theorem ov_FR_100 (w : ov_wf C M oo aa bb cc) {x p s : Nat} (h : ov_FR oo aa bb cc set x p s) : ov_FRk oo aa bb cc set x 100 p s := by
  obtain ⟨k, h⟩ := h
  have S := ov_stab (fun k n => ∃ p s, s < 3 ∧ n = 3 * p + s ∧ ov_FRk oo aa bb cc set x k p s) (3 * (C + 1)) (by
      rintro k n ⟨p, s, hs, rfl, z⟩
      have := (ov_FR_b w ⟨k, z⟩).1
      omega) (by
      rintro k n ⟨p, s, hs, e, z⟩
      exact ⟨p, s, hs, e, Or.inl z⟩) (by
      rintro k hk n ⟨q, s', hs, e, z⟩
      refine ⟨q, s', hs, e, ?_⟩
      rcases z with z | ⟨p, s, z, t⟩
      · exact z
      · have hs3 := (ov_FR_b w ⟨_, z⟩).2
        obtain ⟨p2, s2, h2, e2, z2⟩ := hk (3 * p + s) ⟨p, s, hs3, rfl, z⟩
        have e3 : p2 = p := by omega
        have e4 : s2 = s := by omega
        subst e3 e4
        exact Or.inr ⟨p2, s2, z2, t⟩) k (3 * p + s) ⟨p, s, (ov_FR_b w ⟨k, h⟩).2, rfl, h⟩
  obtain ⟨p2, s2, h2, e2, z2⟩ := S
  have hs3 := (ov_FR_b w ⟨k, h⟩).2
  have e3 : p2 = p := by omega
  have e4 : s2 = s := by omega
  subst e3 e4
  have up : ∀ i, ov_FRk oo aa bb cc set x (3 * (C + 1) + i) p2 s2 := by
    intro i
    induction i with
    | zero => exact z2
    | succ i ih => exact Or.inl ih
  have := up (100 - 3 * (C + 1))
  rwa [show 3 * (C + 1) + (100 - 3 * (C + 1)) = 100 from by have := w.2.1; omega] at this
theorem ov_YR_0 {x : Nat} : ov_YR oo aa bb cc set x 0 0 := fun _ h _ => h
theorem ov_YR_s {x q s q' s' : Nat} (h : ov_YR oo aa bb cc set x q s) (t : ov_YT oo aa bb cc set x q s q' s') : ov_YR oo aa bb cc set x q' s' := fun P h0 hs => hs _ _ _ _ (h P h0 hs) t
theorem ov_RR_0 {i q : Nat} (h : ov_sc oo aa bb cc i q) (e : bt set q = false) : ov_RR oo aa bb cc set i q := fun _ h0 _ => h0 q h e
theorem ov_RR_s {i q q' : Nat} (h : ov_RR oo aa bb cc set i q) (t : ov_sc oo aa bb cc q q') (e : bt set q' = false) : ov_RR oo aa bb cc set i q' := fun P h0 hs => hs q q' (h P h0 hs) t e
theorem ov_su_rm {p x : Nat} (h : ov_su oo aa bb cc p x) : ¬ ov_rm oo aa bb cc p x := by
  rintro (⟨z, _⟩ | ⟨z, _⟩)
  · rw [h.1] at z
    exact absurd z (by decide)
  · rw [h.1] at z
    exact absurd z (by decide)
theorem ov_mv_tot {x p s : Nat} : ∃ s', ov_mv oo aa bb cc x p s s' := by
  by_cases h0 : s = 0
  · by_cases hr : ov_rm oo aa bb cc p x
    · exact ⟨2, Or.inl ⟨h0, hr, rfl⟩⟩
    · by_cases hs : ov_su oo aa bb cc p x
      · exact ⟨1, Or.inr (Or.inl ⟨h0, hs, rfl⟩)⟩
      · exact ⟨0, Or.inr (Or.inr (Or.inl ⟨h0, hr, hs, rfl⟩))⟩
  · exact ⟨s, Or.inr (Or.inr (Or.inr ⟨h0, rfl⟩))⟩
theorem ov_bf {b : Bool} : b = true ∨ b = false := by cases b <;> simp
/-- Y's picture of X's three states -/
theorem ov_XY (w : ov_wf C M oo aa bb cc) {x p s : Nat} (h : ov_FR oo aa bb cc set x p s) : p ≤ C ∧ (s = 0 → ov_YR oo aa bb cc set x p 0) ∧ (s = 1 → ov_YR oo aa bb cc set x p 1) ∧ (s = 2 → ∃ i, i ≤ C ∧ ov_rm oo aa bb cc i x ∧ ov_YR oo aa bb cc set x i 0 ∧ ov_RR oo aa bb cc set i p) ∧ (ov_YR oo aa bb cc set x p 0 ∨ ov_YR oo aa bb cc set x p 1) := by
  refine ov_FR_i (fun p s => p ≤ C ∧ (s = 0 → ov_YR oo aa bb cc set x p 0) ∧ (s = 1 → ov_YR oo aa bb cc set x p 1) ∧ (s = 2 → ∃ i, i ≤ C ∧ ov_rm oo aa bb cc i x ∧ ov_YR oo aa bb cc set x i 0 ∧ ov_RR oo aa bb cc set i p) ∧ (ov_YR oo aa bb cc set x p 0 ∨ ov_YR oo aa bb cc set x p 1)) ?_ ?_ h
  · exact ⟨Nat.zero_le _, fun _ => ov_YR_0, fun z => absurd z (by decide), fun z => absurd z (by decide), Or.inl ov_YR_0⟩
  · rintro p s q s' ⟨hp, h0, h1, h2, hy⟩ ⟨t1, t2⟩
    have hq := ov_sc_le w hp t1
    have yc : bt set q = true → ov_YR oo aa bb cc set x q 0 := by
      intro hc
      rcases hy with hy | hy
      · by_cases hs : ov_su oo aa bb cc p x
        · exact ov_YR_s hy ⟨t1, Or.inr ⟨Or.inr hs, Or.inl ⟨hc, rfl⟩⟩⟩
        · exact ov_YR_s hy ⟨t1, Or.inl ⟨rfl, hs, rfl⟩⟩
      · exact ov_YR_s hy ⟨t1, Or.inr ⟨Or.inl rfl, Or.inl ⟨hc, rfl⟩⟩⟩
    rcases t2 with ⟨hc, rfl⟩ | ⟨hc, t2⟩
    · exact ⟨hq, fun _ => yc hc, fun z => absurd z (by decide), fun z => absurd z (by decide), Or.inl (yc hc)⟩
    · have yy : ov_YR oo aa bb cc set x q 0 ∨ ov_YR oo aa bb cc set x q 1 := by
        rcases hy with hy | hy
        · by_cases hs : ov_su oo aa bb cc p x
          · exact Or.inr (ov_YR_s hy ⟨t1, Or.inr ⟨Or.inr hs, Or.inr ⟨hc, rfl⟩⟩⟩)
          · exact Or.inl (ov_YR_s hy ⟨t1, Or.inl ⟨rfl, hs, rfl⟩⟩)
        · exact Or.inr (ov_YR_s hy ⟨t1, Or.inr ⟨Or.inl rfl, Or.inr ⟨hc, rfl⟩⟩⟩)
      rcases t2 with ⟨e, hr, rfl⟩ | ⟨e, hs, rfl⟩ | ⟨e, hr, hs, rfl⟩ | ⟨e, rfl⟩
      · exact ⟨hq, fun z => absurd z (by decide), fun z => absurd z (by decide), fun _ => ⟨p, hp, hr, h0 e, ov_RR_0 t1 hc⟩, yy⟩
      · exact ⟨hq, fun z => absurd z (by decide), fun _ => ov_YR_s (h0 e) ⟨t1, Or.inr ⟨Or.inr hs, Or.inr ⟨hc, rfl⟩⟩⟩, fun z => absurd z (by decide), yy⟩
      · exact ⟨hq, fun _ => ov_YR_s (h0 e) ⟨t1, Or.inl ⟨rfl, hs, rfl⟩⟩, fun z => absurd z (by decide), fun z => absurd z (by decide), yy⟩
      · refine ⟨hq, fun z => absurd z e, fun z => ov_YR_s (h1 z) ⟨t1, Or.inr ⟨Or.inl rfl, Or.inr ⟨hc, rfl⟩⟩⟩, fun z => ?_, yy⟩
        obtain ⟨i, hi, hr, hy, hR⟩ := h2 z
        exact ⟨i, hi, hr, hy, ov_RR_s hR t1 hc⟩
/-- X's picture of Y's two states -/
theorem ov_YX {x q s : Nat} (h : ov_YR oo aa bb cc set x q s) : (s = 0 ∧ (ov_FR oo aa bb cc set x q 0 ∨ ov_FR oo aa bb cc set x q 2)) ∨ (s = 1 ∧ (ov_FR oo aa bb cc set x q 1 ∨ ov_FR oo aa bb cc set x q 2)) := by
  refine h (fun q s => (s = 0 ∧ (ov_FR oo aa bb cc set x q 0 ∨ ov_FR oo aa bb cc set x q 2)) ∨ (s = 1 ∧ (ov_FR oo aa bb cc set x q 1 ∨ ov_FR oo aa bb cc set x q 2))) (Or.inl ⟨rfl, Or.inl ov_FR_0⟩) ?_
  rintro q s q' s' hp ⟨t1, t2⟩
  have two : bt set q' = false → ov_FR oo aa bb cc set x q 2 → ov_FR oo aa bb cc set x q' 2 := fun hc z => ov_FR_s z ⟨t1, Or.inr ⟨hc, Or.inr (Or.inr (Or.inr ⟨by decide, rfl⟩))⟩⟩
  have one : bt set q' = false → ov_FR oo aa bb cc set x q 1 → ov_FR oo aa bb cc set x q' 1 := fun hc z => ov_FR_s z ⟨t1, Or.inr ⟨hc, Or.inr (Or.inr (Or.inr ⟨by decide, rfl⟩))⟩⟩
  have cut : ∀ s, bt set q' = true → ov_FR oo aa bb cc set x q s → ov_FR oo aa bb cc set x q' 0 := fun s hc z => ov_FR_s z ⟨t1, Or.inl ⟨hc, rfl⟩⟩
  rcases t2 with ⟨rfl, hs, rfl⟩ | ⟨hs, ⟨hc, rfl⟩ | ⟨hc, rfl⟩⟩
  · left
    refine ⟨rfl, ?_⟩
    rcases hp with ⟨_, hp⟩ | ⟨z, _⟩
    · rcases ov_bf (b := bt set q') with hc | hc
      · rcases hp with hp | hp
        · exact Or.inl (cut _ hc hp)
        · exact Or.inl (cut _ hc hp)
      · rcases hp with hp | hp
        · by_cases hr : ov_rm oo aa bb cc q x
          · exact Or.inr (ov_FR_s hp ⟨t1, Or.inr ⟨hc, Or.inl ⟨rfl, hr, rfl⟩⟩⟩)
          · exact Or.inl (ov_FR_s hp ⟨t1, Or.inr ⟨hc, Or.inr (Or.inr (Or.inl ⟨rfl, hr, hs, rfl⟩))⟩⟩)
        · exact Or.inr (two hc hp)
    · exact absurd z (by decide)
  · left
    refine ⟨rfl, Or.inl ?_⟩
    rcases hp with ⟨_, hp | hp⟩ | ⟨_, hp | hp⟩
    · exact cut _ hc hp
    · exact cut _ hc hp
    · exact cut _ hc hp
    · exact cut _ hc hp
  · right
    refine ⟨rfl, ?_⟩
    rcases hp with ⟨e, hp⟩ | ⟨_, hp⟩
    · rcases hs with hs | hs
      · omega
      · rcases hp with hp | hp
        · exact Or.inl (ov_FR_s hp ⟨t1, Or.inr ⟨hc, Or.inr (Or.inl ⟨rfl, hs, rfl⟩)⟩⟩)
        · exact Or.inr (two hc hp)
    · rcases hp with hp | hp
      · exact Or.inl (one hc hp)
      · exact Or.inr (two hc hp)
theorem ov_HXY (w : ov_wf C M oo aa bb cc) (v : Nat) : ov_HX M oo aa bb cc set v ↔ ov_HY C M oo aa bb cc set v := by
  constructor
  · rintro ⟨x, hx, hw, hf⟩
    obtain ⟨i, hi, hr, hy, hR⟩ := (ov_XY w hf).2.2.2.1 rfl
    exact ⟨x, i, hx, hi, hw, hr, hy, hR⟩
  · rintro ⟨x, i, hx, hi, hw, hr, hy, hR⟩
    refine ⟨x, hx, hw, ?_⟩
    refine hR (fun q => ov_FR oo aa bb cc set x q 2) ?_ ?_
    · intro q t hc
      rcases ov_YX hy with ⟨_, z | z⟩ | ⟨z, _⟩
      · exact ov_FR_s z ⟨t, Or.inr ⟨hc, Or.inl ⟨rfl, hr, rfl⟩⟩⟩
      · exact ov_FR_s z ⟨t, Or.inr ⟨hc, Or.inr (Or.inr (Or.inr ⟨by decide, rfl⟩))⟩⟩
      · exact absurd z (by decide)
    · intro q q' z t hc
      exact ov_FR_s z ⟨t, Or.inr ⟨hc, Or.inr (Or.inr (Or.inr ⟨by decide, rfl⟩))⟩⟩
theorem ov_LH_ex (C : Nat) (H : Nat → Prop) : ∃ r, ov_LH C H r := by
  by_cases h : ∃ v, v ≤ C ∧ H v
  · obtain ⟨v, ⟨hv, hh⟩, hm⟩ := pk_least (fun v => v ≤ C ∧ H v) h
    exact ⟨nI v, Or.inl ⟨v, hv, rfl, hh, fun u hu z => hm u hu ⟨by omega, z⟩⟩⟩
  · exact ⟨-1, Or.inr ⟨rfl, fun u hu z => h ⟨u, hu, z⟩⟩⟩
end
end
section
/-! ===== X's flow over masks: one cell's step, rounds by level ===== -/
def ov_bs (s : Nat) (c v e : Int32) (x : Nat) : Prop := (s = 0 ∧ bt c x = true) ∨ (s = 1 ∧ bt v x = true) ∨ (s = 2 ∧ bt e x = true)
def ov_B (cl cv ex : Nat → Int32) (s p x : Nat) : Prop := ov_bs s (cl p) (cv p) (ex p) x
def ov_I0 (C M : Nat) (oo aa bb cc : Nat → Int32) (set : Int32) (cl cv ex : Nat → Int32) : Prop := (∀ p s x, p ≤ C → x < 32 → ov_B cl cv ex s p x → x < M ∧ ov_FR oo aa bb cc set x p s) ∧ (∀ p x y, p ≤ C → x < 32 → y < M → (∃ s, ov_B cl cv ex s p x) → ∃ s, ov_B cl cv ex s p y)
def ov_lev (M : Nat) (oo aa bb cc : Nat → Int32) (set : Int32) (k : Nat) (cl cv ex : Nat → Int32) : Prop := ∀ x p s, x < M → ov_FRk oo aa bb cc set x k p s → ov_B cl cv ex s p x
def ov_lv2 (M : Nat) (oo aa bb cc : Nat → Int32) (set : Int32) (k i : Nat) (cl cv ex : Nat → Int32) : Prop := ∀ x p s q s', x < M → p < i → ov_FRk oo aa bb cc set x k p s → ov_T oo aa bb cc set x p s q s' → ov_B cl cv ex s' q x
def ov_clo (M : Nat) (oo aa bb cc : Nat → Int32) (set : Int32) (i : Nat) (cl cv ex : Nat → Int32) : Prop := ∀ x p s q s', x < M → p < i → ov_B cl cv ex s p x → ov_T oo aa bb cc set x p s q s' → ov_B cl cv ex s' q x
def ov_all (M : Nat) (oo aa bb cc : Nat → Int32) (set : Int32) (cl cv ex : Nat → Int32) : Prop := ∀ x p s, x < M → ov_FR oo aa bb cc set x p s → ov_B cl cv ex s p x
def ov_FS (C M : Nat) (oo aa bb cc : Nat → Int32) (set : Int32) (p : Nat) (cl cv ex cl' cv' ex' : Nat → Int32) : Prop := ∀ q s' x, q ≤ C → x < 32 → (ov_B cl' cv' ex' s' q x ↔ ov_B cl cv ex s' q x ∨ (ov_sc oo aa bb cc p q ∧ ((bt set q = true ∧ s' = 0 ∧ x < M) ∨ (bt set q = false ∧ ∃ s, ov_B cl cv ex s p x ∧ ov_mv oo aa bb cc x p s s'))))
section
variable {oo aa bb cc : Nat → Int32} {C M : Nat} {set : Int32} {cl cv ex cl' cv' ex' : Nat → Int32}
theorem ov_bs_mv {p x : Nat} (hx : x < 32) {mr ms : Int32} (hr : bt mr x = true ↔ ov_rm oo aa bb cc p x) (hs : bt ms x = true ↔ ov_su oo aa bb cc p x) (c v e : Int32) (s' : Nat) :
    ov_bs s' (c &&& ((mr ||| ms) ^^^ (-1))) (v ||| (c &&& ms)) (e ||| (c &&& mr)) x ↔ ∃ s, ov_bs s c v e x ∧ ov_mv oo aa bb cc x p s s' := by
  unfold ov_bs
  rw [b_and, ov_bn _ hx, b_or, b_or, b_and, b_or, b_and]
  constructor
  · rintro (⟨rfl, h⟩ | ⟨rfl, h⟩ | ⟨rfl, h⟩)
    · rw [Bool.and_eq_true, Bool.not_eq_true', Bool.or_eq_false_iff] at h
      refine ⟨0, Or.inl ⟨rfl, h.1⟩, Or.inr (Or.inr (Or.inl ⟨rfl, fun z => ?_, fun z => ?_, rfl⟩))⟩
      · rw [hr.mpr z] at h
        exact absurd h.2.1 (by decide)
      · rw [hs.mpr z] at h
        exact absurd h.2.2 (by decide)
    · rw [Bool.or_eq_true, Bool.and_eq_true] at h
      rcases h with h | h
      · exact ⟨1, Or.inr (Or.inl ⟨rfl, h⟩), Or.inr (Or.inr (Or.inr ⟨by decide, rfl⟩))⟩
      · exact ⟨0, Or.inl ⟨rfl, h.1⟩, Or.inr (Or.inl ⟨rfl, hs.mp h.2, rfl⟩)⟩
    · rw [Bool.or_eq_true, Bool.and_eq_true] at h
      rcases h with h | h
      · exact ⟨2, Or.inr (Or.inr ⟨rfl, h⟩), Or.inr (Or.inr (Or.inr ⟨by decide, rfl⟩))⟩
      · exact ⟨0, Or.inl ⟨rfl, h.1⟩, Or.inl ⟨rfl, hr.mp h.2, rfl⟩⟩
  · rintro ⟨s, hb, ⟨rfl, h, rfl⟩ | ⟨rfl, h, rfl⟩ | ⟨rfl, h1, h2, rfl⟩ | ⟨hn, rfl⟩⟩
    · rcases hb with ⟨_, hb⟩ | ⟨z, _⟩ | ⟨z, _⟩
      · right; right
        refine ⟨rfl, ?_⟩
        rw [hb, hr.mpr h]; cases bt e x <;> rfl
      · exact absurd z (by decide)
      · exact absurd z (by decide)
    · rcases hb with ⟨_, hb⟩ | ⟨z, _⟩ | ⟨z, _⟩
      · right; left
        refine ⟨rfl, ?_⟩
        rw [hb, hs.mpr h]; cases bt v x <;> rfl
      · exact absurd z (by decide)
      · exact absurd z (by decide)
    · rcases hb with ⟨_, hb⟩ | ⟨z, _⟩ | ⟨z, _⟩
      · left
        refine ⟨rfl, ?_⟩
        have e1 : bt mr x = false := by
          rcases ov_bf (b := bt mr x) with z | z
          · exact absurd (hr.mp z) h1
          · exact z
        have e2 : bt ms x = false := by
          rcases ov_bf (b := bt ms x) with z | z
          · exact absurd (hs.mp z) h2
          · exact z
        rw [hb, e1, e2]; rfl
      · exact absurd z (by decide)
      · exact absurd z (by decide)
    · rcases hb with ⟨z, _⟩ | ⟨rfl, hb⟩ | ⟨rfl, hb⟩
      · exact absurd z hn
      · right; left
        refine ⟨rfl, ?_⟩
        rw [hb]; rfl
      · right; right
        refine ⟨rfl, ?_⟩
        rw [hb]; rfl
theorem ov_fs_up {i : Nat} (F : ov_FS C M oo aa bb cc set i cl cv ex cl' cv' ex') {q s x : Nat} (hq : q ≤ C) (hx : x < 32) (h : ov_B cl cv ex s q x) : ov_B cl' cv' ex' s q x := (F q s x hq hx).mpr (Or.inl h)
theorem ov_fs_T (w : ov_wf C M oo aa bb cc) {i : Nat} (hi : i ≤ C) (F : ov_FS C M oo aa bb cc set i cl cv ex cl' cv' ex') {q s s' x : Nat} (hx : x < M) (h : ov_B cl cv ex s i x) (t : ov_T oo aa bb cc set x i s q s') : ov_B cl' cv' ex' s' q x := by
  obtain ⟨t1, t2⟩ := t
  refine (F q s' x (ov_sc_le w hi t1) (by have := w.2.2.2.1; omega)).mpr (Or.inr ⟨t1, ?_⟩)
  rcases t2 with ⟨hc, e⟩ | ⟨hc, m⟩
  · exact Or.inl ⟨hc, e, hx⟩
  · exact Or.inr ⟨hc, s, h, m⟩
theorem ov_fs_I0 (w : ov_wf C M oo aa bb cc) {i : Nat} (hi : i ≤ C) (F : ov_FS C M oo aa bb cc set i cl cv ex cl' cv' ex') (I : ov_I0 C M oo aa bb cc set cl cv ex) (hr : ∃ s x, x < 32 ∧ ov_B cl cv ex s i x) : ov_I0 C M oo aa bb cc set cl' cv' ex' := by
  obtain ⟨s0, x0, hx0, h0⟩ := hr
  have hM := w.2.2.2.1
  constructor
  · intro q s' x hq hx h
    rcases (F q s' x hq hx).mp h with h | ⟨t, ⟨hc, rfl, hxm⟩ | ⟨hc, s, hb, m⟩⟩
    · exact I.1 q s' x hq hx h
    · obtain ⟨s, hb⟩ := I.2 i x0 x hi hx0 hxm ⟨s0, h0⟩
      exact ⟨hxm, ov_FR_s (I.1 i s x hi hx hb).2 ⟨t, Or.inl ⟨hc, rfl⟩⟩⟩
    · obtain ⟨hxm, hf⟩ := I.1 i s x hi hx hb
      exact ⟨hxm, ov_FR_s hf ⟨t, Or.inr ⟨hc, m⟩⟩⟩
  · rintro q x y hq hx hy ⟨s', h⟩
    have hy' : y < 32 := by omega
    rcases (F q s' x hq hx).mp h with h | ⟨t, _⟩
    · obtain ⟨s, hb⟩ := I.2 q x y hq hx hy ⟨s', h⟩
      exact ⟨s, ov_fs_up F hq hy' hb⟩
    · obtain ⟨s, hb⟩ := I.2 i x0 y hi hx0 hy ⟨s0, h0⟩
      rcases ov_bf (b := bt set q) with hc | hc
      · exact ⟨0, ov_fs_T w hi F hy hb ⟨t, Or.inl ⟨hc, rfl⟩⟩⟩
      · obtain ⟨s2, m⟩ := ov_mv_tot (oo := oo) (aa := aa) (bb := bb) (cc := cc) (x := y) (p := i) (s := s)
        exact ⟨s2, ov_fs_T w hi F hy hb ⟨t, Or.inr ⟨hc, m⟩⟩⟩
theorem ov_fs_lev (w : ov_wf C M oo aa bb cc) {i k : Nat} (F : ov_FS C M oo aa bb cc set i cl cv ex cl' cv' ex') (h : ov_lev M oo aa bb cc set k cl cv ex) : ov_lev M oo aa bb cc set k cl' cv' ex' := by
  intro x p s hx hf
  have hM := w.2.2.2.1
  exact ov_fs_up F (ov_FR_b w ⟨k, hf⟩).1 (by omega) (h x p s hx hf)
theorem ov_fs_lv2 (w : ov_wf C M oo aa bb cc) {i k : Nat} (hi : i ≤ C) (F : ov_FS C M oo aa bb cc set i cl cv ex cl' cv' ex') (h : ov_lev M oo aa bb cc set k cl cv ex) (h2 : ov_lv2 M oo aa bb cc set k i cl cv ex) : ov_lv2 M oo aa bb cc set k (i + 1) cl' cv' ex' := by
  intro x p s q s' hx hp hf t
  have hM := w.2.2.2.1
  rcases Nat.lt_or_ge p i with z | z
  · exact ov_fs_up F (ov_sc_le w (by omega) t.1) (by omega) (h2 x p s q s' hx z hf t)
  · have : p = i := by omega
    subst this
    exact ov_fs_T w hi F hx (h x p s hx hf) t
theorem ov_fs_clo (w : ov_wf C M oo aa bb cc) {i : Nat} (hi : i ≤ C) (F : ov_FS C M oo aa bb cc set i cl cv ex cl cv ex) (h : ov_clo M oo aa bb cc set i cl cv ex) : ov_clo M oo aa bb cc set (i + 1) cl cv ex := by
  intro x p s q s' hx hp hb t
  rcases Nat.lt_or_ge p i with z | z
  · exact h x p s q s' hx z hb t
  · have : p = i := by omega
    subst this
    exact ov_fs_T w hi F hx hb t
/-- a cell that no path has come to -/
theorem ov_sk_lv2 (w : ov_wf C M oo aa bb cc) {i k : Nat} (h0 : ∀ s x, x < 32 → ¬ ov_B cl cv ex s i x) (h : ov_lev M oo aa bb cc set k cl cv ex) (h2 : ov_lv2 M oo aa bb cc set k i cl cv ex) : ov_lv2 M oo aa bb cc set k (i + 1) cl cv ex := by
  intro x p s q s' hx hp hf t
  have hM := w.2.2.2.1
  rcases Nat.lt_or_ge p i with z | z
  · exact h2 x p s q s' hx z hf t
  · have : p = i := by omega
    subst this
    exact absurd (h x p s hx hf) (h0 s x (by omega))
theorem ov_sk_clo (w : ov_wf C M oo aa bb cc) {i : Nat} (h0 : ∀ s x, x < 32 → ¬ ov_B cl cv ex s i x) (h : ov_clo M oo aa bb cc set i cl cv ex) : ov_clo M oo aa bb cc set (i + 1) cl cv ex := by
  intro x p s q s' hx hp hb t
  have hM := w.2.2.2.1
  rcases Nat.lt_or_ge p i with z | z
  · exact h x p s q s' hx z hb t
  · have : p = i := by omega
    subst this
    exact absurd hb (h0 s x (by omega))
theorem ov_lev_s (w : ov_wf C M oo aa bb cc) {k : Nat} (h : ov_lev M oo aa bb cc set k cl cv ex) (h2 : ov_lv2 M oo aa bb cc set k (C + 1) cl cv ex) : ov_lev M oo aa bb cc set (k + 1) cl cv ex := by
  intro x q s' hx hf
  rcases hf with hf | ⟨p, s, hf, t⟩
  · exact h x q s' hx hf
  · exact h2 x p s q s' hx (Nat.lt_succ_of_le (ov_FR_b w ⟨k, hf⟩).1) hf t
theorem ov_clo_all (w : ov_wf C M oo aa bb cc) {k : Nat} (h : ov_lev M oo aa bb cc set k cl cv ex) (h2 : ov_clo M oo aa bb cc set (C + 1) cl cv ex) : ov_all M oo aa bb cc set cl cv ex := by
  intro x p s hx hf
  have h0 : ov_FRk oo aa bb cc set x k 0 0 := by
    clear h
    induction k with
    | zero => exact ⟨rfl, rfl⟩
    | succ k ih => exact Or.inl ih
  have : p ≤ C ∧ ov_B cl cv ex s p x := by
    refine ov_FR_i (fun p s => p ≤ C ∧ ov_B cl cv ex s p x) ⟨Nat.zero_le _, h x 0 0 hx h0⟩ ?_ hf
    rintro p s q s' ⟨hp, hb⟩ t
    exact ⟨ov_sc_le w hp t.1, h2 x p s q s' hx (by omega) hb t⟩
  exact this.2
theorem ov_lev_all (w : ov_wf C M oo aa bb cc) (h : ov_lev M oo aa bb cc set 100 cl cv ex) : ov_all M oo aa bb cc set cl cv ex := fun x p s hx hf => h x p s hx (ov_FR_100 w hf)
theorem ov_wm_M (w : ov_wf C M oo aa bb cc) {p x : Nat} (hp : p ≤ C) (hx : x < 32) (h : ov_wm oo aa bb cc p x) : x < M := by
  have hM := w.2.2.2.1
  rcases h with ⟨e, h⟩ | ⟨e, j, hj, h, h1, h2⟩
  · obtain ⟨i, hi, ei⟩ := ov_w68 (w.2.2.2.2.2 p hp) (Or.inr e)
    rw [ei] at h
    have := (ov_nIe (by omega) hx).mp h
    omega
  · obtain ⟨i, hi, ei⟩ := ov_w79 (w.2.2.2.2.2 p hp) (Or.inr e)
    rw [ei] at h
    have := (ov_nIe (by omega) hj).mp h
    omega
theorem ov_haz_fin (w : ov_wf C M oo aa bb cc) (I : ov_I0 C M oo aa bb cc set cl cv ex) (A : ov_all M oo aa bb cc set cl cv ex) {p : Nat} (hp : p ≤ C) {mw : Int32} (hm : ∀ x, x < 32 → (bt mw x = true ↔ ov_wm oo aa bb cc p x)) : (ex p &&& mw) = 0 ↔ ¬ ov_HX M oo aa bb cc set p := by
  constructor
  · rintro e ⟨x, hx, hw, hf⟩
    have hx32 : x < 32 := by have := w.2.2.2.1; omega
    rcases A x p 2 hx hf with ⟨z, _⟩ | ⟨z, _⟩ | ⟨_, hb⟩
    · exact absurd z (by decide)
    · exact absurd z (by decide)
    · have : bt (ex p &&& mw) x = true := by rw [b_and, hb, (hm x hx32).mpr hw]; rfl
      rw [e, b_0] at this
      exact absurd this (by decide)
  · intro h
    apply ov_z
    intro x hx
    rcases ov_bf (b := bt (ex p &&& mw) x) with z | z
    · rw [b_and, Bool.and_eq_true] at z
      exfalso
      have hw := (hm x hx).mp z.2
      exact h ⟨x, ov_wm_M w hp hx hw, hw, (I.1 p 2 x hp hx (Or.inr (Or.inr ⟨rfl, z.1⟩))).2⟩
    · exact z
end
end
section
/-! ===== Y: bits, successors, reads, writes, live registers ===== -/
theorem ov_nt {b : Bool} (h : ¬ b = false) : b = true := by cases b <;> simp_all
theorem ov_nf {b : Bool} (h : ¬ b = true) : b = false := by cases b <;> simp_all
theorem ov_i1 {x : Int32} {n : Nat} (hM : x.toInt = n) {y : Int32} (h : ¬ x < y) (h0 : ¬ y < 0) : ∃ j : Nat, j ≤ n ∧ y = nI j := nI_of2 hM h0 (Int32.not_lt.mp h)
theorem ov_17 {x : Int32} : ov_cW x ↔ (¬ x < 1 ∧ ¬ 7 < x) := by
  constructor
  · rintro (rfl | rfl | rfl | rfl | rfl | rfl | rfl) <;> decide
  · rintro ⟨h1, h2⟩
    have h0 : ¬ x < 0 := fun z => h1 (Int32.lt_trans z (by decide))
    obtain ⟨j, hj, rfl⟩ := ov_i1 (n := 7) (by decide) h2 h0
    have : ∀ j, j < 8 → ¬ nI j < 1 → (nI j = 1 ∨ nI j = 2 ∨ nI j = 3 ∨ nI j = 4 ∨ nI j = 5 ∨ nI j = 6 ∨ nI j = 7) := by decide +kernel
    exact this j (by omega) h1
theorem ov_25 {x : Int32} : (x = 2 ∨ x = 3 ∨ x = 4 ∨ x = 5) ↔ (¬ x < 2 ∧ x ≤ 5) := by
  constructor
  · rintro (rfl | rfl | rfl | rfl) <;> decide
  · rintro ⟨h1, h2⟩
    have h0 : ¬ x < 0 := fun z => h1 (Int32.lt_trans z (by decide))
    obtain ⟨j, hj, rfl⟩ := nI_of2 (n := 5) (by decide) h0 h2
    have : ∀ j, j < 6 → ¬ nI j < 2 → (nI j = 2 ∨ nI j = 3 ∨ nI j = 4 ∨ nI j = 5) := by decide +kernel
    exact this j (by omega) h1
theorem ov_35 {x : Int32} : (x = 3 ∨ x = 4 ∨ x = 5) ↔ (¬ x < 3 ∧ x ≤ 5) := by
  constructor
  · rintro (rfl | rfl | rfl) <;> decide
  · rintro ⟨h1, h2⟩
    have h0 : ¬ x < 0 := fun z => h1 (Int32.lt_trans z (by decide))
    obtain ⟨j, hj, rfl⟩ := nI_of2 (n := 5) (by decide) h0 h2
    have : ∀ j, j < 6 → ¬ nI j < 3 → (nI j = 3 ∨ nI j = 4 ∨ nI j = 5) := by decide +kernel
    exact this j (by omega) h1
theorem ov_grow {C : Nat} (hC : C < 32) {s s' : Int32} (hsub : ∀ q, q < 32 → bt s q = true → bt s' q = true) (hb : ∀ q, q < 32 → bt s' q = true → q ≤ C) (hne : ¬ s' = s) : ov_cn (fun q => bt s q = true) (C + 1) + 1 ≤ ov_cn (fun q => bt s' q = true) (C + 1) := by
  obtain ⟨q, hq, hd⟩ := ov_ne hne
  have h1 : bt s q = false := by
    apply ov_nf
    intro z
    exact hd ((hsub q hq z).trans z.symm)
  have h2 : bt s' q = true := by
    apply ov_nt
    intro z
    exact hd (z.trans h1.symm)
  refine ov_cn_lt (C + 1) (fun i hi => hsub i (by omega)) q (by have := hb q hq h2; omega) h2 ?_
  show ¬ bt s q = true
  rw [h1]; decide
section
variable {oo aa bb cc : Nat → Int32} {p q r : Nat}
theorem ov_sc_0 (e : oo p = 0) : ¬ ov_sc oo aa bb cc p q := by
  rintro (⟨h, _⟩ | ⟨h, _⟩)
  · exact h.1 e
  · rw [e] at h
    exact absurd h (by unfold ov_ht; decide)
theorem ov_sc_10 (e : oo p = 10) : ov_sc oo aa bb cc p q ↔ (q < 32 ∧ aa p = nI q) := by
  unfold ov_sc ov_tx
  rw [e, if_pos rfl]
  constructor
  · rintro (⟨h, _⟩ | ⟨_, h⟩)
    · exact absurd rfl h.2
    · exact h
  · intro h
    exact Or.inr ⟨Or.inl rfl, h⟩
theorem ov_sc_11 (e : oo p = 11) : ov_sc oo aa bb cc p q ↔ (q = p + 1 ∨ (q < 32 ∧ bb p = nI q)) := by
  unfold ov_sc ov_tx
  rw [e, if_neg (by decide), if_pos rfl]
  constructor
  · rintro (⟨_, h⟩ | ⟨_, h⟩)
    · exact Or.inl h
    · exact Or.inr h
  · rintro (h | h)
    · exact Or.inl ⟨⟨by decide, by decide⟩, h⟩
    · exact Or.inr ⟨Or.inr (Or.inl rfl), h⟩
theorem ov_sc_12 (e : oo p = 12) : ov_sc oo aa bb cc p q ↔ (q = p + 1 ∨ (q < 32 ∧ cc p = nI q)) := by
  unfold ov_sc ov_tx
  rw [e, if_neg (by decide), if_neg (by decide)]
  constructor
  · rintro (⟨_, h⟩ | ⟨_, h⟩)
    · exact Or.inl h
    · exact Or.inr h
  · rintro (h | h)
    · exact Or.inl ⟨⟨by decide, by decide⟩, h⟩
    · exact Or.inr ⟨Or.inr (Or.inr rfl), h⟩
theorem ov_sc_o (e0 : ¬ oo p = 0) (e1 : ¬ oo p = 10) (e2 : ¬ oo p = 11) (e3 : ¬ oo p = 12) : ov_sc oo aa bb cc p q ↔ q = p + 1 := by
  constructor
  · rintro (⟨_, h⟩ | ⟨h, _⟩)
    · exact h
    · rcases h with h | h | h
      · exact absurd h e1
      · exact absurd h e2
      · exact absurd h e3
  · intro h
    exact Or.inl ⟨⟨e0, e1⟩, h⟩
end
section
variable {ln pl md pc wl sp rs cm tt : Int32} {oo aa bb cc rg sv me ou : Nat → Int32}
variable {C M O : Nat}
theorem oy_has {post : Int32 → Prop} {s : Int32} {n : Nat} (hn : n < 32) (h1 : bt s n = true → post 1) (h0 : bt s n = false → post 0) : wpY_has post (nI C, nI M, nI O, ln, pl, md, pc, wl, sp, rs, cm, tt, oo, aa, bb, cc, rg, sv, me, ou) s (nI n) :=
  br_c (fun e => h0 ((ov_sb s hn).mp e)) (fun e => h1 (ov_nt (fun z => e ((ov_sb s hn).mpr z))))
theorem oy_succ (w : ov_wf C M oo aa bb cc) {p : Nat} (hp : p ≤ C) {post : Int32 → Prop} (h : ∀ s, (∀ q, q < 32 → (bt s q = true ↔ ov_sc oo aa bb cc p q)) → post s) : wpY_successors post (nI C, nI M, nI O, ln, pl, md, pc, wl, sp, rs, cm, tt, oo, aa, bb, cc, rg, sv, me, ou) (nI p) := by
  have hC := w.2.1
  have hin : vp_in (nI p) 25 := vp_in_nI (by omega) (by omega)
  have hcl : (nI p).toNatClampNeg = p := nI_clamp (by omega)
  have hok := w.2.2.2.2.2 p hp
  simp only [wpY_successors, hcl, nI_1]
  refine ⟨hin, br_c (fun e0 => ?_) (fun e0 => ⟨hin, br_c (fun e1 => ⟨hin, ?_⟩) (fun e1 => ⟨hin, br_c (fun e2 => ⟨hin, ?_⟩) (fun e2 => ⟨hin, br_c (fun e3 => ⟨hin, ?_⟩) (fun e3 => ?_)⟩)⟩)⟩)⟩
  · refine h _ (fun q hq => ?_)
    rw [b_0]
    exact ⟨fun z => absurd z (by decide), fun z => absurd z (ov_sc_0 e0)⟩
  · refine h _ (fun q hq => ?_)
    obtain ⟨t, ht, et⟩ := ov_wT hok (Or.inl e1)
    rw [e1] at et
    have et : aa p = nI t := et
    rw [ov_sc_10 e1, et, ov_b1 t (by omega) q hq, decide_eq_true_eq, ov_nIe (by omega) hq]
    exact ⟨fun z => ⟨hq, z⟩, fun z => z.2⟩
  · refine h _ (fun q hq => ?_)
    obtain ⟨t, ht, et⟩ := ov_wT hok (Or.inr (Or.inl e2))
    rw [e2] at et
    have et : bb p = nI t := et
    have hp1 := ov_sc_ft w hp ⟨e0, e1⟩
    rw [ov_sc_11 e2, et, b_or, ov_b1 t (by omega) q hq, ov_b1 (p + 1) (by omega) q hq, Bool.or_eq_true, decide_eq_true_eq, decide_eq_true_eq, ov_nIe (by omega) hq]
    constructor
    · rintro (z | z)
      · exact Or.inr ⟨hq, z⟩
      · exact Or.inl z.symm
    · rintro (z | z)
      · exact Or.inr z.symm
      · exact Or.inl z.2
  · refine h _ (fun q hq => ?_)
    obtain ⟨t, ht, et⟩ := ov_wT hok (Or.inr (Or.inr e3))
    rw [e3] at et
    have et : cc p = nI t := et
    have hp1 := ov_sc_ft w hp ⟨e0, e1⟩
    rw [ov_sc_12 e3, et, b_or, ov_b1 t (by omega) q hq, ov_b1 (p + 1) (by omega) q hq, Bool.or_eq_true, decide_eq_true_eq, decide_eq_true_eq, ov_nIe (by omega) hq]
    constructor
    · rintro (z | z)
      · exact Or.inr ⟨hq, z⟩
      · exact Or.inl z.symm
    · rintro (z | z)
      · exact Or.inr z.symm
      · exact Or.inl z.2
  · refine h _ (fun q hq => ?_)
    have hp1 := ov_sc_ft w hp ⟨e0, e1⟩
    rw [ov_sc_o e0 e1 e2 e3, ov_b1 (p + 1) (by omega) q hq, decide_eq_true_eq]
    exact ⟨fun z => z.symm, fun z => z.symm⟩
theorem oy_writes (hC : C ≤ 24) {p r : Nat} (hp : p ≤ C) {post : Int32 → Prop} (h1 : ov_wr oo aa bb cc p r → post 1) (h0 : ¬ ov_wr oo aa bb cc p r → post 0) : wpY_writes post (nI C, nI M, nI O, ln, pl, md, pc, wl, sp, rs, cm, tt, oo, aa, bb, cc, rg, sv, me, ou) (nI p) (nI r) := by
  have hin : vp_in (nI p) 25 := vp_in_nI (by omega) (by omega)
  have hcl : (nI p).toNatClampNeg = p := nI_clamp (by omega)
  simp only [wpY_writes, hcl]
  refine ⟨hin, br_c (fun e => h0 (fun z => (ov_17.mp z.1).1 e)) (fun e => ⟨hin, br_c (fun e2 => h0 (fun z => (ov_17.mp z.1).2 e2)) (fun e2 => ⟨hin, br_c (fun e3 => h1 ⟨ov_17.mpr ⟨e, e2⟩, e3⟩) (fun e3 => h0 (fun z => e3 z.2))⟩)⟩)⟩
theorem oy_reads (w : ov_wf C M oo aa bb cc) {p r : Nat} (hp : p ≤ C) {post : Int32 → Prop} (h1 : ov_rd oo aa bb cc p r → post 1) (h0 : ¬ ov_rd oo aa bb cc p r → post 0) : wpY_reads post (nI C, nI M, nI O, ln, pl, md, pc, wl, sp, rs, cm, tt, oo, aa, bb, cc, rg, sv, me, ou) (nI p) (nI r) := by
  have hC := w.2.1
  have hin : vp_in (nI p) 25 := vp_in_nI (by omega) (by omega)
  have hcl : (nI p).toNatClampNeg = p := nI_clamp (by omega)
  have hok := ov_w14 (w.2.2.2.2.2 p hp)
  unfold ov_rd ov_cA ov_cB ov_cC at h1 h0
  rcases hok with e | e | e | e | e | e | e | e | e | e | e | e | e | e <;>
  simp (decide := true) only [wpY_reads, wY_reads_29, wY_reads_134, hcl, e, hin, forall_eq, true_and, false_and, and_true, or_false, false_or, or_true, true_or, true_implies, false_implies, not_true, not_false_eq_true, implies_true] at h1 h0 ⊢ <;>
  first
  | exact h0
  | exact ⟨h1, h0⟩
  | exact ⟨fun z => h1 (Or.inl z), fun z => ⟨fun y => h1 (Or.inr y), fun y => h0 (fun t => t.elim z y)⟩⟩
theorem oy_la62 (w : ov_wf C M oo aa bb cc) {i r : Nat} (hi : i ≤ C) {post : Int32 → Prop} {J10 : Int32 → Int32 → Int32 → Prop} {J31 : Int32 → Int32 → Prop} {s x4 x5 : Int32} (h0 : bt s i = false → J31 s (nI (i + 1))) (h1 : bt s i = true → ov_wr oo aa bb cc i r → J31 s (nI (i + 1))) (h2 : bt s i = true → ¬ ov_wr oo aa bb cc i r → ∀ m, (∀ q, q < 32 → (bt m q = true ↔ ov_sc oo aa bb cc i q)) → J31 (s ||| m) (nI (i + 1))) : wY_liveAt_62 post J10 J31 (nI r) s x4 x5 (nI i) (nI C) (nI M) (nI O) ln pl md pc wl sp rs cm tt oo aa bb cc rg sv me ou := by
  have hC := w.2.1
  unfold wY_liveAt_62
  refine oy_has (by omega) (fun e => br_f (by decide) ?_) (fun e => br_t rfl (nm_r (nI_1 i) (h0 e)))
  refine oy_writes hC hi (fun e2 => br_f (by decide) (nm_r (nI_1 i) (h1 e e2))) (fun e2 => br_t rfl ?_)
  exact oy_succ w hi (fun m hm => nm_e (nm_r (nI_1 i) (h2 e e2 m hm)))
theorem oy_la31 (w : ov_wf C M oo aa bb cc) {p r : Nat} {post : Int32 → Prop} (hp : ov_LV oo aa bb cc r p → post 1) {J10 : Int32 → Int32 → Int32 → Prop} {x5 : Int32} (s0 : Int32)
    (hJ : ∀ s, (∀ q, q < 32 → bt s q = true → q ≤ C ∧ (ov_LV oo aa bb cc r q → ov_LV oo aa bb cc r p)) → (∀ q, q < 32 → bt s0 q = true → bt s q = true) → (∀ q, q ≤ C → bt s0 q = true → ¬ ov_rd oo aa bb cc q r ∧ (¬ ov_wr oo aa bb cc q r → ∀ q', ov_sc oo aa bb cc q q' → bt s q' = true)) → J10 s s0 (x5 + 1)) :
    ∀ d i s, i + d = C + 1 → (∀ q, q < 32 → bt s q = true → q ≤ C ∧ (ov_LV oo aa bb cc r q → ov_LV oo aa bb cc r p)) → (∀ q, q < 32 → bt s0 q = true → bt s q = true) → (∀ q, q < i → bt s0 q = true → ¬ ov_rd oo aa bb cc q r ∧ (¬ ov_wr oo aa bb cc q r → ∀ q', ov_sc oo aa bb cc q q' → bt s q' = true)) → wY_liveAt_31 post J10 (nI r) s0 x5 (nI C) (nI M) (nI O) ln pl md pc wl sp rs cm tt oo aa bb cc rg sv me ou (d + 1) s (nI i) := by
  have hC := w.2.1
  intro d
  induction d with
  | zero =>
    intro i s hd S1 S2 S3
    refine br_t (nI_lt (by omega) (by omega)) (nm_e (hJ s S1 S2 (fun q hq => S3 q (by omega))))
  | succ d ih =>
    intro i s hd S1 S2 S3
    have hi : i ≤ C := by omega
    refine br_f (nI_nlt (by omega) (by omega)) ?_
    refine oy_has (by omega) (fun e => br_f (by decide) ?_) (fun e => br_t rfl ?_)
    · refine oy_reads w hi (fun e2 => br_f (by decide) (hp ((S1 i (by omega) e).2 (ov_LV_rd e2)))) (fun e2 => br_t rfl ?_)
      refine oy_la62 w hi (fun z => absurd (z.symm.trans e) (by decide)) (fun _ e3 => ih (i + 1) s (by omega) S1 S2 ?_) (fun _ e3 m hm => ih (i + 1) (s ||| m) (by omega) ?_ ?_ ?_)
      · exact lt_s S3 (fun _ => ⟨e2, fun z => absurd e3 z⟩)
      · intro q hq hb
        rw [b_or, Bool.or_eq_true] at hb
        rcases hb with hb | hb
        · exact S1 q hq hb
        · have t := (hm q hq).mp hb
          exact ⟨ov_sc_le w hi t, fun z => (S1 i (by omega) e).2 (ov_LV_st e3 t z)⟩
      · intro q hq hb
        rw [b_or, S2 q hq hb]; rfl
      · have mono : ∀ q', bt s q' = true → bt (s ||| m) q' = true := by
          intro q' z
          rw [b_or, z]; rfl
        refine lt_s (fun q hq hb => ⟨(S3 q hq hb).1, fun z q' t => mono q' ((S3 q hq hb).2 z q' t)⟩) (fun _ => ⟨e2, fun _ q' t => ?_⟩)
        rw [b_or, (hm q' (ov_sc_32 w hi t)).mpr t, Bool.or_true]
    · refine oy_la62 w hi (fun _ => ih (i + 1) s (by omega) S1 S2 ?_) (fun z => absurd (z.symm.trans e) (by decide)) (fun z => absurd (z.symm.trans e) (by decide))
      exact lt_s S3 (fun z => absurd ((S2 i (by omega) z).symm.trans e) (by decide))
theorem ov_la_no (w : ov_wf C M oo aa bb cc) {r : Nat} {s : Int32} (h : ∀ q, q ≤ C → bt s q = true → ¬ ov_rd oo aa bb cc q r ∧ (¬ ov_wr oo aa bb cc q r → ∀ q', ov_sc oo aa bb cc q q' → bt s q' = true)) : ∀ k q, q ≤ C → bt s q = true → ¬ ov_LVk oo aa bb cc r k q := by
  intro k
  induction k with
  | zero => intro q _ _ z; exact z
  | succ k ih =>
    intro q hq hb z
    rcases z with z | ⟨z1, q', t, z2⟩
    · exact (h q hq hb).1 z
    · exact ih q' (ov_sc_le w hq t) ((h q hq hb).2 z1 q' t) z2
theorem oy_la10 (w : ov_wf C M oo aa bb cc) {p r : Nat} (hpC : p ≤ C) {post : Int32 → Prop} (h1 : ov_LV oo aa bb cc r p → post 1) (h0 : ¬ ov_LV oo aa bb cc r p → post 0) :
    ∀ d k s b, k + d = C + 1 → (∀ q, q < 32 → bt s q = true → q ≤ C ∧ (ov_LV oo aa bb cc r q → ov_LV oo aa bb cc r p)) → bt s p = true → (s = b → ∀ q, q ≤ C → bt s q = true → ¬ ov_rd oo aa bb cc q r ∧ (¬ ov_wr oo aa bb cc q r → ∀ q', ov_sc oo aa bb cc q q' → bt s q' = true)) → (¬ s = b → k + 1 ≤ ov_cn (fun q => bt s q = true) (C + 1)) → wY_liveAt_10 post (nI r) (nI C) (nI M) (nI O) ln pl md pc wl sp rs cm tt oo aa bb cc rg sv me ou (d + 1) s b (nI k) := by
  have hC := w.2.1
  have no : ∀ s, bt s p = true → (∀ q, q ≤ C → bt s q = true → ¬ ov_rd oo aa bb cc q r ∧ (¬ ov_wr oo aa bb cc q r → ∀ q', ov_sc oo aa bb cc q q' → bt s q' = true)) → post 0 := by
    intro s hb h
    refine h0 ?_
    rintro ⟨k, z⟩
    exact ov_la_no w h k p hpC hb z
  intro d
  induction d with
  | zero =>
    intro k s b hd S1 Sp Se Sn
    refine br_t (nI_lt (by omega) (by omega)) ?_
    by_cases e : s = b
    · exact no s Sp (Se e)
    · have := Sn e
      have := ov_cn_le (fun q => bt s q = true) (C + 1)
      omega
  | succ d ih =>
    intro k s b hd S1 Sp Se Sn
    refine br_f (nI_nlt (by omega) (by omega)) (br_c (fun e => no s Sp (Se e)) (fun e => ⟨C + 1 + 1, ?_⟩))
    refine oy_la31 w h1 s ?_ (C + 1) 0 s (by omega) S1 (fun q _ z => z) (fun q z => absurd z (Nat.not_lt_zero q))
    intro s' T1 T2 T3
    rw [nI_1]
    refine ih (k + 1) s' s (by omega) T1 (T2 p (by omega) Sp) (fun e2 => ?_) (fun e2 => ?_)
    · intro q hq hb
      rw [e2] at hb
      exact T3 q hq hb
    · have := ov_grow (by omega) T2 (fun q hq z => (T1 q hq z).1) e2
      have := Sn e
      omega
theorem oy_liveAt (w : ov_wf C M oo aa bb cc) {p r : Nat} (hp : p ≤ C) {post : Int32 → Prop} (h1 : ov_LV oo aa bb cc r p → post 1) (h0 : ¬ ov_LV oo aa bb cc r p → post 0) : wpY_liveAt post (nI C, nI M, nI O, ln, pl, md, pc, wl, sp, rs, cm, tt, oo, aa, bb, cc, rg, sv, me, ou) (nI p) (nI r) := by
  have hC := w.2.1
  have hb : bt ((1 : Int32) <<< (nI p &&& 31)) p = true := by
    rw [ov_b1 p (by omega) p (by omega)]
    exact decide_eq_true rfl
  refine nm_e ⟨C + 1 + 1, ?_⟩
  refine oy_la10 w hp h1 h0 (C + 1) 0 _ 0 (by omega) ?_ hb (fun e => ?_) (fun _ => ?_)
  · intro q hq z
    rw [ov_b1 p (by omega) q hq, decide_eq_true_eq] at z
    subst z
    exact ⟨hp, fun z => z⟩
  · rw [e, b_0] at hb
    exact absurd hb (by decide)
  · exact ov_cn_pos (m := p) (by omega) hb
theorem oy_live18 (w : ov_wf C M oo aa bb cc) {p : Nat} (hp : p ≤ C) {post : Int32 → Prop} (h : ∀ m, (∀ i, i < 32 → (bt m i = true ↔ ov_LV oo aa bb cc i p)) → post m) :
    ∀ d r m, r + d = 8 → (∀ i, i < 32 → (bt m i = true ↔ i < r ∧ ov_LV oo aa bb cc i p)) → wY_live_18 post (nI p) (nI C) (nI M) (nI O) ln pl md pc wl sp rs cm tt oo aa bb cc rg sv me ou (d + 1) m (nI r) := by
  intro d
  induction d with
  | zero =>
    intro r m hd hm
    refine br_t (nI_le (a := 8) (by omega) (by omega)) (h m (fun i hi => ?_))
    rw [hm i hi]
    refine ⟨fun z => z.2, fun z => ⟨?_, z⟩⟩
    obtain ⟨k, z⟩ := z
    have := ov_LV_8 w hi hp z
    omega
  | succ d ih =>
    intro r m hd hm
    refine br_f (nI_ge (b := 8) (by omega) (by decide)) ?_
    refine oy_liveAt w hp (fun e => br_f (by decide) (nm_e (nm_r (nI_1 r) (ih (r + 1) _ (by omega) ?_)))) (fun e => br_t rfl (nm_r (nI_1 r) (ih (r + 1) m (by omega) ?_)))
    · intro i hi
      rw [b_or, ov_b1 r (by omega) i hi, Bool.or_eq_true, decide_eq_true_eq, hm i hi]
      constructor
      · rintro (z | rfl)
        · exact ⟨by omega, z.2⟩
        · exact ⟨by omega, e⟩
      · rintro ⟨z1, z2⟩
        rcases Nat.lt_or_ge i r with y | y
        · exact Or.inl ⟨y, z2⟩
        · exact Or.inr (by omega)
    · intro i hi
      rw [hm i hi]
      constructor
      · rintro ⟨z1, z2⟩
        exact ⟨by omega, z2⟩
      · rintro ⟨z1, z2⟩
        refine ⟨?_, z2⟩
        rcases Nat.lt_or_ge i r with y | y
        · exact y
        · have : i = r := by omega
          subst this
          exact absurd z2 e
theorem oy_live (w : ov_wf C M oo aa bb cc) {p : Nat} (hp : p ≤ C) {post : Int32 → Prop} (h : ∀ m, (∀ i, i < 32 → (bt m i = true ↔ ov_LV oo aa bb cc i p)) → post m) : wpY_live post (nI C, nI M, nI O, ln, pl, md, pc, wl, sp, rs, cm, tt, oo, aa, bb, cc, rg, sv, me, ou) (nI p) := by
  have hC := w.2.1
  refine br_f (nI_pos (by omega)) (br_t (nI_le hp (by omega)) ⟨8 + 1, ?_⟩)
  refine oy_live18 w hp h 8 0 0 (by omega) (fun i hi => ?_)
  rw [b_0]
  exact ⟨fun z => absurd z (by decide), fun z => absurd z.1 (Nat.not_lt_zero i)⟩
end
end
section
/-! ===== Y: touches, uncovered, reaches, hazard, verify ===== -/
def ov_D (b c : Int32) (s q : Nat) : Prop := (s = 0 ∧ bt b q = true) ∨ (s = 1 ∧ bt c q = true)
def ov_US (oo aa bb cc : Nat → Int32) (set : Int32) (x i : Nat) (b c b' c' : Int32) : Prop := ∀ q s, q < 32 → (ov_D b' c' s q ↔ ov_D b c s q ∨ ∃ z, ov_D b c z i ∧ ov_YT oo aa bb cc set x i z q s)
section
variable {ln pl md pc wl sp rs cm tt : Int32} {oo aa bb cc rg sv me ou : Nat → Int32}
variable {C M O : Nat}
theorem oy_t20 (hC : C ≤ 24) {p x : Nat} (hp : p ≤ C) (hx : x < 32) (S W : Int32) (hw : oo p = W → ∃ j, j + 4 ≤ 16 ∧ bb p = nI j) {post : Int32 → Prop}
    (h1 : ((oo p = S ∧ bb p = nI x) ∨ (oo p = W ∧ ∃ j, j < 32 ∧ bb p = nI j ∧ j ≤ x ∧ x ≤ j + 3)) → post 1) (h0 : ¬ ((oo p = S ∧ bb p = nI x) ∨ (oo p = W ∧ ∃ j, j < 32 ∧ bb p = nI j ∧ j ≤ x ∧ x ≤ j + 3)) → post 0) (hn : ¬ (oo p = S ∧ bb p = nI x)) : wY_touches_20 post (nI p) (nI x) W (nI C) (nI M) (nI O) ln pl md pc wl sp rs cm tt oo aa bb cc rg sv me ou := by
  have hin : vp_in (nI p) 25 := vp_in_nI (by omega) (by omega)
  have hcl : (nI p).toNatClampNeg = p := nI_clamp (by omega)
  simp only [wY_touches_20, hcl]
  refine ⟨hin, br_c (fun e => ⟨hin, ?_⟩) (fun e => h0 (fun z => z.elim hn (fun y => e y.1)))⟩
  obtain ⟨j, hj, ej⟩ := hw e
  have e3 : nI j + 3 = nI (j + 3) := nI_add j 3
  have no : (x < j ∨ j + 3 < x) → post 0 := by
    intro hz
    refine h0 ?_
    rintro (z | ⟨_, j', hj', ej', z1, z2⟩)
    · exact hn z
    · rw [ej] at ej'
      have := (ov_nIe (by omega) hj').mp ej'
      omega
  rw [ej, e3]
  refine pk_lt x j (fun z => no (Or.inl z)) (fun z => ⟨hin, pk_lt (j + 3) x (fun y => no (Or.inr y)) (fun y => h1 (Or.inr ⟨e, j, by omega, ej, z, y⟩)) rfl rfl⟩) rfl rfl
theorem oy_touches (hC : C ≤ 24) {p x : Nat} (hp : p ≤ C) (hx : x < 32) (S W : Int32) (hw : oo p = W → ∃ j, j + 4 ≤ 16 ∧ bb p = nI j) {post : Int32 → Prop}
    (h1 : ((oo p = S ∧ bb p = nI x) ∨ (oo p = W ∧ ∃ j, j < 32 ∧ bb p = nI j ∧ j ≤ x ∧ x ≤ j + 3)) → post 1) (h0 : ¬ ((oo p = S ∧ bb p = nI x) ∨ (oo p = W ∧ ∃ j, j < 32 ∧ bb p = nI j ∧ j ≤ x ∧ x ≤ j + 3)) → post 0) : wpY_touches post (nI C, nI M, nI O, ln, pl, md, pc, wl, sp, rs, cm, tt, oo, aa, bb, cc, rg, sv, me, ou) (nI p) (nI x) S W := by
  have hin : vp_in (nI p) 25 := vp_in_nI (by omega) (by omega)
  have hcl : (nI p).toNatClampNeg = p := nI_clamp (by omega)
  simp only [wpY_touches, hcl]
  exact ⟨hin, br_c (fun e => ⟨hin, br_c (fun e2 => h1 (Or.inl ⟨e, e2⟩)) (fun e2 => oy_t20 hC hp hx S W hw h1 h0 (fun z => e2 z.2))⟩) (fun e => oy_t20 hC hp hx S W hw h1 h0 (fun z => e z.1))⟩
theorem oy_tw (w : ov_wf C M oo aa bb cc) {p x : Nat} (hp : p ≤ C) (hx : x < 32) {post : Int32 → Prop} (h1 : ov_wm oo aa bb cc p x → post 1) (h0 : ¬ ov_wm oo aa bb cc p x → post 0) : wpY_touches post (nI C, nI M, nI O, ln, pl, md, pc, wl, sp, rs, cm, tt, oo, aa, bb, cc, rg, sv, me, ou) (nI p) (nI x) 8 9 := by
  refine oy_touches w.2.1 hp hx 8 9 (fun e => ?_) h1 h0
  obtain ⟨j, hj, ej⟩ := ov_w79 (w.2.2.2.2.2 p hp) (Or.inr e)
  exact ⟨j, by have := w.2.2.2.1; omega, ej⟩
theorem oy_tr (w : ov_wf C M oo aa bb cc) {p x : Nat} (hp : p ≤ C) (hx : x < 32) {post : Int32 → Prop} (h1 : ov_rm oo aa bb cc p x → post 1) (h0 : ¬ ov_rm oo aa bb cc p x → post 0) : wpY_touches post (nI C, nI M, nI O, ln, pl, md, pc, wl, sp, rs, cm, tt, oo, aa, bb, cc, rg, sv, me, ou) (nI p) (nI x) 6 7 := by
  refine oy_touches w.2.1 hp hx 6 7 (fun e => ?_) h1 h0
  obtain ⟨j, hj, ej⟩ := ov_w79 (w.2.2.2.2.2 p hp) (Or.inl e)
  exact ⟨j, by have := w.2.2.2.1; omega, ej⟩
theorem ov_D_i {set : Int32} {x i q s : Nat} {b c : Int32} : (∃ z, ov_D b c z i ∧ ov_YT oo aa bb cc set x i z q s) ↔ ((bt b i = true ∧ ov_YT oo aa bb cc set x i 0 q s) ∨ (bt c i = true ∧ ov_YT oo aa bb cc set x i 1 q s)) := by
  constructor
  · rintro ⟨z, ⟨rfl, h⟩ | ⟨rfl, h⟩, t⟩
    · exact Or.inl ⟨h, t⟩
    · exact Or.inr ⟨h, t⟩
  · rintro (⟨h, t⟩ | ⟨h, t⟩)
    · exact ⟨0, Or.inl ⟨rfl, h⟩, t⟩
    · exact ⟨1, Or.inr ⟨rfl, h⟩, t⟩
theorem ov_US_0 {set : Int32} {x i : Nat} {b c : Int32} (hb : bt b i = false) (hc : bt c i = false) : ov_US oo aa bb cc set x i b c b c := by
  intro q s hq
  rw [ov_D_i, hb, hc]
  constructor
  · exact Or.inl
  · rintro (h | ⟨h, _⟩ | ⟨h, _⟩)
    · exact h
    · exact absurd h (by decide)
    · exact absurd h (by decide)
/-- not stored here, bare but not covered -/
theorem ov_US_b {set : Int32} {x i : Nat} {b c m : Int32} (hm : ∀ q, q < 32 → (bt m q = true ↔ ov_sc oo aa bb cc i q)) (hs : ¬ ov_su oo aa bb cc i x) (hb : bt b i = true) (hc : bt c i = false) : ov_US oo aa bb cc set x i b c (b ||| m) c := by
  intro q s hq
  rw [ov_D_i, hb, hc]
  unfold ov_D ov_YT
  rw [b_or, Bool.or_eq_true, hm q hq]
  constructor
  · rintro (⟨rfl, h | h⟩ | h)
    · exact Or.inl (Or.inl ⟨rfl, h⟩)
    · exact Or.inr (Or.inl ⟨rfl, h, Or.inl ⟨rfl, hs, rfl⟩⟩)
    · exact Or.inl (Or.inr h)
  · rintro ((⟨rfl, h⟩ | h) | ⟨_, t, ⟨_, _, rfl⟩ | ⟨h | h, _⟩⟩ | ⟨h, _⟩)
    · exact Or.inl ⟨rfl, Or.inl h⟩
    · exact Or.inr h
    · exact Or.inl ⟨rfl, Or.inr t⟩
    · exact absurd h (by decide)
    · exact absurd h hs
    · exact absurd h (by decide)
/-- not stored here, bare and covered -/
theorem ov_US_bc {set : Int32} {x i : Nat} {b c m : Int32} (hm : ∀ q, q < 32 → (bt m q = true ↔ ov_sc oo aa bb cc i q)) (hs : ¬ ov_su oo aa bb cc i x) (hb : bt b i = true) (hc : bt c i = true) : ov_US oo aa bb cc set x i b c ((b ||| m) ||| (m &&& set)) (c ||| (m &&& (set ^^^ (-1)))) := by
  intro q s hq
  rw [ov_D_i, hb, hc]
  unfold ov_D ov_YT
  rw [b_or, b_or, b_and, b_or, b_and, ov_bn _ hq, Bool.or_eq_true, Bool.or_eq_true, Bool.and_eq_true, Bool.or_eq_true, Bool.and_eq_true, Bool.not_eq_true', hm q hq]
  constructor
  · rintro (⟨rfl, (h | h) | h⟩ | ⟨rfl, h | h⟩)
    · exact Or.inl (Or.inl ⟨rfl, h⟩)
    · exact Or.inr (Or.inl ⟨rfl, h, Or.inl ⟨rfl, hs, rfl⟩⟩)
    · exact Or.inr (Or.inr ⟨rfl, h.1, Or.inr ⟨Or.inl rfl, Or.inl ⟨h.2, rfl⟩⟩⟩)
    · exact Or.inl (Or.inr ⟨rfl, h⟩)
    · exact Or.inr (Or.inr ⟨rfl, h.1, Or.inr ⟨Or.inl rfl, Or.inr ⟨h.2, rfl⟩⟩⟩)
  · rintro ((⟨rfl, h⟩ | ⟨rfl, h⟩) | ⟨_, t, ⟨_, _, rfl⟩ | ⟨h | h, _⟩⟩ | ⟨_, t, ⟨h, _⟩ | ⟨_, ⟨h, rfl⟩ | ⟨h, rfl⟩⟩⟩)
    · exact Or.inl ⟨rfl, Or.inl (Or.inl h)⟩
    · exact Or.inr ⟨rfl, Or.inl h⟩
    · exact Or.inl ⟨rfl, Or.inl (Or.inr t)⟩
    · exact absurd h (by decide)
    · exact absurd h hs
    · exact absurd h (by decide)
    · exact Or.inl ⟨rfl, Or.inr ⟨t, h⟩⟩
    · exact Or.inr ⟨rfl, Or.inr ⟨t, h⟩⟩
/-- what leaves the cell is covered: stored here, or covered and not bare -/
theorem ov_US_c {set : Int32} {x i : Nat} {b c m : Int32} (hm : ∀ q, q < 32 → (bt m q = true ↔ ov_sc oo aa bb cc i q)) (hs : (ov_su oo aa bb cc i x ∧ (bt b i = true ∨ bt c i = true)) ∨ (bt b i = false ∧ bt c i = true)) : ov_US oo aa bb cc set x i b c (b ||| (m &&& set)) (c ||| (m &&& (set ^^^ (-1)))) := by
  intro q s hq
  rw [ov_D_i]
  unfold ov_D ov_YT
  rw [b_or, b_and, b_or, b_and, ov_bn _ hq, Bool.or_eq_true, Bool.and_eq_true, Bool.or_eq_true, Bool.and_eq_true, Bool.not_eq_true', hm q hq]
  have out : ∀ s, ov_sc oo aa bb cc i q → ((bt set q = true ∧ s = 0) ∨ (bt set q = false ∧ s = 1)) → (bt b i = true ∧ ov_sc oo aa bb cc i q ∧ (((0:Nat) = 0 ∧ ¬ ov_su oo aa bb cc i x ∧ s = 0) ∨ (((0:Nat) = 1 ∨ ov_su oo aa bb cc i x) ∧ ((bt set q = true ∧ s = 0) ∨ (bt set q = false ∧ s = 1))))) ∨ (bt c i = true ∧ ov_sc oo aa bb cc i q ∧ (((1:Nat) = 0 ∧ ¬ ov_su oo aa bb cc i x ∧ s = 0) ∨ (((1:Nat) = 1 ∨ ov_su oo aa bb cc i x) ∧ ((bt set q = true ∧ s = 0) ∨ (bt set q = false ∧ s = 1))))) := by
    intro s t hz
    rcases hs with ⟨h1, h2 | h2⟩ | ⟨_, h2⟩
    · exact Or.inl ⟨h2, t, Or.inr ⟨Or.inr h1, hz⟩⟩
    · exact Or.inr ⟨h2, t, Or.inr ⟨Or.inl rfl, hz⟩⟩
    · exact Or.inr ⟨h2, t, Or.inr ⟨Or.inl rfl, hz⟩⟩
  have inn : ov_sc oo aa bb cc i q → ((bt set q = true ∧ s = 0) ∨ (bt set q = false ∧ s = 1)) → (s = 0 ∧ (bt b q = true ∨ (ov_sc oo aa bb cc i q ∧ bt set q = true))) ∨ (s = 1 ∧ (bt c q = true ∨ (ov_sc oo aa bb cc i q ∧ bt set q = false))) := by
    rintro t (⟨h, rfl⟩ | ⟨h, rfl⟩)
    · exact Or.inl ⟨rfl, Or.inr ⟨t, h⟩⟩
    · exact Or.inr ⟨rfl, Or.inr ⟨t, h⟩⟩
  constructor
  · rintro (⟨rfl, h | h⟩ | ⟨rfl, h | h⟩)
    · exact Or.inl (Or.inl ⟨rfl, h⟩)
    · exact Or.inr (out 0 h.1 (Or.inl ⟨h.2, rfl⟩))
    · exact Or.inl (Or.inr ⟨rfl, h⟩)
    · exact Or.inr (out 1 h.1 (Or.inr ⟨h.2, rfl⟩))
  · rintro ((⟨rfl, h⟩ | ⟨rfl, h⟩) | ⟨h1, t, ⟨_, h, h2⟩ | ⟨h, hz⟩⟩ | ⟨_, t, ⟨h, _⟩ | ⟨_, hz⟩⟩)
    · exact Or.inl ⟨rfl, Or.inl h⟩
    · exact Or.inr ⟨rfl, Or.inl h⟩
    · rcases hs with ⟨h3, _⟩ | ⟨h3, _⟩
      · exact absurd h3 h
      · exact absurd (h1.symm.trans h3) (by decide)
    · exact inn t hz
    · exact absurd h (by decide)
    · exact inn t hz
theorem oy_uc144 {post : Int32 → Prop} {J15 : Int32 → Int32 → Int32 → Int32 → Int32 → Prop} {J47 : Int32 → Int32 → Int32 → Prop} {x1 x2 set b c x6 x7 x8 m : Int32} {i : Nat} (h : J47 (b ||| (m &&& set)) (c ||| (m &&& (set ^^^ (-1)))) (nI (i + 1))) : wY_uncovered_144 post J15 J47 x1 x2 set b c x6 x7 x8 (nI i) m (nI C) (nI M) (nI O) ln pl md pc wl sp rs cm tt oo aa bb cc rg sv me ou := nm_e (nm_e (nm_r (nI_1 i) h))
theorem oy_uc84 (hC : C ≤ 24) (w : ov_wf C M oo aa bb cc) {post : Int32 → Prop} {J15 : Int32 → Int32 → Int32 → Int32 → Int32 → Prop} {J47 : Int32 → Int32 → Int32 → Prop} {x1 x2 set b c x6 x7 x8 : Int32} {i x : Nat} (hi : i ≤ C) (z0 : Int32) (hz : (z0 = 0 ∧ ¬ ov_su oo aa bb cc i x) ∨ (z0 = 1 ∧ ov_su oo aa bb cc i x)) (h : ∀ b' c', ov_US oo aa bb cc set x i b c b' c' → J47 b' c' (nI (i + 1))) : wY_uncovered_84 post J15 J47 x1 x2 set b c x6 x7 x8 (nI i) z0 (nI C) (nI M) (nI O) ln pl md pc wl sp rs cm tt oo aa bb cc rg sv me ou := by
  have h32 : i < 32 := by omega
  unfold wY_uncovered_84
  refine oy_succ w hi (fun m hm => ?_)
  rcases hz with ⟨rfl, hs⟩ | ⟨rfl, hs⟩
  · refine oy_has h32 (fun hb => br_f (by decide) (br_t rfl (nm_e ?_))) (fun hb => br_t rfl ?_)
    · unfold wY_uncovered_117
      refine oy_has h32 (fun hc => br_f (by decide) (oy_uc144 (h _ _ (ov_US_bc hm hs hb hc)))) (fun hc => br_t rfl ?_)
      have J := nm_r (P := fun y => J47 (b ||| m) c y) (nI_1 i) (h _ _ (ov_US_b hm hs hb hc))
      exact oy_has h32 (fun _ => br_f (by decide) (br_t rfl J)) (fun _ => br_t rfl J)
    · unfold wY_uncovered_117
      refine oy_has h32 (fun hc => br_f (by decide) (oy_uc144 (h _ _ (ov_US_c hm (Or.inr ⟨hb, hc⟩))))) (fun hc => br_t rfl ?_)
      have J := nm_r (P := fun y => J47 b c y) (nI_1 i) (h _ _ (ov_US_0 hb hc))
      exact oy_has h32 (fun _ => br_f (by decide) (br_t rfl J)) (fun _ => br_t rfl J)
  · refine oy_has h32 (fun hb => br_f (by decide) (br_f (by decide) ?_)) (fun hb => br_t rfl ?_)
    · unfold wY_uncovered_117
      have J := h _ _ (ov_US_c hm (Or.inl ⟨hs, Or.inl hb⟩))
      exact oy_has h32 (fun hc => br_f (by decide) (oy_uc144 J)) (fun hc => br_t rfl (oy_has h32 (fun _ => br_f (by decide) (br_f (by decide) (oy_uc144 J))) (fun z => absurd (z.symm.trans hb) (by decide))))
    · unfold wY_uncovered_117
      refine oy_has h32 (fun hc => br_f (by decide) (oy_uc144 (h _ _ (ov_US_c hm (Or.inl ⟨hs, Or.inr hc⟩))))) (fun hc => br_t rfl ?_)
      exact oy_has h32 (fun z => absurd (z.symm.trans hb) (by decide)) (fun _ => br_t rfl (nm_r (nI_1 i) (h _ _ (ov_US_0 hb hc))))
def ov_usnd (C : Nat) (oo aa bb cc : Nat → Int32) (set : Int32) (x : Nat) (b c : Int32) : Prop := ∀ q s, q < 32 → ov_D b c s q → q ≤ C ∧ ov_YR oo aa bb cc set x q s
theorem oy_uc47 (w : ov_wf C M oo aa bb cc) {post : Int32 → Prop} {J15 : Int32 → Int32 → Int32 → Int32 → Int32 → Prop} {x1 set x8 : Int32} {x : Nat} (b0 c0 : Int32)
    (hJ : ∀ b c, ov_usnd C oo aa bb cc set x b c → (∀ q s, q < 32 → ov_D b0 c0 s q → ov_D b c s q) → (∀ q s q' s', q < C + 1 → ov_D b0 c0 s q → ov_YT oo aa bb cc set x q s q' s' → ov_D b c s' q') → J15 b c b0 c0 (x8 + 1)) :
    ∀ d i b c, i + d = C + 1 → ov_usnd C oo aa bb cc set x b c → (∀ q s, q < 32 → ov_D b0 c0 s q → ov_D b c s q) → (∀ q s q' s', q < i → ov_D b0 c0 s q → ov_YT oo aa bb cc set x q s q' s' → ov_D b c s' q') → wY_uncovered_47 post J15 x1 (nI x) set b0 c0 x8 (nI C) (nI M) (nI O) ln pl md pc wl sp rs cm tt oo aa bb cc rg sv me ou (d + 1) b c (nI i) := by
  have hC := w.2.1
  intro d
  induction d with
  | zero =>
    intro i b c hd S1 S2 S3
    refine br_t (nI_lt (by omega) (by omega)) (nm_e (hJ b c S1 S2 ?_))
    have : i = C + 1 := by omega
    subst this
    exact S3
  | succ d ih =>
    intro i b c hd S1 S2 S3
    have hi : i ≤ C := by omega
    have hin : vp_in (nI i) 25 := vp_in_nI (by omega) (by omega)
    have hcl : (nI i).toNatClampNeg = i := nI_clamp (by omega)
    have K : ∀ b' c', ov_US oo aa bb cc set x i b c b' c' → wY_uncovered_47 post J15 x1 (nI x) set b0 c0 x8 (nI C) (nI M) (nI O) ln pl md pc wl sp rs cm tt oo aa bb cc rg sv me ou (d + 1) b' c' (nI (i + 1)) := by
      intro b' c' U
      refine ih (i + 1) b' c' (by omega) ?_ ?_ ?_
      · intro q s hq hD
        rcases (U q s hq).mp hD with h | ⟨z, h, t⟩
        · exact S1 q s hq h
        · exact ⟨ov_sc_le w hi t.1, ov_YR_s (S1 i z (by omega) h).2 t⟩
      · intro q s hq hD
        exact (U q s hq).mpr (Or.inl (S2 q s hq hD))
      · intro q s q' s' hq hD t
        have hq' : q' < 32 := ov_sc_32 w (by omega) t.1
        rcases Nat.lt_or_ge q i with y | y
        · exact (U q' s' hq').mpr (Or.inl (S3 q s q' s' y hD t))
        · have : q = i := by omega
          subst this
          exact (U q' s' hq').mpr (Or.inr ⟨s, S2 q s (by omega) hD, t⟩)
    refine br_f (nI_nlt (by omega) (by omega)) ⟨hin, br_c (fun e => ⟨hin, br_c (fun e2 => ?_) (fun e2 => ?_)⟩) (fun e => ?_)⟩
    · rw [hcl] at e e2
      exact oy_uc84 hC w hi 1 (Or.inr ⟨rfl, e, e2⟩) K
    · rw [hcl] at e e2
      exact oy_uc84 hC w hi 0 (Or.inl ⟨rfl, fun z => e2 z.2⟩) K
    · rw [hcl] at e
      exact oy_uc84 hC w hi 0 (Or.inl ⟨rfl, fun z => e z.1⟩) K
theorem oy_uc176 {post : Int32 → Prop} {b : Int32} {i : Nat} (hi : i < 32) (h1 : bt b i = true → post 1) (h0 : bt b i = false → post 0) : wY_uncovered_176 post (nI i) b (nI C) (nI M) (nI O) ln pl md pc wl sp rs cm tt oo aa bb cc rg sv me ou := by
  unfold wY_uncovered_176
  exact oy_has hi (fun e => ⟨narrow_b1, h1 e⟩) (fun e => ⟨narrow_b0, h0 e⟩)
theorem ov_uc_yes (w : ov_wf C M oo aa bb cc) {set b c : Int32} {x : Nat} (h0 : bt b 0 = true) (hcl : ∀ q s q' s', q < C + 1 → ov_D b c s q → ov_YT oo aa bb cc set x q s q' s' → ov_D b c s' q') {q s : Nat} (h : ov_YR oo aa bb cc set x q s) : ov_D b c s q := by
  have := h (fun q s => q ≤ C ∧ ov_D b c s q) ⟨Nat.zero_le _, Or.inl ⟨rfl, h0⟩⟩ (by
    rintro q s q' s' ⟨hq, hD⟩ t
    exact ⟨ov_sc_le w hq t.1, hcl q s q' s' (by omega) hD t⟩)
  exact this.2
theorem oy_uc15 (w : ov_wf C M oo aa bb cc) {post : Int32 → Prop} {set : Int32} {i x : Nat} (hi : i ≤ C) (h1 : ov_YR oo aa bb cc set x i 0 → post 1) (h0 : ¬ ov_YR oo aa bb cc set x i 0 → post 0) :
    ∀ d k b c ob oc, k + d = 50 → ov_usnd C oo aa bb cc set x b c → bt b 0 = true → (b = ob → c = oc → ∀ q s q' s', q < C + 1 → ov_D b c s q → ov_YT oo aa bb cc set x q s q' s' → ov_D b c s' q') → (¬ (b = ob ∧ c = oc) → k + 1 ≤ ov_cn (fun q => bt b q = true) (C + 1) + ov_cn (fun q => bt c q = true) (C + 1)) → wY_uncovered_15 post (nI i) (nI x) set (nI C) (nI M) (nI O) ln pl md pc wl sp rs cm tt oo aa bb cc rg sv me ou (d + 1) b c ob oc (nI k) := by
  have hC := w.2.1
  have fin : ∀ b c, ov_usnd C oo aa bb cc set x b c → bt b 0 = true → (∀ q s q' s', q < C + 1 → ov_D b c s q → ov_YT oo aa bb cc set x q s q' s' → ov_D b c s' q') → wY_uncovered_176 post (nI i) b (nI C) (nI M) (nI O) ln pl md pc wl sp rs cm tt oo aa bb cc rg sv me ou := by
    intro b c S1 S0 Scl
    refine oy_uc176 (by omega) (fun e => h1 (S1 i 0 (by omega) (Or.inl ⟨rfl, e⟩)).2) (fun e => h0 (fun z => ?_))
    rcases ov_uc_yes w S0 Scl z with ⟨_, y⟩ | ⟨y, _⟩
    · exact absurd (y.symm.trans e) (by decide)
    · exact absurd y (by decide)
  intro d
  induction d with
  | zero =>
    intro k b c ob oc hd S1 S0 Se Sn
    refine br_t (nI_le (a := 50) (by omega) (by omega)) ?_
    by_cases e : b = ob ∧ c = oc
    · exact fin b c S1 S0 (Se e.1 e.2)
    · have := Sn e
      have := ov_cn_le (fun q => bt b q = true) (C + 1)
      have := ov_cn_le (fun q => bt c q = true) (C + 1)
      omega
  | succ d ih =>
    intro k b c ob oc hd S1 S0 Se Sn
    have run : ¬ (b = ob ∧ c = oc) → ∃ n47, wY_uncovered_47 post (wY_uncovered_15 post (nI i) (nI x) set (nI C) (nI M) (nI O) ln pl md pc wl sp rs cm tt oo aa bb cc rg sv me ou (d + 1)) (nI i) (nI x) set b c (nI k) (nI C) (nI M) (nI O) ln pl md pc wl sp rs cm tt oo aa bb cc rg sv me ou n47 b c 0 := by
      intro hne
      refine ⟨C + 1 + 1, ?_⟩
      refine oy_uc47 w b c ?_ (C + 1) 0 b c (by omega) S1 (fun q s _ z => z) (fun q s q' s' z => absurd z (Nat.not_lt_zero q))
      intro b' c' T1 T2 T3
      rw [nI_1]
      have mb : ∀ q, q < 32 → bt b q = true → bt b' q = true := by
        intro q hq z
        rcases T2 q 0 hq (Or.inl ⟨rfl, z⟩) with ⟨_, y⟩ | ⟨y, _⟩
        · exact y
        · exact absurd y (by decide)
      have mc : ∀ q, q < 32 → bt c q = true → bt c' q = true := by
        intro q hq z
        rcases T2 q 1 hq (Or.inr ⟨rfl, z⟩) with ⟨y, _⟩ | ⟨_, y⟩
        · exact absurd y (by decide)
        · exact y
      refine ih (k + 1) b' c' b c (by omega) T1 (mb 0 (by omega) S0) ?_ ?_
      · rintro rfl rfl
        exact T3
      · intro hd2
        have g0 := Sn hne
        have gb := ov_cn_mono (P := fun q => bt b q = true) (Q := fun q => bt b' q = true) (C + 1) (fun q hq => mb q (by omega))
        have gc := ov_cn_mono (P := fun q => bt c q = true) (Q := fun q => bt c' q = true) (C + 1) (fun q hq => mc q (by omega))
        by_cases eb : b' = b
        · have ec : ¬ c' = c := fun z => hd2 ⟨eb, z⟩
          have := ov_grow (by omega) mc (fun q hq z => (T1 q 1 hq (Or.inr ⟨rfl, z⟩)).1) ec
          omega
        · have := ov_grow (by omega) mb (fun q hq z => (T1 q 0 hq (Or.inl ⟨rfl, z⟩)).1) eb
          omega
    refine br_f (nI_ge (b := 50) (by omega) (by decide)) (br_c (fun e => br_c (fun e2 => fin b c S1 S0 (Se e e2)) (fun e2 => run (fun z => e2 z.2))) (fun e => run (fun z => e z.1)))
theorem oy_unc (w : ov_wf C M oo aa bb cc) {post : Int32 → Prop} {set : Int32} {i x : Nat} (hi : i ≤ C) (h1 : ov_YR oo aa bb cc set x i 0 → post 1) (h0 : ¬ ov_YR oo aa bb cc set x i 0 → post 0) : wpY_uncovered post (nI C, nI M, nI O, ln, pl, md, pc, wl, sp, rs, cm, tt, oo, aa, bb, cc, rg, sv, me, ou) (nI i) (nI x) set := by
  have hC := w.2.1
  have b10 : bt 1 0 = true := by rw [ov_bOne 0 (by omega)]; rfl
  refine ⟨50 + 1, ?_⟩
  refine oy_uc15 w hi h1 h0 50 0 1 0 0 0 (by omega) ?_ b10 (fun z => absurd z (by decide)) (fun _ => ?_)
  · rintro q s hq (⟨rfl, z⟩ | ⟨_, z⟩)
    · rw [ov_bOne q hq, decide_eq_true_eq] at z
      subst z
      exact ⟨Nat.zero_le _, ov_YR_0⟩
    · rw [b_0] at z
      exact absurd z (by decide)
  · have := ov_cn_pos (P := fun q => bt 1 q = true) (n := C + 1) (m := 0) (by omega) b10
    omega
end
end
section
/-! ===== Y: reaches, hazard, verify ===== -/
def ov_set (C : Nat) (set : Int32) : Prop := ∀ i, i < 32 → C + 1 ≤ i → bt set i = false
def ov_hz (C : Nat) (oo aa bb cc : Nat → Int32) (set : Int32) (v x i : Nat) : Prop := ov_wm oo aa bb cc v x ∧ ov_rm oo aa bb cc i x ∧ ov_YR oo aa bb cc set x i 0 ∧ ov_RR oo aa bb cc set i v
section
variable {ln pl md pc wl sp rs cm tt : Int32} {oo aa bb cc rg sv me ou : Nat → Int32}
variable {C M O : Nat}
theorem oy_re40 (w : ov_wf C M oo aa bb cc) {post : Int32 → Prop} {J17 : Int32 → Int32 → Int32 → Prop} {x2 set x6 : Int32} {i0 : Nat} (s0 : Int32)
    (hJ : ∀ s, (∀ q, q < 32 → bt s q = true → q ≤ C ∧ ov_RR oo aa bb cc set i0 q) → (∀ q, q < 32 → bt s0 q = true → bt s q = true) → (∀ q, q < C + 1 → bt s0 q = true → ∀ q', ov_sc oo aa bb cc q q' → bt set q' = false → bt s q' = true) → J17 s s0 (x6 + 1)) :
    ∀ d i s, i + d = C + 1 → (∀ q, q < 32 → bt s q = true → q ≤ C ∧ ov_RR oo aa bb cc set i0 q) → (∀ q, q < 32 → bt s0 q = true → bt s q = true) → (∀ q, q < i → bt s0 q = true → ∀ q', ov_sc oo aa bb cc q q' → bt set q' = false → bt s q' = true) → wY_reaches_40 post J17 x2 set s0 x6 (nI C) (nI M) (nI O) ln pl md pc wl sp rs cm tt oo aa bb cc rg sv me ou (d + 1) s (nI i) := by
  have hC := w.2.1
  intro d
  induction d with
  | zero =>
    intro i s hd S1 S2 S3
    refine br_t (nI_lt (by omega) (by omega)) (nm_e (hJ s S1 S2 ?_))
    have : i = C + 1 := by omega
    subst this
    exact S3
  | succ d ih =>
    intro i s hd S1 S2 S3
    have hi : i ≤ C := by omega
    refine br_f (nI_nlt (by omega) (by omega)) ?_
    refine oy_has (by omega) (fun e => br_f (by decide) ?_) (fun e => br_t rfl (nm_r (nI_1 i) (ih (i + 1) s (by omega) S1 S2 ?_)))
    · refine oy_succ w hi (fun m hm => nm_e (nm_r (nI_1 i) (ih (i + 1) _ (by omega) ?_ ?_ ?_)))
      · intro q hq hb
        rw [b_or, b_and, ov_bn _ hq, Bool.or_eq_true, Bool.and_eq_true, Bool.not_eq_true'] at hb
        rcases hb with hb | hb
        · exact S1 q hq hb
        · have t := (hm q hq).mp hb.1
          exact ⟨ov_sc_le w hi t, ov_RR_s (S1 i (by omega) e).2 t hb.2⟩
      · intro q hq hb
        rw [b_or, S2 q hq hb]; rfl
      · refine lt_s (fun q hq hb q' t f => ?_) (fun _ q' t f => ?_)
        · rw [b_or, S3 q hq hb q' t f]; rfl
        · have hq' := ov_sc_32 w hi t
          rw [b_or, b_and, ov_bn _ hq', (hm q' hq').mpr t, f]
          cases bt s q' <;> rfl
    · exact lt_s S3 (fun z => absurd ((S2 i (by omega) z).symm.trans e) (by decide))
theorem oy_re87 {post : Int32 → Prop} {s : Int32} {v : Nat} (hv : v < 32) (h1 : bt s v = true → post 1) (h0 : bt s v = false → post 0) : wY_reaches_87 post (nI v) s (nI C) (nI M) (nI O) ln pl md pc wl sp rs cm tt oo aa bb cc rg sv me ou := by
  unfold wY_reaches_87
  exact oy_has hv (fun e => ⟨narrow_b1, h1 e⟩) (fun e => ⟨narrow_b0, h0 e⟩)
theorem oy_re17 (w : ov_wf C M oo aa bb cc) {post : Int32 → Prop} {set : Int32} {i v : Nat} (hi : i ≤ C) (hv : v ≤ C) (h1 : ov_RR oo aa bb cc set i v → post 1) (h0 : ¬ ov_RR oo aa bb cc set i v → post 0) :
    ∀ d k s b, k + d = C + 1 → (∀ q, q < 32 → bt s q = true → q ≤ C ∧ ov_RR oo aa bb cc set i q) → (∀ q, ov_sc oo aa bb cc i q → bt set q = false → bt s q = true) → (s = b → ∀ q, q < C + 1 → bt s q = true → ∀ q', ov_sc oo aa bb cc q q' → bt set q' = false → bt s q' = true) → (¬ s = b → k + 1 ≤ ov_cn (fun q => bt s q = true) (C + 1)) → wY_reaches_17 post (nI v) set (nI C) (nI M) (nI O) ln pl md pc wl sp rs cm tt oo aa bb cc rg sv me ou (d + 1) s b (nI k) := by
  have hC := w.2.1
  have fin : ∀ s, (∀ q, q < 32 → bt s q = true → q ≤ C ∧ ov_RR oo aa bb cc set i q) → (∀ q, ov_sc oo aa bb cc i q → bt set q = false → bt s q = true) → (∀ q, q < C + 1 → bt s q = true → ∀ q', ov_sc oo aa bb cc q q' → bt set q' = false → bt s q' = true) → wY_reaches_87 post (nI v) s (nI C) (nI M) (nI O) ln pl md pc wl sp rs cm tt oo aa bb cc rg sv me ou := by
    intro s S1 S0 Scl
    refine oy_re87 (by omega) (fun e => h1 (S1 v (by omega) e).2) (fun e => h0 (fun z => ?_))
    have := z (fun q => q ≤ C ∧ bt s q = true) (fun q t f => ⟨ov_sc_le w hi t, S0 q t f⟩) (by
      rintro q q' ⟨hq, hb⟩ t f
      exact ⟨ov_sc_le w hq t, Scl q (by omega) hb q' t f⟩)
    exact absurd (this.2.symm.trans e) (by decide)
  intro d
  induction d with
  | zero =>
    intro k s b hd S1 S0 Se Sn
    refine br_t (nI_lt (by omega) (by omega)) ?_
    by_cases e : s = b
    · exact fin s S1 S0 (Se e)
    · have := Sn e
      have := ov_cn_le (fun q => bt s q = true) (C + 1)
      omega
  | succ d ih =>
    intro k s b hd S1 S0 Se Sn
    refine br_f (nI_nlt (by omega) (by omega)) (br_c (fun e => fin s S1 S0 (Se e)) (fun e => ⟨C + 1 + 1, ?_⟩))
    refine oy_re40 w s ?_ (C + 1) 0 s (by omega) S1 (fun q _ z => z) (fun q z => absurd z (Nat.not_lt_zero q))
    intro s' T1 T2 T3
    rw [nI_1]
    refine ih (k + 1) s' s (by omega) T1 (fun q t f => T2 q (ov_sc_32 w hi t) (S0 q t f)) (fun e2 => ?_) (fun e2 => ?_)
    · rw [e2] at T3
      rw [e2]
      exact T3
    · have := ov_grow (by omega) T2 (fun q hq z => (T1 q hq z).1) e2
      have := Sn e
      omega
theorem oy_rea (w : ov_wf C M oo aa bb cc) {post : Int32 → Prop} {set : Int32} {i v : Nat} (hi : i ≤ C) (hv : v ≤ C) (h1 : ov_RR oo aa bb cc set i v → post 1) (h0 : ¬ ov_RR oo aa bb cc set i v → post 0) : wpY_reaches post (nI C, nI M, nI O, ln, pl, md, pc, wl, sp, rs, cm, tt, oo, aa, bb, cc, rg, sv, me, ou) (nI i) (nI v) set := by
  have hC := w.2.1
  unfold wpY_reaches
  refine oy_succ w hi (fun m hm => nm_e ⟨C + 1 + 1, ?_⟩)
  have hb : ∀ q, q < 32 → (bt (m &&& (set ^^^ (-1))) q = true ↔ ov_sc oo aa bb cc i q ∧ bt set q = false) := by
    intro q hq
    rw [b_and, ov_bn _ hq, Bool.and_eq_true, Bool.not_eq_true', hm q hq]
  refine oy_re17 w hi hv h1 h0 (C + 1) 0 _ 0 (by omega) ?_ ?_ (fun e => ?_) (fun e => ?_)
  · intro q hq z
    have := (hb q hq).mp z
    exact ⟨ov_sc_le w hi this.1, ov_RR_0 this.1 this.2⟩
  · intro q t f
    exact (hb q (ov_sc_32 w hi t)).mpr ⟨t, f⟩
  · intro q hq z
    rw [e, b_0] at z
    exact absurd z (by decide)
  · obtain ⟨q, hq, z⟩ := ov_nz e
    have := ov_sc_le w hi ((hb q hq).mp z).1
    exact ov_cn_pos (m := q) (by omega) z
theorem oy_hz13 (w : ov_wf C M oo aa bb cc) {post : Int32 → Prop} {J2 : Int32 → Prop} {set : Int32} {v x : Nat} (hv : v ≤ C) (hx : x < M) (h1 : ov_HY C M oo aa bb cc set v → post 1) (hJ : (∀ i, i < C + 1 → ¬ ov_hz C oo aa bb cc set v x i) → J2 (nI (x + 1))) :
    ∀ d i, i + d = C + 1 → (∀ i', i' < i → ¬ ov_hz C oo aa bb cc set v x i') → wY_hazard_13 post J2 (nI v) set (nI x) (nI C) (nI M) (nI O) ln pl md pc wl sp rs cm tt oo aa bb cc rg sv me ou (d + 1) (nI i) := by
  have hC := w.2.1
  have hM := w.2.2.2.1
  intro d
  induction d with
  | zero =>
    intro i hd S
    refine br_t (nI_lt (by omega) (by omega)) (nm_r (nI_1 x) (hJ ?_))
    have : i = C + 1 := by omega
    subst this
    exact S
  | succ d ih =>
    intro i hd S
    have hi : i ≤ C := by omega
    have nx : ¬ ov_hz C oo aa bb cc set v x i → ∀ y, y = nI i + 1 → wY_hazard_13 post J2 (nI v) set (nI x) (nI C) (nI M) (nI O) ln pl md pc wl sp rs cm tt oo aa bb cc rg sv me ou (d + 1) y := by
      intro hn
      exact nm_r (nI_1 i) (ih (i + 1) (by omega) (lt_s S hn))
    refine br_f (nI_nlt (by omega) (by omega)) ?_
    refine oy_tw w hv (by omega) (fun a1 => br_f (by decide) ?_) (fun a1 => br_t rfl (nx (fun z => a1 z.1)))
    refine oy_tr w hi (by omega) (fun a2 => br_f (by decide) ?_) (fun a2 => br_t rfl (nx (fun z => a2 z.2.1)))
    refine oy_unc w hi (fun a3 => br_f (by decide) ?_) (fun a3 => br_t rfl (nx (fun z => a3 z.2.2.1)))
    exact oy_rea w hi hv (fun a4 => br_f (by decide) (h1 ⟨x, i, hx, hi, a1, a2, a3, a4⟩)) (fun a4 => br_t rfl (nx (fun z => a4 z.2.2.2)))
theorem oy_hz2 (w : ov_wf C M oo aa bb cc) {post : Int32 → Prop} {set : Int32} {v : Nat} (hv : v ≤ C) (h1 : ov_HY C M oo aa bb cc set v → post 1) (h0 : ¬ ov_HY C M oo aa bb cc set v → post 0) :
    ∀ d x, x + d = M → (∀ x', x' < x → ∀ i, i < C + 1 → ¬ ov_hz C oo aa bb cc set v x' i) → wY_hazard_2 post (nI v) set (nI C) (nI M) (nI O) ln pl md pc wl sp rs cm tt oo aa bb cc rg sv me ou (d + 1) (nI x) := by
  have hM := w.2.2.2.1
  intro d
  induction d with
  | zero =>
    intro x hd S
    refine br_t (nI_le (by omega) (by omega)) (h0 ?_)
    rintro ⟨x', i, hx, hi, a⟩
    exact S x' (by omega) i (by omega) a
  | succ d ih =>
    intro x hd S
    refine br_f (nI_ge (by omega) (by omega)) ⟨C + 1 + 1, ?_⟩
    refine oy_hz13 w hv (by omega) h1 ?_ (C + 1) 0 (by omega) (fun i z => absurd z (Nat.not_lt_zero i))
    intro hn
    exact ih (x + 1) (by omega) (lt_s S hn)
theorem oy_haz (w : ov_wf C M oo aa bb cc) {post : Int32 → Prop} {set : Int32} {v : Nat} (hv : v ≤ C) (h1 : ov_HY C M oo aa bb cc set v → post 1) (h0 : ¬ ov_HY C M oo aa bb cc set v → post 0) : wpY_hazard post (nI C, nI M, nI O, ln, pl, md, pc, wl, sp, rs, cm, tt, oo, aa, bb, cc, rg, sv, me, ou) (nI v) set := ⟨M + 1, oy_hz2 w hv h1 h0 M 0 (by omega) (fun x z => absurd z (Nat.not_lt_zero x))⟩
theorem oy_ver16 (w : ov_wf C M oo aa bb cc) {post : Int32 → Prop} {set : Int32} (h : ∀ r, ov_LH C (ov_HY C M oo aa bb cc set) r → post r) :
    ∀ d v, v + d = C + 1 → (∀ u, u < v → ¬ ov_HY C M oo aa bb cc set u) → wY_verify_16 post set (nI C) (nI M) (nI O) ln pl md pc wl sp rs cm tt oo aa bb cc rg sv me ou (d + 1) (nI v) := by
  have hC := w.2.1
  intro d
  induction d with
  | zero =>
    intro v hd S
    exact br_t (nI_lt (by omega) (by omega)) (h _ (Or.inr ⟨rfl, fun u hu => S u (by omega)⟩))
  | succ d ih =>
    intro v hd S
    refine br_f (nI_nlt (by omega) (by omega)) ?_
    exact oy_haz w (by omega) (fun e => br_f (by decide) (h _ (Or.inl ⟨v, by omega, rfl, e, S⟩))) (fun e => br_t rfl (nm_r (nI_1 v) (ih (v + 1) (by omega) (lt_s S e))))
theorem oy_ver (w : ov_wf C M oo aa bb cc) {post : Int32 → Prop} {set : Int32} (hs : ov_set C set) (h : ∀ r, ov_LH C (ov_HY C M oo aa bb cc set) r → post r) : wpY_verify post (nI C, nI M, nI O, ln, pl, md, pc, wl, sp, rs, cm, tt, oo, aa, bb, cc, rg, sv, me, ou) set := by
  have hC := w.2.1
  refine br_t ?_ ⟨C + 1 + 1, oy_ver16 w h (C + 1) 0 (by omega) (fun u z => absurd z (Nat.not_lt_zero u))⟩
  rw [nI_1]
  exact (ov_sset set (by omega)).mpr hs
theorem oy_verN (hC : C ≤ 24) {post : Int32 → Prop} {set : Int32} (hs : ¬ ov_set C set) (h : post (-2)) : wpY_verify post (nI C, nI M, nI O, ln, pl, md, pc, wl, sp, rs, cm, tt, oo, aa, bb, cc, rg, sv, me, ou) set := by
  refine br_f ?_ h
  rw [nI_1]
  exact fun z => hs ((ov_sset set (by omega)).mp z)
end
end
section
/-! ===== X: small questions about an op, live registers ===== -/
def ov_dn : Nat → Int32
  | 0 => -1
  | j + 1 => nI j
theorem ov_dn1 (j : Nat) : nI j + (-1) = ov_dn j := by
  cases j with
  | zero => rfl
  | succ j => exact pk_m1 j
theorem ov_bR {y : Int32} (h : ov_R y) {i : Nat} (hi : i < 32) : bt ((1 : Int32) <<< (y &&& 31)) i = true ↔ y = nI i := by
  obtain ⟨j, hj, rfl⟩ := h
  rw [ov_b1 j (by omega) i hi, decide_eq_true_eq, ov_nIe (by omega) hi]
theorem ov_cC_of {x : Int32} (h : x = 3 ∨ x = 4 ∨ x = 5) : ov_cC x := by
  rcases h with h | h | h
  · exact Or.inl h
  · exact Or.inr (Or.inl h)
  · exact Or.inr (Or.inr (Or.inl h))
theorem ov_cB_of {x : Int32} (h : x = 2 ∨ x = 3 ∨ x = 4 ∨ x = 5) : ov_cB x := by
  rcases h with h | h | h | h
  · exact Or.inl h
  · exact Or.inr (Or.inl h)
  · exact Or.inr (Or.inr (Or.inl h))
  · exact Or.inr (Or.inr (Or.inr (Or.inl h)))
theorem ov_cC_no {x : Int32} (h : ¬ (x = 3 ∨ x = 4 ∨ x = 5)) (h2 : ¬ (x = 7 ∨ x = 9)) : ¬ ov_cC x := by
  rintro (z | z | z | z)
  · exact h (Or.inl z)
  · exact h (Or.inr (Or.inl z))
  · exact h (Or.inr (Or.inr z))
  · exact h2 z
theorem ov_cB_no {x : Int32} (h : ¬ (x = 2 ∨ x = 3 ∨ x = 4 ∨ x = 5)) (h2 : ¬ x = 12) : ¬ ov_cB x := by
  rintro (z | z | z | z | z)
  · exact h (Or.inl z)
  · exact h (Or.inr (Or.inl z))
  · exact h (Or.inr (Or.inr (Or.inl z)))
  · exact h (Or.inr (Or.inr (Or.inr z)))
  · exact h2 z
def ov_lvok (C : Nat) (oo aa bb cc : Nat → Int32) (lv : Nat → Int32) : Prop := ∀ p, p ≤ C → ∀ i, i < 32 → (bt (lv p) i = true ↔ ov_LV oo aa bb cc i p)
def ov_lF (oo aa bb cc : Nat → Int32) (lv : Nat → Int32) (p i : Nat) : Prop := ov_rd oo aa bb cc p i ∨ (¬ ov_wr oo aa bb cc p i ∧ ∃ q, ov_sc oo aa bb cc p q ∧ bt (lv q) i = true)
section
variable {g0 g1 g2 g3 g4 g5 g6 g7 g8 g9 g10 g11 g12 g13 al ln pl md pc du sp rs cm tt : Int32} {oo aa bb cc lv rg sv me ou cl cv ex : Nat → Int32}
variable {C M O : Nat}
theorem ox_ft {post : Int32 → Prop} {x : Int32} (h1 : ov_ft x → post 1) (h0 : ¬ ov_ft x → post 0) : wpX_fallsThrough post (g0, g1, g2, g3, g4, g5, g6, g7, g8, g9, g10, g11, g12, g13, nI C, nI M, nI O, ov_al M, ln, pl, md, pc, du, sp, rs, cm, tt, oo, aa, bb, cc, lv, rg, sv, me, ou, cl, cv, ex) x :=
  br_c (fun e => h0 (fun z => z.1 e)) (fun e => br_c (fun e2 => h0 (fun z => z.2 e2)) (fun e2 => h1 ⟨e, e2⟩))
theorem ox_ht {post : Int32 → Prop} {x : Int32} (h1 : ov_ht x → post 1) (h0 : ¬ ov_ht x → post 0) : wpX_hasTarget post (g0, g1, g2, g3, g4, g5, g6, g7, g8, g9, g10, g11, g12, g13, nI C, nI M, nI O, ov_al M, ln, pl, md, pc, du, sp, rs, cm, tt, oo, aa, bb, cc, lv, rg, sv, me, ou, cl, cv, ex) x :=
  br_c (fun e => h1 (Or.inl e)) (fun e => br_c (fun e2 => h1 (Or.inr (Or.inl e2))) (fun e2 => br_c (fun e3 => h1 (Or.inr (Or.inr e3))) (fun e3 => h0 (fun z => z.elim e (fun y => y.elim e2 e3)))))
theorem ox_wr {post : Int32 → Prop} {x : Int32} (h1 : ov_cW x → post 1) (h0 : ¬ ov_cW x → post 0) : wpX_writesRegister post (g0, g1, g2, g3, g4, g5, g6, g7, g8, g9, g10, g11, g12, g13, nI C, nI M, nI O, ov_al M, ln, pl, md, pc, du, sp, rs, cm, tt, oo, aa, bb, cc, lv, rg, sv, me, ou, cl, cv, ex) x :=
  br_c (fun e => h0 (fun z => (ov_17.mp z).1 e)) (fun e => br_c (fun e2 => h0 (fun z => (ov_17.mp z).2 e2)) (fun e2 => h1 (ov_17.mpr ⟨e, e2⟩)))
theorem ox_ix {post : Int32 → Prop} {x : Int32} (h1 : (x = 7 ∨ x = 9) → post 1) (h0 : ¬ (x = 7 ∨ x = 9) → post 0) : wpX_isIndexed post (g0, g1, g2, g3, g4, g5, g6, g7, g8, g9, g10, g11, g12, g13, nI C, nI M, nI O, ov_al M, ln, pl, md, pc, du, sp, rs, cm, tt, oo, aa, bb, cc, lv, rg, sv, me, ou, cl, cv, ex) x :=
  br_c (fun e => h1 (Or.inl e)) (fun e => br_c (fun e2 => h1 (Or.inr e2)) (fun e2 => h0 (fun z => z.elim e e2)))
theorem ox_tg (hC : C ≤ 24) {p : Nat} (hp : p ≤ C) {post : Int32 → Prop} (h : post (ov_tx (oo p) (aa p) (bb p) (cc p))) : wpX_target post (g0, g1, g2, g3, g4, g5, g6, g7, g8, g9, g10, g11, g12, g13, nI C, nI M, nI O, ov_al M, ln, pl, md, pc, du, sp, rs, cm, tt, oo, aa, bb, cc, lv, rg, sv, me, ou, cl, cv, ex) (nI p) := by
  have hin : vp_in (nI p) 25 := vp_in_nI (by omega) (by omega)
  have hcl : (nI p).toNatClampNeg = p := nI_clamp (by omega)
  simp only [wpX_target, hcl]
  unfold ov_tx at h
  refine ⟨hin, br_c (fun e => ⟨hin, ?_⟩) (fun e => ⟨hin, br_c (fun e2 => ⟨hin, ?_⟩) (fun e2 => ⟨hin, ?_⟩)⟩)⟩
  · rwa [if_pos e] at h
  · rwa [if_neg e, if_pos e2] at h
  · rwa [if_neg e, if_neg e2] at h
theorem ox_rr99 (hC : C ≤ 24) {p : Nat} (hp : p ≤ C) {post : Int32 → Prop} {x3 : Int32} (h : post (x3 ||| ((1 : Int32) <<< ((cc p) &&& 31)))) : wX_regsRead_99 post (nI p) x3 g0 g1 g2 g3 g4 g5 g6 g7 g8 g9 g10 g11 g12 g13 (nI C) (nI M) (nI O) (ov_al M) ln pl md pc du sp rs cm tt oo aa bb cc lv rg sv me ou cl cv ex := by
  have hin : vp_in (nI p) 25 := vp_in_nI (by omega) (by omega)
  have hcl : (nI p).toNatClampNeg = p := nI_clamp (by omega)
  refine ⟨hin, nm_e ?_⟩
  rw [hcl]
  exact h
theorem ox_rr91 (hC : C ≤ 24) {p : Nat} (hp : p ≤ C) {post : Int32 → Prop} {x x3 : Int32} (h1 : (x = 7 ∨ x = 9) → post (x3 ||| ((1 : Int32) <<< ((cc p) &&& 31)))) (h0 : ¬ (x = 7 ∨ x = 9) → post x3) : wX_regsRead_91 post (nI p) x x3 g0 g1 g2 g3 g4 g5 g6 g7 g8 g9 g10 g11 g12 g13 (nI C) (nI M) (nI O) (ov_al M) ln pl md pc du sp rs cm tt oo aa bb cc lv rg sv me ou cl cv ex := by
  unfold wX_regsRead_91
  exact ox_ix (fun e => br_f (by decide) (ox_rr99 hC hp (h1 e))) (fun e => br_t rfl (h0 e))
theorem ox_rr81 (hC : C ≤ 24) {p : Nat} (hp : p ≤ C) {post : Int32 → Prop} {x x3 : Int32} (h1 : ov_cC x → post (x3 ||| ((1 : Int32) <<< ((cc p) &&& 31)))) (h0 : ¬ ov_cC x → post x3) : wX_regsRead_81 post (nI p) x x3 g0 g1 g2 g3 g4 g5 g6 g7 g8 g9 g10 g11 g12 g13 (nI C) (nI M) (nI O) (ov_al M) ln pl md pc du sp rs cm tt oo aa bb cc lv rg sv me ou cl cv ex := by
  have k : ¬ (x = 3 ∨ x = 4 ∨ x = 5) → wX_regsRead_91 post (nI p) x x3 g0 g1 g2 g3 g4 g5 g6 g7 g8 g9 g10 g11 g12 g13 (nI C) (nI M) (nI O) (ov_al M) ln pl md pc du sp rs cm tt oo aa bb cc lv rg sv me ou cl cv ex := fun hn =>
    ox_rr91 hC hp (fun e => h1 (Or.inr (Or.inr (Or.inr e)))) (fun e => h0 (ov_cC_no hn e))
  exact br_c (fun e => k (fun z => (ov_35.mp z).1 e)) (fun e => br_c (fun e2 => ox_rr99 hC hp (h1 (ov_cC_of (ov_35.mpr ⟨e, e2⟩)))) (fun e2 => k (fun z => e2 (ov_35.mp z).2)))
theorem ox_rr70 (hC : C ≤ 24) {p : Nat} (hp : p ≤ C) {post : Int32 → Prop} {x x3 : Int32} (h : wX_regsRead_81 post (nI p) x (x3 ||| ((1 : Int32) <<< ((bb p) &&& 31))) g0 g1 g2 g3 g4 g5 g6 g7 g8 g9 g10 g11 g12 g13 (nI C) (nI M) (nI O) (ov_al M) ln pl md pc du sp rs cm tt oo aa bb cc lv rg sv me ou cl cv ex) : wX_regsRead_70 post (nI p) x x3 g0 g1 g2 g3 g4 g5 g6 g7 g8 g9 g10 g11 g12 g13 (nI C) (nI M) (nI O) (ov_al M) ln pl md pc du sp rs cm tt oo aa bb cc lv rg sv me ou cl cv ex := by
  have hin : vp_in (nI p) 25 := vp_in_nI (by omega) (by omega)
  have hcl : (nI p).toNatClampNeg = p := nI_clamp (by omega)
  refine ⟨hin, nm_e ?_⟩
  rw [hcl]
  exact h
theorem ox_rr54 (hC : C ≤ 24) {p : Nat} (hp : p ≤ C) {post : Int32 → Prop} {x x3 : Int32} (h1 : ov_cB x → wX_regsRead_81 post (nI p) x (x3 ||| ((1 : Int32) <<< ((bb p) &&& 31))) g0 g1 g2 g3 g4 g5 g6 g7 g8 g9 g10 g11 g12 g13 (nI C) (nI M) (nI O) (ov_al M) ln pl md pc du sp rs cm tt oo aa bb cc lv rg sv me ou cl cv ex) (h0 : ¬ ov_cB x → wX_regsRead_81 post (nI p) x x3 g0 g1 g2 g3 g4 g5 g6 g7 g8 g9 g10 g11 g12 g13 (nI C) (nI M) (nI O) (ov_al M) ln pl md pc du sp rs cm tt oo aa bb cc lv rg sv me ou cl cv ex) : wX_regsRead_54 post (nI p) x x3 g0 g1 g2 g3 g4 g5 g6 g7 g8 g9 g10 g11 g12 g13 (nI C) (nI M) (nI O) (ov_al M) ln pl md pc du sp rs cm tt oo aa bb cc lv rg sv me ou cl cv ex := by
  have k : ¬ (x = 2 ∨ x = 3 ∨ x = 4 ∨ x = 5) → wX_regsRead_64 post (nI p) x x3 g0 g1 g2 g3 g4 g5 g6 g7 g8 g9 g10 g11 g12 g13 (nI C) (nI M) (nI O) (ov_al M) ln pl md pc du sp rs cm tt oo aa bb cc lv rg sv me ou cl cv ex := fun hn =>
    br_c (fun e => ox_rr70 hC hp (h1 (Or.inr (Or.inr (Or.inr (Or.inr e)))))) (fun e => h0 (ov_cB_no hn e))
  exact br_c (fun e => k (fun z => (ov_25.mp z).1 e)) (fun e => br_c (fun e2 => ox_rr70 hC hp (h1 (ov_cB_of (ov_25.mpr ⟨e, e2⟩)))) (fun e2 => k (fun z => e2 (ov_25.mp z).2)))
theorem ox_rr43 (hC : C ≤ 24) {p : Nat} (hp : p ≤ C) {post : Int32 → Prop} {x x3 : Int32} (h : wX_regsRead_54 post (nI p) x (x3 ||| ((1 : Int32) <<< ((aa p) &&& 31))) g0 g1 g2 g3 g4 g5 g6 g7 g8 g9 g10 g11 g12 g13 (nI C) (nI M) (nI O) (ov_al M) ln pl md pc du sp rs cm tt oo aa bb cc lv rg sv me ou cl cv ex) : wX_regsRead_43 post (nI p) x x3 g0 g1 g2 g3 g4 g5 g6 g7 g8 g9 g10 g11 g12 g13 (nI C) (nI M) (nI O) (ov_al M) ln pl md pc du sp rs cm tt oo aa bb cc lv rg sv me ou cl cv ex := by
  have hin : vp_in (nI p) 25 := vp_in_nI (by omega) (by omega)
  have hcl : (nI p).toNatClampNeg = p := nI_clamp (by omega)
  refine ⟨hin, nm_e ?_⟩
  rw [hcl]
  exact h
theorem ox_rr0 (hC : C ≤ 24) {p : Nat} (hp : p ≤ C) {post : Int32 → Prop} (h1 : ov_cA (oo p) → wX_regsRead_54 post (nI p) (oo p) (0 ||| ((1 : Int32) <<< ((aa p) &&& 31))) g0 g1 g2 g3 g4 g5 g6 g7 g8 g9 g10 g11 g12 g13 (nI C) (nI M) (nI O) (ov_al M) ln pl md pc du sp rs cm tt oo aa bb cc lv rg sv me ou cl cv ex) (h0 : ¬ ov_cA (oo p) → wX_regsRead_54 post (nI p) (oo p) 0 g0 g1 g2 g3 g4 g5 g6 g7 g8 g9 g10 g11 g12 g13 (nI C) (nI M) (nI O) (ov_al M) ln pl md pc du sp rs cm tt oo aa bb cc lv rg sv me ou cl cv ex) : wpX_regsRead post (g0, g1, g2, g3, g4, g5, g6, g7, g8, g9, g10, g11, g12, g13, nI C, nI M, nI O, ov_al M, ln, pl, md, pc, du, sp, rs, cm, tt, oo, aa, bb, cc, lv, rg, sv, me, ou, cl, cv, ex) (nI p) := by
  have hin : vp_in (nI p) 25 := vp_in_nI (by omega) (by omega)
  have hcl : (nI p).toNatClampNeg = p := nI_clamp (by omega)
  refine ⟨hin, nm_r (e' := oo p) (by rw [hcl]) ?_⟩
  refine br_c (fun e => ox_rr43 hC hp (h1 (Or.inl e))) (fun e0 => ?_)
  refine br_c (fun e => ox_rr43 hC hp (h1 (Or.inr (Or.inl e)))) (fun e1 => ?_)
  refine br_c (fun e => ox_rr43 hC hp (h1 (Or.inr (Or.inr (Or.inl e))))) (fun e2 => ?_)
  refine br_c (fun e => ox_rr43 hC hp (h1 (Or.inr (Or.inr (Or.inr (Or.inl e)))))) (fun e3 => ?_)
  refine br_c (fun e => ox_rr43 hC hp (h1 (Or.inr (Or.inr (Or.inr (Or.inr (Or.inl e))))))) (fun e4 => ?_)
  refine br_c (fun e => ox_rr43 hC hp (h1 (Or.inr (Or.inr (Or.inr (Or.inr (Or.inr e))))))) (fun e5 => h0 ?_)
  rintro (z | z | z | z | z | z)
  · exact e0 z
  · exact e1 z
  · exact e2 z
  · exact e3 z
  · exact e4 z
  · exact e5 z
theorem ox_rr (w : ov_wf C M oo aa bb cc) {p : Nat} (hp : p ≤ C) {post : Int32 → Prop} (h : ∀ m, (∀ i, i < 32 → (bt m i = true ↔ ov_rd oo aa bb cc p i)) → post m) : wpX_regsRead post (g0, g1, g2, g3, g4, g5, g6, g7, g8, g9, g10, g11, g12, g13, nI C, nI M, nI O, ov_al M, ln, pl, md, pc, du, sp, rs, cm, tt, oo, aa, bb, cc, lv, rg, sv, me, ou, cl, cv, ex) (nI p) := by
  have hC := w.2.1
  have ok := w.2.2.2.2.2 p hp
  refine ox_rr0 hC hp (fun hA => ox_rr54 hC hp (fun hB => ox_rr81 hC hp (fun hc => ?_) (fun hc => ?_)) (fun hB => ox_rr81 hC hp (fun hc => ?_) (fun hc => ?_))) (fun hA => ox_rr54 hC hp (fun hB => ox_rr81 hC hp (fun hc => ?_) (fun hc => ?_)) (fun hB => ox_rr81 hC hp (fun hc => ?_) (fun hc => ?_)))
  · refine h _ (fun i hi => ?_)
    simp only [ov_rd, b_or, b_0, Bool.or_eq_true, Bool.false_eq_true, false_or, ov_bR (ov_wA ok hA) hi, ov_bR (ov_wB ok hB) hi, ov_bR (ov_wC ok hc) hi, hA, hB, hc, true_and, or_assoc]
  · refine h _ (fun i hi => ?_)
    simp only [ov_rd, b_or, b_0, Bool.or_eq_true, Bool.false_eq_true, false_or, ov_bR (ov_wA ok hA) hi, ov_bR (ov_wB ok hB) hi, hA, hB, hc, true_and, false_and, or_false, or_assoc]
  · refine h _ (fun i hi => ?_)
    simp only [ov_rd, b_or, b_0, Bool.or_eq_true, Bool.false_eq_true, false_or, ov_bR (ov_wA ok hA) hi, ov_bR (ov_wC ok hc) hi, hA, hB, hc, true_and, false_and, or_false, or_assoc]
  · refine h _ (fun i hi => ?_)
    simp only [ov_rd, b_or, b_0, Bool.or_eq_true, Bool.false_eq_true, false_or, ov_bR (ov_wA ok hA) hi, hA, hB, hc, true_and, false_and, or_false, or_assoc]
  · refine h _ (fun i hi => ?_)
    simp only [ov_rd, b_or, b_0, Bool.or_eq_true, Bool.false_eq_true, false_or, ov_bR (ov_wB ok hB) hi, ov_bR (ov_wC ok hc) hi, hA, hB, hc, true_and, false_and, or_false, or_assoc]
  · refine h _ (fun i hi => ?_)
    simp only [ov_rd, b_or, b_0, Bool.or_eq_true, Bool.false_eq_true, false_or, ov_bR (ov_wB ok hB) hi, hA, hB, hc, true_and, false_and, or_false, or_assoc]
  · refine h _ (fun i hi => ?_)
    simp only [ov_rd, b_or, b_0, Bool.or_eq_true, Bool.false_eq_true, false_or, ov_bR (ov_wC ok hc) hi, hA, hB, hc, true_and, false_and, or_false, or_assoc]
  · refine h _ (fun i hi => ?_)
    simp only [ov_rd, b_0, Bool.false_eq_true, hA, hB, hc, false_and, or_false]
theorem ox_lb51 (w : ov_wf C M oo aa bb cc) {p : Nat} (hp : p ≤ C) {post : Int32 → Prop} {x3 : Int32} (h : ∀ m, (∀ i, i < 32 → (bt m i = true ↔ ov_rd oo aa bb cc p i ∨ (¬ ov_wr oo aa bb cc p i ∧ bt x3 i = true))) → post m) : wX_liveBefore_51 post (nI p) (oo p) x3 g0 g1 g2 g3 g4 g5 g6 g7 g8 g9 g10 g11 g12 g13 (nI C) (nI M) (nI O) (ov_al M) ln pl md pc du sp rs cm tt oo aa bb cc lv rg sv me ou cl cv ex := by
  have hC := w.2.1
  have ok := w.2.2.2.2.2 p hp
  have hin : vp_in (nI p) 25 := vp_in_nI (by omega) (by omega)
  have hcl : (nI p).toNatClampNeg = p := nI_clamp (by omega)
  unfold wX_liveBefore_51
  refine ox_wr (fun hW => br_f (by decide) ⟨hin, ?_⟩) (fun hW => br_t rfl ?_)
  · rw [hcl]
    unfold wX_liveBefore_71
    refine ox_rr w hp (fun m hm => h _ (fun i hi => ?_))
    have e : (¬ ov_wr oo aa bb cc p i) ↔ bt ((1 : Int32) <<< (aa p &&& 31)) i = false := by
      rw [← Bool.not_eq_true, ov_bR (ov_wW ok hW) hi]
      exact ⟨fun z y => z ⟨hW, y⟩, fun z y => z y.2⟩
    rw [b_or, b_and, ov_bn _ hi, Bool.or_eq_true, Bool.and_eq_true, Bool.not_eq_true', hm i hi, e]
    exact ⟨fun z => z.imp id (fun y => ⟨y.2, y.1⟩), fun z => z.imp id (fun y => ⟨y.2, y.1⟩)⟩
  · unfold wX_liveBefore_71
    refine ox_rr w hp (fun m hm => h _ (fun i hi => ?_))
    have e : ¬ ov_wr oo aa bb cc p i := fun z => hW z.1
    rw [b_or, b_and, ov_bn _ hi, b_0, Bool.or_eq_true, Bool.and_eq_true, hm i hi]
    exact ⟨fun z => z.imp id (fun y => ⟨e, y.1⟩), fun z => z.imp id (fun y => ⟨y.2, rfl⟩)⟩
theorem ox_lb26 (w : ov_wf C M oo aa bb cc) {p : Nat} (hp : p ≤ C) {post : Int32 → Prop} {x3 : Int32} (h : ∀ m, (∀ i, i < 32 → (bt m i = true ↔ ov_rd oo aa bb cc p i ∨ (¬ ov_wr oo aa bb cc p i ∧ (bt x3 i = true ∨ (ov_ht (oo p) ∧ ∃ q, q < 32 ∧ ov_tx (oo p) (aa p) (bb p) (cc p) = nI q ∧ bt (lv q) i = true))))) → post m) : wX_liveBefore_26 post (nI p) (oo p) x3 g0 g1 g2 g3 g4 g5 g6 g7 g8 g9 g10 g11 g12 g13 (nI C) (nI M) (nI O) (ov_al M) ln pl md pc du sp rs cm tt oo aa bb cc lv rg sv me ou cl cv ex := by
  have hC := w.2.1
  unfold wX_liveBefore_26
  refine ox_ht (fun hh => br_f (by decide) ?_) (fun hh => br_t rfl ?_)
  · refine ox_tg hC hp ?_
    obtain ⟨t, ht, et, eq⟩ := ov_tg w hp hh
    have hclt : (nI t).toNatClampNeg = t := nI_clamp (by omega)
    have hin : vp_in (nI t) 25 := vp_in_nI (by omega) (by omega)
    rw [et]
    refine ⟨hin, nm_r (e' := x3 ||| lv t) (by rw [hclt]) ?_⟩
    refine ox_lb51 w hp (fun m hm => h m (fun i hi => ?_))
    rw [hm i hi, b_or, Bool.or_eq_true]
    have : (bt (lv t) i = true) ↔ (ov_ht (oo p) ∧ ∃ q, q < 32 ∧ ov_tx (oo p) (aa p) (bb p) (cc p) = nI q ∧ bt (lv q) i = true) := by
      constructor
      · intro z
        exact ⟨hh, t, by omega, et, z⟩
      · rintro ⟨_, q, hq, e1, z⟩
        rw [(eq q hq).mp e1] at z
        exact z
    rw [this]
  · refine ox_lb51 w hp (fun m hm => h m (fun i hi => ?_))
    rw [hm i hi]
    exact ⟨fun z => z.imp id (fun y => ⟨y.1, Or.inl y.2⟩), fun z => z.imp id (fun y => ⟨y.1, y.2.elim id (fun v => absurd v.1 hh)⟩)⟩
theorem ox_lb (w : ov_wf C M oo aa bb cc) {p : Nat} (hp : p ≤ C) {post : Int32 → Prop} (h : ∀ m, (∀ i, i < 32 → (bt m i = true ↔ ov_lF oo aa bb cc lv p i)) → post m) : wpX_liveBefore post (g0, g1, g2, g3, g4, g5, g6, g7, g8, g9, g10, g11, g12, g13, nI C, nI M, nI O, ov_al M, ln, pl, md, pc, du, sp, rs, cm, tt, oo, aa, bb, cc, lv, rg, sv, me, ou, cl, cv, ex) (nI p) := by
  have hC := w.2.1
  have hin : vp_in (nI p) 25 := vp_in_nI (by omega) (by omega)
  have hcl : (nI p).toNatClampNeg = p := nI_clamp (by omega)
  refine ⟨hin, nm_r (e' := oo p) (by rw [hcl]) ?_⟩
  refine ox_ft (fun hf => br_f (by decide) ?_) (fun hf => br_t rfl ?_)
  · have hp1 := ov_sc_ft w hp hf
    have hcl1 : (nI p + 1).toNatClampNeg = p + 1 := by rw [nI_1]; exact nI_clamp (by omega)
    have hin1 : vp_in (nI p + 1) 25 := by rw [nI_1]; exact vp_in_nI (by omega) (by omega)
    refine ⟨hin1, nm_r (e' := lv (p + 1)) (by rw [hcl1]) ?_⟩
    refine ox_lb26 w hp (fun m hm => h m (fun i hi => ?_))
    rw [hm i hi]
    constructor
    · rintro (z | ⟨z1, z2 | ⟨z2, q, hq, e, z3⟩⟩)
      · exact Or.inl z
      · exact Or.inr ⟨z1, p + 1, Or.inl ⟨hf, rfl⟩, z2⟩
      · exact Or.inr ⟨z1, q, Or.inr ⟨z2, hq, e⟩, z3⟩
    · rintro (z | ⟨z1, q, ⟨_, rfl⟩ | ⟨z2, hq, e⟩, z3⟩)
      · exact Or.inl z
      · exact Or.inr ⟨z1, Or.inl z3⟩
      · exact Or.inr ⟨z1, Or.inr ⟨z2, q, hq, e, z3⟩⟩
  · refine ox_lb26 w hp (fun m hm => h m (fun i hi => ?_))
    rw [hm i hi, b_0]
    constructor
    · rintro (z | ⟨z1, z2 | ⟨z2, q, hq, e, z3⟩⟩)
      · exact Or.inl z
      · exact absurd z2 (by decide)
      · exact Or.inr ⟨z1, q, Or.inr ⟨z2, hq, e⟩, z3⟩
    · rintro (z | ⟨z1, q, ⟨y, _⟩ | ⟨z2, hq, e⟩, z3⟩)
      · exact Or.inl z
      · exact absurd y hf
      · exact Or.inr ⟨z1, Or.inr ⟨z2, q, hq, e, z3⟩⟩
end
end
section
/-! ===== X: liveRound, refreshLive ===== -/
def ov_lsnd (C : Nat) (oo aa bb cc : Nat → Int32) (lv : Nat → Int32) : Prop := ∀ p, p ≤ C → ∀ i, i < 32 → bt (lv p) i = true → ov_LV oo aa bb cc i p
def ov_llev (C : Nat) (oo aa bb cc : Nat → Int32) (k : Nat) (lv : Nat → Int32) : Prop := ∀ p, p ≤ C → ∀ i, i < 32 → ov_LVk oo aa bb cc i k p → bt (lv p) i = true
def ov_lclo (C : Nat) (oo aa bb cc : Nat → Int32) (lv : Nat → Int32) : Prop := ∀ p, p ≤ C → ∀ i, i < 32 → ov_lF oo aa bb cc lv p i → bt (lv p) i = true
section
variable {oo aa bb cc : Nat → Int32} {C M : Nat}
theorem ov_lv_fin1 (w : ov_wf C M oo aa bb cc) {lv : Nat → Int32} (h1 : ov_lsnd C oo aa bb cc lv) (h2 : ov_llev C oo aa bb cc 30 lv) : ov_lvok C oo aa bb cc lv := fun p hp i hi => ⟨h1 p hp i hi, fun z => h2 p hp i hi (ov_LV_30 w hp z)⟩
theorem ov_lv_fin0 (w : ov_wf C M oo aa bb cc) {lv : Nat → Int32} (h1 : ov_lsnd C oo aa bb cc lv) (h2 : ov_lclo C oo aa bb cc lv) : ov_lvok C oo aa bb cc lv := by
  have key : ∀ k p i, p ≤ C → i < 32 → ov_LVk oo aa bb cc i k p → bt (lv p) i = true := by
    intro k
    induction k with
    | zero => intro p i _ _ z; exact z.elim
    | succ k ih =>
      intro p i hp hi z
      refine h2 p hp i hi ?_
      rcases z with z | ⟨z1, q, t, z2⟩
      · exact Or.inl z
      · exact Or.inr ⟨z1, q, t, ih q i (ov_sc_le w hp t) hi z2⟩
  intro p hp i hi
  refine ⟨h1 p hp i hi, ?_⟩
  rintro ⟨k, z⟩
  exact key k p i hp hi z
end
section
variable {g0 g1 g2 g3 g4 g5 g6 g7 g8 g9 g10 g11 g12 g13 al ln pl md pc du sp rs cm tt : Int32} {oo aa bb cc lv rg sv me ou cl cv ex : Nat → Int32}
variable {C M O : Nat}
theorem ox_lr7 (w : ov_wf C M oo aa bb cc) (k : Nat) {post : Int32 → SX → Prop} (h : ∀ f lv', (f = 0 ∨ f = 1) → ov_lsnd C oo aa bb cc lv' → ov_llev C oo aa bb cc (k + 1) lv' → (f = 0 → ov_lclo C oo aa bb cc lv') → post f (g0, g1, g2, g3, g4, g5, g6, g7, g8, g9, g10, g11, g12, g13, nI C, nI M, nI O, ov_al M, ln, pl, md, pc, du, sp, rs, cm, tt, oo, aa, bb, cc, lv', rg, sv, me, ou, cl, cv, ex)) :
    ∀ j f (lv : Nat → Int32), j ≤ C + 1 → (f = 0 ∨ f = 1) → ov_lsnd C oo aa bb cc lv → (∀ p, p < j → ∀ i, i < 32 → ov_LVk oo aa bb cc i k p → bt (lv p) i = true) → (∀ p, j ≤ p → p ≤ C → ∀ i, i < 32 → ov_LVk oo aa bb cc i (k + 1) p → bt (lv p) i = true) → (f = 0 → ∀ p, j ≤ p → p ≤ C → ∀ i, i < 32 → ov_lF oo aa bb cc lv p i → bt (lv p) i = true) → wX_liveRound_7 post g0 g1 g2 g3 g4 g5 g6 g7 g8 g9 g10 g11 g12 g13 (nI C) (nI M) (nI O) (ov_al M) ln pl md pc du sp rs cm tt (j + 1) f (ov_dn j) oo aa bb cc lv rg sv me ou cl cv ex := by
  have hC := w.2.1
  intro j
  induction j with
  | zero =>
    intro f lv _ hf S1 S2 S3 S4
    refine br_t (show (-1 : Int32) < 0 by decide) ⟨?_, h f lv hf S1 (fun p hp => S3 p (by omega) hp) (fun e p hp => S4 e p (by omega) hp)⟩
    rcases hf with rfl | rfl
    · exact narrow_b0
    · exact narrow_b1
  | succ j ih =>
    intro f lv hj hf S1 S2 S3 S4
    have hjC : j ≤ C := by omega
    have hin : vp_in (nI j) 25 := vp_in_nI (by omega) (by omega)
    have hcl : (nI j).toNatClampNeg = j := nI_clamp (by omega)
    have lk : ∀ q, q ≤ C → ∀ i, i < 32 → ov_LVk oo aa bb cc i k q → bt (lv q) i = true := by
      intro q hq i hi z
      rcases Nat.lt_or_ge q (j + 1) with y | y
      · exact S2 q y i hi z
      · exact S3 q y hq i hi (ov_LVk_s z)
    show wX_liveRound_7 post g0 g1 g2 g3 g4 g5 g6 g7 g8 g9 g10 g11 g12 g13 (nI C) (nI M) (nI O) (ov_al M) ln pl md pc du sp rs cm tt (j + 1 + 1) f (nI j) oo aa bb cc lv rg sv me ou cl cv ex
    refine br_f (nI_pos (by omega)) ?_
    refine ox_lb w hjC (fun m hm => ⟨hin, ?_⟩)
    rw [hcl]
    have mk : ∀ i, i < 32 → ov_LVk oo aa bb cc i (k + 1) j → bt m i = true := by
      intro i hi z
      refine (hm i hi).mpr ?_
      rcases z with z | ⟨z1, q, t, z2⟩
      · exact Or.inl z
      · exact Or.inr ⟨z1, q, t, lk q (ov_sc_le w hjC t) i hi z2⟩
    refine br_c (fun e => nm_r (ov_dn1 j) (ih f lv (by omega) hf S1 (fun p hp => S2 p (by omega)) ?_ ?_)) (fun e => ⟨hin, nm_e (nm_r (ov_dn1 j) (ih 1 (upd lv j m) (by omega) (Or.inr rfl) ?_ ?_ ?_ (fun z => absurd z (by decide))))⟩)
    · intro p h1 h2 i hi z
      rcases Nat.lt_or_ge j p with y | y
      · exact S3 p y h2 i hi z
      · have : p = j := by omega
        subst this
        rw [← e]
        exact mk i hi z
    · intro f0 p h1 h2 i hi z
      rcases Nat.lt_or_ge j p with y | y
      · exact S4 f0 p y h2 i hi z
      · have : p = j := by omega
        subst this
        rw [← e]
        exact (hm i hi).mpr z
    · intro p hp i hi z
      by_cases y : p = j
      · subst y
        rw [pk_us] at z
        rcases (hm i hi).mp z with z | ⟨z1, q, t, z2⟩
        · exact ov_LV_rd z
        · exact ov_LV_st z1 t (S1 q (ov_sc_le w hp t) i hi z2)
      · rw [pk_un y] at z
        exact S1 p hp i hi z
    · intro p hp i hi z
      rw [pk_un (by omega)]
      exact S2 p (by omega) i hi z
    · intro p h1 h2 i hi z
      by_cases y : p = j
      · subst y
        rw [pk_us]
        exact mk i hi z
      · rw [pk_un y]
        exact S3 p (by omega) h2 i hi z
theorem ox_lround (w : ov_wf C M oo aa bb cc) (k : Nat) {post : Int32 → SX → Prop} (S1 : ov_lsnd C oo aa bb cc lv) (S2 : ov_llev C oo aa bb cc k lv) (h : ∀ f lv', (f = 0 ∨ f = 1) → ov_lsnd C oo aa bb cc lv' → ov_llev C oo aa bb cc (k + 1) lv' → (f = 0 → ov_lclo C oo aa bb cc lv') → post f (g0, g1, g2, g3, g4, g5, g6, g7, g8, g9, g10, g11, g12, g13, nI C, nI M, nI O, ov_al M, ln, pl, md, pc, du, sp, rs, cm, tt, oo, aa, bb, cc, lv', rg, sv, me, ou, cl, cv, ex)) : wpX_liveRound post (g0, g1, g2, g3, g4, g5, g6, g7, g8, g9, g10, g11, g12, g13, nI C, nI M, nI O, ov_al M, ln, pl, md, pc, du, sp, rs, cm, tt, oo, aa, bb, cc, lv, rg, sv, me, ou, cl, cv, ex) :=
  ⟨C + 1 + 1, ox_lr7 w k h (C + 1) 0 lv (by omega) (Or.inl rfl) S1 (fun p hp => S2 p (by omega)) (fun p h1 h2 => absurd h2 (by omega)) (fun _ p h1 h2 => absurd h2 (by omega))⟩
theorem ox_rf27 (w : ov_wf C M oo aa bb cc) {post : SX → Prop} (h : ∀ lv', ov_lvok C oo aa bb cc lv' → post (g0, g1, g2, g3, g4, g5, g6, g7, g8, g9, g10, g11, g12, g13, nI C, nI M, nI O, ov_al M, ln, pl, md, pc, du, sp, rs, cm, tt, oo, aa, bb, cc, lv', rg, sv, me, ou, cl, cv, ex)) :
    ∀ d k f (lv : Nat → Int32), k + d = 30 → (f = 0 ∨ f = 1) → ov_lsnd C oo aa bb cc lv → (f = 0 → ov_lclo C oo aa bb cc lv) → ov_llev C oo aa bb cc k lv → wX_refreshLive_27 post (d + 1) f (nI k) g0 g1 g2 g3 g4 g5 g6 g7 g8 g9 g10 g11 g12 g13 (nI C) (nI M) (nI O) (ov_al M) ln pl md pc du sp rs cm tt oo aa bb cc lv rg sv me ou cl cv ex := by
  intro d
  induction d with
  | zero =>
    intro k f lv hd hf S1 S0 S2
    have : k = 30 := by omega
    subst this
    refine br_c (fun e => h lv (ov_lv_fin0 w S1 (S0 e))) (fun e => br_t (by decide) (h lv (ov_lv_fin1 w S1 S2)))
  | succ d ih =>
    intro k f lv hd hf S1 S0 S2
    refine br_c (fun e => h lv (ov_lv_fin0 w S1 (S0 e))) (fun e => br_f (nI_ge (b := 30) (by omega) (by decide)) ?_)
    refine ox_lround w k S1 S2 (fun f' lv' hf' T1 T2 T0 => ?_)
    exact nm_r (nI_1 k) (ih (k + 1) f' lv' (by omega) hf' T1 T0 T2)
theorem ox_rf2 (w : ov_wf C M oo aa bb cc) {post : SX → Prop} (h : ∀ lv', ov_lvok C oo aa bb cc lv' → post (g0, g1, g2, g3, g4, g5, g6, g7, g8, g9, g10, g11, g12, g13, nI C, nI M, nI O, ov_al M, ln, pl, md, pc, du, sp, rs, cm, tt, oo, aa, bb, cc, lv', rg, sv, me, ou, cl, cv, ex)) :
    ∀ d i (lv : Nat → Int32), i + d = C + 1 → (∀ p, p < i → lv p = 0) → wX_refreshLive_2 post g0 g1 g2 g3 g4 g5 g6 g7 g8 g9 g10 g11 g12 g13 (nI C) (nI M) (nI O) (ov_al M) ln pl md pc du sp rs cm tt (d + 1) (nI i) oo aa bb cc lv rg sv me ou cl cv ex := by
  have hC := w.2.1
  intro d
  induction d with
  | zero =>
    intro i lv hd S
    refine br_t (nI_lt (by omega) (by omega)) ⟨30 + 1, ox_rf27 w h 30 0 1 lv (by omega) (Or.inr rfl) ?_ (fun e => absurd e (by decide)) (fun p hp i hi z => z.elim)⟩
    intro p hp i hi z
    rw [S p (by omega), b_0] at z
    exact absurd z (by decide)
  | succ d ih =>
    intro i lv hd S
    have hin : vp_in (nI i) 25 := vp_in_nI (by omega) (by omega)
    have hcl : (nI i).toNatClampNeg = i := nI_clamp (by omega)
    refine br_f (nI_nlt (by omega) (by omega)) ⟨hin, nm_r (e' := upd lv i 0) (by rw [hcl]) (nm_r (nI_1 i) (ih (i + 1) (upd lv i 0) (by omega) ?_))⟩
    refine lt_s (fun p hp => ?_) pk_us
    rw [pk_un (by omega)]
    exact S p hp
theorem ox_refr (w : ov_wf C M oo aa bb cc) {post : SX → Prop} (h : ∀ lv', ov_lvok C oo aa bb cc lv' → post (g0, g1, g2, g3, g4, g5, g6, g7, g8, g9, g10, g11, g12, g13, nI C, nI M, nI O, ov_al M, ln, pl, md, pc, du, sp, rs, cm, tt, oo, aa, bb, cc, lv', rg, sv, me, ou, cl, cv, ex)) : wpX_refreshLive post (g0, g1, g2, g3, g4, g5, g6, g7, g8, g9, g10, g11, g12, g13, nI C, nI M, nI O, ov_al M, ln, pl, md, pc, du, sp, rs, cm, tt, oo, aa, bb, cc, lv, rg, sv, me, ou, cl, cv, ex) := ⟨C + 1 + 1, ox_rf2 w h (C + 1) 0 lv (by omega) (fun p z => absurd z (Nat.not_lt_zero p))⟩
end
end
section
/-! ===== X: mayRead, mayWrite, enter, flowFrom ===== -/
section
variable {oo aa bb cc : Nat → Int32} {p x : Nat}
theorem ov_m1 {S W : Int32} (hne : ¬ S = W) (e : oo p = S) (hb : ∃ j, j < 32 ∧ bb p = nI j) (hx : x < 32) : bt ((1 : Int32) <<< (bb p &&& 31)) x = true ↔ ((oo p = S ∧ bb p = nI x) ∨ (oo p = W ∧ ∃ j, j < 32 ∧ bb p = nI j ∧ j ≤ x ∧ x ≤ j + 3)) := by
  obtain ⟨j, hj, ej⟩ := hb
  rw [ej, ov_b1 j hj x hx, decide_eq_true_eq]
  constructor
  · rintro rfl
    exact Or.inl ⟨e, rfl⟩
  · rintro (⟨_, z⟩ | ⟨z, _⟩)
    · exact (ov_nIe hj hx).mp z
    · exact absurd (e.symm.trans z) hne
theorem ov_m15 {S W : Int32} (hne : ¬ S = W) (e : oo p = W) (hb : ∃ j, j < 32 ∧ bb p = nI j) (hx : x < 32) : bt ((15 : Int32) <<< (bb p &&& 31)) x = true ↔ ((oo p = S ∧ bb p = nI x) ∨ (oo p = W ∧ ∃ j, j < 32 ∧ bb p = nI j ∧ j ≤ x ∧ x ≤ j + 3)) := by
  obtain ⟨j, hj, ej⟩ := hb
  rw [ej, ov_b15 j hj x hx, decide_eq_true_eq]
  constructor
  · intro z
    exact Or.inr ⟨e, j, hj, rfl, z⟩
  · rintro (⟨z, _⟩ | ⟨_, j', hj', e2, z⟩)
    · exact absurd (z.symm.trans e) hne
    · rw [(ov_nIe hj hj').mp e2]
      exact z
theorem ov_m0 {S W : Int32} (e1 : ¬ oo p = S) (e2 : ¬ oo p = W) : bt (0 : Int32) x = true ↔ ((oo p = S ∧ bb p = nI x) ∨ (oo p = W ∧ ∃ j, j < 32 ∧ bb p = nI j ∧ j ≤ x ∧ x ≤ j + 3)) := by
  rw [b_0]
  constructor
  · intro z
    exact absurd z (by decide)
  · rintro (⟨z, _⟩ | ⟨z, _⟩)
    · exact absurd z e1
    · exact absurd z e2
end
theorem ov_upd_id {f : Nat → Int32} {n : Nat} {x : Int32} (h : x = f n) : upd f n x = f := by
  funext j
  by_cases e : j = n
  · subst e
    rw [pk_us, h]
  · rw [pk_un e]
/-- what comes into a cell q: the states c1 v1 e1, or all clean at a checkpoint -/
def ov_Z (M : Nat) (set c1 v1 e1 : Int32) (q s x : Nat) : Prop := (bt set q = true ∧ s = 0 ∧ x < M) ∨ (bt set q = false ∧ ov_bs s c1 v1 e1 x)
section
variable {g0 g1 g2 g3 g4 g5 g6 g7 g8 g9 g10 g11 g12 g13 al ln pl md pc du sp rs cm tt : Int32} {oo aa bb cc lv rg sv me ou cl cv ex : Nat → Int32}
variable {C M O : Nat}
theorem ox_mr (w : ov_wf C M oo aa bb cc) {p : Nat} (hp : p ≤ C) {post : Int32 → Prop} (h : ∀ m, (∀ x, x < 32 → (bt m x = true ↔ ov_rm oo aa bb cc p x)) → post m) : wpX_mayRead post (g0, g1, g2, g3, g4, g5, g6, g7, g8, g9, g10, g11, g12, g13, nI C, nI M, nI O, ov_al M, ln, pl, md, pc, du, sp, rs, cm, tt, oo, aa, bb, cc, lv, rg, sv, me, ou, cl, cv, ex) (nI p) := by
  have hC := w.2.1
  have hM := w.2.2.2.1
  have ok := w.2.2.2.2.2 p hp
  have hin : vp_in (nI p) 25 := vp_in_nI (by omega) (by omega)
  have hcl : (nI p).toNatClampNeg = p := nI_clamp (by omega)
  simp only [wpX_mayRead, hcl]
  refine ⟨hin, br_c (fun e => ⟨hin, h _ (fun x hx => ?_)⟩) (fun e => ⟨hin, br_c (fun e2 => ⟨hin, h _ (fun x hx => ?_)⟩) (fun e2 => h _ (fun x hx => ?_))⟩)⟩
  · obtain ⟨j, hj, ej⟩ := ov_w68 ok (Or.inl e)
    exact ov_m1 (by decide) e ⟨j, by omega, ej⟩ hx
  · obtain ⟨j, hj, ej⟩ := ov_w79 ok (Or.inl e2)
    exact ov_m15 (by decide) e2 ⟨j, by omega, ej⟩ hx
  · exact ov_m0 e e2
theorem ox_mw (w : ov_wf C M oo aa bb cc) {p : Nat} (hp : p ≤ C) {post : Int32 → Prop} (h : ∀ m, (∀ x, x < 32 → (bt m x = true ↔ ov_wm oo aa bb cc p x)) → post m) : wpX_mayWrite post (g0, g1, g2, g3, g4, g5, g6, g7, g8, g9, g10, g11, g12, g13, nI C, nI M, nI O, ov_al M, ln, pl, md, pc, du, sp, rs, cm, tt, oo, aa, bb, cc, lv, rg, sv, me, ou, cl, cv, ex) (nI p) := by
  have hC := w.2.1
  have hM := w.2.2.2.1
  have ok := w.2.2.2.2.2 p hp
  have hin : vp_in (nI p) 25 := vp_in_nI (by omega) (by omega)
  have hcl : (nI p).toNatClampNeg = p := nI_clamp (by omega)
  simp only [wpX_mayWrite, hcl]
  refine ⟨hin, br_c (fun e => ⟨hin, h _ (fun x hx => ?_)⟩) (fun e => ⟨hin, br_c (fun e2 => ⟨hin, h _ (fun x hx => ?_)⟩) (fun e2 => h _ (fun x hx => ?_))⟩)⟩
  · obtain ⟨j, hj, ej⟩ := ov_w68 ok (Or.inr e)
    exact ov_m1 (by decide) e ⟨j, by omega, ej⟩ hx
  · obtain ⟨j, hj, ej⟩ := ov_w79 ok (Or.inr e2)
    exact ov_m15 (by decide) e2 ⟨j, by omega, ej⟩ hx
  · exact ov_m0 e e2
theorem ox_en115 {n : Nat} (hn : n ≤ 24) {c' v' e' z : Int32} (hz : z = 0 ∨ z = 1) {post : Int32 → SX → Prop} (h : post z (g0, g1, g2, g3, g4, g5, g6, g7, g8, g9, g10, g11, g12, g13, nI C, nI M, nI O, ov_al M, ln, pl, md, pc, du, sp, rs, cm, tt, oo, aa, bb, cc, lv, rg, sv, me, ou, upd cl n c', upd cv n v', upd ex n e')) : wX_enter_115 post (nI n) c' v' e' z g0 g1 g2 g3 g4 g5 g6 g7 g8 g9 g10 g11 g12 g13 (nI C) (nI M) (nI O) (ov_al M) ln pl md pc du sp rs cm tt oo aa bb cc lv rg sv me ou cl cv ex := by
  have hin : vp_in (nI n) 25 := vp_in_nI (by omega) (by omega)
  have hcl : (nI n).toNatClampNeg = n := nI_clamp (by omega)
  refine ⟨hin, nm_r (e' := upd cl n c') (by rw [hcl]) ⟨hin, nm_r (e' := upd cv n v') (by rw [hcl]) ⟨hin, nm_r (e' := upd ex n e') (by rw [hcl]) ⟨?_, h⟩⟩⟩⟩
  rcases hz with rfl | rfl
  · exact narrow_b0
  · exact narrow_b1
theorem ox_en74 {n : Nat} (hn : n ≤ 24) {c' v' z : Int32} {post : Int32 → SX → Prop} (h : ∀ r, (r = 0 ∨ r = 1) → (r = 0 → c' = cl n ∧ v' = cv n ∧ (ex n ||| z) = ex n) → post r (g0, g1, g2, g3, g4, g5, g6, g7, g8, g9, g10, g11, g12, g13, nI C, nI M, nI O, ov_al M, ln, pl, md, pc, du, sp, rs, cm, tt, oo, aa, bb, cc, lv, rg, sv, me, ou, upd cl n c', upd cv n v', upd ex n (ex n ||| z))) : wX_enter_74 post (nI n) c' v' z (ex n) g0 g1 g2 g3 g4 g5 g6 g7 g8 g9 g10 g11 g12 g13 (nI C) (nI M) (nI O) (ov_al M) ln pl md pc du sp rs cm tt oo aa bb cc lv rg sv me ou cl cv ex := by
  have hin : vp_in (nI n) 25 := vp_in_nI (by omega) (by omega)
  have hcl : (nI n).toNatClampNeg = n := nI_clamp (by omega)
  have one : wX_enter_110 post (nI n) c' v' (ex n ||| z) g0 g1 g2 g3 g4 g5 g6 g7 g8 g9 g10 g11 g12 g13 (nI C) (nI M) (nI O) (ov_al M) ln pl md pc du sp rs cm tt oo aa bb cc lv rg sv me ou cl cv ex := ox_en115 hn (Or.inr rfl) (h 1 (Or.inr rfl) (fun e => absurd e (by decide)))
  refine nm_e ⟨hin, ?_⟩
  rw [hcl]
  exact br_c (fun e1 => ⟨hin, br_c (fun e2 => ⟨hin, br_c (fun e3 => ox_en115 hn (Or.inl rfl) (h 0 (Or.inl rfl) (fun _ => ⟨e1, e2, e3⟩))) (fun _ => one)⟩) (fun _ => one)⟩) (fun _ => one)
theorem ox_en0 {n : Nat} (hn : n ≤ 24) {set c1 v1 e1 : Int32} {post : Int32 → SX → Prop} (h : ∀ r zc zv ze, (r = 0 ∨ r = 1) → (r = 0 → (cl n ||| zc) = cl n ∧ (cv n ||| zv) = cv n ∧ (ex n ||| ze) = ex n) → ((bt set n = true ∧ zc = ov_al M ∧ zv = 0 ∧ ze = 0) ∨ (bt set n = false ∧ zc = c1 ∧ zv = v1 ∧ ze = e1)) → post r (g0, g1, g2, g3, g4, g5, g6, g7, g8, g9, g10, g11, g12, g13, nI C, nI M, nI O, ov_al M, ln, pl, md, pc, du, sp, rs, cm, tt, oo, aa, bb, cc, lv, rg, sv, me, ou, upd cl n (cl n ||| zc), upd cv n (cv n ||| zv), upd ex n (ex n ||| ze))) : wpX_enter post (g0, g1, g2, g3, g4, g5, g6, g7, g8, g9, g10, g11, g12, g13, nI C, nI M, nI O, ov_al M, ln, pl, md, pc, du, sp, rs, cm, tt, oo, aa, bb, cc, lv, rg, sv, me, ou, cl, cv, ex) (nI n) set c1 v1 e1 := by
  have hin : vp_in (nI n) 25 := vp_in_nI (by omega) (by omega)
  have hcl : (nI n).toNatClampNeg = n := nI_clamp (by omega)
  refine br_c (fun e => ⟨hin, ?_⟩) (fun e => ⟨hin, ?_⟩)
  · have hb := (ov_ub set (by omega)).mp e
    rw [hcl]
    refine br_t rfl (nm_e ⟨hin, ?_⟩)
    rw [hcl]
    refine br_t rfl (nm_e ⟨hin, ?_⟩)
    rw [hcl]
    refine br_t rfl ?_
    exact ox_en74 hn (fun r hr h0 => h r c1 v1 e1 hr h0 (Or.inr ⟨hb, rfl, rfl, rfl⟩))
  · have hb := ov_nt (fun z => e ((ov_ub set (by omega)).mpr z))
    rw [hcl]
    refine br_f (by decide) (nm_e ⟨hin, ?_⟩)
    rw [hcl]
    refine br_f (by decide) (nm_e ⟨hin, ?_⟩)
    rw [hcl]
    refine br_f (by decide) ?_
    exact ox_en74 hn (fun r hr h0 => h r (ov_al M) 0 0 hr h0 (Or.inl ⟨hb, rfl, rfl, rfl⟩))
theorem ox_en {n : Nat} (hn : n ≤ 24) (hM : M ≤ 16) {set c1 v1 e1 : Int32} {post : Int32 → SX → Prop} (h : ∀ r cl' cv' ex', (r = 0 ∨ r = 1) → (r = 0 → cl' = cl ∧ cv' = cv ∧ ex' = ex) → (∀ q s x, x < 32 → (ov_B cl' cv' ex' s q x ↔ ov_B cl cv ex s q x ∨ (q = n ∧ ov_Z M set c1 v1 e1 q s x))) → post r (g0, g1, g2, g3, g4, g5, g6, g7, g8, g9, g10, g11, g12, g13, nI C, nI M, nI O, ov_al M, ln, pl, md, pc, du, sp, rs, cm, tt, oo, aa, bb, cc, lv, rg, sv, me, ou, cl', cv', ex')) : wpX_enter post (g0, g1, g2, g3, g4, g5, g6, g7, g8, g9, g10, g11, g12, g13, nI C, nI M, nI O, ov_al M, ln, pl, md, pc, du, sp, rs, cm, tt, oo, aa, bb, cc, lv, rg, sv, me, ou, cl, cv, ex) (nI n) set c1 v1 e1 := by
  refine ox_en0 hn (fun r zc zv ze hr h0 hz => h r _ _ _ hr (fun e => ⟨ov_upd_id (h0 e).1, ov_upd_id (h0 e).2.1, ov_upd_id (h0 e).2.2⟩) ?_)
  intro q s x hx
  unfold ov_B
  by_cases e : q = n
  · subst e
    rw [pk_us, pk_us, pk_us]
    unfold ov_Z ov_bs
    rw [b_or, b_or, b_or, Bool.or_eq_true, Bool.or_eq_true, Bool.or_eq_true]
    rcases hz with ⟨hb, rfl, rfl, rfl⟩ | ⟨hb, rfl, rfl, rfl⟩
    · rw [hb, b_0, ov_al_b M (by omega) x hx, decide_eq_true_eq]
      constructor
      · rintro (⟨rfl, z | z⟩ | ⟨rfl, z | z⟩ | ⟨rfl, z | z⟩)
        · exact Or.inl (Or.inl ⟨rfl, z⟩)
        · exact Or.inr ⟨rfl, Or.inl ⟨rfl, rfl, z⟩⟩
        · exact Or.inl (Or.inr (Or.inl ⟨rfl, z⟩))
        · exact absurd z (by decide)
        · exact Or.inl (Or.inr (Or.inr ⟨rfl, z⟩))
        · exact absurd z (by decide)
      · rintro ((⟨rfl, z⟩ | ⟨rfl, z⟩ | ⟨rfl, z⟩) | ⟨_, ⟨_, rfl, z⟩ | ⟨z, _⟩⟩)
        · exact Or.inl ⟨rfl, Or.inl z⟩
        · exact Or.inr (Or.inl ⟨rfl, Or.inl z⟩)
        · exact Or.inr (Or.inr ⟨rfl, Or.inl z⟩)
        · exact Or.inl ⟨rfl, Or.inr z⟩
        · exact absurd z (by decide)
    · rw [hb]
      constructor
      · rintro (⟨rfl, z | z⟩ | ⟨rfl, z | z⟩ | ⟨rfl, z | z⟩)
        · exact Or.inl (Or.inl ⟨rfl, z⟩)
        · exact Or.inr ⟨rfl, Or.inr ⟨rfl, Or.inl ⟨rfl, z⟩⟩⟩
        · exact Or.inl (Or.inr (Or.inl ⟨rfl, z⟩))
        · exact Or.inr ⟨rfl, Or.inr ⟨rfl, Or.inr (Or.inl ⟨rfl, z⟩)⟩⟩
        · exact Or.inl (Or.inr (Or.inr ⟨rfl, z⟩))
        · exact Or.inr ⟨rfl, Or.inr ⟨rfl, Or.inr (Or.inr ⟨rfl, z⟩)⟩⟩
      · rintro ((⟨rfl, z⟩ | ⟨rfl, z⟩ | ⟨rfl, z⟩) | ⟨_, ⟨z, _⟩ | ⟨_, ⟨rfl, z⟩ | ⟨rfl, z⟩ | ⟨rfl, z⟩⟩⟩)
        · exact Or.inl ⟨rfl, Or.inl z⟩
        · exact Or.inr (Or.inl ⟨rfl, Or.inl z⟩)
        · exact Or.inr (Or.inr ⟨rfl, Or.inl z⟩)
        · exact absurd z (by decide)
        · exact Or.inl ⟨rfl, Or.inr z⟩
        · exact Or.inr (Or.inl ⟨rfl, Or.inr z⟩)
        · exact Or.inr (Or.inr ⟨rfl, Or.inr z⟩)
  · rw [pk_un e, pk_un e, pk_un e]
    exact ⟨Or.inl, fun z => z.elim id (fun y => absurd y.1 e)⟩
theorem ox_ff113 (w : ov_wf C M oo aa bb cc) {p : Nat} (hp : p ≤ C) {set c1 v1 e1 f : Int32} (hf : f = 0 ∨ f = 1) {post : Int32 → SX → Prop} (h : ∀ r cl' cv' ex', (r = 0 ∨ r = 1) → (r = 0 → f = 0 ∧ cl' = cl ∧ cv' = cv ∧ ex' = ex) → (∀ q s x, q ≤ C → x < 32 → (ov_B cl' cv' ex' s q x ↔ ov_B cl cv ex s q x ∨ ((ov_ht (oo p) ∧ q < 32 ∧ ov_tx (oo p) (aa p) (bb p) (cc p) = nI q) ∧ ov_Z M set c1 v1 e1 q s x))) → post r (g0, g1, g2, g3, g4, g5, g6, g7, g8, g9, g10, g11, g12, g13, nI C, nI M, nI O, ov_al M, ln, pl, md, pc, du, sp, rs, cm, tt, oo, aa, bb, cc, lv, rg, sv, me, ou, cl', cv', ex')) : wX_flowFrom_113 post (nI p) set (oo p) c1 v1 e1 f g0 g1 g2 g3 g4 g5 g6 g7 g8 g9 g10 g11 g12 g13 (nI C) (nI M) (nI O) (ov_al M) ln pl md pc du sp rs cm tt oo aa bb cc lv rg sv me ou cl cv ex := by
  have hC := w.2.1
  have hM := w.2.2.2.1
  unfold wX_flowFrom_113
  refine ox_ht (fun hh => br_f (by decide) ?_) (fun hh => br_t rfl ⟨?_, ?_⟩)
  · refine ox_tg hC hp ?_
    obtain ⟨t, ht, et, eq⟩ := ov_tg w hp hh
    rw [et]
    refine ox_en (by omega) hM (fun r cl' cv' ex' hr h0 hB => ?_)
    have B2 : ∀ q s x, q ≤ C → x < 32 → (ov_B cl' cv' ex' s q x ↔ ov_B cl cv ex s q x ∨ ((ov_ht (oo p) ∧ q < 32 ∧ ov_tx (oo p) (aa p) (bb p) (cc p) = nI q) ∧ ov_Z M set c1 v1 e1 q s x)) := by
      intro q s x hq hx
      rw [hB q s x hx, eq q (by omega)]
      exact ⟨fun z => z.imp id (fun y => ⟨⟨hh, by omega, y.1⟩, y.2⟩), fun z => z.imp id (fun y => ⟨y.1.2.2, y.2⟩)⟩
    rcases hf with rfl | rfl
    · rcases hr with rfl | rfl
      · exact br_t rfl (br_t rfl (h 0 cl' cv' ex' (Or.inl rfl) (fun _ => ⟨rfl, h0 rfl⟩) B2))
      · exact br_t rfl (br_f (by decide) (h 1 cl' cv' ex' (Or.inr rfl) (fun z => absurd z (by decide)) B2))
    · exact br_f (by decide) (h 1 cl' cv' ex' (Or.inr rfl) (fun z => absurd z (by decide)) B2)
  · rcases hf with rfl | rfl
    · exact narrow_b0
    · exact narrow_b1
  · exact h f cl cv ex hf (fun e => ⟨e, rfl, rfl, rfl⟩) (fun q s x _ _ => ⟨Or.inl, fun z => z.elim id (fun y => absurd y.1.1 hh)⟩)
theorem ox_ff32 (w : ov_wf C M oo aa bb cc) {p : Nat} (hp : p ≤ C) {set mr ms : Int32} (hmr : ∀ x, x < 32 → (bt mr x = true ↔ ov_rm oo aa bb cc p x)) (hms : ∀ x, x < 32 → (bt ms x = true ↔ ov_su oo aa bb cc p x)) {post : Int32 → SX → Prop} (h : ∀ r cl' cv' ex', (r = 0 ∨ r = 1) → (r = 0 → cl' = cl ∧ cv' = cv ∧ ex' = ex) → ov_FS C M oo aa bb cc set p cl cv ex cl' cv' ex' → post r (g0, g1, g2, g3, g4, g5, g6, g7, g8, g9, g10, g11, g12, g13, nI C, nI M, nI O, ov_al M, ln, pl, md, pc, du, sp, rs, cm, tt, oo, aa, bb, cc, lv, rg, sv, me, ou, cl', cv', ex')) : wX_flowFrom_32 post (nI p) set (oo p) mr ms g0 g1 g2 g3 g4 g5 g6 g7 g8 g9 g10 g11 g12 g13 (nI C) (nI M) (nI O) (ov_al M) ln pl md pc du sp rs cm tt oo aa bb cc lv rg sv me ou cl cv ex := by
  have hC := w.2.1
  have hM := w.2.2.2.1
  have hin : vp_in (nI p) 25 := vp_in_nI (by omega) (by omega)
  have hcl : (nI p).toNatClampNeg = p := nI_clamp (by omega)
  have ZZ : ∀ q s x, x < 32 → (ov_Z M set (cl p &&& ((mr ||| ms) ^^^ (-1))) (cv p ||| (cl p &&& ms)) (ex p ||| (cl p &&& mr)) q s x ↔ ((bt set q = true ∧ s = 0 ∧ x < M) ∨ (bt set q = false ∧ ∃ z, ov_B cl cv ex z p x ∧ ov_mv oo aa bb cc x p z s))) := by
    intro q s x hx
    unfold ov_Z
    rw [ov_bs_mv hx (hmr x hx) (hms x hx)]
    rfl
  refine ⟨hin, nm_r (e' := cl p &&& ((mr ||| ms) ^^^ (-1))) (by rw [hcl]) ⟨hin, hin, nm_r (e' := cv p ||| (cl p &&& ms)) (by rw [hcl]) ⟨hin, hin, nm_r (e' := ex p ||| (cl p &&& mr)) (by rw [hcl]) ?_⟩⟩⟩
  refine ox_ft (fun hf => br_f (by decide) ?_) (fun hf => br_t rfl ?_)
  · have hp1 := ov_sc_ft w hp hf
    rw [nI_1]
    refine ox_en (by omega) hM (fun r cl1 cv1 ex1 hr h0 hB => ?_)
    refine ox_ff113 w hp hr (fun r2 cl2 cv2 ex2 hr2 h02 hB2 => h r2 cl2 cv2 ex2 hr2 (fun e => ?_) (fun q s x hq hx => ?_))
    · obtain ⟨e0, e1, e2, e3⟩ := h02 e
      obtain ⟨a1, a2, a3⟩ := h0 e0
      exact ⟨e1.trans a1, e2.trans a2, e3.trans a3⟩
    · rw [hB2 q s x hq hx, hB q s x hx, ← ZZ q s x hx]
      constructor
      · rintro ((z | ⟨rfl, z⟩) | ⟨z1, z2⟩)
        · exact Or.inl z
        · exact Or.inr ⟨Or.inl ⟨hf, rfl⟩, z⟩
        · exact Or.inr ⟨Or.inr z1, z2⟩
      · rintro (z | ⟨⟨_, rfl⟩ | z1, z2⟩)
        · exact Or.inl (Or.inl z)
        · exact Or.inl (Or.inr ⟨rfl, z2⟩)
        · exact Or.inr ⟨z1, z2⟩
  · refine ox_ff113 w hp (Or.inl rfl) (fun r2 cl2 cv2 ex2 hr2 h02 hB2 => h r2 cl2 cv2 ex2 hr2 (fun e => (h02 e).2) (fun q s x hq hx => ?_))
    rw [hB2 q s x hq hx, ← ZZ q s x hx]
    constructor
    · rintro (z | ⟨z1, z2⟩)
      · exact Or.inl z
      · exact Or.inr ⟨Or.inr z1, z2⟩
    · rintro (z | ⟨⟨y, _⟩ | z1, z2⟩)
      · exact Or.inl z
      · exact absurd y hf
      · exact Or.inr ⟨z1, z2⟩
theorem ox_ff (w : ov_wf C M oo aa bb cc) {p : Nat} (hp : p ≤ C) {set : Int32} {post : Int32 → SX → Prop} (h : ∀ r cl' cv' ex', (r = 0 ∨ r = 1) → (r = 0 → cl' = cl ∧ cv' = cv ∧ ex' = ex) → ov_FS C M oo aa bb cc set p cl cv ex cl' cv' ex' → post r (g0, g1, g2, g3, g4, g5, g6, g7, g8, g9, g10, g11, g12, g13, nI C, nI M, nI O, ov_al M, ln, pl, md, pc, du, sp, rs, cm, tt, oo, aa, bb, cc, lv, rg, sv, me, ou, cl', cv', ex')) : wpX_flowFrom post (g0, g1, g2, g3, g4, g5, g6, g7, g8, g9, g10, g11, g12, g13, nI C, nI M, nI O, ov_al M, ln, pl, md, pc, du, sp, rs, cm, tt, oo, aa, bb, cc, lv, rg, sv, me, ou, cl, cv, ex) (nI p) set := by
  have hC := w.2.1
  have hM := w.2.2.2.1
  have ok := w.2.2.2.2.2 p hp
  have hin : vp_in (nI p) 25 := vp_in_nI (by omega) (by omega)
  have hcl : (nI p).toNatClampNeg = p := nI_clamp (by omega)
  refine ⟨hin, nm_r (e' := oo p) (by rw [hcl]) ?_⟩
  refine ox_mr w hp (fun m hm => br_c (fun e => ⟨hin, ?_⟩) (fun e => ?_))
  · rw [hcl]
    refine ox_ff32 w hp hm (fun x hx => ?_) h
    obtain ⟨j, hj, ej⟩ := ov_w68 ok (Or.inr e)
    rw [ej, ov_b1 j (by omega) x hx, decide_eq_true_eq]
    unfold ov_su
    rw [ej, ov_nIe (by omega) hx]
    exact ⟨fun z => ⟨e, z⟩, fun z => z.2⟩
  · refine ox_ff32 w hp hm (fun x hx => ?_) h
    rw [b_0]
    exact ⟨fun z => absurd z (by decide), fun z => absurd z.1 e⟩
end
end
section
/-! ===== X: flowRound, firstExposedWrite, leastHazard ===== -/
section
variable {g0 g1 g2 g3 g4 g5 g6 g7 g8 g9 g10 g11 g12 g13 al ln pl md pc du sp rs cm tt : Int32} {oo aa bb cc lv rg sv me ou cl cv ex : Nat → Int32}
variable {C M O : Nat}
theorem ox_fr4 (w : ov_wf C M oo aa bb cc) {set : Int32} (k : Nat) {post : Int32 → SX → Prop} (h : ∀ f cl' cv' ex', (f = 0 ∨ f = 1) → ov_I0 C M oo aa bb cc set cl' cv' ex' → ov_lev M oo aa bb cc set (k + 1) cl' cv' ex' → (f = 0 → ov_all M oo aa bb cc set cl' cv' ex') → post f (g0, g1, g2, g3, g4, g5, g6, g7, g8, g9, g10, g11, g12, g13, nI C, nI M, nI O, ov_al M, ln, pl, md, pc, du, sp, rs, cm, tt, oo, aa, bb, cc, lv, rg, sv, me, ou, cl', cv', ex')) :
    ∀ d i f (cl cv ex : Nat → Int32), i + d = C + 1 → (f = 0 ∨ f = 1) → ov_I0 C M oo aa bb cc set cl cv ex → ov_lev M oo aa bb cc set k cl cv ex → ov_lv2 M oo aa bb cc set k i cl cv ex → (f = 0 → ov_clo M oo aa bb cc set i cl cv ex) → wX_flowRound_4 post set (d + 1) f (nI i) g0 g1 g2 g3 g4 g5 g6 g7 g8 g9 g10 g11 g12 g13 (nI C) (nI M) (nI O) (ov_al M) ln pl md pc du sp rs cm tt oo aa bb cc lv rg sv me ou cl cv ex := by
  have hC := w.2.1
  intro d
  induction d with
  | zero =>
    intro i f cl cv ex hd hf I L L2 Cl
    have : i = C + 1 := by omega
    subst this
    refine br_t (nI_lt (by omega) (by omega)) ⟨?_, h f cl cv ex hf I (ov_lev_s w L L2) (fun e => ov_clo_all w L (Cl e))⟩
    rcases hf with rfl | rfl
    · exact narrow_b0
    · exact narrow_b1
  | succ d ih =>
    intro i f cl cv ex hd hf I L L2 Cl
    have hi : i ≤ C := by omega
    have hin : vp_in (nI i) 25 := vp_in_nI (by omega) (by omega)
    have hcl : (nI i).toNatClampNeg = i := nI_clamp (by omega)
    refine br_f (nI_nlt (by omega) (by omega)) ⟨hin, hin, hin, ?_⟩
    rw [hcl]
    refine br_c (fun e => br_t rfl (nm_r (nI_1 i) ?_)) (fun e => br_f (by decide) ?_)
    · have no : ∀ s x, x < 32 → ¬ ov_B cl cv ex s i x := by
        intro s x hx hb
        have e2 : bt (cl i ||| cv i ||| ex i) x = false := by rw [e]; exact b_0 x
        rw [b_or, b_or, Bool.or_eq_false_iff, Bool.or_eq_false_iff] at e2
        rcases hb with ⟨_, z⟩ | ⟨_, z⟩ | ⟨_, z⟩
        · exact absurd (z.symm.trans e2.1.1) (by decide)
        · exact absurd (z.symm.trans e2.1.2) (by decide)
        · exact absurd (z.symm.trans e2.2) (by decide)
      exact ih (i + 1) f cl cv ex (by omega) hf I L (ov_sk_lv2 w no L L2) (fun z => ov_sk_clo w no (Cl z))
    · have yes : ∃ s x, x < 32 ∧ ov_B cl cv ex s i x := by
        obtain ⟨x, hx, z⟩ := ov_nz e
        rw [b_or, b_or, Bool.or_eq_true, Bool.or_eq_true] at z
        rcases z with (z | z) | z
        · exact ⟨0, x, hx, Or.inl ⟨rfl, z⟩⟩
        · exact ⟨1, x, hx, Or.inr (Or.inl ⟨rfl, z⟩)⟩
        · exact ⟨2, x, hx, Or.inr (Or.inr ⟨rfl, z⟩)⟩
      refine ox_ff w hi (fun r cl' cv' ex' hr h0 F => ?_)
      have I' := ov_fs_I0 w hi F I yes
      have L' := ov_fs_lev w F L
      have L2' := ov_fs_lv2 w hi F L L2
      rcases hr with rfl | rfl
      · refine br_t rfl (nm_r (nI_1 i) (ih (i + 1) f cl' cv' ex' (by omega) hf I' L' L2' (fun z => ?_)))
        obtain ⟨e1, e2, e3⟩ := h0 rfl
        subst e1 e2 e3
        exact ov_fs_clo w hi F (Cl z)
      · exact br_f (by decide) (nm_r (nI_1 i) (ih (i + 1) 1 cl' cv' ex' (by omega) (Or.inr rfl) I' L' L2' (fun z => absurd z (by decide))))
theorem ox_fr (w : ov_wf C M oo aa bb cc) {set : Int32} (k : Nat) {post : Int32 → SX → Prop} (I : ov_I0 C M oo aa bb cc set cl cv ex) (L : ov_lev M oo aa bb cc set k cl cv ex) (h : ∀ f cl' cv' ex', (f = 0 ∨ f = 1) → ov_I0 C M oo aa bb cc set cl' cv' ex' → ov_lev M oo aa bb cc set (k + 1) cl' cv' ex' → (f = 0 → ov_all M oo aa bb cc set cl' cv' ex') → post f (g0, g1, g2, g3, g4, g5, g6, g7, g8, g9, g10, g11, g12, g13, nI C, nI M, nI O, ov_al M, ln, pl, md, pc, du, sp, rs, cm, tt, oo, aa, bb, cc, lv, rg, sv, me, ou, cl', cv', ex')) : wpX_flowRound post (g0, g1, g2, g3, g4, g5, g6, g7, g8, g9, g10, g11, g12, g13, nI C, nI M, nI O, ov_al M, ln, pl, md, pc, du, sp, rs, cm, tt, oo, aa, bb, cc, lv, rg, sv, me, ou, cl, cv, ex) set :=
  ⟨C + 1 + 1, ox_fr4 w k h (C + 1) 0 0 cl cv ex (by omega) (Or.inl rfl) I L (fun x p s q s' _ z => absurd z (Nat.not_lt_zero p)) (fun _ x p s q s' _ z => absurd z (Nat.not_lt_zero p))⟩
theorem ox_few2 (w : ov_wf C M oo aa bb cc) {set : Int32} (I : ov_I0 C M oo aa bb cc set cl cv ex) (A : ov_all M oo aa bb cc set cl cv ex) {post : Int32 → Prop} (h : ∀ r, ov_LH C (ov_HX M oo aa bb cc set) r → post r) :
    ∀ d i, i + d = C + 1 → (∀ u, u < i → ¬ ov_HX M oo aa bb cc set u) → wX_firstExposedWrite_2 post g0 g1 g2 g3 g4 g5 g6 g7 g8 g9 g10 g11 g12 g13 (nI C) (nI M) (nI O) (ov_al M) ln pl md pc du sp rs cm tt oo aa bb cc lv rg sv me ou cl cv ex (d + 1) (nI i) := by
  have hC := w.2.1
  intro d
  induction d with
  | zero =>
    intro i hd S
    exact br_t (nI_lt (by omega) (by omega)) (h _ (Or.inr ⟨rfl, fun u hu => S u (by omega)⟩))
  | succ d ih =>
    intro i hd S
    have hi : i ≤ C := by omega
    have hin : vp_in (nI i) 25 := vp_in_nI (by omega) (by omega)
    have hcl : (nI i).toNatClampNeg = i := nI_clamp (by omega)
    refine br_f (nI_nlt (by omega) (by omega)) ?_
    refine ox_mw w hi (fun m hm => ⟨hin, ?_⟩)
    rw [hcl]
    have K := ov_haz_fin w I A hi hm
    refine br_c (fun e => nm_r (nI_1 i) (ih (i + 1) (by omega) (lt_s S (K.mp e)))) (fun e => h _ (Or.inl ⟨i, hi, rfl, ?_, S⟩))
    apply Classical.byContradiction
    intro z
    exact e (K.mpr z)
theorem ox_lh73 (w : ov_wf C M oo aa bb cc) {set : Int32} (I : ov_I0 C M oo aa bb cc set cl cv ex) (A : ov_all M oo aa bb cc set cl cv ex) {post : Int32 → SX → Prop} (h : ∀ r cl' cv' ex', ov_LH C (ov_HX M oo aa bb cc set) r → post r (g0, g1, g2, g3, g4, g5, g6, g7, g8, g9, g10, g11, g12, g13, nI C, nI M, nI O, ov_al M, ln, pl, md, pc, du, sp, rs, cm, tt, oo, aa, bb, cc, lv, rg, sv, me, ou, cl', cv', ex')) : wX_leastHazard_73 post g0 g1 g2 g3 g4 g5 g6 g7 g8 g9 g10 g11 g12 g13 (nI C) (nI M) (nI O) (ov_al M) ln pl md pc du sp rs cm tt oo aa bb cc lv rg sv me ou cl cv ex :=
  ⟨C + 1 + 1, ox_few2 w I A (fun r hr => h r cl cv ex hr) (C + 1) 0 (by omega) (fun u z => absurd z (Nat.not_lt_zero u))⟩
theorem ox_lh51 (w : ov_wf C M oo aa bb cc) {set : Int32} {post : Int32 → SX → Prop} (h : ∀ r cl' cv' ex', ov_LH C (ov_HX M oo aa bb cc set) r → post r (g0, g1, g2, g3, g4, g5, g6, g7, g8, g9, g10, g11, g12, g13, nI C, nI M, nI O, ov_al M, ln, pl, md, pc, du, sp, rs, cm, tt, oo, aa, bb, cc, lv, rg, sv, me, ou, cl', cv', ex')) :
    ∀ d k f (cl cv ex : Nat → Int32), k + d = 100 → (f = 0 ∨ f = 1) → ov_I0 C M oo aa bb cc set cl cv ex → ov_lev M oo aa bb cc set k cl cv ex → (f = 0 → ov_all M oo aa bb cc set cl cv ex) → wX_leastHazard_51 post set (d + 1) f (nI k) g0 g1 g2 g3 g4 g5 g6 g7 g8 g9 g10 g11 g12 g13 (nI C) (nI M) (nI O) (ov_al M) ln pl md pc du sp rs cm tt oo aa bb cc lv rg sv me ou cl cv ex := by
  intro d
  induction d with
  | zero =>
    intro k f cl cv ex hd hf I L A
    have : k = 100 := by omega
    subst this
    exact br_c (fun e => ox_lh73 w I (A e) h) (fun e => br_t (by decide) (ox_lh73 w I (ov_lev_all w L) h))
  | succ d ih =>
    intro k f cl cv ex hd hf I L A
    refine br_c (fun e => ox_lh73 w I (A e) h) (fun e => br_f (nI_ge (b := 100) (by omega) (by decide)) ?_)
    refine ox_fr w k I L (fun f' cl' cv' ex' hf' I' L' A' => ?_)
    exact nm_r (nI_1 k) (ih (k + 1) f' cl' cv' ex' (by omega) hf' I' L' A')
theorem ox_lh2 (w : ov_wf C M oo aa bb cc) {set : Int32} {post : Int32 → SX → Prop} (h : ∀ r cl' cv' ex', ov_LH C (ov_HX M oo aa bb cc set) r → post r (g0, g1, g2, g3, g4, g5, g6, g7, g8, g9, g10, g11, g12, g13, nI C, nI M, nI O, ov_al M, ln, pl, md, pc, du, sp, rs, cm, tt, oo, aa, bb, cc, lv, rg, sv, me, ou, cl', cv', ex')) :
    ∀ d i (cl cv ex : Nat → Int32), i + d = C + 1 → (∀ p, p < i → cl p = 0 ∧ cv p = 0 ∧ ex p = 0) → wX_leastHazard_2 post set g0 g1 g2 g3 g4 g5 g6 g7 g8 g9 g10 g11 g12 g13 (nI C) (nI M) (nI O) (ov_al M) ln pl md pc du sp rs cm tt (d + 1) (nI i) oo aa bb cc lv rg sv me ou cl cv ex := by
  have hC := w.2.1
  have hM := w.2.2.2.1
  intro d
  induction d with
  | zero =>
    intro i cl cv ex hd S
    have Bc : ∀ s p x, p ≤ C → x < 32 → (ov_B (upd cl 0 (ov_al M)) cv ex s p x ↔ (s = 0 ∧ p = 0 ∧ x < M)) := by
      intro s p x hp hx
      obtain ⟨e1, e2, e3⟩ := S p (by omega)
      unfold ov_B ov_bs
      rw [e2, e3, b_0]
      by_cases e : p = 0
      · subst e
        rw [pk_us, ov_al_b M (by omega) x hx, decide_eq_true_eq]
        constructor
        · rintro (⟨z1, z2⟩ | ⟨_, z⟩ | ⟨_, z⟩)
          · exact ⟨z1, rfl, z2⟩
          · exact absurd z (by decide)
          · exact absurd z (by decide)
        · rintro ⟨z1, _, z2⟩
          exact Or.inl ⟨z1, z2⟩
      · rw [pk_un e, e1, b_0]
        constructor
        · rintro (⟨_, z⟩ | ⟨_, z⟩ | ⟨_, z⟩)
          · exact absurd z (by decide)
          · exact absurd z (by decide)
          · exact absurd z (by decide)
        · rintro ⟨_, z, _⟩
          exact absurd z e
    refine br_t (nI_lt (by omega) (by omega)) (nm_e ⟨100 + 1, ?_⟩)
    refine ox_lh51 w h 100 0 1 (upd cl 0 (ov_al M)) cv ex (by omega) (Or.inr rfl) ⟨?_, ?_⟩ ?_ (fun e => absurd e (by decide))
    · intro p s x hp hx hb
      obtain ⟨rfl, rfl, z⟩ := (Bc s p x hp hx).mp hb
      exact ⟨z, ov_FR_0⟩
    · rintro p x y hp hx hy ⟨s, hb⟩
      obtain ⟨rfl, rfl, z⟩ := (Bc s p x hp hx).mp hb
      exact ⟨0, (Bc 0 0 y hp (by omega)).mpr ⟨rfl, rfl, hy⟩⟩
    · rintro x p s hx ⟨rfl, rfl⟩
      exact (Bc 0 0 x (by omega) (by omega)).mpr ⟨rfl, rfl, hx⟩
  | succ d ih =>
    intro i cl cv ex hd S
    have hin : vp_in (nI i) 25 := vp_in_nI (by omega) (by omega)
    have hcl : (nI i).toNatClampNeg = i := nI_clamp (by omega)
    refine br_f (nI_nlt (by omega) (by omega)) ⟨hin, nm_r (e' := upd cl i 0) (by rw [hcl]) ⟨hin, nm_r (e' := upd cv i 0) (by rw [hcl]) ⟨hin, nm_r (e' := upd ex i 0) (by rw [hcl]) (nm_r (nI_1 i) (ih (i + 1) _ _ _ (by omega) ?_))⟩⟩⟩
    refine lt_s (fun p hp => ?_) ⟨pk_us, pk_us, pk_us⟩
    rw [pk_un (by omega), pk_un (by omega), pk_un (by omega)]
    exact S p hp
theorem ox_lh (w : ov_wf C M oo aa bb cc) {set : Int32} {post : Int32 → SX → Prop} (h : ∀ r cl' cv' ex', ov_LH C (ov_HX M oo aa bb cc set) r → post r (g0, g1, g2, g3, g4, g5, g6, g7, g8, g9, g10, g11, g12, g13, nI C, nI M, nI O, ov_al M, ln, pl, md, pc, du, sp, rs, cm, tt, oo, aa, bb, cc, lv, rg, sv, me, ou, cl', cv', ex')) : wpX_leastHazard post (g0, g1, g2, g3, g4, g5, g6, g7, g8, g9, g10, g11, g12, g13, nI C, nI M, nI O, ov_al M, ln, pl, md, pc, du, sp, rs, cm, tt, oo, aa, bb, cc, lv, rg, sv, me, ou, cl, cv, ex) set := ⟨C + 1 + 1, ox_lh2 w h (C + 1) 0 cl cv ex (by omega) (fun p z => absurd z (Nat.not_lt_zero p))⟩
end
theorem ov_LH_u {C : Nat} (hC : C ≤ 24) {H H' : Nat → Prop} (e : ∀ v, H v ↔ H' v) {r r' : Int32} (h : ov_LH C H r) (h' : ov_LH C H' r') : r' = r := by
  rcases h with ⟨v, hv, rfl, h1, h2⟩ | ⟨rfl, h2⟩
  · rcases h' with ⟨v', hv', rfl, h1', h2'⟩ | ⟨rfl, h2'⟩
    · have a : ¬ v < v' := fun z => h2' v z ((e v).mp h1)
      have b : ¬ v' < v := fun z => h2 v' z ((e v').mpr h1')
      have : v' = v := by omega
      rw [this]
    · exact absurd ((e v).mp h1) (h2' v hv)
  · rcases h' with ⟨v', hv', rfl, h1', h2'⟩ | ⟨rfl, h2'⟩
    · exact absurd ((e v').mpr h1') (h2 v' hv')
    · rfl
end
section
/-! ===== the relation ===== -/
def ov_F (C M O L pn sn qn tn : Nat) (pl : Int32) (oo aa bb cc : Nat → Int32) (lv : Nat → Int32) : Prop :=
  ov_wf C M oo aa bb cc ∧ (4 ≤ O ∧ O ≤ 32) ∧ L ≤ C ∧ (∀ p, L ≤ p → oo p = 0 ∧ aa p = 0) ∧ ov_lvok C oo aa bb cc lv ∧ ov_set C pl ∧ pn ≤ C ∧ sn ≤ C ∧ qn ≤ O ∧ tn ≤ O
def i_Rel (k : Nat) (u : SX) (v : SY) : Prop := ∀ P : SX → SY → Prop, (∀ (g0 g1 g2 g3 g4 g5 g6 g7 g8 g9 g10 g11 g12 g13 : Int32) (C M O L pn sn qn tn : Nat) (pl md du rs : Int32) (oo aa bb cc lv rg sv me ou cl cv ex : Nat → Int32), ov_F C M O L pn sn qn tn pl oo aa bb cc lv → P (g0, g1, g2, g3, g4, g5, g6, g7, g8, g9, g10, g11, g12, g13, nI C, nI M, nI O, ov_al M, nI L, pl, md, nI pn, du, nI sn, rs, nI qn, nI tn, oo, aa, bb, cc, lv, rg, sv, me, ou, cl, cv, ex) (nI C, nI M, nI O, nI L, pl, md, nI pn, du, nI sn, rs, nI qn, nI tn, oo, aa, bb, cc, rg, sv, me, ou)) → P u v
theorem i_up {k : Nat} {u : SX} {v : SY} (h : i_Rel k u v) : i_Rel (k + 5) u v := h
section
variable {g0 g1 g2 g3 g4 g5 g6 g7 g8 g9 g10 g11 g12 g13 : Int32} {C M O L pn sn qn tn : Nat} {pl md du rs : Int32} {oo aa bb cc lv rg sv me ou cl cv ex : Nat → Int32}
theorem ov_mk {k : Nat} (F : ov_F C M O L pn sn qn tn pl oo aa bb cc lv) : i_Rel k (g0, g1, g2, g3, g4, g5, g6, g7, g8, g9, g10, g11, g12, g13, nI C, nI M, nI O, ov_al M, nI L, pl, md, nI pn, du, nI sn, rs, nI qn, nI tn, oo, aa, bb, cc, lv, rg, sv, me, ou, cl, cv, ex) (nI C, nI M, nI O, nI L, pl, md, nI pn, du, nI sn, rs, nI qn, nI tn, oo, aa, bb, cc, rg, sv, me, ou) := fun P h => h g0 g1 g2 g3 g4 g5 g6 g7 g8 g9 g10 g11 g12 g13 C M O L pn sn qn tn pl md du rs oo aa bb cc lv rg sv me ou cl cv ex F
end
/-! ranges as the two classes ask for them -/
theorem ov_Kiff {C : Nat} (hC : C ≤ 24) {x : Int32} : ov_K C x ↔ (¬ x < 0 ∧ ¬ nI C < x) := by
  constructor
  · rintro ⟨i, hi, rfl⟩
    exact ⟨nI_pos (by omega), nI_nlt hi (by omega)⟩
  · rintro ⟨h0, h1⟩
    obtain ⟨i, hi, rfl⟩ := nI_of h0
    rw [nI_ltI (by omega) hi] at h1
    exact ⟨i, by omega, rfl⟩
theorem ov_Mmiff {M : Nat} (hM : M ≤ 32) {x : Int32} : ov_Mm M x ↔ (¬ x < 0 ∧ ¬ nI M ≤ x) := by
  constructor
  · rintro ⟨i, hi, rfl⟩
    exact ⟨nI_pos (by omega), nI_ge hi (by omega)⟩
  · rintro ⟨h0, h1⟩
    obtain ⟨i, hi, rfl⟩ := nI_of h0
    rw [nI_leI (by omega) hi] at h1
    exact ⟨i, by omega, rfl⟩
theorem ov_Riff {x : Int32} : ov_R x ↔ (¬ x < 0 ∧ ¬ 8 ≤ x) := ov_Mmiff (M := 8) (by decide)
theorem ov_R7 {x : Int32} : ov_R x ↔ (¬ x < 0 ∧ ¬ 7 < x) := by
  have e : ov_R x ↔ ov_K 7 x := ⟨fun ⟨i, hi, e⟩ => ⟨i, by omega, e⟩, fun ⟨i, hi, e⟩ => ⟨i, by omega, e⟩⟩
  rw [e]
  exact ov_Kiff (C := 7) (by decide)
theorem ov_Mm1 {M : Nat} (h8 : 8 ≤ M) (hM : M ≤ 16) {x : Int32} : ov_Mm M x ↔ (¬ x < 0 ∧ ¬ (nI M - 1) < x) := by
  have e : ov_Mm M x ↔ ov_K (M - 1) x := ⟨fun ⟨i, hi, e⟩ => ⟨i, by omega, e⟩, fun ⟨i, hi, e⟩ => ⟨i, by omega, e⟩⟩
  have e2 : nI M - 1 = nI (M - 1) := pk_sub (b := 1) (by omega)
  rw [e, e2]
  exact ov_Kiff (by omega)
theorem ov_Wn4 {M : Nat} (h8 : 8 ≤ M) (hM : M ≤ 16) {x : Int32} : ov_Wn M x ↔ (¬ x < 0 ∧ ¬ (nI M - 4) < x) := by
  have e : ov_Wn M x ↔ ov_K (M - 4) x := ⟨fun ⟨i, hi, e⟩ => ⟨i, by omega, e⟩, fun ⟨i, hi, e⟩ => ⟨i, by omega, e⟩⟩
  have e2 : nI M - 4 = nI (M - 4) := pk_sub (b := 4) (by omega)
  rw [e, e2]
  exact ov_Kiff (by omega)
section
variable {g0 g1 g2 g3 g4 g5 g6 g7 g8 g9 g10 g11 g12 g13 al ln pl md pc du sp rs cm tt : Int32} {oo aa bb cc lv rg sv me ou cl cv ex : Nat → Int32}
variable {C M O : Nat}
theorem ox_isCode (hC : C ≤ 24) {post : Int32 → Prop} {x : Int32} (h1 : ov_K C x → post 1) (h0 : ¬ ov_K C x → post 0) : wpX_isCode post (g0, g1, g2, g3, g4, g5, g6, g7, g8, g9, g10, g11, g12, g13, nI C, nI M, nI O, ov_al M, ln, pl, md, pc, du, sp, rs, cm, tt, oo, aa, bb, cc, lv, rg, sv, me, ou, cl, cv, ex) x :=
  br_c (fun e => h0 (fun z => ((ov_Kiff hC).mp z).1 e)) (fun e => br_c (fun e2 => h0 (fun z => ((ov_Kiff hC).mp z).2 e2)) (fun e2 => h1 ((ov_Kiff hC).mpr ⟨e, e2⟩)))
theorem ox_isReg {post : Int32 → Prop} {x : Int32} (h1 : ov_R x → post 1) (h0 : ¬ ov_R x → post 0) : wpX_isReg post (g0, g1, g2, g3, g4, g5, g6, g7, g8, g9, g10, g11, g12, g13, nI C, nI M, nI O, ov_al M, ln, pl, md, pc, du, sp, rs, cm, tt, oo, aa, bb, cc, lv, rg, sv, me, ou, cl, cv, ex) x :=
  br_c (fun e => h0 (fun z => (ov_Riff.mp z).1 e)) (fun e => br_c (fun e2 => h0 (fun z => (ov_Riff.mp z).2 e2)) (fun e2 => h1 (ov_Riff.mpr ⟨e, e2⟩)))
theorem ox_isMem (hM : M ≤ 16) {post : Int32 → Prop} {x : Int32} (h1 : ov_Mm M x → post 1) (h0 : ¬ ov_Mm M x → post 0) : wpX_isMem post (g0, g1, g2, g3, g4, g5, g6, g7, g8, g9, g10, g11, g12, g13, nI C, nI M, nI O, ov_al M, ln, pl, md, pc, du, sp, rs, cm, tt, oo, aa, bb, cc, lv, rg, sv, me, ou, cl, cv, ex) x :=
  br_c (fun e => h0 (fun z => ((ov_Mmiff (by omega)).mp z).1 e)) (fun e => br_c (fun e2 => h0 (fun z => ((ov_Mmiff (by omega)).mp z).2 e2)) (fun e2 => h1 ((ov_Mmiff (by omega)).mpr ⟨e, e2⟩)))
theorem ox_isSet (hC : C ≤ 24) {post : Int32 → Prop} {x : Int32} (h1 : ov_set C x → post 1) (h0 : ¬ ov_set C x → post 0) : wpX_isCodeSet post (g0, g1, g2, g3, g4, g5, g6, g7, g8, g9, g10, g11, g12, g13, nI C, nI M, nI O, ov_al M, ln, pl, md, pc, du, sp, rs, cm, tt, oo, aa, bb, cc, lv, rg, sv, me, ou, cl, cv, ex) x := by
  have e : (nI C + 1) = nI (C + 1) := nI_1 C
  refine br_c (fun z => h1 ?_) (fun z => h0 (fun y => z ?_))
  · rw [e] at z
    exact (ov_uset x (by omega)).mp z
  · rw [e]
    exact (ov_uset x (by omega)).mpr y
end
end
section
/-! ===== the methods that only read; poke, place, verify ===== -/
theorem ov_9 {x : Int32} (h0 : ¬ x < 0) (h1 : ¬ 8 < x) : x = 0 ∨ x = 1 ∨ x = 2 ∨ x = 3 ∨ x = 4 ∨ x = 5 ∨ x = 6 ∨ x = 7 ∨ x = 8 := by
  obtain ⟨j, hj, rfl⟩ := ov_i1 (n := 8) (by decide) h1 h0
  exact (by decide +kernel : ∀ j, j < 9 → (nI j = 0 ∨ nI j = 1 ∨ nI j = 2 ∨ nI j = 3 ∨ nI j = 4 ∨ nI j = 5 ∨ nI j = 6 ∨ nI j = 7 ∨ nI j = 8)) j (by omega)
theorem ov_4 {x : Int32} (h0 : ¬ x < 0) (h1 : ¬ 3 < x) : x = 0 ∨ x = 1 ∨ x = 2 ∨ x = 3 := by
  obtain ⟨j, hj, rfl⟩ := ov_i1 (n := 3) (by decide) h1 h0
  exact (by decide +kernel : ∀ j, j < 4 → (nI j = 0 ∨ nI j = 1 ∨ nI j = 2 ∨ nI j = 3)) j (by omega)
theorem i_vc_live {k : Nat} {u : SX} {v : SY} (I : i_Rel k u v) (hk : k + 5 ≤ 2563) (v1 : Int32) : wpX_live (fun r => wpY_live (fun r' => r' = r ∧ i_Rel (k + 5) u v) v v1) u v1 := by
  refine I (fun u v => wpX_live (fun r => wpY_live (fun r' => r' = r ∧ i_Rel (k + 5) u v) v v1) u v1) ?_
  intro g0 g1 g2 g3 g4 g5 g6 g7 g8 g9 g10 g11 g12 g13 C M O L pn sn qn tn pl md du rs oo aa bb cc lv rg sv me ou cl cv ex F
  have w := F.1
  have hC := w.2.1
  have R : i_Rel (k + 5) (g0, g1, g2, g3, g4, g5, g6, g7, g8, g9, g10, g11, g12, g13, nI C, nI M, nI O, ov_al M, nI L, pl, md, nI pn, du, nI sn, rs, nI qn, nI tn, oo, aa, bb, cc, lv, rg, sv, me, ou, cl, cv, ex) (nI C, nI M, nI O, nI L, pl, md, nI pn, du, nI sn, rs, nI qn, nI tn, oo, aa, bb, cc, rg, sv, me, ou) := ov_mk F
  unfold wpX_live
  refine ox_isCode hC (fun e => br_f (by decide) ?_) (fun e => br_t rfl ?_)
  · obtain ⟨p, hp, rfl⟩ := e
    refine ⟨vp_in_nI (by omega) (by omega), ?_⟩
    have hcl : (nI p).toNatClampNeg = p := nI_clamp (by omega)
    refine oy_live w hp (fun m hm => ⟨b_ext (fun i hi => ?_), R⟩)
    rw [hcl, Bool.eq_iff_iff, hm i hi, F.2.2.2.2.1 p hp i hi]
  · exact br_c (fun _ => ⟨rfl, R⟩) (fun e1 => br_c (fun e2 => absurd ((ov_Kiff hC).mpr ⟨e1, Int32.not_lt.mpr e2⟩) e) (fun _ => ⟨rfl, R⟩))
theorem i_vc_code {k : Nat} {u : SX} {v : SY} (I : i_Rel k u v) (hk : k + 5 ≤ 2563) (v1 : Int32) (v2 : Int32) : wpX_code (fun r => wpY_code (fun r' => r' = r ∧ i_Rel (k + 5) u v) v v1 v2) u v1 v2 := by
  refine I (fun u v => wpX_code (fun r => wpY_code (fun r' => r' = r ∧ i_Rel (k + 5) u v) v v1 v2) u v1 v2) ?_
  intro g0 g1 g2 g3 g4 g5 g6 g7 g8 g9 g10 g11 g12 g13 C M O L pn sn qn tn pl md du rs oo aa bb cc lv rg sv me ou cl cv ex F
  have w := F.1
  have hC := w.2.1
  have R : i_Rel (k + 5) (g0, g1, g2, g3, g4, g5, g6, g7, g8, g9, g10, g11, g12, g13, nI C, nI M, nI O, ov_al M, nI L, pl, md, nI pn, du, nI sn, rs, nI qn, nI tn, oo, aa, bb, cc, lv, rg, sv, me, ou, cl, cv, ex) (nI C, nI M, nI O, nI L, pl, md, nI pn, du, nI sn, rs, nI qn, nI tn, oo, aa, bb, cc, rg, sv, me, ou) := ov_mk F
  unfold wpX_code
  refine ox_isCode hC (fun e => br_f (by decide) ?_) (fun e => br_t rfl ?_)
  · obtain ⟨p, hp, rfl⟩ := e
    have hin : vp_in (nI p) 25 := vp_in_nI (by omega) (by omega)
    have h0 : ¬ nI p < 0 := nI_pos (by omega)
    have h1 : nI p ≤ nI C := nI_le hp (by omega)
    by_cases c0 : v2 = 0
    · subst c0
      exact br_f (by decide) (br_f (by decide) (br_t rfl ⟨hin, br_f h0 (br_t h1 (br_t rfl ⟨hin, rfl, R⟩))⟩))
    by_cases c1 : v2 = 1
    · subst c1
      exact br_f (by decide) (br_f (by decide) (br_f (by decide) (br_t rfl ⟨hin, br_f h0 (br_t h1 (br_f (by decide) (br_t rfl ⟨hin, rfl, R⟩)))⟩)))
    by_cases c2 : v2 = 2
    · subst c2
      exact br_f (by decide) (br_f (by decide) (br_f (by decide) (br_f (by decide) (br_t rfl ⟨hin, br_f h0 (br_t h1 (br_f (by decide) (br_f (by decide) (br_t rfl ⟨hin, rfl, R⟩))))⟩))))
    by_cases c3 : v2 = 3
    · subst c3
      exact br_f (by decide) (br_f (by decide) (br_f (by decide) (br_f (by decide) (br_f (by decide) (br_t rfl ⟨hin, br_f h0 (br_t h1 (br_f (by decide) (br_f (by decide) (br_f (by decide) (br_t rfl ⟨hin, rfl, R⟩)))))⟩)))))
    have Y0 : wpY_code (fun r' => r' = 0 ∧ i_Rel (k + 5) (g0, g1, g2, g3, g4, g5, g6, g7, g8, g9, g10, g11, g12, g13, nI C, nI M, nI O, ov_al M, nI L, pl, md, nI pn, du, nI sn, rs, nI qn, nI tn, oo, aa, bb, cc, lv, rg, sv, me, ou, cl, cv, ex) (nI C, nI M, nI O, nI L, pl, md, nI pn, du, nI sn, rs, nI qn, nI tn, oo, aa, bb, cc, rg, sv, me, ou)) (nI C, nI M, nI O, nI L, pl, md, nI pn, du, nI sn, rs, nI qn, nI tn, oo, aa, bb, cc, rg, sv, me, ou) (nI p) v2 := br_f h0 (br_t h1 (br_f c0 (br_f c1 (br_f c2 (br_f c3 ⟨rfl, R⟩)))))
    refine br_c (fun _ => Y0) (fun a => br_c (fun _ => Y0) (fun b => ?_))
    rcases ov_4 a b with z | z | z | z
    · exact absurd z c0
    · exact absurd z c1
    · exact absurd z c2
    · exact absurd z c3
  · exact br_c (fun _ => ⟨rfl, R⟩) (fun e1 => br_c (fun e2 => absurd ((ov_Kiff hC).mpr ⟨e1, Int32.not_lt.mpr e2⟩) e) (fun _ => ⟨rfl, R⟩))
theorem i_vc_info {k : Nat} {u : SX} {v : SY} (I : i_Rel k u v) (hk : k + 5 ≤ 2563) (v1 : Int32) : wpX_info (fun r => wpY_info (fun r' => r' = r ∧ i_Rel (k + 5) u v) v v1) u v1 := by
  refine I (fun u v => wpX_info (fun r => wpY_info (fun r' => r' = r ∧ i_Rel (k + 5) u v) v v1) u v1) ?_
  intro g0 g1 g2 g3 g4 g5 g6 g7 g8 g9 g10 g11 g12 g13 C M O L pn sn qn tn pl md du rs oo aa bb cc lv rg sv me ou cl cv ex F
  have R : i_Rel (k + 5) (g0, g1, g2, g3, g4, g5, g6, g7, g8, g9, g10, g11, g12, g13, nI C, nI M, nI O, ov_al M, nI L, pl, md, nI pn, du, nI sn, rs, nI qn, nI tn, oo, aa, bb, cc, lv, rg, sv, me, ou, cl, cv, ex) (nI C, nI M, nI O, nI L, pl, md, nI pn, du, nI sn, rs, nI qn, nI tn, oo, aa, bb, cc, rg, sv, me, ou) := ov_mk F
  by_cases c0 : v1 = 0
  · subst c0
    exact br_f (by decide) (br_f (by decide) (br_t rfl (br_t rfl ⟨rfl, R⟩)))
  by_cases c1 : v1 = 1
  · subst c1
    exact br_f (by decide) (br_f (by decide) (br_f c0 (br_t rfl (br_f c0 (br_t rfl ⟨rfl, R⟩)))))
  by_cases c2 : v1 = 2
  · subst c2
    exact br_f (by decide) (br_f (by decide) (br_f c0 (br_f c1 (br_t rfl (br_f c0 (br_f c1 (br_t rfl ⟨rfl, R⟩)))))))
  by_cases c3 : v1 = 3
  · subst c3
    exact br_f (by decide) (br_f (by decide) (br_f c0 (br_f c1 (br_f c2 (br_t rfl (br_f c0 (br_f c1 (br_f c2 (br_t rfl ⟨rfl, R⟩)))))))))
  by_cases c4 : v1 = 4
  · subst c4
    exact br_f (by decide) (br_f (by decide) (br_f c0 (br_f c1 (br_f c2 (br_f c3 (br_t rfl (br_f c0 (br_f c1 (br_f c2 (br_f c3 (br_t rfl ⟨rfl, R⟩)))))))))))
  by_cases c5 : v1 = 5
  · subst c5
    exact br_f (by decide) (br_f (by decide) (br_f c0 (br_f c1 (br_f c2 (br_f c3 (br_f c4 (br_t rfl (br_f c0 (br_f c1 (br_f c2 (br_f c3 (br_f c4 (br_t rfl ⟨rfl, R⟩)))))))))))))
  by_cases c6 : v1 = 6
  · subst c6
    exact br_f (by decide) (br_f (by decide) (br_f c0 (br_f c1 (br_f c2 (br_f c3 (br_f c4 (br_f c5 (br_t rfl (br_f c0 (br_f c1 (br_f c2 (br_f c3 (br_f c4 (br_f c5 (br_t rfl ⟨rfl, R⟩)))))))))))))))
  by_cases c7 : v1 = 7
  · subst c7
    exact br_f (by decide) (br_f (by decide) (br_f c0 (br_f c1 (br_f c2 (br_f c3 (br_f c4 (br_f c5 (br_f c6 (br_t rfl (br_f c0 (br_f c1 (br_f c2 (br_f c3 (br_f c4 (br_f c5 (br_f c6 (br_t rfl ⟨rfl, R⟩)))))))))))))))))
  by_cases c8 : v1 = 8
  · subst c8
    exact br_f (by decide) (br_f (by decide) (br_f c0 (br_f c1 (br_f c2 (br_f c3 (br_f c4 (br_f c5 (br_f c6 (br_f c7 (br_t rfl (br_f c0 (br_f c1 (br_f c2 (br_f c3 (br_f c4 (br_f c5 (br_f c6 (br_f c7 (br_t rfl ⟨rfl, R⟩)))))))))))))))))))
  have Y0 : wpY_info (fun r' => r' = 0 ∧ i_Rel (k + 5) (g0, g1, g2, g3, g4, g5, g6, g7, g8, g9, g10, g11, g12, g13, nI C, nI M, nI O, ov_al M, nI L, pl, md, nI pn, du, nI sn, rs, nI qn, nI tn, oo, aa, bb, cc, lv, rg, sv, me, ou, cl, cv, ex) (nI C, nI M, nI O, nI L, pl, md, nI pn, du, nI sn, rs, nI qn, nI tn, oo, aa, bb, cc, rg, sv, me, ou)) (nI C, nI M, nI O, nI L, pl, md, nI pn, du, nI sn, rs, nI qn, nI tn, oo, aa, bb, cc, rg, sv, me, ou) v1 := br_f c0 (br_f c1 (br_f c2 (br_f c3 (br_f c4 (br_f c5 (br_f c6 (br_f c7 (br_f c8 ⟨rfl, R⟩))))))))
  refine br_c (fun _ => Y0) (fun a => br_c (fun _ => Y0) (fun b => ?_))
  rcases ov_9 a b with z | z | z | z | z | z | z | z | z
  · exact absurd z c0
  · exact absurd z c1
  · exact absurd z c2
  · exact absurd z c3
  · exact absurd z c4
  · exact absurd z c5
  · exact absurd z c6
  · exact absurd z c7
  · exact absurd z c8
theorem i_vc_reg {k : Nat} {u : SX} {v : SY} (I : i_Rel k u v) (hk : k + 5 ≤ 2563) (v1 : Int32) : wpX_reg (fun r => wpY_reg (fun r' => r' = r ∧ i_Rel (k + 5) u v) v v1) u v1 := by
  refine I (fun u v => wpX_reg (fun r => wpY_reg (fun r' => r' = r ∧ i_Rel (k + 5) u v) v v1) u v1) ?_
  intro g0 g1 g2 g3 g4 g5 g6 g7 g8 g9 g10 g11 g12 g13 C M O L pn sn qn tn pl md du rs oo aa bb cc lv rg sv me ou cl cv ex F
  have R : i_Rel (k + 5) (g0, g1, g2, g3, g4, g5, g6, g7, g8, g9, g10, g11, g12, g13, nI C, nI M, nI O, ov_al M, nI L, pl, md, nI pn, du, nI sn, rs, nI qn, nI tn, oo, aa, bb, cc, lv, rg, sv, me, ou, cl, cv, ex) (nI C, nI M, nI O, nI L, pl, md, nI pn, du, nI sn, rs, nI qn, nI tn, oo, aa, bb, cc, rg, sv, me, ou) := ov_mk F
  unfold wpX_reg
  refine ox_isReg (fun e => br_f (by decide) ?_) (fun e => br_t rfl ?_)
  · obtain ⟨i, hi, rfl⟩ := e
    have hin : vp_in (nI i) 8 := vp_in_nI (by omega) (by omega)
    exact ⟨hin, br_f (nI_pos (by omega)) (br_f (nI_ge (b := 8) (by omega) (by decide)) ⟨hin, rfl, R⟩)⟩
  · exact br_c (fun _ => ⟨rfl, R⟩) (fun e1 => br_c (fun _ => ⟨rfl, R⟩) (fun e2 => absurd (ov_Riff.mpr ⟨e1, e2⟩) e))
theorem i_vc_savedReg {k : Nat} {u : SX} {v : SY} (I : i_Rel k u v) (hk : k + 5 ≤ 2563) (v1 : Int32) : wpX_savedReg (fun r => wpY_savedReg (fun r' => r' = r ∧ i_Rel (k + 5) u v) v v1) u v1 := by
  refine I (fun u v => wpX_savedReg (fun r => wpY_savedReg (fun r' => r' = r ∧ i_Rel (k + 5) u v) v v1) u v1) ?_
  intro g0 g1 g2 g3 g4 g5 g6 g7 g8 g9 g10 g11 g12 g13 C M O L pn sn qn tn pl md du rs oo aa bb cc lv rg sv me ou cl cv ex F
  have R : i_Rel (k + 5) (g0, g1, g2, g3, g4, g5, g6, g7, g8, g9, g10, g11, g12, g13, nI C, nI M, nI O, ov_al M, nI L, pl, md, nI pn, du, nI sn, rs, nI qn, nI tn, oo, aa, bb, cc, lv, rg, sv, me, ou, cl, cv, ex) (nI C, nI M, nI O, nI L, pl, md, nI pn, du, nI sn, rs, nI qn, nI tn, oo, aa, bb, cc, rg, sv, me, ou) := ov_mk F
  unfold wpX_savedReg
  refine ox_isReg (fun e => br_f (by decide) ?_) (fun e => br_t rfl ?_)
  · obtain ⟨i, hi, rfl⟩ := e
    have hin : vp_in (nI i) 8 := vp_in_nI (by omega) (by omega)
    exact ⟨hin, br_f (nI_pos (by omega)) (br_f (nI_ge (b := 8) (by omega) (by decide)) ⟨hin, rfl, R⟩)⟩
  · exact br_c (fun _ => ⟨rfl, R⟩) (fun e1 => br_c (fun _ => ⟨rfl, R⟩) (fun e2 => absurd (ov_Riff.mpr ⟨e1, e2⟩) e))
theorem i_vc_mem {k : Nat} {u : SX} {v : SY} (I : i_Rel k u v) (hk : k + 5 ≤ 2563) (v1 : Int32) : wpX_mem (fun r => wpY_mem (fun r' => r' = r ∧ i_Rel (k + 5) u v) v v1) u v1 := by
  refine I (fun u v => wpX_mem (fun r => wpY_mem (fun r' => r' = r ∧ i_Rel (k + 5) u v) v v1) u v1) ?_
  intro g0 g1 g2 g3 g4 g5 g6 g7 g8 g9 g10 g11 g12 g13 C M O L pn sn qn tn pl md du rs oo aa bb cc lv rg sv me ou cl cv ex F
  have hM := F.1.2.2.2.1
  have R : i_Rel (k + 5) (g0, g1, g2, g3, g4, g5, g6, g7, g8, g9, g10, g11, g12, g13, nI C, nI M, nI O, ov_al M, nI L, pl, md, nI pn, du, nI sn, rs, nI qn, nI tn, oo, aa, bb, cc, lv, rg, sv, me, ou, cl, cv, ex) (nI C, nI M, nI O, nI L, pl, md, nI pn, du, nI sn, rs, nI qn, nI tn, oo, aa, bb, cc, rg, sv, me, ou) := ov_mk F
  unfold wpX_mem
  refine ox_isMem hM (fun e => br_f (by decide) ?_) (fun e => br_t rfl ?_)
  · obtain ⟨i, hi, rfl⟩ := e
    have hin : vp_in (nI i) 16 := vp_in_nI (by omega) (by omega)
    exact ⟨hin, br_f (nI_pos (by omega)) (br_f (nI_ge hi (by omega)) ⟨hin, rfl, R⟩)⟩
  · exact br_c (fun _ => ⟨rfl, R⟩) (fun e1 => br_c (fun _ => ⟨rfl, R⟩) (fun e2 => absurd ((ov_Mmiff (by omega)).mpr ⟨e1, e2⟩) e))
theorem i_vc_out {k : Nat} {u : SX} {v : SY} (I : i_Rel k u v) (hk : k + 5 ≤ 2563) (v1 : Int32) : wpX_out (fun r => wpY_out (fun r' => r' = r ∧ i_Rel (k + 5) u v) v v1) u v1 := by
  refine I (fun u v => wpX_out (fun r => wpY_out (fun r' => r' = r ∧ i_Rel (k + 5) u v) v v1) u v1) ?_
  intro g0 g1 g2 g3 g4 g5 g6 g7 g8 g9 g10 g11 g12 g13 C M O L pn sn qn tn pl md du rs oo aa bb cc lv rg sv me ou cl cv ex F
  have hO := F.2.1.2
  have ht := F.2.2.2.2.2.2.2.2.2
  have R : i_Rel (k + 5) (g0, g1, g2, g3, g4, g5, g6, g7, g8, g9, g10, g11, g12, g13, nI C, nI M, nI O, ov_al M, nI L, pl, md, nI pn, du, nI sn, rs, nI qn, nI tn, oo, aa, bb, cc, lv, rg, sv, me, ou, cl, cv, ex) (nI C, nI M, nI O, nI L, pl, md, nI pn, du, nI sn, rs, nI qn, nI tn, oo, aa, bb, cc, rg, sv, me, ou) := ov_mk F
  refine br_c (fun e => br_t e ⟨rfl, R⟩) (fun e => br_c (fun e2 => br_f e (br_t e2 ⟨rfl, R⟩)) (fun e2 => ?_))
  obtain ⟨i, hi, rfl⟩ := (ov_Mmiff (M := tn) (by omega)).mpr ⟨e, e2⟩
  have hin : vp_in (nI i) 32 := vp_in_nI (by omega) (by omega)
  exact ⟨hin, br_f e (br_f e2 ⟨hin, rfl, R⟩)⟩
theorem i_vc_poke {k : Nat} {u : SX} {v : SY} (I : i_Rel k u v) (hk : k + 5 ≤ 2563) (v1 : Int32) (v2 : Int32) : wpX_poke (fun r u' => wpY_poke (fun r' v' => r' = r ∧ i_Rel (k + 5) u' v') v v1 v2) u v1 v2 := by
  refine I (fun u v => wpX_poke (fun r u' => wpY_poke (fun r' v' => r' = r ∧ i_Rel (k + 5) u' v') v v1 v2) u v1 v2) ?_
  intro g0 g1 g2 g3 g4 g5 g6 g7 g8 g9 g10 g11 g12 g13 C M O L pn sn qn tn pl md du rs oo aa bb cc lv rg sv me ou cl cv ex F
  have hM := F.1.2.2.2.1
  have R : i_Rel (k + 5) (g0, g1, g2, g3, g4, g5, g6, g7, g8, g9, g10, g11, g12, g13, nI C, nI M, nI O, ov_al M, nI L, pl, md, nI pn, du, nI sn, rs, nI qn, nI tn, oo, aa, bb, cc, lv, rg, sv, me, ou, cl, cv, ex) (nI C, nI M, nI O, nI L, pl, md, nI pn, du, nI sn, rs, nI qn, nI tn, oo, aa, bb, cc, rg, sv, me, ou) := ov_mk F
  refine br_c (fun m => br_t m ⟨rfl, R⟩) (fun m => ?_)
  refine ox_isMem hM (fun e => br_f (by decide) ?_) (fun e => br_t rfl ?_)
  · obtain ⟨i, hi, rfl⟩ := e
    have hin : vp_in (nI i) 16 := vp_in_nI (by omega) (by omega)
    exact ⟨hin, nm_e (br_f m (br_f (nI_pos (by omega)) (br_t (nI_lt hi (by omega)) ⟨hin, nm_e ⟨rfl, ov_mk F⟩⟩)))⟩
  · exact br_f m (br_c (fun _ => ⟨rfl, R⟩) (fun e1 => br_c (fun e2 => absurd ((ov_Mmiff (by omega)).mpr ⟨e1, Int32.not_le.mpr e2⟩) e) (fun _ => ⟨rfl, R⟩)))
theorem i_vc_place {k : Nat} {u : SX} {v : SY} (I : i_Rel k u v) (hk : k + 5 ≤ 2563) (v1 : Int32) : wpX_place (fun r u' => wpY_place (fun r' v' => r' = r ∧ i_Rel (k + 5) u' v') v v1) u v1 := by
  refine I (fun u v => wpX_place (fun r u' => wpY_place (fun r' v' => r' = r ∧ i_Rel (k + 5) u' v') v v1) u v1) ?_
  intro g0 g1 g2 g3 g4 g5 g6 g7 g8 g9 g10 g11 g12 g13 C M O L pn sn qn tn pl md du rs oo aa bb cc lv rg sv me ou cl cv ex F
  have hC := F.1.2.1
  have R : i_Rel (k + 5) (g0, g1, g2, g3, g4, g5, g6, g7, g8, g9, g10, g11, g12, g13, nI C, nI M, nI O, ov_al M, nI L, pl, md, nI pn, du, nI sn, rs, nI qn, nI tn, oo, aa, bb, cc, lv, rg, sv, me, ou, cl, cv, ex) (nI C, nI M, nI O, nI L, pl, md, nI pn, du, nI sn, rs, nI qn, nI tn, oo, aa, bb, cc, rg, sv, me, ou) := ov_mk F
  have e1 : (nI C + 1) = nI (C + 1) := nI_1 C
  refine br_c (fun m => br_t m ⟨rfl, R⟩) (fun m => ?_)
  refine ox_isSet hC (fun e => br_f (by decide) ?_) (fun e => br_t rfl ?_)
  · refine br_f m (br_t ?_ ⟨rfl, ov_mk ⟨F.1, F.2.1, F.2.2.1, F.2.2.2.1, F.2.2.2.2.1, e, F.2.2.2.2.2.2⟩⟩)
    rw [e1]
    exact (ov_sset v1 (by omega)).mpr e
  · refine br_f m (br_f ?_ ⟨rfl, R⟩)
    rw [e1]
    exact fun z => e ((ov_sset v1 (by omega)).mp z)
theorem i_vc_verify {k : Nat} {u : SX} {v : SY} (I : i_Rel k u v) (hk : k + 5 ≤ 2563) (v1 : Int32) : wpX_verify (fun r u' => wpY_verify (fun r' => r' = r ∧ i_Rel (k + 5) u' v) v v1) u v1 := by
  refine I (fun u v => wpX_verify (fun r u' => wpY_verify (fun r' => r' = r ∧ i_Rel (k + 5) u' v) v v1) u v1) ?_
  intro g0 g1 g2 g3 g4 g5 g6 g7 g8 g9 g10 g11 g12 g13 C M O L pn sn qn tn pl md du rs oo aa bb cc lv rg sv me ou cl cv ex F
  have w := F.1
  have hC := w.2.1
  unfold wpX_verify
  refine ox_isSet hC (fun e => br_f (by decide) ?_) (fun e => br_t rfl ?_)
  · refine ox_lh w (fun r cl' cv' ex' hr => ?_)
    exact oy_ver w e (fun r' hr' => ⟨ov_LH_u hC (fun v => ov_HXY w v) hr hr', ov_mk F⟩)
  · exact oy_verN hC e ⟨rfl, ov_mk F⟩
end
section
/-! ===== cut ===== -/
theorem ov_set_or {C : Nat} {pl : Int32} (h : ov_set C pl) {v : Nat} (hv : v ≤ C) (hC : C ≤ 24) : ov_set C (pl ||| ((1 : Int32) <<< (nI v &&& 31))) := by
  intro i hi hci
  rw [b_or, h i hi hci, ov_b1 v (by omega) i hi, decide_eq_false (by omega)]
  rfl
section
variable {g0 g1 g2 g3 g4 g5 g6 g7 g8 g9 g10 g11 g12 g13 al ln pl md pc du wl sp rs cm tt : Int32} {oo aa bb cc lv rg sv me ou cl cv ex : Nat → Int32}
variable {C M O : Nat}
theorem ov_cutL (w : ov_wf C M oo aa bb cc) : ∀ d i r (pl : Int32), i + d = C + 1 → ov_set C pl → ov_LH C (ov_HX M oo aa bb cc pl) r → ∃ N pl', ov_set C pl' ∧ (∀ (post : Int32 → SX → Prop) (cl cv ex : Nat → Int32), (∀ cl cv ex : Nat → Int32, post N (g0, g1, g2, g3, g4, g5, g6, g7, g8, g9, g10, g11, g12, g13, nI C, nI M, nI O, ov_al M, ln, pl', md, pc, du, sp, rs, cm, tt, oo, aa, bb, cc, lv, rg, sv, me, ou, cl, cv, ex)) → wX_cut_22 post (d + 1) (nI i) r g0 g1 g2 g3 g4 g5 g6 g7 g8 g9 g10 g11 g12 g13 (nI C) (nI M) (nI O) (ov_al M) ln pl md pc du sp rs cm tt oo aa bb cc lv rg sv me ou cl cv ex) ∧ (∀ post : Int32 → SY → Prop, post N (nI C, nI M, nI O, ln, pl', md, pc, wl, sp, rs, cm, tt, oo, aa, bb, cc, rg, sv, me, ou) → wY_cut_24 post (nI C) (nI M) (nI O) ln md pc wl sp rs cm tt oo aa bb cc rg sv me ou (d + 1) (nI i) r (nI i) pl) := by
  have hC := w.2.1
  intro d
  induction d with
  | zero =>
    intro i r pl hd hs hr
    have hlt : nI C < nI i := nI_lt (by omega) (by omega)
    exact ⟨nI i, pl, hs, fun post cl cv ex h => br_c (fun _ => h cl cv ex) (fun _ => br_t hlt (h cl cv ex)), fun post h => br_t hlt h⟩
  | succ d ih =>
    intro i r pl hd hs hr
    have hlt : ¬ nI C < nI i := nI_nlt (by omega) (by omega)
    rcases hr with ⟨v, hv, rfl, _, _⟩ | ⟨rfl, _⟩
    · have hs2 := ov_set_or hs hv hC
      have hv0 : ¬ nI v < 0 := nI_pos (by omega)
      obtain ⟨r2, hr2⟩ := ov_LH_ex C (ov_HX M oo aa bb cc (pl ||| ((1 : Int32) <<< (nI v &&& 31))))
      obtain ⟨N, pl', hp, hX, hY⟩ := ih (i + 1) r2 _ (by omega) hs2 hr2
      refine ⟨N, pl', hp, fun post cl cv ex h => ?_, fun post h => ?_⟩
      · refine br_f hv0 (br_f hlt (nm_e (nm_r (nI_1 i) ?_)))
        refine ox_lh w (fun r' cl' cv' ex' hr' => ?_)
        have e := ov_LH_u hC (fun v => Iff.rfl) hr2 hr'
        subst e
        exact hX post cl' cv' ex' h
      · refine br_f hlt (br_f hv0 (nm_e (nm_r (nI_1 i) ?_)))
        refine oy_ver w hs2 (fun r' hr' => nm_r (nI_1 i) ?_)
        have e := ov_LH_u hC (fun v => ov_HXY w v) hr2 hr'
        subst e
        exact hY post h
    · exact ⟨nI i, pl, hs, fun post cl cv ex h => br_t (by decide) (h cl cv ex), fun post h => br_f hlt (br_t (by decide) h)⟩
end
theorem i_vc_cut {k : Nat} {u : SX} {v : SY} (I : i_Rel k u v) (hk : k + 5 ≤ 2563) : wpX_cut (fun r u' => wpY_cut (fun r' v' => r' = r ∧ i_Rel (k + 5) u' v') v) u := by
  refine I (fun u v => wpX_cut (fun r u' => wpY_cut (fun r' v' => r' = r ∧ i_Rel (k + 5) u' v') v) u) ?_
  intro g0 g1 g2 g3 g4 g5 g6 g7 g8 g9 g10 g11 g12 g13 C M O L pn sn qn tn pl md du rs oo aa bb cc lv rg sv me ou cl cv ex F
  have w := F.1
  have hC := w.2.1
  have R : i_Rel (k + 5) (g0, g1, g2, g3, g4, g5, g6, g7, g8, g9, g10, g11, g12, g13, nI C, nI M, nI O, ov_al M, nI L, pl, md, nI pn, du, nI sn, rs, nI qn, nI tn, oo, aa, bb, cc, lv, rg, sv, me, ou, cl, cv, ex) (nI C, nI M, nI O, nI L, pl, md, nI pn, du, nI sn, rs, nI qn, nI tn, oo, aa, bb, cc, rg, sv, me, ou) := ov_mk F
  refine br_c (fun m => br_t m ⟨rfl, R⟩) (fun m => ?_)
  refine ox_lh w (fun r cl' cv' ex' hr => ?_)
  obtain ⟨N, pl', hp, hX, hY⟩ := ov_cutL (g0 := g0) (g1 := g1) (g2 := g2) (g3 := g3) (g4 := g4) (g5 := g5) (g6 := g6) (g7 := g7) (g8 := g8) (g9 := g9) (g10 := g10) (g11 := g11) (g12 := g12) (g13 := g13) (O := O) (ln := nI L) (md := md) (pc := nI pn) (du := du) (wl := du) (sp := nI sn) (rs := rs) (cm := nI qn) (tt := nI tn) (lv := lv) (rg := rg) (sv := sv) (me := me) (ou := ou) w (C + 1) 0 r pl (by omega) F.2.2.2.2.2.1 hr
  refine ⟨C + 1 + 1, hX _ cl' cv' ex' (fun cl cv ex => ?_)⟩
  refine br_f m ?_
  refine oy_ver w F.2.2.2.2.2.1 (fun r' hr' => ?_)
  have e := ov_LH_u hC (fun v => ov_HXY w v) hr hr'
  subst e
  refine ⟨C + 1 + 1, hY _ ⟨rfl, ov_mk ⟨F.1, F.2.1, F.2.2.1, F.2.2.2.1, F.2.2.2.2.1, hp, F.2.2.2.2.2.2⟩⟩⟩
/-! ===== boot, fail, stop ===== -/
def ov_zr (f : Nat → Int32) : Nat → Nat → Int32
  | 0 => f
  | n + 1 => upd (ov_zr f n) n 0
def ov_cp (f g : Nat → Int32) : Nat → Nat → Int32
  | 0 => f
  | n + 1 => upd (ov_cp f g n) n (g n)
section
variable {g0 g1 g2 g3 g4 g5 g6 g7 g8 g9 g10 g11 g12 g13 al ln pl md pc du wl sp rs cm tt : Int32} {oo aa bb cc lv rg sv me ou cl cv ex : Nat → Int32}
variable {C M O : Nat}
theorem ox_boot {post : Int32 → SX → Prop} (h : post 0 (g0, g1, g2, g3, g4, g5, g6, g7, g8, g9, g10, g11, g12, g13, nI C, nI M, nI O, ov_al M, ln, pl, 1, nI 0, 0, nI 0, 0, nI 0, nI 0, oo, aa, bb, cc, lv, ov_zr rg 8, ov_zr sv 8, me, ou, cl, cv, ex)) : ∀ d i, i + d = 8 → wX_boot_13 post g0 g1 g2 g3 g4 g5 g6 g7 g8 g9 g10 g11 g12 g13 (nI C) (nI M) (nI O) (ov_al M) ln pl md pc du sp rs cm tt (d + 1) (nI i) oo aa bb cc lv (ov_zr rg i) (ov_zr sv i) me ou cl cv ex := by
  intro d
  induction d with
  | zero =>
    intro i hd
    have : i = 8 := by omega
    subst this
    exact br_t (by decide) h
  | succ d ih =>
    intro i hd
    have hin : vp_in (nI i) 8 := vp_in_nI (by omega) (by omega)
    have hcl : (nI i).toNatClampNeg = i := nI_clamp (by omega)
    exact br_f (nI_ge (b := 8) (by omega) (by decide)) ⟨hin, nm_r (e' := ov_zr rg (i + 1)) (by rw [hcl]; rfl) ⟨hin, nm_r (e' := ov_zr sv (i + 1)) (by rw [hcl]; rfl) (nm_r (nI_1 i) (ih (i + 1) (by omega)))⟩⟩
theorem oy_boot {post : Int32 → SY → Prop} (h : post 0 (nI C, nI M, nI O, ln, pl, 1, nI 0, 0, nI 0, 0, nI 0, nI 0, oo, aa, bb, cc, ov_zr rg 8, ov_zr sv 8, me, ou)) : ∀ d i, i + d = 8 → wY_boot_13 post (nI C) (nI M) (nI O) ln pl md pc wl sp rs cm tt (d + 1) (nI i) oo aa bb cc (ov_zr rg i) (ov_zr sv i) me ou := by
  intro d
  induction d with
  | zero =>
    intro i hd
    have : i = 8 := by omega
    subst this
    exact br_t (by decide) h
  | succ d ih =>
    intro i hd
    have hin : vp_in (nI i) 8 := vp_in_nI (by omega) (by omega)
    have hcl : (nI i).toNatClampNeg = i := nI_clamp (by omega)
    exact br_f (nI_ge (b := 8) (by omega) (by decide)) ⟨hin, nm_r (e' := ov_zr rg (i + 1)) (by rw [hcl]; rfl) ⟨hin, nm_r (e' := ov_zr sv (i + 1)) (by rw [hcl]; rfl) (nm_r (nI_1 i) (ih (i + 1) (by omega)))⟩⟩
theorem ox_rec2 {post : SX → Prop} (h : post (g0, g1, g2, g3, g4, g5, g6, g7, g8, g9, g10, g11, g12, g13, nI C, nI M, nI O, ov_al M, ln, pl, md, sp, 0, sp, rs, cm, cm, oo, aa, bb, cc, lv, ov_cp rg sv 8, sv, me, ou, cl, cv, ex)) : ∀ d i, i + d = 8 → wX_recover_2 post g0 g1 g2 g3 g4 g5 g6 g7 g8 g9 g10 g11 g12 g13 (nI C) (nI M) (nI O) (ov_al M) ln pl md pc du sp rs cm tt (d + 1) (nI i) oo aa bb cc lv (ov_cp rg sv i) sv me ou cl cv ex := by
  intro d
  induction d with
  | zero =>
    intro i hd
    have : i = 8 := by omega
    subst this
    exact br_t (by decide) h
  | succ d ih =>
    intro i hd
    have hin : vp_in (nI i) 8 := vp_in_nI (by omega) (by omega)
    have hcl : (nI i).toNatClampNeg = i := nI_clamp (by omega)
    exact br_f (nI_ge (b := 8) (by omega) (by decide)) ⟨hin, hin, nm_r (e' := ov_cp rg sv (i + 1)) (by rw [hcl]; rfl) (nm_r (nI_1 i) (ih (i + 1) (by omega)))⟩
theorem ox_rec {post : SX → Prop} (h : post (g0, g1, g2, g3, g4, g5, g6, g7, g8, g9, g10, g11, g12, g13, nI C, nI M, nI O, ov_al M, ln, pl, md, sp, 0, sp, rs, cm, cm, oo, aa, bb, cc, lv, ov_cp rg sv 8, sv, me, ou, cl, cv, ex)) : wpX_recover post (g0, g1, g2, g3, g4, g5, g6, g7, g8, g9, g10, g11, g12, g13, nI C, nI M, nI O, ov_al M, ln, pl, md, pc, du, sp, rs, cm, tt, oo, aa, bb, cc, lv, rg, sv, me, ou, cl, cv, ex) := ⟨8 + 1, ox_rec2 h 8 0 rfl⟩
theorem oy_fail13 {post : Int32 → SY → Prop} (h : post 0 (nI C, nI M, nI O, ln, pl, md, sp, 0, sp, rs, cm, cm, oo, aa, bb, cc, ov_cp rg sv 8, sv, me, ou)) : ∀ d i, i + d = 8 → wY_fail_13 post (nI C) (nI M) (nI O) ln pl md pc wl sp rs cm tt (d + 1) (nI i) oo aa bb cc (ov_cp rg sv i) sv me ou := by
  intro d
  induction d with
  | zero =>
    intro i hd
    have : i = 8 := by omega
    subst this
    exact br_t (by decide) h
  | succ d ih =>
    intro i hd
    have hin : vp_in (nI i) 8 := vp_in_nI (by omega) (by omega)
    have hcl : (nI i).toNatClampNeg = i := nI_clamp (by omega)
    exact br_f (nI_ge (b := 8) (by omega) (by decide)) ⟨hin, hin, nm_r (e' := ov_cp rg sv (i + 1)) (by rw [hcl]; rfl) (nm_r (nI_1 i) (ih (i + 1) (by omega)))⟩
theorem oy_fail {post : Int32 → SY → Prop} (hm : md = 1) (h : post 0 (nI C, nI M, nI O, ln, pl, md, sp, 0, sp, rs, cm, cm, oo, aa, bb, cc, ov_cp rg sv 8, sv, me, ou)) : wpY_fail post (nI C, nI M, nI O, ln, pl, md, pc, wl, sp, rs, cm, tt, oo, aa, bb, cc, rg, sv, me, ou) := br_t hm ⟨8 + 1, oy_fail13 h 8 0 rfl⟩
end
theorem i_vc_boot {k : Nat} {u : SX} {v : SY} (I : i_Rel k u v) (hk : k + 5 ≤ 2563) : wpX_boot (fun r u' => wpY_boot (fun r' v' => r' = r ∧ i_Rel (k + 5) u' v') v) u := by
  refine I (fun u v => wpX_boot (fun r u' => wpY_boot (fun r' v' => r' = r ∧ i_Rel (k + 5) u' v') v) u) ?_
  intro g0 g1 g2 g3 g4 g5 g6 g7 g8 g9 g10 g11 g12 g13 C M O L pn sn qn tn pl md du rs oo aa bb cc lv rg sv me ou cl cv ex F
  have R : i_Rel (k + 5) (g0, g1, g2, g3, g4, g5, g6, g7, g8, g9, g10, g11, g12, g13, nI C, nI M, nI O, ov_al M, nI L, pl, md, nI pn, du, nI sn, rs, nI qn, nI tn, oo, aa, bb, cc, lv, rg, sv, me, ou, cl, cv, ex) (nI C, nI M, nI O, nI L, pl, md, nI pn, du, nI sn, rs, nI qn, nI tn, oo, aa, bb, cc, rg, sv, me, ou) := ov_mk F
  refine br_c (fun m => br_t m ⟨rfl, R⟩) (fun m => ⟨8 + 1, ox_boot ?_ 8 0 rfl⟩)
  refine br_f m ⟨8 + 1, oy_boot ?_ 8 0 rfl⟩
  exact ⟨rfl, ov_mk ⟨F.1, F.2.1, F.2.2.1, F.2.2.2.1, F.2.2.2.2.1, F.2.2.2.2.2.1, Nat.zero_le _, Nat.zero_le _, Nat.zero_le _, Nat.zero_le _⟩⟩
theorem i_vc_fail {k : Nat} {u : SX} {v : SY} (I : i_Rel k u v) (hk : k + 5 ≤ 2563) : wpX_fail (fun r u' => wpY_fail (fun r' v' => r' = r ∧ i_Rel (k + 5) u' v') v) u := by
  refine I (fun u v => wpX_fail (fun r u' => wpY_fail (fun r' v' => r' = r ∧ i_Rel (k + 5) u' v') v) u) ?_
  intro g0 g1 g2 g3 g4 g5 g6 g7 g8 g9 g10 g11 g12 g13 C M O L pn sn qn tn pl md du rs oo aa bb cc lv rg sv me ou cl cv ex F
  have R : i_Rel (k + 5) (g0, g1, g2, g3, g4, g5, g6, g7, g8, g9, g10, g11, g12, g13, nI C, nI M, nI O, ov_al M, nI L, pl, md, nI pn, du, nI sn, rs, nI qn, nI tn, oo, aa, bb, cc, lv, rg, sv, me, ou, cl, cv, ex) (nI C, nI M, nI O, nI L, pl, md, nI pn, du, nI sn, rs, nI qn, nI tn, oo, aa, bb, cc, rg, sv, me, ou) := ov_mk F
  refine br_c (fun m => ox_rec ?_) (fun m => br_f m ⟨rfl, R⟩)
  refine oy_fail m ?_
  exact ⟨rfl, ov_mk ⟨F.1, F.2.1, F.2.2.1, F.2.2.2.1, F.2.2.2.2.1, F.2.2.2.2.2.1, F.2.2.2.2.2.2.2.1, F.2.2.2.2.2.2.2.1, F.2.2.2.2.2.2.2.2.1, F.2.2.2.2.2.2.2.2.1⟩⟩
theorem i_vc_stop {k : Nat} {u : SX} {v : SY} (I : i_Rel k u v) (hk : k + 5 ≤ 2563) : wpX_stop (fun r u' => wpY_stop (fun r' v' => r' = r ∧ i_Rel (k + 5) u' v') v) u := by
  refine I (fun u v => wpX_stop (fun r u' => wpY_stop (fun r' v' => r' = r ∧ i_Rel (k + 5) u' v') v) u) ?_
  intro g0 g1 g2 g3 g4 g5 g6 g7 g8 g9 g10 g11 g12 g13 C M O L pn sn qn tn pl md du rs oo aa bb cc lv rg sv me ou cl cv ex F
  have R : i_Rel (k + 5) (g0, g1, g2, g3, g4, g5, g6, g7, g8, g9, g10, g11, g12, g13, nI C, nI M, nI O, ov_al M, nI L, pl, md, nI pn, du, nI sn, rs, nI qn, nI tn, oo, aa, bb, cc, lv, rg, sv, me, ou, cl, cv, ex) (nI C, nI M, nI O, nI L, pl, md, nI pn, du, nI sn, rs, nI qn, nI tn, oo, aa, bb, cc, rg, sv, me, ou) := ov_mk F
  refine br_c (fun m => ox_rec ?_) (fun m => br_f m ⟨rfl, R⟩)
  refine br_t m (oy_fail m ?_)
  exact ⟨rfl, ov_mk ⟨F.1, F.2.1, F.2.2.1, F.2.2.2.1, F.2.2.2.2.1, F.2.2.2.2.2.1, F.2.2.2.2.2.2.2.1, F.2.2.2.2.2.2.2.1, F.2.2.2.2.2.2.2.2.1, F.2.2.2.2.2.2.2.2.1⟩⟩
end
section
/-! ===== checkpoints: arrive, complete ===== -/
def ov_ck (rg : Nat → Int32) (m : Int32) (sv : Nat → Int32) : Nat → Nat → Int32
  | 0 => sv
  | n + 1 => upd (ov_ck rg m sv n) n (if bt m n = true then rg n else 0)
theorem ov_ck_t {rg : Nat → Int32} {m : Int32} {sv : Nat → Int32} {n : Nat} (h : bt m n = true) : ov_ck rg m sv (n + 1) = upd (ov_ck rg m sv n) n (rg n) := by
  show upd (ov_ck rg m sv n) n (if bt m n = true then rg n else 0) = _
  rw [if_pos h]
theorem ov_ck_f {rg : Nat → Int32} {m : Int32} {sv : Nat → Int32} {n : Nat} (h : bt m n = false) : ov_ck rg m sv (n + 1) = upd (ov_ck rg m sv n) n 0 := by
  show upd (ov_ck rg m sv n) n (if bt m n = true then rg n else 0) = _
  rw [if_neg (by rw [h]; decide)]
def ov_ct (m : Int32) : Nat → Int32
  | 0 => 0
  | n + 1 => if bt m n = true then ov_ct m n + 1 else ov_ct m n
theorem ov_ct_t {m : Int32} {n : Nat} (h : bt m n = true) : ov_ct m (n + 1) = ov_ct m n + 1 := if_pos h
theorem ov_ct_f {m : Int32} {n : Nat} (h : bt m n = false) : ov_ct m (n + 1) = ov_ct m n := if_neg (by rw [h]; decide)
def ov_du (pl : Int32) (lv : Nat → Int32) (n : Nat) : Int32 := if bt pl n = true then 2 + ov_ct (lv n) 8 else 0
theorem ov_du_t {pl : Int32} {lv : Nat → Int32} {n : Nat} (h : bt pl n = true) : ov_du pl lv n = 2 + ov_ct (lv n) 8 := if_pos h
theorem ov_du_f {pl : Int32} {lv : Nat → Int32} {n : Nat} (h : bt pl n = false) : ov_du pl lv n = 0 := if_neg (by rw [h]; decide)
section
variable {g0 g1 g2 g3 g4 g5 g6 g7 g8 g9 g10 g11 g12 g13 al ln pl md pc du wl sp rs cm tt : Int32} {oo aa bb cc lv rg sv me ou cl cv ex : Nat → Int32}
variable {C M O : Nat}
theorem ox_cc12 {m : Int32} {post : SX → Prop} (h : post (g0, g1, g2, g3, g4, g5, g6, g7, g8, g9, g10, g11, g12, g13, nI C, nI M, nI O, ov_al M, ln, pl, md, pc, du, pc, rs, tt, tt, oo, aa, bb, cc, lv, rg, ov_ck rg m sv 8, me, ou, cl, cv, ex)) : ∀ d i, i + d = 8 → wX_completeCheckpoint_12 post m g0 g1 g2 g3 g4 g5 g6 g7 g8 g9 g10 g11 g12 g13 (nI C) (nI M) (nI O) (ov_al M) ln pl md pc du sp rs cm tt (d + 1) (nI i) oo aa bb cc lv rg (ov_ck rg m sv i) me ou cl cv ex := by
  intro d
  induction d with
  | zero =>
    intro i hd
    have : i = 8 := by omega
    subst this
    exact br_t (by decide) h
  | succ d ih =>
    intro i hd
    have hin : vp_in (nI i) 8 := vp_in_nI (by omega) (by omega)
    have hcl : (nI i).toNatClampNeg = i := nI_clamp (by omega)
    refine br_f (nI_ge (b := 8) (by omega) (by decide)) (br_c (fun e => ⟨hin, nm_r (e' := ov_ck rg m sv (i + 1)) ?_ (nm_r (nI_1 i) (ih (i + 1) (by omega)))⟩) (fun e => ⟨hin, hin, nm_r (e' := ov_ck rg m sv (i + 1)) ?_ (nm_r (nI_1 i) (ih (i + 1) (by omega)))⟩))
    · rw [hcl, ov_ck_f ((ov_ub m (by omega)).mp e)]
    · rw [hcl, ov_ck_t (ov_nt (fun z => e ((ov_ub m (by omega)).mpr z)))]
theorem ox_cc {p : Nat} (hp : p ≤ 24) {post : SX → Prop} (h : post (g0, g1, g2, g3, g4, g5, g6, g7, g8, g9, g10, g11, g12, g13, nI C, nI M, nI O, ov_al M, ln, pl, md, nI p, du, nI p, rs, tt, tt, oo, aa, bb, cc, lv, rg, ov_ck rg (lv p) sv 8, me, ou, cl, cv, ex)) : wpX_completeCheckpoint post (g0, g1, g2, g3, g4, g5, g6, g7, g8, g9, g10, g11, g12, g13, nI C, nI M, nI O, ov_al M, ln, pl, md, nI p, du, sp, rs, cm, tt, oo, aa, bb, cc, lv, rg, sv, me, ou, cl, cv, ex) := by
  have hin : vp_in (nI p) 25 := vp_in_nI (by omega) (by omega)
  have hcl : (nI p).toNatClampNeg = p := nI_clamp (by omega)
  exact ⟨hin, nm_r (e' := lv p) (by rw [hcl]) ⟨8 + 1, ox_cc12 h 8 0 rfl⟩⟩
theorem oy_cp11 {m : Int32} {post : SY → Prop} (h : post (nI C, nI M, nI O, ln, pl, md, pc, wl, pc, rs, tt, tt, oo, aa, bb, cc, rg, ov_ck rg m sv 8, me, ou)) : ∀ d i, i + d = 8 → wY_complete_11 post m (nI C) (nI M) (nI O) ln pl md pc wl sp rs cm tt (d + 1) (nI i) oo aa bb cc rg (ov_ck rg m sv i) me ou := by
  intro d
  induction d with
  | zero =>
    intro i hd
    have : i = 8 := by omega
    subst this
    exact br_t (by decide) h
  | succ d ih =>
    intro i hd
    have hin : vp_in (nI i) 8 := vp_in_nI (by omega) (by omega)
    have hcl : (nI i).toNatClampNeg = i := nI_clamp (by omega)
    refine br_f (nI_ge (b := 8) (by omega) (by decide)) ?_
    refine oy_has (by omega) (fun e => br_f (by decide) ⟨hin, hin, nm_r (e' := ov_ck rg m sv (i + 1)) ?_ (nm_r (nI_1 i) (ih (i + 1) (by omega)))⟩) (fun e => br_t rfl ⟨hin, nm_r (e' := ov_ck rg m sv (i + 1)) ?_ (nm_r (nI_1 i) (ih (i + 1) (by omega)))⟩)
    · rw [hcl, ov_ck_t e]
    · rw [hcl, ov_ck_f e]
theorem oy_cp (w : ov_wf C M oo aa bb cc) (hl : ov_lvok C oo aa bb cc lv) {p : Nat} (hp : p ≤ C) {post : SY → Prop} (h : post (nI C, nI M, nI O, ln, pl, md, nI p, wl, nI p, rs, tt, tt, oo, aa, bb, cc, rg, ov_ck rg (lv p) sv 8, me, ou)) : wpY_complete post (nI C, nI M, nI O, ln, pl, md, nI p, wl, sp, rs, cm, tt, oo, aa, bb, cc, rg, sv, me, ou) := by
  unfold wpY_complete
  refine oy_live w hp (fun m hm => ⟨8 + 1, ?_⟩)
  have e : m = lv p := b_ext (fun i hi => by rw [Bool.eq_iff_iff, hm i hi, hl p hp i hi])
  subst e
  exact oy_cp11 h 8 0 rfl
theorem ox_cr4 {m : Int32} {post : Int32 → Prop} (h : post (ov_ct m 8)) : ∀ d i, i + d = 8 → wX_countRegs_4 post m g0 g1 g2 g3 g4 g5 g6 g7 g8 g9 g10 g11 g12 g13 (nI C) (nI M) (nI O) (ov_al M) ln pl md pc du sp rs cm tt oo aa bb cc lv rg sv me ou cl cv ex (d + 1) (ov_ct m i) (nI i) := by
  intro d
  induction d with
  | zero =>
    intro i hd
    have : i = 8 := by omega
    subst this
    exact br_t (by decide) h
  | succ d ih =>
    intro i hd
    refine br_f (nI_ge (b := 8) (by omega) (by decide)) (nm_r (e' := ov_ct m (i + 1)) ?_ (nm_r (nI_1 i) (ih (i + 1) (by omega))))
    rcases ov_bf (b := bt m i) with e | e
    · rw [ov_ct_t e, ov_ub1 m (by omega) e]
    · rw [ov_ct_f e, (ov_ub m (by omega)).mpr e, Int32.add_zero]
theorem ox_arr {n : Nat} (hn : n ≤ 24) {post : SX → Prop} (h : post (g0, g1, g2, g3, g4, g5, g6, g7, g8, g9, g10, g11, g12, g13, nI C, nI M, nI O, ov_al M, ln, pl, md, nI n, ov_du pl lv n, sp, rs, cm, tt, oo, aa, bb, cc, lv, rg, sv, me, ou, cl, cv, ex)) : wpX_arrive post (g0, g1, g2, g3, g4, g5, g6, g7, g8, g9, g10, g11, g12, g13, nI C, nI M, nI O, ov_al M, ln, pl, md, pc, du, sp, rs, cm, tt, oo, aa, bb, cc, lv, rg, sv, me, ou, cl, cv, ex) (nI n) := by
  have hin : vp_in (nI n) 25 := vp_in_nI (by omega) (by omega)
  have hcl : (nI n).toNatClampNeg = n := nI_clamp (by omega)
  refine br_c (fun e => ?_) (fun e => ⟨hin, ?_⟩)
  · rw [ov_du_f ((ov_ub pl (by omega)).mp e)] at h
    exact h
  · rw [ov_du_t (ov_nt (fun z => e ((ov_ub pl (by omega)).mpr z)))] at h
    rw [hcl]
    refine ⟨8 + 1, ox_cr4 ?_ 8 0 rfl⟩
    intro y ey
    rw [ey]
    exact h
theorem oy_ar28 (w : ov_wf C M oo aa bb cc) (hl : ov_lvok C oo aa bb cc lv) {n : Nat} (hn : n ≤ C) (hb : bt pl n = true) {post : SY → Prop} (h : post (nI C, nI M, nI O, ln, pl, md, nI n, 2 + ov_ct (lv n) 8, sp, rs, cm, tt, oo, aa, bb, cc, rg, sv, me, ou)) : ∀ d i, i + d = 8 → wY_arrive_28 post (nI n) (nI C) (nI M) (nI O) ln pl md (nI n) sp rs cm tt oo aa bb cc rg sv me ou (d + 1) (nI i) (2 + ov_ct (lv n) i) := by
  have hC := w.2.1
  intro d
  induction d with
  | zero =>
    intro i hd
    have : i = 8 := by omega
    subst this
    exact br_t (by decide) h
  | succ d ih =>
    intro i hd
    refine br_f (nI_ge (b := 8) (by omega) (by decide)) ?_
    refine oy_has (by omega) (fun e => br_f (by decide) ?_) (fun e => absurd (hb.symm.trans e) (by decide))
    refine oy_liveAt w hn (fun e2 => br_f (by decide) (nm_r (e' := 2 + ov_ct (lv n) (i + 1)) ?_ (nm_r (nI_1 i) (ih (i + 1) (by omega))))) (fun e2 => br_t rfl (nm_r (nI_1 i) ?_))
    · rw [ov_ct_t ((hl n hn i (by omega)).mpr e2), Int32.add_assoc]
    · have := ih (i + 1) (by omega)
      rw [ov_ct_f (ov_nf (fun z => e2 ((hl n hn i (by omega)).mp z)))] at this
      exact this
theorem oy_ar28n (hC : C ≤ 24) {n : Nat} (hn : n ≤ C) (hb : bt pl n = false) {post : SY → Prop} (h : post (nI C, nI M, nI O, ln, pl, md, nI n, 0, sp, rs, cm, tt, oo, aa, bb, cc, rg, sv, me, ou)) : ∀ d i, i + d = 8 → wY_arrive_28 post (nI n) (nI C) (nI M) (nI O) ln pl md (nI n) sp rs cm tt oo aa bb cc rg sv me ou (d + 1) (nI i) 0 := by
  intro d
  induction d with
  | zero =>
    intro i hd
    have : i = 8 := by omega
    subst this
    exact br_t (by decide) h
  | succ d ih =>
    intro i hd
    refine br_f (nI_ge (b := 8) (by omega) (by decide)) ?_
    exact oy_has (by omega) (fun e => absurd (e.symm.trans hb) (by decide)) (fun e => br_t rfl (nm_r (nI_1 i) (ih (i + 1) (by omega))))
theorem oy_arr (w : ov_wf C M oo aa bb cc) (hl : ov_lvok C oo aa bb cc lv) {n : Nat} (hn : n ≤ C) {post : SY → Prop} (h : post (nI C, nI M, nI O, ln, pl, md, nI n, ov_du pl lv n, sp, rs, cm, tt, oo, aa, bb, cc, rg, sv, me, ou)) : wpY_arrive post (nI C, nI M, nI O, ln, pl, md, pc, wl, sp, rs, cm, tt, oo, aa, bb, cc, rg, sv, me, ou) (nI n) := by
  have hC := w.2.1
  unfold wpY_arrive
  refine oy_has (by omega) (fun e => br_f (by decide) ⟨8 + 1, ?_⟩) (fun e => br_t rfl ⟨8 + 1, ?_⟩)
  · rw [ov_du_t e] at h
    exact oy_ar28 w hl hn e h 8 0 rfl
  · rw [ov_du_f e] at h
    exact oy_ar28n hC hn e h 8 0 rfl
end
end
section
/-! ===== X: execute, one lemma an op (written by gen17.py) ===== -/
section
variable {g0 g1 g2 g3 g4 g5 g6 g7 g8 g9 g10 g11 g12 g13 al ln pl md pc du sp rs cm tt : Int32} {oo aa bb cc lv rg sv me ou cl cv ex : Nat → Int32}
variable {C M O : Nat}
theorem ox_nx (hC : C ≤ 24) {p : Nat} (hp : p ≤ C) (e10 : ¬ oo p = 10) (e11 : ¬ oo p = 11) (e12 : ¬ oo p = 12) {post : Int32 → Prop} (h : post (nI (p + 1))) : wpX_nextCell post (g0, g1, g2, g3, g4, g5, g6, g7, g8, g9, g10, g11, g12, g13, nI C, nI M, nI O, ov_al M, ln, pl, md, nI p, du, sp, rs, cm, tt, oo, aa, bb, cc, lv, rg, sv, me, ou, cl, cv, ex) := by
  have hin : vp_in (nI p) 25 := vp_in_nI (by omega) (by omega)
  have hcl : (nI p).toNatClampNeg = p := nI_clamp (by omega)
  refine ⟨hin, nm_r (e' := oo p) (by rw [hcl]) (br_f e10 (br_f e11 (br_f e12 (br_t rfl ?_))))⟩
  rw [nI_1]
  exact h
theorem ox_tgk (hC : C ≤ 24) {p : Nat} (hp : p ≤ C) {y : Int32} (e : ov_tx (oo p) (aa p) (bb p) (cc p) = y) {post : Int32 → Prop} (h : post y) : wpX_target (fun r => post r) (g0, g1, g2, g3, g4, g5, g6, g7, g8, g9, g10, g11, g12, g13, nI C, nI M, nI O, ov_al M, ln, pl, md, nI p, du, sp, rs, cm, tt, oo, aa, bb, cc, lv, rg, sv, me, ou, cl, cv, ex) (nI p) := by
  refine ox_tg hC hp ?_
  rw [e]
  exact h
theorem ox_nx10 (hC : C ≤ 24) {p : Nat} (hp : p ≤ C) (eo : oo p = 10) {post : Int32 → Prop} (h : post (aa p)) : wpX_nextCell post (g0, g1, g2, g3, g4, g5, g6, g7, g8, g9, g10, g11, g12, g13, nI C, nI M, nI O, ov_al M, ln, pl, md, nI p, du, sp, rs, cm, tt, oo, aa, bb, cc, lv, rg, sv, me, ou, cl, cv, ex) := by
  have hin : vp_in (nI p) 25 := vp_in_nI (by omega) (by omega)
  have hcl : (nI p).toNatClampNeg = p := nI_clamp (by omega)
  refine ⟨hin, nm_r (e' := (10 : Int32)) (by rw [hcl, eo]) (br_t rfl (br_f (by decide) (br_f (by decide) (br_f (by decide) ?_))))⟩
  exact ox_tgk hC hp (by rw [eo]; rfl) h
theorem ox_nx11 (hC : C ≤ 24) {p i : Nat} (hp : p ≤ C) (eo : oo p = 11) (ea : aa p = nI i) (hi : i < 8) {post : Int32 → Prop} (h0 : rg i = 0 → post (nI (p + 1))) (h1 : ¬ rg i = 0 → post (bb p)) : wpX_nextCell post (g0, g1, g2, g3, g4, g5, g6, g7, g8, g9, g10, g11, g12, g13, nI C, nI M, nI O, ov_al M, ln, pl, md, nI p, du, sp, rs, cm, tt, oo, aa, bb, cc, lv, rg, sv, me, ou, cl, cv, ex) := by
  have hin : vp_in (nI p) 25 := vp_in_nI (by omega) (by omega)
  have hcl : (nI p).toNatClampNeg = p := nI_clamp (by omega)
  have cli : (nI i).toNatClampNeg = i := nI_clamp (by omega)
  have ini : vp_in (nI i) 8 := vp_in_nI (by omega) (by omega)
  refine ⟨hin, nm_r (e' := (11 : Int32)) (by rw [hcl, eo]) (br_f (by decide) (br_t rfl ⟨hin, ?_⟩))⟩
  rw [hcl, ea, cli]
  refine ⟨ini, br_c (fun e => br_t rfl ?_) (fun e => br_f (by decide) ?_)⟩
  · rw [nI_1]
    exact h0 e
  · exact ox_tgk hC hp (by rw [eo]; rfl) (h1 e)
theorem ox_nx12 (hC : C ≤ 24) {p i j : Nat} (hp : p ≤ C) (eo : oo p = 12) (ea : aa p = nI i) (hi : i < 8) (eb : bb p = nI j) (hj : j < 8) {post : Int32 → Prop} (h0 : rg j ≤ rg i → post (nI (p + 1))) (h1 : ¬ rg j ≤ rg i → post (cc p)) : wpX_nextCell post (g0, g1, g2, g3, g4, g5, g6, g7, g8, g9, g10, g11, g12, g13, nI C, nI M, nI O, ov_al M, ln, pl, md, nI p, du, sp, rs, cm, tt, oo, aa, bb, cc, lv, rg, sv, me, ou, cl, cv, ex) := by
  have hin : vp_in (nI p) 25 := vp_in_nI (by omega) (by omega)
  have hcl : (nI p).toNatClampNeg = p := nI_clamp (by omega)
  have cli : (nI i).toNatClampNeg = i := nI_clamp (by omega)
  have ini : vp_in (nI i) 8 := vp_in_nI (by omega) (by omega)
  have clj : (nI j).toNatClampNeg = j := nI_clamp (by omega)
  have inj : vp_in (nI j) 8 := vp_in_nI (by omega) (by omega)
  refine ⟨hin, nm_r (e' := (12 : Int32)) (by rw [hcl, eo]) (br_f (by decide) (br_f (by decide) (br_t rfl ⟨hin, ?_⟩)))⟩
  rw [hcl, ea, cli, eb, clj]
  refine ⟨ini, hin, inj, br_c (fun e => br_t rfl ?_) (fun e => br_f (by decide) ?_)⟩
  · rw [nI_1]
    exact h0 e
  · exact ox_tgk hC hp (by rw [eo]; rfl) (h1 e)
theorem ox_wc (hC : C ≤ 24) {p j l t : Nat} (hp : p ≤ C) (eb : bb p = nI j) (ec : cc p = nI l) (hl : l < 8) (et : rg l &&& 3 = nI t) {post : Int32 → Prop} (h : post (nI (j + t))) : wpX_windowCell post (g0, g1, g2, g3, g4, g5, g6, g7, g8, g9, g10, g11, g12, g13, nI C, nI M, nI O, ov_al M, ln, pl, md, nI p, du, sp, rs, cm, tt, oo, aa, bb, cc, lv, rg, sv, me, ou, cl, cv, ex) := by
  have hin : vp_in (nI p) 25 := vp_in_nI (by omega) (by omega)
  have hcl : (nI p).toNatClampNeg = p := nI_clamp (by omega)
  have cll : (nI l).toNatClampNeg = l := nI_clamp (by omega)
  have inl : vp_in (nI l) 8 := vp_in_nI (by omega) (by omega)
  refine ⟨hin, hin, ?_⟩
  rw [hcl, ec, cll, eb, et, nI_add]
  exact ⟨inl, h⟩
theorem ox_151 {n : Nat} (hn : n ≤ 24) {post : SX → Prop} (h : post (g0, g1, g2, g3, g4, g5, g6, g7, g8, g9, g10, g11, g12, g13, nI C, nI M, nI O, ov_al M, ln, pl, md, nI n, ov_du pl lv n, sp, rs, cm, tt, oo, aa, bb, cc, lv, rg, sv, me, ou, cl, cv, ex)) : wX_execute_151 post (nI n) g0 g1 g2 g3 g4 g5 g6 g7 g8 g9 g10 g11 g12 g13 (nI C) (nI M) (nI O) (ov_al M) ln pl md pc du sp rs cm tt oo aa bb cc lv rg sv me ou cl cv ex := ox_arr hn h
theorem ox_c1 (hC : C ≤ 24) {p : Nat} (hp : p ≤ C) (eo : oo p = 1) {post : Int32 → Prop} (h : post (bb p)) : wpX_computed post (g0, g1, g2, g3, g4, g5, g6, g7, g8, g9, g10, g11, g12, g13, nI C, nI M, nI O, ov_al M, ln, pl, md, nI p, du, sp, rs, cm, tt, oo, aa, bb, cc, lv, rg, sv, me, ou, cl, cv, ex) := by
  have hin : vp_in (nI p) 25 := vp_in_nI (by omega) (by omega)
  have hcl : (nI p).toNatClampNeg = p := nI_clamp (by omega)
  refine ⟨hin, nm_r (e' := bb p) (by rw [hcl]) ⟨hin, nm_r (e' := cc p) (by rw [hcl]) ⟨hin, nm_r (e' := (1 : Int32)) (by rw [hcl, eo]) (br_t rfl h)⟩⟩⟩

theorem ox_e1 (hC : C ≤ 24) {p i : Nat} (hp : p ≤ C) (eo : oo p = 1) (ea : aa p = nI i) (hi : i < 8) (hp1 : p + 1 ≤ C) {post : SX → Prop} (h : post (g0, g1, g2, g3, g4, g5, g6, g7, g8, g9, g10, g11, g12, g13, nI C, nI M, nI O, ov_al M, ln, pl, md, nI (p + 1), ov_du pl lv (p + 1), sp, rs, cm, tt, oo, aa, bb, cc, lv, upd rg i (bb p), sv, me, ou, cl, cv, ex)) : wpX_execute post (g0, g1, g2, g3, g4, g5, g6, g7, g8, g9, g10, g11, g12, g13, nI C, nI M, nI O, ov_al M, ln, pl, md, nI p, du, sp, rs, cm, tt, oo, aa, bb, cc, lv, rg, sv, me, ou, cl, cv, ex) := by
  have hin : vp_in (nI p) 25 := vp_in_nI (by omega) (by omega)
  have hcl : (nI p).toNatClampNeg = p := nI_clamp (by omega)
  have cli : (nI i).toNatClampNeg = i := nI_clamp (by omega)
  have ini : vp_in (nI i) 8 := vp_in_nI (by omega) (by omega)
  refine ⟨hin, nm_r (e' := (1 : Int32)) (by rw [hcl, eo]) ⟨hin, nm_r (e' := nI i) (by rw [hcl, ea]) (br_f (by decide) ?_)⟩⟩
  refine ox_nx hC hp (by rw [eo]; decide) (by rw [eo]; decide) (by rw [eo]; decide) ?_
  refine br_f (by decide) (br_f (by decide) (br_f (by decide) ?_))
  refine ox_c1 hC hp eo  ⟨ini, nm_r (e' := upd rg i (bb p)) (by rw [cli]) ?_⟩
  exact ox_151 (by omega) h
theorem ox_c2 (hC : C ≤ 24) {p : Nat} (hp : p ≤ C) (eo : oo p = 2) {j : Nat} (eb : bb p = nI j) (hj : j < 8) {post : Int32 → Prop} (h : post (rg j + cc p)) : wpX_computed post (g0, g1, g2, g3, g4, g5, g6, g7, g8, g9, g10, g11, g12, g13, nI C, nI M, nI O, ov_al M, ln, pl, md, nI p, du, sp, rs, cm, tt, oo, aa, bb, cc, lv, rg, sv, me, ou, cl, cv, ex) := by
  have hin : vp_in (nI p) 25 := vp_in_nI (by omega) (by omega)
  have hcl : (nI p).toNatClampNeg = p := nI_clamp (by omega)
  have clj : (nI j).toNatClampNeg = j := nI_clamp (by omega)
  have inj : vp_in (nI j) 8 := vp_in_nI (by omega) (by omega)
  refine ⟨hin, nm_r (e' := nI j) (by rw [hcl, eb]) ⟨hin, nm_r (e' := cc p) (by rw [hcl]) ⟨hin, nm_r (e' := (2 : Int32)) (by rw [hcl, eo]) (br_f (by decide) (br_f (by decide) (br_f (by decide) (br_t rfl ⟨inj, ?_⟩))))⟩⟩⟩
  rw [clj]
  exact h
theorem ox_e2 (hC : C ≤ 24) {p i : Nat} (hp : p ≤ C) (eo : oo p = 2) (ea : aa p = nI i) (hi : i < 8) {j : Nat} (eb : bb p = nI j) (hj : j < 8) (hp1 : p + 1 ≤ C) {post : SX → Prop} (h : post (g0, g1, g2, g3, g4, g5, g6, g7, g8, g9, g10, g11, g12, g13, nI C, nI M, nI O, ov_al M, ln, pl, md, nI (p + 1), ov_du pl lv (p + 1), sp, rs, cm, tt, oo, aa, bb, cc, lv, upd rg i (rg j + cc p), sv, me, ou, cl, cv, ex)) : wpX_execute post (g0, g1, g2, g3, g4, g5, g6, g7, g8, g9, g10, g11, g12, g13, nI C, nI M, nI O, ov_al M, ln, pl, md, nI p, du, sp, rs, cm, tt, oo, aa, bb, cc, lv, rg, sv, me, ou, cl, cv, ex) := by
  have hin : vp_in (nI p) 25 := vp_in_nI (by omega) (by omega)
  have hcl : (nI p).toNatClampNeg = p := nI_clamp (by omega)
  have cli : (nI i).toNatClampNeg = i := nI_clamp (by omega)
  have ini : vp_in (nI i) 8 := vp_in_nI (by omega) (by omega)
  refine ⟨hin, nm_r (e' := (2 : Int32)) (by rw [hcl, eo]) ⟨hin, nm_r (e' := nI i) (by rw [hcl, ea]) (br_f (by decide) ?_)⟩⟩
  refine ox_nx hC hp (by rw [eo]; decide) (by rw [eo]; decide) (by rw [eo]; decide) ?_
  refine br_f (by decide) (br_f (by decide) (br_f (by decide) ?_))
  refine ox_c2 hC hp eo eb hj ⟨ini, nm_r (e' := upd rg i (rg j + cc p)) (by rw [cli]) ?_⟩
  exact ox_151 (by omega) h
theorem ox_c3 (hC : C ≤ 24) {p : Nat} (hp : p ≤ C) (eo : oo p = 3) {j l : Nat} (eb : bb p = nI j) (hj : j < 8) (ec : cc p = nI l) (hl : l < 8) {post : Int32 → Prop} (h : post (rg j + rg l)) : wpX_computed post (g0, g1, g2, g3, g4, g5, g6, g7, g8, g9, g10, g11, g12, g13, nI C, nI M, nI O, ov_al M, ln, pl, md, nI p, du, sp, rs, cm, tt, oo, aa, bb, cc, lv, rg, sv, me, ou, cl, cv, ex) := by
  have hin : vp_in (nI p) 25 := vp_in_nI (by omega) (by omega)
  have hcl : (nI p).toNatClampNeg = p := nI_clamp (by omega)
  have clj : (nI j).toNatClampNeg = j := nI_clamp (by omega)
  have inj : vp_in (nI j) 8 := vp_in_nI (by omega) (by omega)
  have cll : (nI l).toNatClampNeg = l := nI_clamp (by omega)
  have inl : vp_in (nI l) 8 := vp_in_nI (by omega) (by omega)
  refine ⟨hin, nm_r (e' := nI j) (by rw [hcl, eb]) ⟨hin, nm_r (e' := nI l) (by rw [hcl, ec]) ⟨hin, nm_r (e' := (3 : Int32)) (by rw [hcl, eo]) (br_f (by decide) (br_f (by decide) (br_f (by decide) (br_f (by decide) (br_t rfl ⟨inj, inl, ?_⟩)))))⟩⟩⟩
  rw [clj, cll]
  exact h
theorem ox_e3 (hC : C ≤ 24) {p i : Nat} (hp : p ≤ C) (eo : oo p = 3) (ea : aa p = nI i) (hi : i < 8) {j l : Nat} (eb : bb p = nI j) (hj : j < 8) (ec : cc p = nI l) (hl : l < 8) (hp1 : p + 1 ≤ C) {post : SX → Prop} (h : post (g0, g1, g2, g3, g4, g5, g6, g7, g8, g9, g10, g11, g12, g13, nI C, nI M, nI O, ov_al M, ln, pl, md, nI (p + 1), ov_du pl lv (p + 1), sp, rs, cm, tt, oo, aa, bb, cc, lv, upd rg i (rg j + rg l), sv, me, ou, cl, cv, ex)) : wpX_execute post (g0, g1, g2, g3, g4, g5, g6, g7, g8, g9, g10, g11, g12, g13, nI C, nI M, nI O, ov_al M, ln, pl, md, nI p, du, sp, rs, cm, tt, oo, aa, bb, cc, lv, rg, sv, me, ou, cl, cv, ex) := by
  have hin : vp_in (nI p) 25 := vp_in_nI (by omega) (by omega)
  have hcl : (nI p).toNatClampNeg = p := nI_clamp (by omega)
  have cli : (nI i).toNatClampNeg = i := nI_clamp (by omega)
  have ini : vp_in (nI i) 8 := vp_in_nI (by omega) (by omega)
  refine ⟨hin, nm_r (e' := (3 : Int32)) (by rw [hcl, eo]) ⟨hin, nm_r (e' := nI i) (by rw [hcl, ea]) (br_f (by decide) ?_)⟩⟩
  refine ox_nx hC hp (by rw [eo]; decide) (by rw [eo]; decide) (by rw [eo]; decide) ?_
  refine br_f (by decide) (br_f (by decide) (br_f (by decide) ?_))
  refine ox_c3 hC hp eo eb hj ec hl ⟨ini, nm_r (e' := upd rg i (rg j + rg l)) (by rw [cli]) ?_⟩
  exact ox_151 (by omega) h
theorem ox_c4 (hC : C ≤ 24) {p : Nat} (hp : p ≤ C) (eo : oo p = 4) {j l : Nat} (eb : bb p = nI j) (hj : j < 8) (ec : cc p = nI l) (hl : l < 8) {post : Int32 → Prop} (h : post (rg j - rg l)) : wpX_computed post (g0, g1, g2, g3, g4, g5, g6, g7, g8, g9, g10, g11, g12, g13, nI C, nI M, nI O, ov_al M, ln, pl, md, nI p, du, sp, rs, cm, tt, oo, aa, bb, cc, lv, rg, sv, me, ou, cl, cv, ex) := by
  have hin : vp_in (nI p) 25 := vp_in_nI (by omega) (by omega)
  have hcl : (nI p).toNatClampNeg = p := nI_clamp (by omega)
  have clj : (nI j).toNatClampNeg = j := nI_clamp (by omega)
  have inj : vp_in (nI j) 8 := vp_in_nI (by omega) (by omega)
  have cll : (nI l).toNatClampNeg = l := nI_clamp (by omega)
  have inl : vp_in (nI l) 8 := vp_in_nI (by omega) (by omega)
  refine ⟨hin, nm_r (e' := nI j) (by rw [hcl, eb]) ⟨hin, nm_r (e' := nI l) (by rw [hcl, ec]) ⟨hin, nm_r (e' := (4 : Int32)) (by rw [hcl, eo]) (br_f (by decide) (br_f (by decide) (br_f (by decide) (br_f (by decide) (br_f (by decide) (br_t rfl ⟨inj, inl, ?_⟩))))))⟩⟩⟩
  rw [clj, cll]
  exact h
theorem ox_e4 (hC : C ≤ 24) {p i : Nat} (hp : p ≤ C) (eo : oo p = 4) (ea : aa p = nI i) (hi : i < 8) {j l : Nat} (eb : bb p = nI j) (hj : j < 8) (ec : cc p = nI l) (hl : l < 8) (hp1 : p + 1 ≤ C) {post : SX → Prop} (h : post (g0, g1, g2, g3, g4, g5, g6, g7, g8, g9, g10, g11, g12, g13, nI C, nI M, nI O, ov_al M, ln, pl, md, nI (p + 1), ov_du pl lv (p + 1), sp, rs, cm, tt, oo, aa, bb, cc, lv, upd rg i (rg j - rg l), sv, me, ou, cl, cv, ex)) : wpX_execute post (g0, g1, g2, g3, g4, g5, g6, g7, g8, g9, g10, g11, g12, g13, nI C, nI M, nI O, ov_al M, ln, pl, md, nI p, du, sp, rs, cm, tt, oo, aa, bb, cc, lv, rg, sv, me, ou, cl, cv, ex) := by
  have hin : vp_in (nI p) 25 := vp_in_nI (by omega) (by omega)
  have hcl : (nI p).toNatClampNeg = p := nI_clamp (by omega)
  have cli : (nI i).toNatClampNeg = i := nI_clamp (by omega)
  have ini : vp_in (nI i) 8 := vp_in_nI (by omega) (by omega)
  refine ⟨hin, nm_r (e' := (4 : Int32)) (by rw [hcl, eo]) ⟨hin, nm_r (e' := nI i) (by rw [hcl, ea]) (br_f (by decide) ?_)⟩⟩
  refine ox_nx hC hp (by rw [eo]; decide) (by rw [eo]; decide) (by rw [eo]; decide) ?_
  refine br_f (by decide) (br_f (by decide) (br_f (by decide) ?_))
  refine ox_c4 hC hp eo eb hj ec hl ⟨ini, nm_r (e' := upd rg i (rg j - rg l)) (by rw [cli]) ?_⟩
  exact ox_151 (by omega) h
theorem ox_c5 (hC : C ≤ 24) {p : Nat} (hp : p ≤ C) (eo : oo p = 5) {j l : Nat} (eb : bb p = nI j) (hj : j < 8) (ec : cc p = nI l) (hl : l < 8) {post : Int32 → Prop} (h : post (rg j * rg l)) : wpX_computed post (g0, g1, g2, g3, g4, g5, g6, g7, g8, g9, g10, g11, g12, g13, nI C, nI M, nI O, ov_al M, ln, pl, md, nI p, du, sp, rs, cm, tt, oo, aa, bb, cc, lv, rg, sv, me, ou, cl, cv, ex) := by
  have hin : vp_in (nI p) 25 := vp_in_nI (by omega) (by omega)
  have hcl : (nI p).toNatClampNeg = p := nI_clamp (by omega)
  have clj : (nI j).toNatClampNeg = j := nI_clamp (by omega)
  have inj : vp_in (nI j) 8 := vp_in_nI (by omega) (by omega)
  have cll : (nI l).toNatClampNeg = l := nI_clamp (by omega)
  have inl : vp_in (nI l) 8 := vp_in_nI (by omega) (by omega)
  refine ⟨hin, nm_r (e' := nI j) (by rw [hcl, eb]) ⟨hin, nm_r (e' := nI l) (by rw [hcl, ec]) ⟨hin, nm_r (e' := (5 : Int32)) (by rw [hcl, eo]) (br_f (by decide) (br_f (by decide) (br_f (by decide) (br_f (by decide) (br_f (by decide) (br_f (by decide) ⟨inj, inl, ?_⟩))))))⟩⟩⟩
  rw [clj, cll]
  exact h
theorem ox_e5 (hC : C ≤ 24) {p i : Nat} (hp : p ≤ C) (eo : oo p = 5) (ea : aa p = nI i) (hi : i < 8) {j l : Nat} (eb : bb p = nI j) (hj : j < 8) (ec : cc p = nI l) (hl : l < 8) (hp1 : p + 1 ≤ C) {post : SX → Prop} (h : post (g0, g1, g2, g3, g4, g5, g6, g7, g8, g9, g10, g11, g12, g13, nI C, nI M, nI O, ov_al M, ln, pl, md, nI (p + 1), ov_du pl lv (p + 1), sp, rs, cm, tt, oo, aa, bb, cc, lv, upd rg i (rg j * rg l), sv, me, ou, cl, cv, ex)) : wpX_execute post (g0, g1, g2, g3, g4, g5, g6, g7, g8, g9, g10, g11, g12, g13, nI C, nI M, nI O, ov_al M, ln, pl, md, nI p, du, sp, rs, cm, tt, oo, aa, bb, cc, lv, rg, sv, me, ou, cl, cv, ex) := by
  have hin : vp_in (nI p) 25 := vp_in_nI (by omega) (by omega)
  have hcl : (nI p).toNatClampNeg = p := nI_clamp (by omega)
  have cli : (nI i).toNatClampNeg = i := nI_clamp (by omega)
  have ini : vp_in (nI i) 8 := vp_in_nI (by omega) (by omega)
  refine ⟨hin, nm_r (e' := (5 : Int32)) (by rw [hcl, eo]) ⟨hin, nm_r (e' := nI i) (by rw [hcl, ea]) (br_f (by decide) ?_)⟩⟩
  refine ox_nx hC hp (by rw [eo]; decide) (by rw [eo]; decide) (by rw [eo]; decide) ?_
  refine br_f (by decide) (br_f (by decide) (br_f (by decide) ?_))
  refine ox_c5 hC hp eo eb hj ec hl ⟨ini, nm_r (e' := upd rg i (rg j * rg l)) (by rw [cli]) ?_⟩
  exact ox_151 (by omega) h
theorem ox_c6 (hC : C ≤ 24) {p : Nat} (hp : p ≤ C) (eo : oo p = 6) {j : Nat} (eb : bb p = nI j) (hj : j < 16) {post : Int32 → Prop} (h : post (me j)) : wpX_computed post (g0, g1, g2, g3, g4, g5, g6, g7, g8, g9, g10, g11, g12, g13, nI C, nI M, nI O, ov_al M, ln, pl, md, nI p, du, sp, rs, cm, tt, oo, aa, bb, cc, lv, rg, sv, me, ou, cl, cv, ex) := by
  have hin : vp_in (nI p) 25 := vp_in_nI (by omega) (by omega)
  have hcl : (nI p).toNatClampNeg = p := nI_clamp (by omega)
  have clm : (nI j).toNatClampNeg = j := nI_clamp (by omega)
  have inm : vp_in (nI j) 16 := vp_in_nI (by omega) (by omega)
  refine ⟨hin, nm_r (e' := nI j) (by rw [hcl, eb]) ⟨hin, nm_r (e' := cc p) (by rw [hcl]) ⟨hin, nm_r (e' := (6 : Int32)) (by rw [hcl, eo]) (br_f (by decide) (br_t rfl ⟨inm, ?_⟩))⟩⟩⟩
  rw [clm]
  exact h
theorem ox_e6 (hC : C ≤ 24) {p i : Nat} (hp : p ≤ C) (eo : oo p = 6) (ea : aa p = nI i) (hi : i < 8) {j : Nat} (eb : bb p = nI j) (hj : j < 16) (hp1 : p + 1 ≤ C) {post : SX → Prop} (h : post (g0, g1, g2, g3, g4, g5, g6, g7, g8, g9, g10, g11, g12, g13, nI C, nI M, nI O, ov_al M, ln, pl, md, nI (p + 1), ov_du pl lv (p + 1), sp, rs, cm, tt, oo, aa, bb, cc, lv, upd rg i (me j), sv, me, ou, cl, cv, ex)) : wpX_execute post (g0, g1, g2, g3, g4, g5, g6, g7, g8, g9, g10, g11, g12, g13, nI C, nI M, nI O, ov_al M, ln, pl, md, nI p, du, sp, rs, cm, tt, oo, aa, bb, cc, lv, rg, sv, me, ou, cl, cv, ex) := by
  have hin : vp_in (nI p) 25 := vp_in_nI (by omega) (by omega)
  have hcl : (nI p).toNatClampNeg = p := nI_clamp (by omega)
  have cli : (nI i).toNatClampNeg = i := nI_clamp (by omega)
  have ini : vp_in (nI i) 8 := vp_in_nI (by omega) (by omega)
  refine ⟨hin, nm_r (e' := (6 : Int32)) (by rw [hcl, eo]) ⟨hin, nm_r (e' := nI i) (by rw [hcl, ea]) (br_f (by decide) ?_)⟩⟩
  refine ox_nx hC hp (by rw [eo]; decide) (by rw [eo]; decide) (by rw [eo]; decide) ?_
  refine br_f (by decide) (br_f (by decide) (br_f (by decide) ?_))
  refine ox_c6 hC hp eo eb hj ⟨ini, nm_r (e' := upd rg i (me j)) (by rw [cli]) ?_⟩
  exact ox_151 (by omega) h
theorem ox_c7 (hC : C ≤ 24) {p : Nat} (hp : p ≤ C) (eo : oo p = 7) {j l t : Nat} (eb : bb p = nI j) (hj : j + 4 ≤ 16) (ec : cc p = nI l) (hl : l < 8) (et : rg l &&& 3 = nI t) (ht : t < 4) {post : Int32 → Prop} (h : post (me (j + t))) : wpX_computed post (g0, g1, g2, g3, g4, g5, g6, g7, g8, g9, g10, g11, g12, g13, nI C, nI M, nI O, ov_al M, ln, pl, md, nI p, du, sp, rs, cm, tt, oo, aa, bb, cc, lv, rg, sv, me, ou, cl, cv, ex) := by
  have hin : vp_in (nI p) 25 := vp_in_nI (by omega) (by omega)
  have hcl : (nI p).toNatClampNeg = p := nI_clamp (by omega)
  have cll : (nI l).toNatClampNeg = l := nI_clamp (by omega)
  have inl : vp_in (nI l) 8 := vp_in_nI (by omega) (by omega)
  have cla : (nI (j + t)).toNatClampNeg = (j + t) := nI_clamp (by omega)
  have ina : vp_in (nI (j + t)) 16 := vp_in_nI (by omega) (by omega)
  refine ⟨hin, nm_r (e' := nI j) (by rw [hcl, eb]) ⟨hin, nm_r (e' := nI l) (by rw [hcl, ec]) ⟨hin, nm_r (e' := (7 : Int32)) (by rw [hcl, eo]) (br_f (by decide) (br_f (by decide) (br_t rfl ?_)))⟩⟩⟩
  refine ox_wc hC hp eb ec hl et ⟨ina, ?_⟩
  rw [cla]
  exact h
theorem ox_e7 (hC : C ≤ 24) {p i : Nat} (hp : p ≤ C) (eo : oo p = 7) (ea : aa p = nI i) (hi : i < 8) {j l t : Nat} (eb : bb p = nI j) (hj : j + 4 ≤ 16) (ec : cc p = nI l) (hl : l < 8) (et : rg l &&& 3 = nI t) (ht : t < 4) (hp1 : p + 1 ≤ C) {post : SX → Prop} (h : post (g0, g1, g2, g3, g4, g5, g6, g7, g8, g9, g10, g11, g12, g13, nI C, nI M, nI O, ov_al M, ln, pl, md, nI (p + 1), ov_du pl lv (p + 1), sp, rs, cm, tt, oo, aa, bb, cc, lv, upd rg i (me (j + t)), sv, me, ou, cl, cv, ex)) : wpX_execute post (g0, g1, g2, g3, g4, g5, g6, g7, g8, g9, g10, g11, g12, g13, nI C, nI M, nI O, ov_al M, ln, pl, md, nI p, du, sp, rs, cm, tt, oo, aa, bb, cc, lv, rg, sv, me, ou, cl, cv, ex) := by
  have hin : vp_in (nI p) 25 := vp_in_nI (by omega) (by omega)
  have hcl : (nI p).toNatClampNeg = p := nI_clamp (by omega)
  have cli : (nI i).toNatClampNeg = i := nI_clamp (by omega)
  have ini : vp_in (nI i) 8 := vp_in_nI (by omega) (by omega)
  refine ⟨hin, nm_r (e' := (7 : Int32)) (by rw [hcl, eo]) ⟨hin, nm_r (e' := nI i) (by rw [hcl, ea]) (br_f (by decide) ?_)⟩⟩
  refine ox_nx hC hp (by rw [eo]; decide) (by rw [eo]; decide) (by rw [eo]; decide) ?_
  refine br_f (by decide) (br_f (by decide) (br_f (by decide) ?_))
  refine ox_c7 hC hp eo eb hj ec hl et ht ⟨ini, nm_r (e' := upd rg i (me (j + t))) (by rw [cli]) ?_⟩
  exact ox_151 (by omega) h
theorem ox_e0 (hC : C ≤ 24) {p i : Nat} (hp : p ≤ C) (eo : oo p = 0) (ea : aa p = nI i) (hi : i < 8) {post : SX → Prop} (h : post (g0, g1, g2, g3, g4, g5, g6, g7, g8, g9, g10, g11, g12, g13, nI C, nI M, nI O, ov_al M, ln, pl, 2, nI p, du, sp, rg i, tt, tt, oo, aa, bb, cc, lv, rg, sv, me, ou, cl, cv, ex)) : wpX_execute post (g0, g1, g2, g3, g4, g5, g6, g7, g8, g9, g10, g11, g12, g13, nI C, nI M, nI O, ov_al M, ln, pl, md, nI p, du, sp, rs, cm, tt, oo, aa, bb, cc, lv, rg, sv, me, ou, cl, cv, ex) := by
  have hin : vp_in (nI p) 25 := vp_in_nI (by omega) (by omega)
  have hcl : (nI p).toNatClampNeg = p := nI_clamp (by omega)
  have cli : (nI i).toNatClampNeg = i := nI_clamp (by omega)
  have ini : vp_in (nI i) 8 := vp_in_nI (by omega) (by omega)
  refine ⟨hin, nm_r (e' := (0 : Int32)) (by rw [hcl, eo]) ⟨hin, nm_r (e' := nI i) (by rw [hcl, ea]) (br_t rfl ⟨ini, nm_r (e' := rg i) (by rw [cli]) h⟩)⟩⟩
theorem ox_e8 (hC : C ≤ 24) {p i : Nat} (hp : p ≤ C) (eo : oo p = 8) (ea : aa p = nI i) (hi : i < 8) {j : Nat} (eb : bb p = nI j) (hj : j < 16) (hp1 : p + 1 ≤ C) {post : SX → Prop} (h : post (g0, g1, g2, g3, g4, g5, g6, g7, g8, g9, g10, g11, g12, g13, nI C, nI M, nI O, ov_al M, ln, pl, md, nI (p + 1), ov_du pl lv (p + 1), sp, rs, cm, tt, oo, aa, bb, cc, lv, rg, sv, upd me j (rg i), ou, cl, cv, ex)) : wpX_execute post (g0, g1, g2, g3, g4, g5, g6, g7, g8, g9, g10, g11, g12, g13, nI C, nI M, nI O, ov_al M, ln, pl, md, nI p, du, sp, rs, cm, tt, oo, aa, bb, cc, lv, rg, sv, me, ou, cl, cv, ex) := by
  have hin : vp_in (nI p) 25 := vp_in_nI (by omega) (by omega)
  have hcl : (nI p).toNatClampNeg = p := nI_clamp (by omega)
  have cli : (nI i).toNatClampNeg = i := nI_clamp (by omega)
  have ini : vp_in (nI i) 8 := vp_in_nI (by omega) (by omega)
  have clm : (nI j).toNatClampNeg = j := nI_clamp (by omega)
  have inm : vp_in (nI j) 16 := vp_in_nI (by omega) (by omega)
  refine ⟨hin, nm_r (e' := (8 : Int32)) (by rw [hcl, eo]) ⟨hin, nm_r (e' := nI i) (by rw [hcl, ea]) (br_f (by decide) ?_)⟩⟩
  refine ox_nx hC hp (by rw [eo]; decide) (by rw [eo]; decide) (by rw [eo]; decide) ?_
  refine br_f (by decide) (br_t (by decide) (br_t rfl (br_t rfl ⟨hin, ini, ?_⟩)))
  rw [hcl, eb, clm, cli]
  exact ⟨inm, nm_e (ox_151 (by omega) h)⟩
theorem ox_e9 (hC : C ≤ 24) {p i : Nat} (hp : p ≤ C) (eo : oo p = 9) (ea : aa p = nI i) (hi : i < 8) {j l t : Nat} (eb : bb p = nI j) (hj : j + 4 ≤ 16) (ec : cc p = nI l) (hl : l < 8) (et : rg l &&& 3 = nI t) (ht : t < 4) (hp1 : p + 1 ≤ C) {post : SX → Prop} (h : post (g0, g1, g2, g3, g4, g5, g6, g7, g8, g9, g10, g11, g12, g13, nI C, nI M, nI O, ov_al M, ln, pl, md, nI (p + 1), ov_du pl lv (p + 1), sp, rs, cm, tt, oo, aa, bb, cc, lv, rg, sv, upd me (j + t) (rg i), ou, cl, cv, ex)) : wpX_execute post (g0, g1, g2, g3, g4, g5, g6, g7, g8, g9, g10, g11, g12, g13, nI C, nI M, nI O, ov_al M, ln, pl, md, nI p, du, sp, rs, cm, tt, oo, aa, bb, cc, lv, rg, sv, me, ou, cl, cv, ex) := by
  have hin : vp_in (nI p) 25 := vp_in_nI (by omega) (by omega)
  have hcl : (nI p).toNatClampNeg = p := nI_clamp (by omega)
  have cli : (nI i).toNatClampNeg = i := nI_clamp (by omega)
  have ini : vp_in (nI i) 8 := vp_in_nI (by omega) (by omega)
  have cla : (nI (j + t)).toNatClampNeg = (j + t) := nI_clamp (by omega)
  have ina : vp_in (nI (j + t)) 16 := vp_in_nI (by omega) (by omega)
  refine ⟨hin, nm_r (e' := (9 : Int32)) (by rw [hcl, eo]) ⟨hin, nm_r (e' := nI i) (by rw [hcl, ea]) (br_f (by decide) ?_)⟩⟩
  refine ox_nx hC hp (by rw [eo]; decide) (by rw [eo]; decide) (by rw [eo]; decide) ?_
  refine br_f (by decide) (br_t (by decide) (br_t rfl (br_f (by decide) (br_t rfl ?_))))
  refine ox_wc hC hp eb ec hl et ⟨ini, ina, ?_⟩
  rw [cla, cli]
  exact nm_e (ox_151 (by omega) h)
theorem ox_po {T : Nat} (hT : T < O) (hO : O ≤ 32) {y : Int32} {post : SX → Prop} (h : post (g0, g1, g2, g3, g4, g5, g6, g7, g8, g9, g10, g11, g12, g13, nI C, nI M, nI O, ov_al M, ln, pl, md, pc, du, sp, rs, cm, nI (T + 1), oo, aa, bb, cc, lv, rg, sv, me, upd ou T y, cl, cv, ex)) : wpX_putOut post (g0, g1, g2, g3, g4, g5, g6, g7, g8, g9, g10, g11, g12, g13, nI C, nI M, nI O, ov_al M, ln, pl, md, pc, du, sp, rs, cm, nI T, oo, aa, bb, cc, lv, rg, sv, me, ou, cl, cv, ex) y := by
  have clT : (nI T).toNatClampNeg = T := nI_clamp (by omega)
  refine br_f (nI_ge hT (by omega)) ⟨vp_in_nI (by omega) (by omega), nm_r (e' := upd ou T y) (by rw [clT]) (nm_r (nI_1 T) h)⟩
theorem ox_po0 {T : Nat} (hT : O ≤ T) (hT2 : T ≤ 32) {y : Int32} {post : SX → Prop} (h : post (g0, g1, g2, g3, g4, g5, g6, g7, g8, g9, g10, g11, g12, g13, nI C, nI M, nI O, ov_al M, ln, pl, md, pc, du, sp, rs, cm, nI T, oo, aa, bb, cc, lv, rg, sv, me, ou, cl, cv, ex)) : wpX_putOut post (g0, g1, g2, g3, g4, g5, g6, g7, g8, g9, g10, g11, g12, g13, nI C, nI M, nI O, ov_al M, ln, pl, md, pc, du, sp, rs, cm, nI T, oo, aa, bb, cc, lv, rg, sv, me, ou, cl, cv, ex) y := br_t (nI_le hT (by omega)) h
theorem ox_e13 (hC : C ≤ 24) {p i : Nat} (hp : p ≤ C) (eo : oo p = 13) (ea : aa p = nI i) (hi : i < 8) (hp1 : p + 1 ≤ C) {T : Nat} (hT : T < O) (hO : O ≤ 32) {post : SX → Prop} (h : post (g0, g1, g2, g3, g4, g5, g6, g7, g8, g9, g10, g11, g12, g13, nI C, nI M, nI O, ov_al M, ln, pl, md, nI (p + 1), ov_du pl lv (p + 1), sp, rs, cm, nI (T + 1), oo, aa, bb, cc, lv, rg, sv, me, upd ou T (rg i), cl, cv, ex)) : wpX_execute post (g0, g1, g2, g3, g4, g5, g6, g7, g8, g9, g10, g11, g12, g13, nI C, nI M, nI O, ov_al M, ln, pl, md, nI p, du, sp, rs, cm, nI T, oo, aa, bb, cc, lv, rg, sv, me, ou, cl, cv, ex) := by
  have hin : vp_in (nI p) 25 := vp_in_nI (by omega) (by omega)
  have hcl : (nI p).toNatClampNeg = p := nI_clamp (by omega)
  have cli : (nI i).toNatClampNeg = i := nI_clamp (by omega)
  have ini : vp_in (nI i) 8 := vp_in_nI (by omega) (by omega)
  refine ⟨hin, nm_r (e' := (13 : Int32)) (by rw [hcl, eo]) ⟨hin, nm_r (e' := nI i) (by rw [hcl, ea]) (br_f (by decide) ?_)⟩⟩
  refine ox_nx hC hp (by rw [eo]; decide) (by rw [eo]; decide) (by rw [eo]; decide) ?_
  refine br_f (by decide) (br_t (by decide) (br_t rfl (br_f (by decide) (br_f (by decide) (br_t rfl ⟨ini, ?_⟩)))))
  rw [cli]
  refine ox_po hT hO ?_
  exact ox_151 (by omega) h
theorem ox_e13n (hC : C ≤ 24) {p i : Nat} (hp : p ≤ C) (eo : oo p = 13) (ea : aa p = nI i) (hi : i < 8) (hp1 : p + 1 ≤ C) {T : Nat} (hT : O ≤ T) (hT2 : T ≤ 32) {post : SX → Prop} (h : post (g0, g1, g2, g3, g4, g5, g6, g7, g8, g9, g10, g11, g12, g13, nI C, nI M, nI O, ov_al M, ln, pl, md, nI (p + 1), ov_du pl lv (p + 1), sp, rs, cm, nI T, oo, aa, bb, cc, lv, rg, sv, me, ou, cl, cv, ex)) : wpX_execute post (g0, g1, g2, g3, g4, g5, g6, g7, g8, g9, g10, g11, g12, g13, nI C, nI M, nI O, ov_al M, ln, pl, md, nI p, du, sp, rs, cm, nI T, oo, aa, bb, cc, lv, rg, sv, me, ou, cl, cv, ex) := by
  have hin : vp_in (nI p) 25 := vp_in_nI (by omega) (by omega)
  have hcl : (nI p).toNatClampNeg = p := nI_clamp (by omega)
  have cli : (nI i).toNatClampNeg = i := nI_clamp (by omega)
  have ini : vp_in (nI i) 8 := vp_in_nI (by omega) (by omega)
  refine ⟨hin, nm_r (e' := (13 : Int32)) (by rw [hcl, eo]) ⟨hin, nm_r (e' := nI i) (by rw [hcl, ea]) (br_f (by decide) ?_)⟩⟩
  refine ox_nx hC hp (by rw [eo]; decide) (by rw [eo]; decide) (by rw [eo]; decide) ?_
  refine br_f (by decide) (br_t (by decide) (br_t rfl (br_f (by decide) (br_f (by decide) (br_t rfl ⟨ini, ?_⟩)))))
  rw [cli]
  refine ox_po0 hT hT2 ?_
  exact ox_151 (by omega) h
theorem ox_e10 (hC : C ≤ 24) {p t : Nat} (hp : p ≤ C) (eo : oo p = 10) (ea : aa p = nI t) (ht : t ≤ C) {post : SX → Prop} (h : post (g0, g1, g2, g3, g4, g5, g6, g7, g8, g9, g10, g11, g12, g13, nI C, nI M, nI O, ov_al M, ln, pl, md, nI t, ov_du pl lv t, sp, rs, cm, tt, oo, aa, bb, cc, lv, rg, sv, me, ou, cl, cv, ex)) : wpX_execute post (g0, g1, g2, g3, g4, g5, g6, g7, g8, g9, g10, g11, g12, g13, nI C, nI M, nI O, ov_al M, ln, pl, md, nI p, du, sp, rs, cm, tt, oo, aa, bb, cc, lv, rg, sv, me, ou, cl, cv, ex) := by
  have hin : vp_in (nI p) 25 := vp_in_nI (by omega) (by omega)
  have hcl : (nI p).toNatClampNeg = p := nI_clamp (by omega)
  refine ⟨hin, nm_r (e' := (10 : Int32)) (by rw [hcl, eo]) ⟨hin, nm_r (e' := nI t) (by rw [hcl, ea]) (br_f (by decide) ?_)⟩⟩
  refine ox_nx10 hC hp eo ?_
  rw [ea]
  exact br_f (by decide) (br_t (by decide) (br_t rfl (br_f (by decide) (br_f (by decide) (br_f (by decide) (ox_151 (by omega) h))))))
theorem ox_e11 (hC : C ≤ 24) {p i : Nat} (hp : p ≤ C) (eo : oo p = 11) (ea : aa p = nI i) (hi : i < 8) (hp1 : p + 1 ≤ C) {t : Nat} (eb : bb p = nI t) (ht : t ≤ C) {post : SX → Prop} (h0 : rg i = 0 → post (g0, g1, g2, g3, g4, g5, g6, g7, g8, g9, g10, g11, g12, g13, nI C, nI M, nI O, ov_al M, ln, pl, md, nI (p + 1), ov_du pl lv (p + 1), sp, rs, cm, tt, oo, aa, bb, cc, lv, rg, sv, me, ou, cl, cv, ex)) (h1 : ¬ rg i = 0 → post (g0, g1, g2, g3, g4, g5, g6, g7, g8, g9, g10, g11, g12, g13, nI C, nI M, nI O, ov_al M, ln, pl, md, nI t, ov_du pl lv t, sp, rs, cm, tt, oo, aa, bb, cc, lv, rg, sv, me, ou, cl, cv, ex)) : wpX_execute post (g0, g1, g2, g3, g4, g5, g6, g7, g8, g9, g10, g11, g12, g13, nI C, nI M, nI O, ov_al M, ln, pl, md, nI p, du, sp, rs, cm, tt, oo, aa, bb, cc, lv, rg, sv, me, ou, cl, cv, ex) := by
  have hin : vp_in (nI p) 25 := vp_in_nI (by omega) (by omega)
  have hcl : (nI p).toNatClampNeg = p := nI_clamp (by omega)
  have cli : (nI i).toNatClampNeg = i := nI_clamp (by omega)
  have ini : vp_in (nI i) 8 := vp_in_nI (by omega) (by omega)
  refine ⟨hin, nm_r (e' := (11 : Int32)) (by rw [hcl, eo]) ⟨hin, nm_r (e' := nI i) (by rw [hcl, ea]) (br_f (by decide) ?_)⟩⟩
  refine ox_nx11 hC hp eo ea hi (fun e => ?_) (fun e => ?_)
  · exact br_f (by decide) (br_t (by decide) (br_t rfl (br_f (by decide) (br_f (by decide) (br_f (by decide) (ox_151 (by omega) (h0 e)))))))
  · rw [eb]
    exact br_f (by decide) (br_t (by decide) (br_t rfl (br_f (by decide) (br_f (by decide) (br_f (by decide) (ox_151 (by omega) (h1 e)))))))
theorem ox_e12 (hC : C ≤ 24) {p i : Nat} (hp : p ≤ C) (eo : oo p = 12) (ea : aa p = nI i) (hi : i < 8) {j : Nat} (eb : bb p = nI j) (hj : j < 8) (hp1 : p + 1 ≤ C) {t : Nat} (ec : cc p = nI t) (ht : t ≤ C) {post : SX → Prop} (h0 : rg j ≤ rg i → post (g0, g1, g2, g3, g4, g5, g6, g7, g8, g9, g10, g11, g12, g13, nI C, nI M, nI O, ov_al M, ln, pl, md, nI (p + 1), ov_du pl lv (p + 1), sp, rs, cm, tt, oo, aa, bb, cc, lv, rg, sv, me, ou, cl, cv, ex)) (h1 : ¬ rg j ≤ rg i → post (g0, g1, g2, g3, g4, g5, g6, g7, g8, g9, g10, g11, g12, g13, nI C, nI M, nI O, ov_al M, ln, pl, md, nI t, ov_du pl lv t, sp, rs, cm, tt, oo, aa, bb, cc, lv, rg, sv, me, ou, cl, cv, ex)) : wpX_execute post (g0, g1, g2, g3, g4, g5, g6, g7, g8, g9, g10, g11, g12, g13, nI C, nI M, nI O, ov_al M, ln, pl, md, nI p, du, sp, rs, cm, tt, oo, aa, bb, cc, lv, rg, sv, me, ou, cl, cv, ex) := by
  have hin : vp_in (nI p) 25 := vp_in_nI (by omega) (by omega)
  have hcl : (nI p).toNatClampNeg = p := nI_clamp (by omega)
  have cli : (nI i).toNatClampNeg = i := nI_clamp (by omega)
  have ini : vp_in (nI i) 8 := vp_in_nI (by omega) (by omega)
  refine ⟨hin, nm_r (e' := (12 : Int32)) (by rw [hcl, eo]) ⟨hin, nm_r (e' := nI i) (by rw [hcl, ea]) (br_f (by decide) ?_)⟩⟩
  refine ox_nx12 hC hp eo ea hi eb hj (fun e => ?_) (fun e => ?_)
  · exact br_f (by decide) (br_t (by decide) (br_t rfl (br_f (by decide) (br_f (by decide) (br_f (by decide) (ox_151 (by omega) (h0 e)))))))
  · rw [ec]
    exact br_f (by decide) (br_t (by decide) (br_t rfl (br_f (by decide) (br_f (by decide) (br_f (by decide) (ox_151 (by omega) (h1 e)))))))
end
end
section
/-! ===== Y: step, one lemma an op (written by gen17.py) ===== -/
section
variable {g0 g1 g2 g3 g4 g5 g6 g7 g8 g9 g10 g11 g12 g13 al ln pl md pc du wl sp rs cm tt : Int32} {oo aa bb cc lv rg sv me ou cl cv ex : Nat → Int32}
variable {C M O : Nat}
theorem oy_399 (w : ov_wf C M oo aa bb cc) (hl : ov_lvok C oo aa bb cc lv) {n : Nat} (hn : n ≤ C) {post : SY → Prop} (h : post (nI C, nI M, nI O, ln, pl, md, nI n, ov_du pl lv n, sp, rs, cm, tt, oo, aa, bb, cc, rg, sv, me, ou)) : wY_step_399 post (nI n) (nI C) (nI M) (nI O) ln pl md pc wl sp rs cm tt oo aa bb cc rg sv me ou := oy_arr w hl hn h
theorem oy_e1 (w : ov_wf C M oo aa bb cc) (hl : ov_lvok C oo aa bb cc lv) {p i : Nat} (hp : p ≤ C) (eo : oo p = 1) (ea : aa p = nI i) (hi : i < 8) (hp1 : p + 1 ≤ C) (hw : wl ≤ 0) {post : SY → Prop} (h : post (nI C, nI M, nI O, ln, pl, md, nI (p + 1), ov_du pl lv (p + 1), sp, rs, cm, tt, oo, aa, bb, cc, upd rg i (bb p), sv, me, ou)) : wpY_step post (nI C, nI M, nI O, ln, pl, md, nI p, wl, sp, rs, cm, tt, oo, aa, bb, cc, rg, sv, me, ou) := by
  have hC := w.2.1
  have hin : vp_in (nI p) 25 := vp_in_nI (by omega) (by omega)
  have hcl : (nI p).toNatClampNeg = p := nI_clamp (by omega)
  have cli : (nI i).toNatClampNeg = i := nI_clamp (by omega)
  have ini : vp_in (nI i) 8 := vp_in_nI (by omega) (by omega)
  refine br_t hw ⟨hin, nm_r (e' := (1 : Int32)) (by rw [hcl, eo]) ⟨hin, nm_r (e' := nI i) (by rw [hcl, ea]) ⟨hin, nm_r (e' := bb p) (by rw [hcl]) ⟨hin, nm_r (e' := cc p) (by rw [hcl]) (nm_r (nI_1 p) (br_f (by decide) (br_t rfl (⟨ini, nm_r (e' := upd rg i (bb p)) (by rw [cli]) (br_f (by decide) (br_f (by decide) (br_f (by decide) (br_f (by decide) (br_f (by decide) (br_f (by decide) (br_f (by decide) (br_f (by decide) (br_f (by decide) (br_f (by decide) (br_f (by decide) (br_f (by decide) (oy_399 w hl hp1 h)))))))))))))⟩))))⟩⟩⟩⟩
theorem oy_e2 (w : ov_wf C M oo aa bb cc) (hl : ov_lvok C oo aa bb cc lv) {p i : Nat} (hp : p ≤ C) (eo : oo p = 2) (ea : aa p = nI i) (hi : i < 8) {j : Nat} (eb : bb p = nI j) (hj : j < 8) (hp1 : p + 1 ≤ C) (hw : wl ≤ 0) {post : SY → Prop} (h : post (nI C, nI M, nI O, ln, pl, md, nI (p + 1), ov_du pl lv (p + 1), sp, rs, cm, tt, oo, aa, bb, cc, upd rg i (rg j + cc p), sv, me, ou)) : wpY_step post (nI C, nI M, nI O, ln, pl, md, nI p, wl, sp, rs, cm, tt, oo, aa, bb, cc, rg, sv, me, ou) := by
  have hC := w.2.1
  have hin : vp_in (nI p) 25 := vp_in_nI (by omega) (by omega)
  have hcl : (nI p).toNatClampNeg = p := nI_clamp (by omega)
  have cli : (nI i).toNatClampNeg = i := nI_clamp (by omega)
  have ini : vp_in (nI i) 8 := vp_in_nI (by omega) (by omega)
  have clj : (nI j).toNatClampNeg = j := nI_clamp (by omega)
  have inj : vp_in (nI j) 8 := vp_in_nI (by omega) (by omega)
  refine br_t hw ⟨hin, nm_r (e' := (2 : Int32)) (by rw [hcl, eo]) ⟨hin, nm_r (e' := nI i) (by rw [hcl, ea]) ⟨hin, nm_r (e' := nI j) (by rw [hcl, eb]) ⟨hin, nm_r (e' := cc p) (by rw [hcl]) (nm_r (nI_1 p) (br_f (by decide) (br_f (by decide) (br_t rfl (⟨inj, ini, nm_r (e' := upd rg i (rg j + cc p)) (by rw [cli, clj]) (br_f (by decide) (br_f (by decide) (br_f (by decide) (br_f (by decide) (br_f (by decide) (br_f (by decide) (br_f (by decide) (br_f (by decide) (br_f (by decide) (br_f (by decide) (br_f (by decide) (oy_399 w hl hp1 h))))))))))))⟩)))))⟩⟩⟩⟩
theorem oy_e3 (w : ov_wf C M oo aa bb cc) (hl : ov_lvok C oo aa bb cc lv) {p i : Nat} (hp : p ≤ C) (eo : oo p = 3) (ea : aa p = nI i) (hi : i < 8) {j l : Nat} (eb : bb p = nI j) (hj : j < 8) (ec : cc p = nI l) (hl8 : l < 8) (hp1 : p + 1 ≤ C) (hw : wl ≤ 0) {post : SY → Prop} (h : post (nI C, nI M, nI O, ln, pl, md, nI (p + 1), ov_du pl lv (p + 1), sp, rs, cm, tt, oo, aa, bb, cc, upd rg i (rg j + rg l), sv, me, ou)) : wpY_step post (nI C, nI M, nI O, ln, pl, md, nI p, wl, sp, rs, cm, tt, oo, aa, bb, cc, rg, sv, me, ou) := by
  have hC := w.2.1
  have hin : vp_in (nI p) 25 := vp_in_nI (by omega) (by omega)
  have hcl : (nI p).toNatClampNeg = p := nI_clamp (by omega)
  have cli : (nI i).toNatClampNeg = i := nI_clamp (by omega)
  have ini : vp_in (nI i) 8 := vp_in_nI (by omega) (by omega)
  have clj : (nI j).toNatClampNeg = j := nI_clamp (by omega)
  have inj : vp_in (nI j) 8 := vp_in_nI (by omega) (by omega)
  have cll : (nI l).toNatClampNeg = l := nI_clamp (by omega)
  have inl : vp_in (nI l) 8 := vp_in_nI (by omega) (by omega)
  refine br_t hw ⟨hin, nm_r (e' := (3 : Int32)) (by rw [hcl, eo]) ⟨hin, nm_r (e' := nI i) (by rw [hcl, ea]) ⟨hin, nm_r (e' := nI j) (by rw [hcl, eb]) ⟨hin, nm_r (e' := nI l) (by rw [hcl, ec]) (nm_r (nI_1 p) (br_f (by decide) (br_f (by decide) (br_f (by decide) (br_t rfl (⟨inj, inl, ini, nm_r (e' := upd rg i (rg j + rg l)) (by rw [cli, clj, cll]) (br_f (by decide) (br_f (by decide) (br_f (by decide) (br_f (by decide) (br_f (by decide) (br_f (by decide) (br_f (by decide) (br_f (by decide) (br_f (by decide) (br_f (by decide) (oy_399 w hl hp1 h)))))))))))⟩))))))⟩⟩⟩⟩
theorem oy_e4 (w : ov_wf C M oo aa bb cc) (hl : ov_lvok C oo aa bb cc lv) {p i : Nat} (hp : p ≤ C) (eo : oo p = 4) (ea : aa p = nI i) (hi : i < 8) {j l : Nat} (eb : bb p = nI j) (hj : j < 8) (ec : cc p = nI l) (hl8 : l < 8) (hp1 : p + 1 ≤ C) (hw : wl ≤ 0) {post : SY → Prop} (h : post (nI C, nI M, nI O, ln, pl, md, nI (p + 1), ov_du pl lv (p + 1), sp, rs, cm, tt, oo, aa, bb, cc, upd rg i (rg j - rg l), sv, me, ou)) : wpY_step post (nI C, nI M, nI O, ln, pl, md, nI p, wl, sp, rs, cm, tt, oo, aa, bb, cc, rg, sv, me, ou) := by
  have hC := w.2.1
  have hin : vp_in (nI p) 25 := vp_in_nI (by omega) (by omega)
  have hcl : (nI p).toNatClampNeg = p := nI_clamp (by omega)
  have cli : (nI i).toNatClampNeg = i := nI_clamp (by omega)
  have ini : vp_in (nI i) 8 := vp_in_nI (by omega) (by omega)
  have clj : (nI j).toNatClampNeg = j := nI_clamp (by omega)
  have inj : vp_in (nI j) 8 := vp_in_nI (by omega) (by omega)
  have cll : (nI l).toNatClampNeg = l := nI_clamp (by omega)
  have inl : vp_in (nI l) 8 := vp_in_nI (by omega) (by omega)
  refine br_t hw ⟨hin, nm_r (e' := (4 : Int32)) (by rw [hcl, eo]) ⟨hin, nm_r (e' := nI i) (by rw [hcl, ea]) ⟨hin, nm_r (e' := nI j) (by rw [hcl, eb]) ⟨hin, nm_r (e' := nI l) (by rw [hcl, ec]) (nm_r (nI_1 p) (br_f (by decide) (br_f (by decide) (br_f (by decide) (br_f (by decide) (br_t rfl (⟨inj, inl, ini, nm_r (e' := upd rg i (rg j - rg l)) (by rw [cli, clj, cll]) (br_f (by decide) (br_f (by decide) (br_f (by decide) (br_f (by decide) (br_f (by decide) (br_f (by decide) (br_f (by decide) (br_f (by decide) (br_f (by decide) (oy_399 w hl hp1 h))))))))))⟩)))))))⟩⟩⟩⟩
theorem oy_e5 (w : ov_wf C M oo aa bb cc) (hl : ov_lvok C oo aa bb cc lv) {p i : Nat} (hp : p ≤ C) (eo : oo p = 5) (ea : aa p = nI i) (hi : i < 8) {j l : Nat} (eb : bb p = nI j) (hj : j < 8) (ec : cc p = nI l) (hl8 : l < 8) (hp1 : p + 1 ≤ C) (hw : wl ≤ 0) {post : SY → Prop} (h : post (nI C, nI M, nI O, ln, pl, md, nI (p + 1), ov_du pl lv (p + 1), sp, rs, cm, tt, oo, aa, bb, cc, upd rg i (rg j * rg l), sv, me, ou)) : wpY_step post (nI C, nI M, nI O, ln, pl, md, nI p, wl, sp, rs, cm, tt, oo, aa, bb, cc, rg, sv, me, ou) := by
  have hC := w.2.1
  have hin : vp_in (nI p) 25 := vp_in_nI (by omega) (by omega)
  have hcl : (nI p).toNatClampNeg = p := nI_clamp (by omega)
  have cli : (nI i).toNatClampNeg = i := nI_clamp (by omega)
  have ini : vp_in (nI i) 8 := vp_in_nI (by omega) (by omega)
  have clj : (nI j).toNatClampNeg = j := nI_clamp (by omega)
  have inj : vp_in (nI j) 8 := vp_in_nI (by omega) (by omega)
  have cll : (nI l).toNatClampNeg = l := nI_clamp (by omega)
  have inl : vp_in (nI l) 8 := vp_in_nI (by omega) (by omega)
  refine br_t hw ⟨hin, nm_r (e' := (5 : Int32)) (by rw [hcl, eo]) ⟨hin, nm_r (e' := nI i) (by rw [hcl, ea]) ⟨hin, nm_r (e' := nI j) (by rw [hcl, eb]) ⟨hin, nm_r (e' := nI l) (by rw [hcl, ec]) (nm_r (nI_1 p) (br_f (by decide) (br_f (by decide) (br_f (by decide) (br_f (by decide) (br_f (by decide) (br_t rfl (⟨inj, inl, ini, nm_r (e' := upd rg i (rg j * rg l)) (by rw [cli, clj, cll]) (br_f (by decide) (br_f (by decide) (br_f (by decide) (br_f (by decide) (br_f (by decide) (br_f (by decide) (br_f (by decide) (br_f (by decide) (oy_399 w hl hp1 h)))))))))⟩))))))))⟩⟩⟩⟩
theorem oy_e6 (w : ov_wf C M oo aa bb cc) (hl : ov_lvok C oo aa bb cc lv) {p i : Nat} (hp : p ≤ C) (eo : oo p = 6) (ea : aa p = nI i) (hi : i < 8) {j : Nat} (eb : bb p = nI j) (hj : j < 16) (hp1 : p + 1 ≤ C) (hw : wl ≤ 0) {post : SY → Prop} (h : post (nI C, nI M, nI O, ln, pl, md, nI (p + 1), ov_du pl lv (p + 1), sp, rs, cm, tt, oo, aa, bb, cc, upd rg i (me j), sv, me, ou)) : wpY_step post (nI C, nI M, nI O, ln, pl, md, nI p, wl, sp, rs, cm, tt, oo, aa, bb, cc, rg, sv, me, ou) := by
  have hC := w.2.1
  have hin : vp_in (nI p) 25 := vp_in_nI (by omega) (by omega)
  have hcl : (nI p).toNatClampNeg = p := nI_clamp (by omega)
  have cli : (nI i).toNatClampNeg = i := nI_clamp (by omega)
  have ini : vp_in (nI i) 8 := vp_in_nI (by omega) (by omega)
  have clm : (nI j).toNatClampNeg = j := nI_clamp (by omega)
  have inm : vp_in (nI j) 16 := vp_in_nI (by omega) (by omega)
  refine br_t hw ⟨hin, nm_r (e' := (6 : Int32)) (by rw [hcl, eo]) ⟨hin, nm_r (e' := nI i) (by rw [hcl, ea]) ⟨hin, nm_r (e' := nI j) (by rw [hcl, eb]) ⟨hin, nm_r (e' := cc p) (by rw [hcl]) (nm_r (nI_1 p) (br_f (by decide) (br_f (by decide) (br_f (by decide) (br_f (by decide) (br_f (by decide) (br_f (by decide) (br_t rfl (⟨inm, ini, nm_r (e' := upd rg i (me j)) (by rw [cli, clm]) (br_f (by decide) (br_f (by decide) (br_f (by decide) (br_f (by decide) (br_f (by decide) (br_f (by decide) (br_f (by decide) (oy_399 w hl hp1 h))))))))⟩)))))))))⟩⟩⟩⟩
theorem oy_e7 (w : ov_wf C M oo aa bb cc) (hl : ov_lvok C oo aa bb cc lv) {p i : Nat} (hp : p ≤ C) (eo : oo p = 7) (ea : aa p = nI i) (hi : i < 8) {j l t : Nat} (eb : bb p = nI j) (hj : j + 4 ≤ 16) (ec : cc p = nI l) (hl8 : l < 8) (et : rg l &&& 3 = nI t) (ht : t < 4) (hp1 : p + 1 ≤ C) (hw : wl ≤ 0) {post : SY → Prop} (h : post (nI C, nI M, nI O, ln, pl, md, nI (p + 1), ov_du pl lv (p + 1), sp, rs, cm, tt, oo, aa, bb, cc, upd rg i (me (j + t)), sv, me, ou)) : wpY_step post (nI C, nI M, nI O, ln, pl, md, nI p, wl, sp, rs, cm, tt, oo, aa, bb, cc, rg, sv, me, ou) := by
  have hC := w.2.1
  have hin : vp_in (nI p) 25 := vp_in_nI (by omega) (by omega)
  have hcl : (nI p).toNatClampNeg = p := nI_clamp (by omega)
  have cli : (nI i).toNatClampNeg = i := nI_clamp (by omega)
  have ini : vp_in (nI i) 8 := vp_in_nI (by omega) (by omega)
  have cll : (nI l).toNatClampNeg = l := nI_clamp (by omega)
  have inl : vp_in (nI l) 8 := vp_in_nI (by omega) (by omega)
  have cla : (nI (j + t)).toNatClampNeg = (j + t) := nI_clamp (by omega)
  have ina : vp_in (nI (j + t)) 16 := vp_in_nI (by omega) (by omega)
  have ead : nI j + (rg (nI l).toNatClampNeg &&& 3) = nI (j + t) := by rw [cll, et, nI_add]
  have ina' : vp_in (nI j + (rg (nI l).toNatClampNeg &&& 3)) 16 := by rw [ead]; exact ina
  refine br_t hw ⟨hin, nm_r (e' := (7 : Int32)) (by rw [hcl, eo]) ⟨hin, nm_r (e' := nI i) (by rw [hcl, ea]) ⟨hin, nm_r (e' := nI j) (by rw [hcl, eb]) ⟨hin, nm_r (e' := nI l) (by rw [hcl, ec]) (nm_r (nI_1 p) (br_f (by decide) (br_f (by decide) (br_f (by decide) (br_f (by decide) (br_f (by decide) (br_f (by decide) (br_f (by decide) (br_t rfl (⟨inl, ina', ini, nm_r (e' := upd rg i (me (j + t))) (by rw [cli, ead, cla]) (br_f (by decide) (br_f (by decide) (br_f (by decide) (br_f (by decide) (br_f (by decide) (br_f (by decide) (oy_399 w hl hp1 h)))))))⟩))))))))))⟩⟩⟩⟩
theorem oy_e8 (w : ov_wf C M oo aa bb cc) (hl : ov_lvok C oo aa bb cc lv) {p i : Nat} (hp : p ≤ C) (eo : oo p = 8) (ea : aa p = nI i) (hi : i < 8) {j : Nat} (eb : bb p = nI j) (hj : j < 16) (hp1 : p + 1 ≤ C) (hw : wl ≤ 0) {post : SY → Prop} (h : post (nI C, nI M, nI O, ln, pl, md, nI (p + 1), ov_du pl lv (p + 1), sp, rs, cm, tt, oo, aa, bb, cc, rg, sv, upd me j (rg i), ou)) : wpY_step post (nI C, nI M, nI O, ln, pl, md, nI p, wl, sp, rs, cm, tt, oo, aa, bb, cc, rg, sv, me, ou) := by
  have hC := w.2.1
  have hin : vp_in (nI p) 25 := vp_in_nI (by omega) (by omega)
  have hcl : (nI p).toNatClampNeg = p := nI_clamp (by omega)
  have cli : (nI i).toNatClampNeg = i := nI_clamp (by omega)
  have ini : vp_in (nI i) 8 := vp_in_nI (by omega) (by omega)
  have clm : (nI j).toNatClampNeg = j := nI_clamp (by omega)
  have inm : vp_in (nI j) 16 := vp_in_nI (by omega) (by omega)
  refine br_t hw ⟨hin, nm_r (e' := (8 : Int32)) (by rw [hcl, eo]) ⟨hin, nm_r (e' := nI i) (by rw [hcl, ea]) ⟨hin, nm_r (e' := nI j) (by rw [hcl, eb]) ⟨hin, nm_r (e' := cc p) (by rw [hcl]) (nm_r (nI_1 p) (br_f (by decide) (br_f (by decide) (br_f (by decide) (br_f (by decide) (br_f (by decide) (br_f (by decide) (br_f (by decide) (br_f (by decide) (br_t rfl (⟨ini, inm, nm_r (e' := upd me j (rg i)) (by rw [cli, clm]) (br_f (by decide) (br_f (by decide) (br_f (by decide) (br_f (by decide) (br_f (by decide) (oy_399 w hl hp1 h))))))⟩)))))))))))⟩⟩⟩⟩
theorem oy_e9 (w : ov_wf C M oo aa bb cc) (hl : ov_lvok C oo aa bb cc lv) {p i : Nat} (hp : p ≤ C) (eo : oo p = 9) (ea : aa p = nI i) (hi : i < 8) {j l t : Nat} (eb : bb p = nI j) (hj : j + 4 ≤ 16) (ec : cc p = nI l) (hl8 : l < 8) (et : rg l &&& 3 = nI t) (ht : t < 4) (hp1 : p + 1 ≤ C) (hw : wl ≤ 0) {post : SY → Prop} (h : post (nI C, nI M, nI O, ln, pl, md, nI (p + 1), ov_du pl lv (p + 1), sp, rs, cm, tt, oo, aa, bb, cc, rg, sv, upd me (j + t) (rg i), ou)) : wpY_step post (nI C, nI M, nI O, ln, pl, md, nI p, wl, sp, rs, cm, tt, oo, aa, bb, cc, rg, sv, me, ou) := by
  have hC := w.2.1
  have hin : vp_in (nI p) 25 := vp_in_nI (by omega) (by omega)
  have hcl : (nI p).toNatClampNeg = p := nI_clamp (by omega)
  have cli : (nI i).toNatClampNeg = i := nI_clamp (by omega)
  have ini : vp_in (nI i) 8 := vp_in_nI (by omega) (by omega)
  have cll : (nI l).toNatClampNeg = l := nI_clamp (by omega)
  have inl : vp_in (nI l) 8 := vp_in_nI (by omega) (by omega)
  have cla : (nI (j + t)).toNatClampNeg = (j + t) := nI_clamp (by omega)
  have ina : vp_in (nI (j + t)) 16 := vp_in_nI (by omega) (by omega)
  have ead : nI j + (rg (nI l).toNatClampNeg &&& 3) = nI (j + t) := by rw [cll, et, nI_add]
  have ina' : vp_in (nI j + (rg (nI l).toNatClampNeg &&& 3)) 16 := by rw [ead]; exact ina
  refine br_t hw ⟨hin, nm_r (e' := (9 : Int32)) (by rw [hcl, eo]) ⟨hin, nm_r (e' := nI i) (by rw [hcl, ea]) ⟨hin, nm_r (e' := nI j) (by rw [hcl, eb]) ⟨hin, nm_r (e' := nI l) (by rw [hcl, ec]) (nm_r (nI_1 p) (br_f (by decide) (br_f (by decide) (br_f (by decide) (br_f (by decide) (br_f (by decide) (br_f (by decide) (br_f (by decide) (br_f (by decide) (br_f (by decide) (br_t rfl (⟨inl, ini, ina', nm_r (e' := upd me (j + t) (rg i)) (by rw [cli, ead, cla]) (br_f (by decide) (br_f (by decide) (br_f (by decide) (br_f (by decide) (oy_399 w hl hp1 h)))))⟩))))))))))))⟩⟩⟩⟩
theorem oy_e0 (w : ov_wf C M oo aa bb cc) (hl : ov_lvok C oo aa bb cc lv) {p i : Nat} (hp : p ≤ C) (eo : oo p = 0) (ea : aa p = nI i) (hi : i < 8) (hw : wl ≤ 0) {post : SY → Prop} (h : post (nI C, nI M, nI O, ln, pl, 2, nI p, wl, sp, rg i, tt, tt, oo, aa, bb, cc, rg, sv, me, ou)) : wpY_step post (nI C, nI M, nI O, ln, pl, md, nI p, wl, sp, rs, cm, tt, oo, aa, bb, cc, rg, sv, me, ou) := by
  have hC := w.2.1
  have hin : vp_in (nI p) 25 := vp_in_nI (by omega) (by omega)
  have hcl : (nI p).toNatClampNeg = p := nI_clamp (by omega)
  have cli : (nI i).toNatClampNeg = i := nI_clamp (by omega)
  have ini : vp_in (nI i) 8 := vp_in_nI (by omega) (by omega)
  refine br_t hw ⟨hin, nm_r (e' := (0 : Int32)) (by rw [hcl, eo]) ⟨hin, nm_r (e' := nI i) (by rw [hcl, ea]) ⟨hin, nm_r (e' := bb p) (by rw [hcl]) ⟨hin, nm_r (e' := cc p) (by rw [hcl]) (nm_r (nI_1 p) (br_t rfl ⟨ini, nm_r (e' := rg i) (by rw [cli]) h⟩))⟩⟩⟩⟩
theorem oy_e10 (w : ov_wf C M oo aa bb cc) (hl : ov_lvok C oo aa bb cc lv) {p t : Nat} (hp : p ≤ C) (eo : oo p = 10) (ea : aa p = nI t) (ht : t ≤ C) (hw : wl ≤ 0) {post : SY → Prop} (h : post (nI C, nI M, nI O, ln, pl, md, nI t, ov_du pl lv t, sp, rs, cm, tt, oo, aa, bb, cc, rg, sv, me, ou)) : wpY_step post (nI C, nI M, nI O, ln, pl, md, nI p, wl, sp, rs, cm, tt, oo, aa, bb, cc, rg, sv, me, ou) := by
  have hC := w.2.1
  have hin : vp_in (nI p) 25 := vp_in_nI (by omega) (by omega)
  have hcl : (nI p).toNatClampNeg = p := nI_clamp (by omega)
  refine br_t hw ⟨hin, nm_r (e' := (10 : Int32)) (by rw [hcl, eo]) ⟨hin, nm_r (e' := nI t) (by rw [hcl, ea]) ⟨hin, nm_r (e' := bb p) (by rw [hcl]) ⟨hin, nm_r (e' := cc p) (by rw [hcl]) (nm_r (nI_1 p) (br_f (by decide) (br_f (by decide) (br_f (by decide) (br_f (by decide) (br_f (by decide) (br_f (by decide) (br_f (by decide) (br_f (by decide) (br_f (by decide) (br_f (by decide) (br_t rfl ((br_f (by decide) (br_f (by decide) (br_f (by decide) (oy_399 w hl ht h)))))))))))))))))⟩⟩⟩⟩
theorem oy_e11 (w : ov_wf C M oo aa bb cc) (hl : ov_lvok C oo aa bb cc lv) {p i : Nat} (hp : p ≤ C) (eo : oo p = 11) (ea : aa p = nI i) (hi : i < 8) (hp1 : p + 1 ≤ C) {t : Nat} (eb : bb p = nI t) (ht : t ≤ C) (hw : wl ≤ 0) {post : SY → Prop} (h0 : rg i = 0 → post (nI C, nI M, nI O, ln, pl, md, nI (p + 1), ov_du pl lv (p + 1), sp, rs, cm, tt, oo, aa, bb, cc, rg, sv, me, ou)) (h1 : ¬ rg i = 0 → post (nI C, nI M, nI O, ln, pl, md, nI t, ov_du pl lv t, sp, rs, cm, tt, oo, aa, bb, cc, rg, sv, me, ou)) : wpY_step post (nI C, nI M, nI O, ln, pl, md, nI p, wl, sp, rs, cm, tt, oo, aa, bb, cc, rg, sv, me, ou) := by
  have hC := w.2.1
  have hin : vp_in (nI p) 25 := vp_in_nI (by omega) (by omega)
  have hcl : (nI p).toNatClampNeg = p := nI_clamp (by omega)
  have cli : (nI i).toNatClampNeg = i := nI_clamp (by omega)
  have ini : vp_in (nI i) 8 := vp_in_nI (by omega) (by omega)
  refine br_t hw ⟨hin, nm_r (e' := (11 : Int32)) (by rw [hcl, eo]) ⟨hin, nm_r (e' := nI i) (by rw [hcl, ea]) ⟨hin, nm_r (e' := nI t) (by rw [hcl, eb]) ⟨hin, nm_r (e' := cc p) (by rw [hcl]) (nm_r (nI_1 p) (br_f (by decide) (br_f (by decide) (br_f (by decide) (br_f (by decide) (br_f (by decide) (br_f (by decide) (br_f (by decide) (br_f (by decide) (br_f (by decide) (br_f (by decide) (br_f (by decide) (br_t rfl ⟨ini, ?_⟩)))))))))))))⟩⟩⟩⟩
  rw [cli]
  exact br_c (fun e => br_f (by decide) (br_f (by decide) (oy_399 w hl hp1 (h0 e)))) (fun e => br_f (by decide) (br_f (by decide) (oy_399 w hl ht (h1 e))))
theorem oy_e12 (w : ov_wf C M oo aa bb cc) (hl : ov_lvok C oo aa bb cc lv) {p i : Nat} (hp : p ≤ C) (eo : oo p = 12) (ea : aa p = nI i) (hi : i < 8) {j : Nat} (eb : bb p = nI j) (hj : j < 8) (hp1 : p + 1 ≤ C) {t : Nat} (ec : cc p = nI t) (ht : t ≤ C) (hw : wl ≤ 0) {post : SY → Prop} (h0 : rg j ≤ rg i → post (nI C, nI M, nI O, ln, pl, md, nI (p + 1), ov_du pl lv (p + 1), sp, rs, cm, tt, oo, aa, bb, cc, rg, sv, me, ou)) (h1 : ¬ rg j ≤ rg i → post (nI C, nI M, nI O, ln, pl, md, nI t, ov_du pl lv t, sp, rs, cm, tt, oo, aa, bb, cc, rg, sv, me, ou)) : wpY_step post (nI C, nI M, nI O, ln, pl, md, nI p, wl, sp, rs, cm, tt, oo, aa, bb, cc, rg, sv, me, ou) := by
  have hC := w.2.1
  have hin : vp_in (nI p) 25 := vp_in_nI (by omega) (by omega)
  have hcl : (nI p).toNatClampNeg = p := nI_clamp (by omega)
  have cli : (nI i).toNatClampNeg = i := nI_clamp (by omega)
  have ini : vp_in (nI i) 8 := vp_in_nI (by omega) (by omega)
  have clj : (nI j).toNatClampNeg = j := nI_clamp (by omega)
  have inj : vp_in (nI j) 8 := vp_in_nI (by omega) (by omega)
  refine br_t hw ⟨hin, nm_r (e' := (12 : Int32)) (by rw [hcl, eo]) ⟨hin, nm_r (e' := nI i) (by rw [hcl, ea]) ⟨hin, nm_r (e' := nI j) (by rw [hcl, eb]) ⟨hin, nm_r (e' := nI t) (by rw [hcl, ec]) (nm_r (nI_1 p) (br_f (by decide) (br_f (by decide) (br_f (by decide) (br_f (by decide) (br_f (by decide) (br_f (by decide) (br_f (by decide) (br_f (by decide) (br_f (by decide) (br_f (by decide) (br_f (by decide) (br_f (by decide) (br_t rfl ⟨ini, inj, ?_⟩))))))))))))))⟩⟩⟩⟩
  rw [cli, clj]
  exact br_c (fun e => br_f (by decide) (oy_399 w hl hp1 (h0 e))) (fun e => br_f (by decide) (oy_399 w hl ht (h1 e)))
theorem oy_e13 (w : ov_wf C M oo aa bb cc) (hl : ov_lvok C oo aa bb cc lv) {p i : Nat} (hp : p ≤ C) (eo : oo p = 13) (ea : aa p = nI i) (hi : i < 8) (hp1 : p + 1 ≤ C) {T : Nat} (hT : T < O) (hO : O ≤ 32) (hw : wl ≤ 0) {post : SY → Prop} (h : post (nI C, nI M, nI O, ln, pl, md, nI (p + 1), ov_du pl lv (p + 1), sp, rs, cm, nI (T + 1), oo, aa, bb, cc, rg, sv, me, upd ou T (rg i))) : wpY_step post (nI C, nI M, nI O, ln, pl, md, nI p, wl, sp, rs, cm, nI T, oo, aa, bb, cc, rg, sv, me, ou) := by
  have hC := w.2.1
  have hin : vp_in (nI p) 25 := vp_in_nI (by omega) (by omega)
  have hcl : (nI p).toNatClampNeg = p := nI_clamp (by omega)
  have cli : (nI i).toNatClampNeg = i := nI_clamp (by omega)
  have ini : vp_in (nI i) 8 := vp_in_nI (by omega) (by omega)
  have clT : (nI T).toNatClampNeg = T := nI_clamp (by omega)
  have inT : vp_in (nI T) 32 := vp_in_nI (by omega) (by omega)
  refine br_t hw ⟨hin, nm_r (e' := (13 : Int32)) (by rw [hcl, eo]) ⟨hin, nm_r (e' := nI i) (by rw [hcl, ea]) ⟨hin, nm_r (e' := bb p) (by rw [hcl]) ⟨hin, nm_r (e' := cc p) (by rw [hcl]) (nm_r (nI_1 p) (br_f (by decide) (br_f (by decide) (br_f (by decide) (br_f (by decide) (br_f (by decide) (br_f (by decide) (br_f (by decide) (br_f (by decide) (br_f (by decide) (br_f (by decide) (br_f (by decide) (br_f (by decide) (br_f (by decide) (br_t rfl (br_f (nI_ge hT (by omega)) ⟨ini, inT, nm_r (e' := upd ou T (rg i)) (by rw [cli, clT]) (nm_r (nI_1 T) (oy_399 w hl hp1 h))⟩))))))))))))))))⟩⟩⟩⟩
theorem oy_e13n (w : ov_wf C M oo aa bb cc) (hl : ov_lvok C oo aa bb cc lv) {p i : Nat} (hp : p ≤ C) (eo : oo p = 13) (ea : aa p = nI i) (hi : i < 8) (hp1 : p + 1 ≤ C) {T : Nat} (hT : O ≤ T) (hT2 : T ≤ 32) (hw : wl ≤ 0) {post : SY → Prop} (h : post (nI C, nI M, nI O, ln, pl, md, nI (p + 1), ov_du pl lv (p + 1), sp, rs, cm, nI T, oo, aa, bb, cc, rg, sv, me, ou)) : wpY_step post (nI C, nI M, nI O, ln, pl, md, nI p, wl, sp, rs, cm, nI T, oo, aa, bb, cc, rg, sv, me, ou) := by
  have hC := w.2.1
  have hin : vp_in (nI p) 25 := vp_in_nI (by omega) (by omega)
  have hcl : (nI p).toNatClampNeg = p := nI_clamp (by omega)
  refine br_t hw ⟨hin, nm_r (e' := (13 : Int32)) (by rw [hcl, eo]) ⟨hin, nm_r (e' := nI i) (by rw [hcl, ea]) ⟨hin, nm_r (e' := bb p) (by rw [hcl]) ⟨hin, nm_r (e' := cc p) (by rw [hcl]) (nm_r (nI_1 p) (br_f (by decide) (br_f (by decide) (br_f (by decide) (br_f (by decide) (br_f (by decide) (br_f (by decide) (br_f (by decide) (br_f (by decide) (br_f (by decide) (br_f (by decide) (br_f (by decide) (br_f (by decide) (br_f (by decide) (br_t rfl (br_t (nI_le hT (by omega)) (oy_399 w hl hp1 h)))))))))))))))))⟩⟩⟩⟩
end
end
section
/-! ===== step and run, in both machines (written by gen19.py) ===== -/
section
variable {g0 g1 g2 g3 g4 g5 g6 g7 g8 g9 g10 g11 g12 g13 : Int32} {C M O L pn sn qn tn : Nat} {pl md du rs : Int32} {oo aa bb cc lv rg sv me ou cl cv ex : Nat → Int32}
theorem ov_stp (F : ov_F C M O L pn sn qn tn pl oo aa bb cc lv) : ∃ (md' du' rs' : Int32) (pn' sn' qn' tn' : Nat) (rg' sv' me' ou' : Nat → Int32), ov_F C M O L pn' sn' qn' tn' pl oo aa bb cc lv ∧ (∀ post : SX → Prop, post (g0, g1, g2, g3, g4, g5, g6, g7, g8, g9, g10, g11, g12, g13, nI C, nI M, nI O, ov_al M, nI L, pl, md', nI pn', du', nI sn', rs', nI qn', nI tn', oo, aa, bb, cc, lv, rg', sv', me', ou', cl, cv, ex) → wpX_step post (g0, g1, g2, g3, g4, g5, g6, g7, g8, g9, g10, g11, g12, g13, nI C, nI M, nI O, ov_al M, nI L, pl, md, nI pn, du, nI sn, rs, nI qn, nI tn, oo, aa, bb, cc, lv, rg, sv, me, ou, cl, cv, ex)) ∧ (∀ post : SY → Prop, post (nI C, nI M, nI O, nI L, pl, md', nI pn', du', nI sn', rs', nI qn', nI tn', oo, aa, bb, cc, rg', sv', me', ou') → wpY_step post (nI C, nI M, nI O, nI L, pl, md, nI pn, du, nI sn, rs, nI qn, nI tn, oo, aa, bb, cc, rg, sv, me, ou)) := by
  have w := F.1
  have hC := w.2.1
  have hM := w.2.2.2.1
  have hO := F.2.1.2
  have hl := F.2.2.2.2.1
  have hp := F.2.2.2.2.2.2.1
  have hs := F.2.2.2.2.2.2.2.1
  have hq := F.2.2.2.2.2.2.2.2.1
  have ht := F.2.2.2.2.2.2.2.2.2
  have mk : ∀ pn' sn' qn' tn', pn' ≤ C → sn' ≤ C → qn' ≤ O → tn' ≤ O → ov_F C M O L pn' sn' qn' tn' pl oo aa bb cc lv := fun _ _ _ _ a1 a2 a3 a4 => ⟨F.1, F.2.1, F.2.2.1, F.2.2.2.1, F.2.2.2.2.1, F.2.2.2.2.2.1, a1, a2, a3, a4⟩
  by_cases hw : du ≤ 0
  · have hp1 : ov_ft (oo pn) → pn + 1 ≤ C := fun z => ov_sc_ft w hp z
    have hok := w.2.2.2.2.2 pn hp
    unfold ov_ok at hok
    rcases hok with h | h | h | h | h | h | h | h | h | h | h | h | h | h
    · obtain ⟨eo, i, hi, ea⟩ := h
      exact ⟨2, du, rg i, pn, sn, tn, tn, rg, sv, me, ou, mk pn sn tn tn hp hs ht ht, fun post h => br_t hw (ox_e0 hC hp eo ea hi h), fun post h => oy_e0 w hl hp eo ea hi hw h⟩
    · obtain ⟨eo, i, hi, ea⟩ := h
      have h1 := hp1 (by rw [eo]; exact ⟨by decide, by decide⟩)
      exact ⟨md, ov_du pl lv (pn + 1), rs, pn + 1, sn, qn, tn, upd rg i (bb pn), sv, me, ou, mk (pn + 1) sn qn tn h1 hs hq ht, fun post h => br_t hw (ox_e1 hC hp eo ea hi  h1 h), fun post h => oy_e1 w hl hp eo ea hi  h1 hw h⟩
    · obtain ⟨eo, ⟨i, hi, ea⟩, ⟨j, hj, eb⟩⟩ := h
      have h1 := hp1 (by rw [eo]; exact ⟨by decide, by decide⟩)
      exact ⟨md, ov_du pl lv (pn + 1), rs, pn + 1, sn, qn, tn, upd rg i (rg j + cc pn), sv, me, ou, mk (pn + 1) sn qn tn h1 hs hq ht, fun post h => br_t hw (ox_e2 hC hp eo ea hi eb hj h1 h), fun post h => oy_e2 w hl hp eo ea hi eb hj h1 hw h⟩
    · obtain ⟨eo, ⟨i, hi, ea⟩, ⟨j, hj, eb⟩, ⟨l, hll, ec⟩⟩ := h
      have h1 := hp1 (by rw [eo]; exact ⟨by decide, by decide⟩)
      exact ⟨md, ov_du pl lv (pn + 1), rs, pn + 1, sn, qn, tn, upd rg i (rg j + rg l), sv, me, ou, mk (pn + 1) sn qn tn h1 hs hq ht, fun post h => br_t hw (ox_e3 hC hp eo ea hi eb hj ec hll h1 h), fun post h => oy_e3 w hl hp eo ea hi eb hj ec hll h1 hw h⟩
    · obtain ⟨eo, ⟨i, hi, ea⟩, ⟨j, hj, eb⟩, ⟨l, hll, ec⟩⟩ := h
      have h1 := hp1 (by rw [eo]; exact ⟨by decide, by decide⟩)
      exact ⟨md, ov_du pl lv (pn + 1), rs, pn + 1, sn, qn, tn, upd rg i (rg j - rg l), sv, me, ou, mk (pn + 1) sn qn tn h1 hs hq ht, fun post h => br_t hw (ox_e4 hC hp eo ea hi eb hj ec hll h1 h), fun post h => oy_e4 w hl hp eo ea hi eb hj ec hll h1 hw h⟩
    · obtain ⟨eo, ⟨i, hi, ea⟩, ⟨j, hj, eb⟩, ⟨l, hll, ec⟩⟩ := h
      have h1 := hp1 (by rw [eo]; exact ⟨by decide, by decide⟩)
      exact ⟨md, ov_du pl lv (pn + 1), rs, pn + 1, sn, qn, tn, upd rg i (rg j * rg l), sv, me, ou, mk (pn + 1) sn qn tn h1 hs hq ht, fun post h => br_t hw (ox_e5 hC hp eo ea hi eb hj ec hll h1 h), fun post h => oy_e5 w hl hp eo ea hi eb hj ec hll h1 hw h⟩
    · obtain ⟨eo, ⟨i, hi, ea⟩, ⟨j, hj, eb⟩⟩ := h
      have h1 := hp1 (by rw [eo]; exact ⟨by decide, by decide⟩)
      exact ⟨md, ov_du pl lv (pn + 1), rs, pn + 1, sn, qn, tn, upd rg i (me j), sv, me, ou, mk (pn + 1) sn qn tn h1 hs hq ht, fun post h => br_t hw (ox_e6 hC hp eo ea hi eb (by omega) h1 h), fun post h => oy_e6 w hl hp eo ea hi eb (by omega) h1 hw h⟩
    · obtain ⟨eo, ⟨i, hi, ea⟩, ⟨j, hj, eb⟩, ⟨l, hll, ec⟩⟩ := h
      have h1 := hp1 (by rw [eo]; exact ⟨by decide, by decide⟩)
      obtain ⟨t, ht4, et⟩ := pk_andE (rg l) (m := 3) 2 (by decide)
      have ht4 : t < 4 := ht4
      exact ⟨md, ov_du pl lv (pn + 1), rs, pn + 1, sn, qn, tn, upd rg i (me (j + t)), sv, me, ou, mk (pn + 1) sn qn tn h1 hs hq ht, fun post h => br_t hw (ox_e7 hC hp eo ea hi eb (by omega) ec hll et ht4 h1 h), fun post h => oy_e7 w hl hp eo ea hi eb (by omega) ec hll et ht4 h1 hw h⟩
    · obtain ⟨eo, ⟨i, hi, ea⟩, ⟨j, hj, eb⟩⟩ := h
      have h1 := hp1 (by rw [eo]; exact ⟨by decide, by decide⟩)
      exact ⟨md, ov_du pl lv (pn + 1), rs, pn + 1, sn, qn, tn, rg, sv, upd me j (rg i), ou, mk (pn + 1) sn qn tn h1 hs hq ht, fun post h => br_t hw (ox_e8 hC hp eo ea hi eb (by omega) h1 h), fun post h => oy_e8 w hl hp eo ea hi eb (by omega) h1 hw h⟩
    · obtain ⟨eo, ⟨i, hi, ea⟩, ⟨j, hj, eb⟩, ⟨l, hll, ec⟩⟩ := h
      have h1 := hp1 (by rw [eo]; exact ⟨by decide, by decide⟩)
      obtain ⟨t, ht4, et⟩ := pk_andE (rg l) (m := 3) 2 (by decide)
      have ht4 : t < 4 := ht4
      exact ⟨md, ov_du pl lv (pn + 1), rs, pn + 1, sn, qn, tn, rg, sv, upd me (j + t) (rg i), ou, mk (pn + 1) sn qn tn h1 hs hq ht, fun post h => br_t hw (ox_e9 hC hp eo ea hi eb (by omega) ec hll et ht4 h1 h), fun post h => oy_e9 w hl hp eo ea hi eb (by omega) ec hll et ht4 h1 hw h⟩
    · obtain ⟨eo, t, htt, ea⟩ := h
      exact ⟨md, ov_du pl lv t, rs, t, sn, qn, tn, rg, sv, me, ou, mk t sn qn tn htt hs hq ht, fun post h => br_t hw (ox_e10 hC hp eo ea htt h), fun post h => oy_e10 w hl hp eo ea htt hw h⟩
    · obtain ⟨eo, ⟨i, hi, ea⟩, ⟨t, htt, eb⟩⟩ := h
      have h1 := hp1 (by rw [eo]; exact ⟨by decide, by decide⟩)
      by_cases c : rg i = 0
      · exact ⟨md, ov_du pl lv (pn + 1), rs, pn + 1, sn, qn, tn, rg, sv, me, ou, mk (pn + 1) sn qn tn h1 hs hq ht, fun post h => br_t hw (ox_e11 hC hp eo ea hi  h1 eb htt (fun _ => h) (fun z => absurd c z)), fun post h => oy_e11 w hl hp eo ea hi  h1 eb htt hw (fun _ => h) (fun z => absurd c z)⟩
      · exact ⟨md, ov_du pl lv t, rs, t, sn, qn, tn, rg, sv, me, ou, mk t sn qn tn htt hs hq ht, fun post h => br_t hw (ox_e11 hC hp eo ea hi  h1 eb htt (fun z => absurd z c) (fun _ => h)), fun post h => oy_e11 w hl hp eo ea hi  h1 eb htt hw (fun z => absurd z c) (fun _ => h)⟩
    · obtain ⟨eo, ⟨i, hi, ea⟩, ⟨j, hj, eb⟩, ⟨t, htt, ec⟩⟩ := h
      have h1 := hp1 (by rw [eo]; exact ⟨by decide, by decide⟩)
      by_cases c : rg j ≤ rg i
      · exact ⟨md, ov_du pl lv (pn + 1), rs, pn + 1, sn, qn, tn, rg, sv, me, ou, mk (pn + 1) sn qn tn h1 hs hq ht, fun post h => br_t hw (ox_e12 hC hp eo ea hi eb hj h1 ec htt (fun _ => h) (fun z => absurd c z)), fun post h => oy_e12 w hl hp eo ea hi eb hj h1 ec htt hw (fun _ => h) (fun z => absurd c z)⟩
      · exact ⟨md, ov_du pl lv t, rs, t, sn, qn, tn, rg, sv, me, ou, mk t sn qn tn htt hs hq ht, fun post h => br_t hw (ox_e12 hC hp eo ea hi eb hj h1 ec htt (fun z => absurd z c) (fun _ => h)), fun post h => oy_e12 w hl hp eo ea hi eb hj h1 ec htt hw (fun z => absurd z c) (fun _ => h)⟩
    · obtain ⟨eo, i, hi, ea⟩ := h
      have h1 := hp1 (by rw [eo]; exact ⟨by decide, by decide⟩)
      by_cases c : tn < O
      · exact ⟨md, ov_du pl lv (pn + 1), rs, pn + 1, sn, qn, tn + 1, rg, sv, me, upd ou tn (rg i), mk (pn + 1) sn qn (tn + 1) h1 hs hq c, fun post h => br_t hw (ox_e13 hC hp eo ea hi h1 c hO h), fun post h => oy_e13 w hl hp eo ea hi h1 c hO hw h⟩
      · exact ⟨md, ov_du pl lv (pn + 1), rs, pn + 1, sn, qn, tn, rg, sv, me, ou, mk (pn + 1) sn qn tn h1 hs hq ht, fun post h => br_t hw (ox_e13n hC hp eo ea hi h1 (by omega) (by omega) h), fun post h => oy_e13n w hl hp eo ea hi h1 (by omega) (by omega) hw h⟩
  · by_cases e : du - 1 = 0
    · exact ⟨md, du - 1, rs, pn, pn, tn, tn, rg, ov_ck rg (lv pn) sv 8, me, ou, mk pn pn tn tn hp hp ht ht, fun post h => br_f hw (nm_e (br_t e (ox_cc (by omega) h))), fun post h => br_f hw (nm_e (br_t e (oy_cp w hl hp h)))⟩
    · exact ⟨md, du - 1, rs, pn, sn, qn, tn, rg, sv, me, ou, F, fun post h => br_f hw (nm_e (br_f e h)), fun post h => br_f hw (nm_e (br_f e h))⟩
end
section
variable {g0 g1 g2 g3 g4 g5 g6 g7 g8 g9 g10 g11 g12 g13 : Int32} {C M O L : Nat} {pl : Int32} {oo aa bb cc lv cl cv ex : Nat → Int32}
theorem ov_runL (k n : Nat) (hn : n ≤ 200) : ∀ d i (md du rs : Int32) (pn sn qn tn : Nat) (rg sv me ou : Nat → Int32), i + d = n → ov_F C M O L pn sn qn tn pl oo aa bb cc lv → ∃ r u' v', i_Rel k u' v' ∧ (∀ post : Int32 → SX → Prop, post r u' → wX_run_25 post (nI n) (d + 1) (nI i) g0 g1 g2 g3 g4 g5 g6 g7 g8 g9 g10 g11 g12 g13 (nI C) (nI M) (nI O) (ov_al M) (nI L) pl md (nI pn) du (nI sn) rs (nI qn) (nI tn) oo aa bb cc lv rg sv me ou cl cv ex) ∧ (∀ post : Int32 → SY → Prop, post r v' → wY_run_25 post (nI n) (d + 1) (nI i) (nI C) (nI M) (nI O) (nI L) pl md (nI pn) du (nI sn) rs (nI qn) (nI tn) oo aa bb cc rg sv me ou) := by
  intro d
  induction d with
  | zero =>
    intro i md du rs pn sn qn tn rg sv me ou hd F
    have hle : nI n ≤ nI i := nI_le (by omega) (by omega)
    exact ⟨md, (g0, g1, g2, g3, g4, g5, g6, g7, g8, g9, g10, g11, g12, g13, nI C, nI M, nI O, ov_al M, nI L, pl, md, nI pn, du, nI sn, rs, nI qn, nI tn, oo, aa, bb, cc, lv, rg, sv, me, ou, cl, cv, ex), (nI C, nI M, nI O, nI L, pl, md, nI pn, du, nI sn, rs, nI qn, nI tn, oo, aa, bb, cc, rg, sv, me, ou), ov_mk F, fun post h => br_t hle h, fun post h => br_t hle h⟩
  | succ d ih =>
    intro i md du rs pn sn qn tn rg sv me ou hd F
    have hle : ¬ nI n ≤ nI i := nI_ge (by omega) (by omega)
    by_cases hm : md = 1
    · obtain ⟨md', du', rs', pn', sn', qn', tn', rg', sv', me', ou', F', hX, hY⟩ := ov_stp (g0 := g0) (g1 := g1) (g2 := g2) (g3 := g3) (g4 := g4) (g5 := g5) (g6 := g6) (g7 := g7) (g8 := g8) (g9 := g9) (g10 := g10) (g11 := g11) (g12 := g12) (g13 := g13) (md := md) (du := du) (rs := rs) (rg := rg) (sv := sv) (me := me) (ou := ou) (cl := cl) (cv := cv) (ex := ex) F
      obtain ⟨r, u', v', R, hX2, hY2⟩ := ih (i + 1) md' du' rs' pn' sn' qn' tn' rg' sv' me' ou' (by omega) F'
      refine ⟨r, u', v', R, fun post h => br_f hle (br_t hm (hX _ ?_)), fun post h => br_f hle (br_t hm (hY _ ?_))⟩
      · exact nm_r (nI_1 i) (hX2 post h)
      · exact nm_r (nI_1 i) (hY2 post h)
    · exact ⟨md, (g0, g1, g2, g3, g4, g5, g6, g7, g8, g9, g10, g11, g12, g13, nI C, nI M, nI O, ov_al M, nI L, pl, md, nI pn, du, nI sn, rs, nI qn, nI tn, oo, aa, bb, cc, lv, rg, sv, me, ou, cl, cv, ex), (nI C, nI M, nI O, nI L, pl, md, nI pn, du, nI sn, rs, nI qn, nI tn, oo, aa, bb, cc, rg, sv, me, ou), ov_mk F, fun post h => br_f hle (br_f hm h), fun post h => br_f hle (br_f hm h)⟩
end
theorem i_vc_run {k : Nat} {u : SX} {v : SY} (I : i_Rel k u v) (hk : k + 5 ≤ 2563) (v1 : Int32) : wpX_run (fun r u' => wpY_run (fun r' v' => r' = r ∧ i_Rel (k + 5) u' v') v v1) u v1 := by
  refine I (fun u v => wpX_run (fun r u' => wpY_run (fun r' v' => r' = r ∧ i_Rel (k + 5) u' v') v v1) u v1) ?_
  intro g0 g1 g2 g3 g4 g5 g6 g7 g8 g9 g10 g11 g12 g13 C M O L pn sn qn tn pl md du rs oo aa bb cc lv rg sv me ou cl cv ex F
  have R : i_Rel (k + 5) (g0, g1, g2, g3, g4, g5, g6, g7, g8, g9, g10, g11, g12, g13, nI C, nI M, nI O, ov_al M, nI L, pl, md, nI pn, du, nI sn, rs, nI qn, nI tn, oo, aa, bb, cc, lv, rg, sv, me, ou, cl, cv, ex) (nI C, nI M, nI O, nI L, pl, md, nI pn, du, nI sn, rs, nI qn, nI tn, oo, aa, bb, cc, rg, sv, me, ou) := ov_mk F
  refine br_c (fun m => br_c (fun e => br_t m (br_t e ⟨rfl, R⟩)) (fun e => br_c (fun e2 => ?_) (fun e2 => br_t m (br_f e (br_f e2 ⟨rfl, R⟩))))) (fun m => br_f m ⟨rfl, R⟩)
  have h0 : ¬ v1 < 0 := fun z => e (Int32.lt_trans z (by decide))
  obtain ⟨n, hn, rfl⟩ := nI_of2 (n := 200) (by decide) h0 e2
  obtain ⟨r, u', v', R', hX, hY⟩ := ov_runL (g0 := g0) (g1 := g1) (g2 := g2) (g3 := g3) (g4 := g4) (g5 := g5) (g6 := g6) (g7 := g7) (g8 := g8) (g9 := g9) (g10 := g10) (g11 := g11) (g12 := g12) (g13 := g13) (cl := cl) (cv := cv) (ex := ex) (k + 5) n hn n 0 md du rs pn sn qn tn rg sv me ou (by omega) F
  exact ⟨n + 1, hX _ (br_t m (br_f e (br_t e2 ⟨n + 1, hY _ ⟨rfl, R'⟩⟩)))⟩
end
section
/-! ===== emit (written by gen20.py) ===== -/
def ov_gA (C : Nat) (k a : Int32) : Prop := (k = 10 → ov_K C a) ∧ (¬ k = 10 → ov_R a)
def ov_gB (C M : Nat) (k b : Int32) : Prop := ((k = 2 ∨ k = 3 ∨ k = 4 ∨ k = 5 ∨ k = 12) → ov_R b) ∧ ((k = 6 ∨ k = 8) → ov_Mm M b) ∧ ((k = 7 ∨ k = 9) → ov_Wn M b) ∧ (k = 11 → ov_K C b)
def ov_gC (C : Nat) (k c : Int32) : Prop := ((k = 3 ∨ k = 4 ∨ k = 5 ∨ k = 7 ∨ k = 9) → ov_R c) ∧ (k = 12 → ov_K C c)
def ov_g (C M : Nat) (k a b c : Int32) : Prop := ov_gA C k a ∧ ov_gB C M k b ∧ ov_gC C k c
theorem ov_wf_new {oo aa bb cc : Nat → Int32} {C M L : Nat} {k a b c : Int32} (w : ov_wf C M oo aa bb cc) (hL : L < C) (ok : ov_ok C M k a b c) : ov_wf C M (upd oo L k) (upd aa L a) (upd bb L b) (upd cc L c) := by
  refine ⟨w.1, w.2.1, w.2.2.1, w.2.2.2.1, ?_, fun p hp => ?_⟩
  · rw [pk_un (by omega)]
    exact w.2.2.2.2.1
  · by_cases e : p = L
    · subst e
      rw [pk_us, pk_us, pk_us, pk_us]
      exact ok
    · rw [pk_un e, pk_un e, pk_un e, pk_un e]
      exact w.2.2.2.2.2 p hp
section
variable {g0 g1 g2 g3 g4 g5 g6 g7 g8 g9 g10 g11 g12 g13 al ln pl md pc du sp rs cm tt : Int32} {oo aa bb cc lv rg sv me ou cl cv ex : Nat → Int32}
variable {C M O : Nat}
theorem ox_fB0 (hC : C ≤ 24) (h8 : 8 ≤ M) (hM : M ≤ 16) {b : Int32} {post : Int32 → Prop} (h1 : ov_gB C M 0 b → post 1) (h0 : ¬ ov_gB C M 0 b → post 0) : wpX_fitsB post (g0, g1, g2, g3, g4, g5, g6, g7, g8, g9, g10, g11, g12, g13, nI C, nI M, nI O, ov_al M, ln, pl, md, pc, du, sp, rs, cm, tt, oo, aa, bb, cc, lv, rg, sv, me, ou, cl, cv, ex) 0 b := by
  unfold wpX_fitsB
  exact br_t rfl (br_t rfl (h1 ⟨fun z => absurd z (by decide), fun z => absurd z (by decide), fun z => absurd z (by decide), fun z => absurd z (by decide)⟩))
theorem ox_fC0 (hC : C ≤ 24) {c : Int32} {post : Int32 → Prop} (h1 : ov_gC C 0 c → post 1) (h0 : ¬ ov_gC C 0 c → post 0) : wpX_fitsC post (g0, g1, g2, g3, g4, g5, g6, g7, g8, g9, g10, g11, g12, g13, nI C, nI M, nI O, ov_al M, ln, pl, md, pc, du, sp, rs, cm, tt, oo, aa, bb, cc, lv, rg, sv, me, ou, cl, cv, ex) 0 c := by
  unfold wpX_fitsC
  exact br_t (by decide) (br_f (by decide) (br_f (by decide) (br_t rfl (br_f (by decide) (br_t rfl (h1 ⟨fun z => absurd z (by decide), fun z => absurd z (by decide)⟩))))))
theorem ox_fB1 (hC : C ≤ 24) (h8 : 8 ≤ M) (hM : M ≤ 16) {b : Int32} {post : Int32 → Prop} (h1 : ov_gB C M 1 b → post 1) (h0 : ¬ ov_gB C M 1 b → post 0) : wpX_fitsB post (g0, g1, g2, g3, g4, g5, g6, g7, g8, g9, g10, g11, g12, g13, nI C, nI M, nI O, ov_al M, ln, pl, md, pc, du, sp, rs, cm, tt, oo, aa, bb, cc, lv, rg, sv, me, ou, cl, cv, ex) 1 b := by
  unfold wpX_fitsB
  exact br_f (by decide) (br_f (by decide) (br_f (by decide) (br_f (by decide) (br_t rfl (h1 ⟨fun z => absurd z (by decide), fun z => absurd z (by decide), fun z => absurd z (by decide), fun z => absurd z (by decide)⟩)))))
theorem ox_fC1 (hC : C ≤ 24) {c : Int32} {post : Int32 → Prop} (h1 : ov_gC C 1 c → post 1) (h0 : ¬ ov_gC C 1 c → post 0) : wpX_fitsC post (g0, g1, g2, g3, g4, g5, g6, g7, g8, g9, g10, g11, g12, g13, nI C, nI M, nI O, ov_al M, ln, pl, md, pc, du, sp, rs, cm, tt, oo, aa, bb, cc, lv, rg, sv, me, ou, cl, cv, ex) 1 c := by
  unfold wpX_fitsC
  exact br_t (by decide) (br_f (by decide) (br_f (by decide) (br_t rfl (br_f (by decide) (br_t rfl (h1 ⟨fun z => absurd z (by decide), fun z => absurd z (by decide)⟩))))))
theorem ox_fB2 (hC : C ≤ 24) (h8 : 8 ≤ M) (hM : M ≤ 16) {b : Int32} {post : Int32 → Prop} (h1 : ov_gB C M 2 b → post 1) (h0 : ¬ ov_gB C M 2 b → post 0) : wpX_fitsB post (g0, g1, g2, g3, g4, g5, g6, g7, g8, g9, g10, g11, g12, g13, nI C, nI M, nI O, ov_al M, ln, pl, md, pc, du, sp, rs, cm, tt, oo, aa, bb, cc, lv, rg, sv, me, ou, cl, cv, ex) 2 b := by
  unfold wpX_fitsB
  exact br_f (by decide) (br_f (by decide) (br_f (by decide) (br_f (by decide) (br_f (by decide) (br_f (by decide) (br_f (by decide) (br_f (by decide) (br_f (by decide) (br_t rfl (br_f (by decide) (ox_isReg (fun e => ⟨narrow_b1, h1 ⟨fun _ => e, fun z => absurd z (by decide), fun z => absurd z (by decide), fun z => absurd z (by decide)⟩⟩) (fun e => ⟨narrow_b0, h0 (fun g => e (g.1 (by decide)))⟩))))))))))))
theorem ox_fC2 (hC : C ≤ 24) {c : Int32} {post : Int32 → Prop} (h1 : ov_gC C 2 c → post 1) (h0 : ¬ ov_gC C 2 c → post 0) : wpX_fitsC post (g0, g1, g2, g3, g4, g5, g6, g7, g8, g9, g10, g11, g12, g13, nI C, nI M, nI O, ov_al M, ln, pl, md, pc, du, sp, rs, cm, tt, oo, aa, bb, cc, lv, rg, sv, me, ou, cl, cv, ex) 2 c := by
  unfold wpX_fitsC
  exact br_f (by decide) (br_t (by decide) (br_f (by decide) (br_t rfl (h1 ⟨fun z => absurd z (by decide), fun z => absurd z (by decide)⟩))))
theorem ox_fB3 (hC : C ≤ 24) (h8 : 8 ≤ M) (hM : M ≤ 16) {b : Int32} {post : Int32 → Prop} (h1 : ov_gB C M 3 b → post 1) (h0 : ¬ ov_gB C M 3 b → post 0) : wpX_fitsB post (g0, g1, g2, g3, g4, g5, g6, g7, g8, g9, g10, g11, g12, g13, nI C, nI M, nI O, ov_al M, ln, pl, md, pc, du, sp, rs, cm, tt, oo, aa, bb, cc, lv, rg, sv, me, ou, cl, cv, ex) 3 b := by
  unfold wpX_fitsB
  exact br_f (by decide) (br_f (by decide) (br_f (by decide) (br_f (by decide) (br_f (by decide) (br_f (by decide) (br_f (by decide) (br_f (by decide) (br_f (by decide) (br_t rfl (br_f (by decide) (ox_isReg (fun e => ⟨narrow_b1, h1 ⟨fun _ => e, fun z => absurd z (by decide), fun z => absurd z (by decide), fun z => absurd z (by decide)⟩⟩) (fun e => ⟨narrow_b0, h0 (fun g => e (g.1 (by decide)))⟩))))))))))))
theorem ox_fC3 (hC : C ≤ 24) {c : Int32} {post : Int32 → Prop} (h1 : ov_gC C 3 c → post 1) (h0 : ¬ ov_gC C 3 c → post 0) : wpX_fitsC post (g0, g1, g2, g3, g4, g5, g6, g7, g8, g9, g10, g11, g12, g13, nI C, nI M, nI O, ov_al M, ln, pl, md, pc, du, sp, rs, cm, tt, oo, aa, bb, cc, lv, rg, sv, me, ou, cl, cv, ex) 3 c := by
  unfold wpX_fitsC
  exact br_f (by decide) (br_t (by decide) (br_f (by decide) (br_f (by decide) (br_f (by decide) (ox_isReg (fun e => ⟨narrow_b1, h1 ⟨fun _ => e, fun z => absurd z (by decide)⟩⟩) (fun e => ⟨narrow_b0, h0 (fun g => e (g.1 (by decide)))⟩))))))
theorem ox_fB4 (hC : C ≤ 24) (h8 : 8 ≤ M) (hM : M ≤ 16) {b : Int32} {post : Int32 → Prop} (h1 : ov_gB C M 4 b → post 1) (h0 : ¬ ov_gB C M 4 b → post 0) : wpX_fitsB post (g0, g1, g2, g3, g4, g5, g6, g7, g8, g9, g10, g11, g12, g13, nI C, nI M, nI O, ov_al M, ln, pl, md, pc, du, sp, rs, cm, tt, oo, aa, bb, cc, lv, rg, sv, me, ou, cl, cv, ex) 4 b := by
  unfold wpX_fitsB
  exact br_f (by decide) (br_f (by decide) (br_f (by decide) (br_f (by decide) (br_f (by decide) (br_f (by decide) (br_f (by decide) (br_f (by decide) (br_f (by decide) (br_t rfl (br_f (by decide) (ox_isReg (fun e => ⟨narrow_b1, h1 ⟨fun _ => e, fun z => absurd z (by decide), fun z => absurd z (by decide), fun z => absurd z (by decide)⟩⟩) (fun e => ⟨narrow_b0, h0 (fun g => e (g.1 (by decide)))⟩))))))))))))
theorem ox_fC4 (hC : C ≤ 24) {c : Int32} {post : Int32 → Prop} (h1 : ov_gC C 4 c → post 1) (h0 : ¬ ov_gC C 4 c → post 0) : wpX_fitsC post (g0, g1, g2, g3, g4, g5, g6, g7, g8, g9, g10, g11, g12, g13, nI C, nI M, nI O, ov_al M, ln, pl, md, pc, du, sp, rs, cm, tt, oo, aa, bb, cc, lv, rg, sv, me, ou, cl, cv, ex) 4 c := by
  unfold wpX_fitsC
  exact br_f (by decide) (br_t (by decide) (br_f (by decide) (br_f (by decide) (br_f (by decide) (ox_isReg (fun e => ⟨narrow_b1, h1 ⟨fun _ => e, fun z => absurd z (by decide)⟩⟩) (fun e => ⟨narrow_b0, h0 (fun g => e (g.1 (by decide)))⟩))))))
theorem ox_fB5 (hC : C ≤ 24) (h8 : 8 ≤ M) (hM : M ≤ 16) {b : Int32} {post : Int32 → Prop} (h1 : ov_gB C M 5 b → post 1) (h0 : ¬ ov_gB C M 5 b → post 0) : wpX_fitsB post (g0, g1, g2, g3, g4, g5, g6, g7, g8, g9, g10, g11, g12, g13, nI C, nI M, nI O, ov_al M, ln, pl, md, pc, du, sp, rs, cm, tt, oo, aa, bb, cc, lv, rg, sv, me, ou, cl, cv, ex) 5 b := by
  unfold wpX_fitsB
  exact br_f (by decide) (br_f (by decide) (br_f (by decide) (br_f (by decide) (br_f (by decide) (br_f (by decide) (br_f (by decide) (br_f (by decide) (br_f (by decide) (br_t rfl (br_f (by decide) (ox_isReg (fun e => ⟨narrow_b1, h1 ⟨fun _ => e, fun z => absurd z (by decide), fun z => absurd z (by decide), fun z => absurd z (by decide)⟩⟩) (fun e => ⟨narrow_b0, h0 (fun g => e (g.1 (by decide)))⟩))))))))))))
theorem ox_fC5 (hC : C ≤ 24) {c : Int32} {post : Int32 → Prop} (h1 : ov_gC C 5 c → post 1) (h0 : ¬ ov_gC C 5 c → post 0) : wpX_fitsC post (g0, g1, g2, g3, g4, g5, g6, g7, g8, g9, g10, g11, g12, g13, nI C, nI M, nI O, ov_al M, ln, pl, md, pc, du, sp, rs, cm, tt, oo, aa, bb, cc, lv, rg, sv, me, ou, cl, cv, ex) 5 c := by
  unfold wpX_fitsC
  exact br_f (by decide) (br_t (by decide) (br_f (by decide) (br_f (by decide) (br_f (by decide) (ox_isReg (fun e => ⟨narrow_b1, h1 ⟨fun _ => e, fun z => absurd z (by decide)⟩⟩) (fun e => ⟨narrow_b0, h0 (fun g => e (g.1 (by decide)))⟩))))))
theorem ox_fB6 (hC : C ≤ 24) (h8 : 8 ≤ M) (hM : M ≤ 16) {b : Int32} {post : Int32 → Prop} (h1 : ov_gB C M 6 b → post 1) (h0 : ¬ ov_gB C M 6 b → post 0) : wpX_fitsB post (g0, g1, g2, g3, g4, g5, g6, g7, g8, g9, g10, g11, g12, g13, nI C, nI M, nI O, ov_al M, ln, pl, md, pc, du, sp, rs, cm, tt, oo, aa, bb, cc, lv, rg, sv, me, ou, cl, cv, ex) 6 b := by
  unfold wpX_fitsB
  exact br_f (by decide) (br_f (by decide) (br_f (by decide) (br_f (by decide) (br_f (by decide) (br_t rfl (ox_isMem hM (fun e => ⟨narrow_b1, h1 ⟨fun z => absurd z (by decide), fun _ => e, fun z => absurd z (by decide), fun z => absurd z (by decide)⟩⟩) (fun e => ⟨narrow_b0, h0 (fun g => e (g.2.1 (by decide)))⟩)))))))
theorem ox_fC6 (hC : C ≤ 24) {c : Int32} {post : Int32 → Prop} (h1 : ov_gC C 6 c → post 1) (h0 : ¬ ov_gC C 6 c → post 0) : wpX_fitsC post (g0, g1, g2, g3, g4, g5, g6, g7, g8, g9, g10, g11, g12, g13, nI C, nI M, nI O, ov_al M, ln, pl, md, pc, du, sp, rs, cm, tt, oo, aa, bb, cc, lv, rg, sv, me, ou, cl, cv, ex) 6 c := by
  unfold wpX_fitsC
  exact br_f (by decide) (br_f (by decide) (br_f (by decide) (br_f (by decide) (br_t rfl (br_f (by decide) (br_t rfl (h1 ⟨fun z => absurd z (by decide), fun z => absurd z (by decide)⟩)))))))
theorem ox_fB7 (hC : C ≤ 24) (h8 : 8 ≤ M) (hM : M ≤ 16) {b : Int32} {post : Int32 → Prop} (h1 : ov_gB C M 7 b → post 1) (h0 : ¬ ov_gB C M 7 b → post 0) : wpX_fitsB post (g0, g1, g2, g3, g4, g5, g6, g7, g8, g9, g10, g11, g12, g13, nI C, nI M, nI O, ov_al M, ln, pl, md, pc, du, sp, rs, cm, tt, oo, aa, bb, cc, lv, rg, sv, me, ou, cl, cv, ex) 7 b := by
  unfold wpX_fitsB
  exact br_f (by decide) (br_f (by decide) (br_f (by decide) (br_f (by decide) (br_f (by decide) (br_f (by decide) (br_f (by decide) (br_t rfl (br_f (by decide) (br_c (fun e => h0 (fun g => ((ov_Wn4 h8 hM).mp (g.2.2.1 (by decide))).1 e)) (fun e => br_c (fun e2 => h0 (fun g => ((ov_Wn4 h8 hM).mp (g.2.2.1 (by decide))).2 e2)) (fun e2 => h1 ⟨fun z => absurd z (by decide), fun z => absurd z (by decide), fun _ => (ov_Wn4 h8 hM).mpr ⟨e, e2⟩, fun z => absurd z (by decide)⟩)))))))))))
theorem ox_fC7 (hC : C ≤ 24) {c : Int32} {post : Int32 → Prop} (h1 : ov_gC C 7 c → post 1) (h0 : ¬ ov_gC C 7 c → post 0) : wpX_fitsC post (g0, g1, g2, g3, g4, g5, g6, g7, g8, g9, g10, g11, g12, g13, nI C, nI M, nI O, ov_al M, ln, pl, md, pc, du, sp, rs, cm, tt, oo, aa, bb, cc, lv, rg, sv, me, ou, cl, cv, ex) 7 c := by
  unfold wpX_fitsC
  exact br_f (by decide) (br_f (by decide) (br_t rfl (br_f (by decide) (br_f (by decide) (br_f (by decide) (br_f (by decide) (ox_isReg (fun e => ⟨narrow_b1, h1 ⟨fun _ => e, fun z => absurd z (by decide)⟩⟩) (fun e => ⟨narrow_b0, h0 (fun g => e (g.1 (by decide)))⟩))))))))
theorem ox_fB8 (hC : C ≤ 24) (h8 : 8 ≤ M) (hM : M ≤ 16) {b : Int32} {post : Int32 → Prop} (h1 : ov_gB C M 8 b → post 1) (h0 : ¬ ov_gB C M 8 b → post 0) : wpX_fitsB post (g0, g1, g2, g3, g4, g5, g6, g7, g8, g9, g10, g11, g12, g13, nI C, nI M, nI O, ov_al M, ln, pl, md, pc, du, sp, rs, cm, tt, oo, aa, bb, cc, lv, rg, sv, me, ou, cl, cv, ex) 8 b := by
  unfold wpX_fitsB
  exact br_f (by decide) (br_f (by decide) (br_f (by decide) (br_f (by decide) (br_f (by decide) (br_f (by decide) (br_t rfl (ox_isMem hM (fun e => ⟨narrow_b1, h1 ⟨fun z => absurd z (by decide), fun _ => e, fun z => absurd z (by decide), fun z => absurd z (by decide)⟩⟩) (fun e => ⟨narrow_b0, h0 (fun g => e (g.2.1 (by decide)))⟩))))))))
theorem ox_fC8 (hC : C ≤ 24) {c : Int32} {post : Int32 → Prop} (h1 : ov_gC C 8 c → post 1) (h0 : ¬ ov_gC C 8 c → post 0) : wpX_fitsC post (g0, g1, g2, g3, g4, g5, g6, g7, g8, g9, g10, g11, g12, g13, nI C, nI M, nI O, ov_al M, ln, pl, md, pc, du, sp, rs, cm, tt, oo, aa, bb, cc, lv, rg, sv, me, ou, cl, cv, ex) 8 c := by
  unfold wpX_fitsC
  exact br_f (by decide) (br_f (by decide) (br_f (by decide) (br_f (by decide) (br_t rfl (br_f (by decide) (br_t rfl (h1 ⟨fun z => absurd z (by decide), fun z => absurd z (by decide)⟩)))))))
theorem ox_fB9 (hC : C ≤ 24) (h8 : 8 ≤ M) (hM : M ≤ 16) {b : Int32} {post : Int32 → Prop} (h1 : ov_gB C M 9 b → post 1) (h0 : ¬ ov_gB C M 9 b → post 0) : wpX_fitsB post (g0, g1, g2, g3, g4, g5, g6, g7, g8, g9, g10, g11, g12, g13, nI C, nI M, nI O, ov_al M, ln, pl, md, pc, du, sp, rs, cm, tt, oo, aa, bb, cc, lv, rg, sv, me, ou, cl, cv, ex) 9 b := by
  unfold wpX_fitsB
  exact br_f (by decide) (br_f (by decide) (br_f (by decide) (br_f (by decide) (br_f (by decide) (br_f (by decide) (br_f (by decide) (br_f (by decide) (br_t rfl (br_f (by decide) (br_c (fun e => h0 (fun g => ((ov_Wn4 h8 hM).mp (g.2.2.1 (by decide))).1 e)) (fun e => br_c (fun e2 => h0 (fun g => ((ov_Wn4 h8 hM).mp (g.2.2.1 (by decide))).2 e2)) (fun e2 => h1 ⟨fun z => absurd z (by decide), fun z => absurd z (by decide), fun _ => (ov_Wn4 h8 hM).mpr ⟨e, e2⟩, fun z => absurd z (by decide)⟩))))))))))))
theorem ox_fC9 (hC : C ≤ 24) {c : Int32} {post : Int32 → Prop} (h1 : ov_gC C 9 c → post 1) (h0 : ¬ ov_gC C 9 c → post 0) : wpX_fitsC post (g0, g1, g2, g3, g4, g5, g6, g7, g8, g9, g10, g11, g12, g13, nI C, nI M, nI O, ov_al M, ln, pl, md, pc, du, sp, rs, cm, tt, oo, aa, bb, cc, lv, rg, sv, me, ou, cl, cv, ex) 9 c := by
  unfold wpX_fitsC
  exact br_f (by decide) (br_f (by decide) (br_f (by decide) (br_t rfl (br_f (by decide) (br_f (by decide) (br_f (by decide) (br_f (by decide) (ox_isReg (fun e => ⟨narrow_b1, h1 ⟨fun _ => e, fun z => absurd z (by decide)⟩⟩) (fun e => ⟨narrow_b0, h0 (fun g => e (g.1 (by decide)))⟩)))))))))
theorem ox_fB10 (hC : C ≤ 24) (h8 : 8 ≤ M) (hM : M ≤ 16) {b : Int32} {post : Int32 → Prop} (h1 : ov_gB C M 10 b → post 1) (h0 : ¬ ov_gB C M 10 b → post 0) : wpX_fitsB post (g0, g1, g2, g3, g4, g5, g6, g7, g8, g9, g10, g11, g12, g13, nI C, nI M, nI O, ov_al M, ln, pl, md, pc, du, sp, rs, cm, tt, oo, aa, bb, cc, lv, rg, sv, me, ou, cl, cv, ex) 10 b := by
  unfold wpX_fitsB
  exact br_f (by decide) (br_t rfl (br_t rfl (h1 ⟨fun z => absurd z (by decide), fun z => absurd z (by decide), fun z => absurd z (by decide), fun z => absurd z (by decide)⟩)))
theorem ox_fC10 (hC : C ≤ 24) {c : Int32} {post : Int32 → Prop} (h1 : ov_gC C 10 c → post 1) (h0 : ¬ ov_gC C 10 c → post 0) : wpX_fitsC post (g0, g1, g2, g3, g4, g5, g6, g7, g8, g9, g10, g11, g12, g13, nI C, nI M, nI O, ov_al M, ln, pl, md, pc, du, sp, rs, cm, tt, oo, aa, bb, cc, lv, rg, sv, me, ou, cl, cv, ex) 10 c := by
  unfold wpX_fitsC
  exact br_f (by decide) (br_f (by decide) (br_f (by decide) (br_f (by decide) (br_t rfl (br_f (by decide) (br_t rfl (h1 ⟨fun z => absurd z (by decide), fun z => absurd z (by decide)⟩)))))))
theorem ox_fB11 (hC : C ≤ 24) (h8 : 8 ≤ M) (hM : M ≤ 16) {b : Int32} {post : Int32 → Prop} (h1 : ov_gB C M 11 b → post 1) (h0 : ¬ ov_gB C M 11 b → post 0) : wpX_fitsB post (g0, g1, g2, g3, g4, g5, g6, g7, g8, g9, g10, g11, g12, g13, nI C, nI M, nI O, ov_al M, ln, pl, md, pc, du, sp, rs, cm, tt, oo, aa, bb, cc, lv, rg, sv, me, ou, cl, cv, ex) 11 b := by
  unfold wpX_fitsB
  exact br_f (by decide) (br_f (by decide) (br_f (by decide) (br_f (by decide) (br_f (by decide) (br_f (by decide) (br_f (by decide) (br_f (by decide) (br_f (by decide) (br_t rfl (br_t rfl (ox_isCode hC (fun e => ⟨narrow_b1, h1 ⟨fun z => absurd z (by decide), fun z => absurd z (by decide), fun z => absurd z (by decide), fun _ => e⟩⟩) (fun e => ⟨narrow_b0, h0 (fun g => e (g.2.2.2 (by decide)))⟩))))))))))))
theorem ox_fC11 (hC : C ≤ 24) {c : Int32} {post : Int32 → Prop} (h1 : ov_gC C 11 c → post 1) (h0 : ¬ ov_gC C 11 c → post 0) : wpX_fitsC post (g0, g1, g2, g3, g4, g5, g6, g7, g8, g9, g10, g11, g12, g13, nI C, nI M, nI O, ov_al M, ln, pl, md, pc, du, sp, rs, cm, tt, oo, aa, bb, cc, lv, rg, sv, me, ou, cl, cv, ex) 11 c := by
  unfold wpX_fitsC
  exact br_f (by decide) (br_f (by decide) (br_f (by decide) (br_f (by decide) (br_t rfl (br_f (by decide) (br_t rfl (h1 ⟨fun z => absurd z (by decide), fun z => absurd z (by decide)⟩)))))))
theorem ox_fB12 (hC : C ≤ 24) (h8 : 8 ≤ M) (hM : M ≤ 16) {b : Int32} {post : Int32 → Prop} (h1 : ov_gB C M 12 b → post 1) (h0 : ¬ ov_gB C M 12 b → post 0) : wpX_fitsB post (g0, g1, g2, g3, g4, g5, g6, g7, g8, g9, g10, g11, g12, g13, nI C, nI M, nI O, ov_al M, ln, pl, md, pc, du, sp, rs, cm, tt, oo, aa, bb, cc, lv, rg, sv, me, ou, cl, cv, ex) 12 b := by
  unfold wpX_fitsB
  exact br_f (by decide) (br_f (by decide) (br_f (by decide) (br_f (by decide) (br_f (by decide) (br_f (by decide) (br_f (by decide) (br_f (by decide) (br_f (by decide) (br_t rfl (br_f (by decide) (ox_isReg (fun e => ⟨narrow_b1, h1 ⟨fun _ => e, fun z => absurd z (by decide), fun z => absurd z (by decide), fun z => absurd z (by decide)⟩⟩) (fun e => ⟨narrow_b0, h0 (fun g => e (g.1 (by decide)))⟩))))))))))))
theorem ox_fC12 (hC : C ≤ 24) {c : Int32} {post : Int32 → Prop} (h1 : ov_gC C 12 c → post 1) (h0 : ¬ ov_gC C 12 c → post 0) : wpX_fitsC post (g0, g1, g2, g3, g4, g5, g6, g7, g8, g9, g10, g11, g12, g13, nI C, nI M, nI O, ov_al M, ln, pl, md, pc, du, sp, rs, cm, tt, oo, aa, bb, cc, lv, rg, sv, me, ou, cl, cv, ex) 12 c := by
  unfold wpX_fitsC
  exact br_f (by decide) (br_f (by decide) (br_f (by decide) (br_f (by decide) (br_t rfl (br_t rfl (br_f (by decide) (br_f (by decide) (br_t rfl (ox_isCode hC (fun e => ⟨narrow_b1, h1 ⟨fun z => absurd z (by decide), fun _ => e⟩⟩) (fun e => ⟨narrow_b0, h0 (fun g => e (g.2 (by decide)))⟩))))))))))
theorem ox_fB13 (hC : C ≤ 24) (h8 : 8 ≤ M) (hM : M ≤ 16) {b : Int32} {post : Int32 → Prop} (h1 : ov_gB C M 13 b → post 1) (h0 : ¬ ov_gB C M 13 b → post 0) : wpX_fitsB post (g0, g1, g2, g3, g4, g5, g6, g7, g8, g9, g10, g11, g12, g13, nI C, nI M, nI O, ov_al M, ln, pl, md, pc, du, sp, rs, cm, tt, oo, aa, bb, cc, lv, rg, sv, me, ou, cl, cv, ex) 13 b := by
  unfold wpX_fitsB
  exact br_f (by decide) (br_f (by decide) (br_t rfl (br_t rfl (h1 ⟨fun z => absurd z (by decide), fun z => absurd z (by decide), fun z => absurd z (by decide), fun z => absurd z (by decide)⟩))))
theorem ox_fC13 (hC : C ≤ 24) {c : Int32} {post : Int32 → Prop} (h1 : ov_gC C 13 c → post 1) (h0 : ¬ ov_gC C 13 c → post 0) : wpX_fitsC post (g0, g1, g2, g3, g4, g5, g6, g7, g8, g9, g10, g11, g12, g13, nI C, nI M, nI O, ov_al M, ln, pl, md, pc, du, sp, rs, cm, tt, oo, aa, bb, cc, lv, rg, sv, me, ou, cl, cv, ex) 13 c := by
  unfold wpX_fitsC
  exact br_f (by decide) (br_f (by decide) (br_f (by decide) (br_f (by decide) (br_t rfl (br_f (by decide) (br_t rfl (h1 ⟨fun z => absurd z (by decide), fun z => absurd z (by decide)⟩)))))))
theorem ov_ok0 {C M : Nat} {a b c : Int32} (gA : ov_gA C 0 a) (gB : ov_gB C M 0 b) (gC : ov_gC C 0 c) : ov_ok C M 0 a 0 0 := Or.inl ⟨rfl, gA.2 (by decide)⟩
theorem ox_em0 (w : ov_wf C M oo aa bb cc) {L : Nat} (hL : L < C) (hm : ¬ md = 1) {a b c : Int32} {post : Int32 → SX → Prop} (h1 : ov_g C M 0 a b c → ∀ lv', ov_lvok C (upd oo L 0) (upd aa L a) (upd bb L 0) (upd cc L 0) lv' → post (nI L) (g0, g1, g2, g3, g4, g5, g6, g7, g8, g9, g10, g11, g12, g13, nI C, nI M, nI O, ov_al M, nI (L + 1), pl, md, pc, du, sp, rs, cm, tt, upd oo L 0, upd aa L a, upd bb L 0, upd cc L 0, lv', rg, sv, me, ou, cl, cv, ex)) (h0 : ¬ ov_g C M 0 a b c → post (-2) (g0, g1, g2, g3, g4, g5, g6, g7, g8, g9, g10, g11, g12, g13, nI C, nI M, nI O, ov_al M, nI L, pl, md, pc, du, sp, rs, cm, tt, oo, aa, bb, cc, lv, rg, sv, me, ou, cl, cv, ex)) : wpX_emit post (g0, g1, g2, g3, g4, g5, g6, g7, g8, g9, g10, g11, g12, g13, nI C, nI M, nI O, ov_al M, nI L, pl, md, pc, du, sp, rs, cm, tt, oo, aa, bb, cc, lv, rg, sv, me, ou, cl, cv, ex) 0 a b c := by
  have hC := w.2.1
  have h8 := w.2.2.1
  have hM := w.2.2.2.1
  have hin : vp_in (nI L) 25 := vp_in_nI (by omega) (by omega)
  have hcl : (nI L).toNatClampNeg = L := nI_clamp (by omega)
  refine br_f hm (br_f (nI_ge hL (by omega)) (br_f (by decide) (br_t (by decide) (br_f (by decide) (ox_isReg (fun eA => ?_) (fun eA => ?_))))))
  · refine br_f (by decide) (ox_fB0 hC h8 hM (fun gB => br_f (by decide) (ox_fC0 hC (fun gC => br_f (by decide) (br_f (by decide) ?_)) (fun e => br_t rfl (br_t rfl (h0 (fun g => e g.2.2)))))) (fun e => br_t rfl (br_t rfl (h0 (fun g => e g.2.1)))))
    have gA : ov_gA C 0 a := ⟨fun z => absurd z (by decide), fun _ => eA⟩
    have wn := ov_wf_new w hL (ov_ok0 gA gB gC)
    refine ⟨hin, nm_r (e' := upd oo L 0) (by rw [hcl]) ⟨hin, nm_r (e' := upd aa L a) (by rw [hcl]) ?_⟩⟩
    refine br_t rfl (br_t rfl ?_)
    refine ⟨hin, nm_r (e' := upd bb L 0) (by rw [hcl]) ?_⟩
    refine br_t (by decide) (br_f (by decide) (br_f (by decide) (br_t rfl (br_f (by decide) (br_t rfl ?_)))))
    refine ⟨hin, nm_r (e' := upd cc L 0) (by rw [hcl]) (nm_r (nI_1 L) ?_)⟩
    exact ox_refr wn (fun lv' hlv => h1 ⟨gA, gB, gC⟩ lv' hlv)
  · exact br_t rfl (br_t rfl (h0 (fun g => eA (g.1.2 (by decide)))))
theorem ov_ok1 {C M : Nat} {a b c : Int32} (gA : ov_gA C 1 a) (gB : ov_gB C M 1 b) (gC : ov_gC C 1 c) : ov_ok C M 1 a b 0 := Or.inr (Or.inl ⟨rfl, gA.2 (by decide)⟩)
theorem ox_em1 (w : ov_wf C M oo aa bb cc) {L : Nat} (hL : L < C) (hm : ¬ md = 1) {a b c : Int32} {post : Int32 → SX → Prop} (h1 : ov_g C M 1 a b c → ∀ lv', ov_lvok C (upd oo L 1) (upd aa L a) (upd bb L b) (upd cc L 0) lv' → post (nI L) (g0, g1, g2, g3, g4, g5, g6, g7, g8, g9, g10, g11, g12, g13, nI C, nI M, nI O, ov_al M, nI (L + 1), pl, md, pc, du, sp, rs, cm, tt, upd oo L 1, upd aa L a, upd bb L b, upd cc L 0, lv', rg, sv, me, ou, cl, cv, ex)) (h0 : ¬ ov_g C M 1 a b c → post (-2) (g0, g1, g2, g3, g4, g5, g6, g7, g8, g9, g10, g11, g12, g13, nI C, nI M, nI O, ov_al M, nI L, pl, md, pc, du, sp, rs, cm, tt, oo, aa, bb, cc, lv, rg, sv, me, ou, cl, cv, ex)) : wpX_emit post (g0, g1, g2, g3, g4, g5, g6, g7, g8, g9, g10, g11, g12, g13, nI C, nI M, nI O, ov_al M, nI L, pl, md, pc, du, sp, rs, cm, tt, oo, aa, bb, cc, lv, rg, sv, me, ou, cl, cv, ex) 1 a b c := by
  have hC := w.2.1
  have h8 := w.2.2.1
  have hM := w.2.2.2.1
  have hin : vp_in (nI L) 25 := vp_in_nI (by omega) (by omega)
  have hcl : (nI L).toNatClampNeg = L := nI_clamp (by omega)
  refine br_f hm (br_f (nI_ge hL (by omega)) (br_f (by decide) (br_t (by decide) (br_f (by decide) (ox_isReg (fun eA => ?_) (fun eA => ?_))))))
  · refine br_f (by decide) (ox_fB1 hC h8 hM (fun gB => br_f (by decide) (ox_fC1 hC (fun gC => br_f (by decide) (br_f (by decide) ?_)) (fun e => br_t rfl (br_t rfl (h0 (fun g => e g.2.2)))))) (fun e => br_t rfl (br_t rfl (h0 (fun g => e g.2.1)))))
    have gA : ov_gA C 1 a := ⟨fun z => absurd z (by decide), fun _ => eA⟩
    have wn := ov_wf_new w hL (ov_ok1 gA gB gC)
    refine ⟨hin, nm_r (e' := upd oo L 1) (by rw [hcl]) ⟨hin, nm_r (e' := upd aa L a) (by rw [hcl]) ?_⟩⟩
    refine br_f (by decide) (br_f (by decide) (br_f (by decide) (br_f (by decide) ?_)))
    refine ⟨hin, nm_r (e' := upd bb L b) (by rw [hcl]) ?_⟩
    refine br_t (by decide) (br_f (by decide) (br_f (by decide) (br_t rfl (br_f (by decide) (br_t rfl ?_)))))
    refine ⟨hin, nm_r (e' := upd cc L 0) (by rw [hcl]) (nm_r (nI_1 L) ?_)⟩
    exact ox_refr wn (fun lv' hlv => h1 ⟨gA, gB, gC⟩ lv' hlv)
  · exact br_t rfl (br_t rfl (h0 (fun g => eA (g.1.2 (by decide)))))
theorem ov_ok2 {C M : Nat} {a b c : Int32} (gA : ov_gA C 2 a) (gB : ov_gB C M 2 b) (gC : ov_gC C 2 c) : ov_ok C M 2 a b c := Or.inr (Or.inr (Or.inl ⟨rfl, gA.2 (by decide), gB.1 (by decide)⟩))
theorem ox_em2 (w : ov_wf C M oo aa bb cc) {L : Nat} (hL : L < C) (hm : ¬ md = 1) {a b c : Int32} {post : Int32 → SX → Prop} (h1 : ov_g C M 2 a b c → ∀ lv', ov_lvok C (upd oo L 2) (upd aa L a) (upd bb L b) (upd cc L c) lv' → post (nI L) (g0, g1, g2, g3, g4, g5, g6, g7, g8, g9, g10, g11, g12, g13, nI C, nI M, nI O, ov_al M, nI (L + 1), pl, md, pc, du, sp, rs, cm, tt, upd oo L 2, upd aa L a, upd bb L b, upd cc L c, lv', rg, sv, me, ou, cl, cv, ex)) (h0 : ¬ ov_g C M 2 a b c → post (-2) (g0, g1, g2, g3, g4, g5, g6, g7, g8, g9, g10, g11, g12, g13, nI C, nI M, nI O, ov_al M, nI L, pl, md, pc, du, sp, rs, cm, tt, oo, aa, bb, cc, lv, rg, sv, me, ou, cl, cv, ex)) : wpX_emit post (g0, g1, g2, g3, g4, g5, g6, g7, g8, g9, g10, g11, g12, g13, nI C, nI M, nI O, ov_al M, nI L, pl, md, pc, du, sp, rs, cm, tt, oo, aa, bb, cc, lv, rg, sv, me, ou, cl, cv, ex) 2 a b c := by
  have hC := w.2.1
  have h8 := w.2.2.1
  have hM := w.2.2.2.1
  have hin : vp_in (nI L) 25 := vp_in_nI (by omega) (by omega)
  have hcl : (nI L).toNatClampNeg = L := nI_clamp (by omega)
  refine br_f hm (br_f (nI_ge hL (by omega)) (br_f (by decide) (br_t (by decide) (br_f (by decide) (ox_isReg (fun eA => ?_) (fun eA => ?_))))))
  · refine br_f (by decide) (ox_fB2 hC h8 hM (fun gB => br_f (by decide) (ox_fC2 hC (fun gC => br_f (by decide) (br_f (by decide) ?_)) (fun e => br_t rfl (br_t rfl (h0 (fun g => e g.2.2)))))) (fun e => br_t rfl (br_t rfl (h0 (fun g => e g.2.1)))))
    have gA : ov_gA C 2 a := ⟨fun z => absurd z (by decide), fun _ => eA⟩
    have wn := ov_wf_new w hL (ov_ok2 gA gB gC)
    refine ⟨hin, nm_r (e' := upd oo L 2) (by rw [hcl]) ⟨hin, nm_r (e' := upd aa L a) (by rw [hcl]) ?_⟩⟩
    refine br_f (by decide) (br_f (by decide) (br_f (by decide) (br_f (by decide) ?_)))
    refine ⟨hin, nm_r (e' := upd bb L b) (by rw [hcl]) ?_⟩
    refine br_f (by decide) (br_t (by decide) (br_f (by decide) ?_))
    refine ⟨hin, nm_r (e' := upd cc L c) (by rw [hcl]) (nm_r (nI_1 L) ?_)⟩
    exact ox_refr wn (fun lv' hlv => h1 ⟨gA, gB, gC⟩ lv' hlv)
  · exact br_t rfl (br_t rfl (h0 (fun g => eA (g.1.2 (by decide)))))
theorem ov_ok3 {C M : Nat} {a b c : Int32} (gA : ov_gA C 3 a) (gB : ov_gB C M 3 b) (gC : ov_gC C 3 c) : ov_ok C M 3 a b c := Or.inr (Or.inr (Or.inr (Or.inl ⟨rfl, gA.2 (by decide), gB.1 (by decide), gC.1 (by decide)⟩)))
theorem ox_em3 (w : ov_wf C M oo aa bb cc) {L : Nat} (hL : L < C) (hm : ¬ md = 1) {a b c : Int32} {post : Int32 → SX → Prop} (h1 : ov_g C M 3 a b c → ∀ lv', ov_lvok C (upd oo L 3) (upd aa L a) (upd bb L b) (upd cc L c) lv' → post (nI L) (g0, g1, g2, g3, g4, g5, g6, g7, g8, g9, g10, g11, g12, g13, nI C, nI M, nI O, ov_al M, nI (L + 1), pl, md, pc, du, sp, rs, cm, tt, upd oo L 3, upd aa L a, upd bb L b, upd cc L c, lv', rg, sv, me, ou, cl, cv, ex)) (h0 : ¬ ov_g C M 3 a b c → post (-2) (g0, g1, g2, g3, g4, g5, g6, g7, g8, g9, g10, g11, g12, g13, nI C, nI M, nI O, ov_al M, nI L, pl, md, pc, du, sp, rs, cm, tt, oo, aa, bb, cc, lv, rg, sv, me, ou, cl, cv, ex)) : wpX_emit post (g0, g1, g2, g3, g4, g5, g6, g7, g8, g9, g10, g11, g12, g13, nI C, nI M, nI O, ov_al M, nI L, pl, md, pc, du, sp, rs, cm, tt, oo, aa, bb, cc, lv, rg, sv, me, ou, cl, cv, ex) 3 a b c := by
  have hC := w.2.1
  have h8 := w.2.2.1
  have hM := w.2.2.2.1
  have hin : vp_in (nI L) 25 := vp_in_nI (by omega) (by omega)
  have hcl : (nI L).toNatClampNeg = L := nI_clamp (by omega)
  refine br_f hm (br_f (nI_ge hL (by omega)) (br_f (by decide) (br_t (by decide) (br_f (by decide) (ox_isReg (fun eA => ?_) (fun eA => ?_))))))
  · refine br_f (by decide) (ox_fB3 hC h8 hM (fun gB => br_f (by decide) (ox_fC3 hC (fun gC => br_f (by decide) (br_f (by decide) ?_)) (fun e => br_t rfl (br_t rfl (h0 (fun g => e g.2.2)))))) (fun e => br_t rfl (br_t rfl (h0 (fun g => e g.2.1)))))
    have gA : ov_gA C 3 a := ⟨fun z => absurd z (by decide), fun _ => eA⟩
    have wn := ov_wf_new w hL (ov_ok3 gA gB gC)
    refine ⟨hin, nm_r (e' := upd oo L 3) (by rw [hcl]) ⟨hin, nm_r (e' := upd aa L a) (by rw [hcl]) ?_⟩⟩
    refine br_f (by decide) (br_f (by decide) (br_f (by decide) (br_f (by decide) ?_)))
    refine ⟨hin, nm_r (e' := upd bb L b) (by rw [hcl]) ?_⟩
    refine br_f (by decide) (br_t (by decide) (br_f (by decide) ?_))
    refine ⟨hin, nm_r (e' := upd cc L c) (by rw [hcl]) (nm_r (nI_1 L) ?_)⟩
    exact ox_refr wn (fun lv' hlv => h1 ⟨gA, gB, gC⟩ lv' hlv)
  · exact br_t rfl (br_t rfl (h0 (fun g => eA (g.1.2 (by decide)))))
theorem ov_ok4 {C M : Nat} {a b c : Int32} (gA : ov_gA C 4 a) (gB : ov_gB C M 4 b) (gC : ov_gC C 4 c) : ov_ok C M 4 a b c := Or.inr (Or.inr (Or.inr (Or.inr (Or.inl ⟨rfl, gA.2 (by decide), gB.1 (by decide), gC.1 (by decide)⟩))))
theorem ox_em4 (w : ov_wf C M oo aa bb cc) {L : Nat} (hL : L < C) (hm : ¬ md = 1) {a b c : Int32} {post : Int32 → SX → Prop} (h1 : ov_g C M 4 a b c → ∀ lv', ov_lvok C (upd oo L 4) (upd aa L a) (upd bb L b) (upd cc L c) lv' → post (nI L) (g0, g1, g2, g3, g4, g5, g6, g7, g8, g9, g10, g11, g12, g13, nI C, nI M, nI O, ov_al M, nI (L + 1), pl, md, pc, du, sp, rs, cm, tt, upd oo L 4, upd aa L a, upd bb L b, upd cc L c, lv', rg, sv, me, ou, cl, cv, ex)) (h0 : ¬ ov_g C M 4 a b c → post (-2) (g0, g1, g2, g3, g4, g5, g6, g7, g8, g9, g10, g11, g12, g13, nI C, nI M, nI O, ov_al M, nI L, pl, md, pc, du, sp, rs, cm, tt, oo, aa, bb, cc, lv, rg, sv, me, ou, cl, cv, ex)) : wpX_emit post (g0, g1, g2, g3, g4, g5, g6, g7, g8, g9, g10, g11, g12, g13, nI C, nI M, nI O, ov_al M, nI L, pl, md, pc, du, sp, rs, cm, tt, oo, aa, bb, cc, lv, rg, sv, me, ou, cl, cv, ex) 4 a b c := by
  have hC := w.2.1
  have h8 := w.2.2.1
  have hM := w.2.2.2.1
  have hin : vp_in (nI L) 25 := vp_in_nI (by omega) (by omega)
  have hcl : (nI L).toNatClampNeg = L := nI_clamp (by omega)
  refine br_f hm (br_f (nI_ge hL (by omega)) (br_f (by decide) (br_t (by decide) (br_f (by decide) (ox_isReg (fun eA => ?_) (fun eA => ?_))))))
  · refine br_f (by decide) (ox_fB4 hC h8 hM (fun gB => br_f (by decide) (ox_fC4 hC (fun gC => br_f (by decide) (br_f (by decide) ?_)) (fun e => br_t rfl (br_t rfl (h0 (fun g => e g.2.2)))))) (fun e => br_t rfl (br_t rfl (h0 (fun g => e g.2.1)))))
    have gA : ov_gA C 4 a := ⟨fun z => absurd z (by decide), fun _ => eA⟩
    have wn := ov_wf_new w hL (ov_ok4 gA gB gC)
    refine ⟨hin, nm_r (e' := upd oo L 4) (by rw [hcl]) ⟨hin, nm_r (e' := upd aa L a) (by rw [hcl]) ?_⟩⟩
    refine br_f (by decide) (br_f (by decide) (br_f (by decide) (br_f (by decide) ?_)))
    refine ⟨hin, nm_r (e' := upd bb L b) (by rw [hcl]) ?_⟩
    refine br_f (by decide) (br_t (by decide) (br_f (by decide) ?_))
    refine ⟨hin, nm_r (e' := upd cc L c) (by rw [hcl]) (nm_r (nI_1 L) ?_)⟩
    exact ox_refr wn (fun lv' hlv => h1 ⟨gA, gB, gC⟩ lv' hlv)
  · exact br_t rfl (br_t rfl (h0 (fun g => eA (g.1.2 (by decide)))))
theorem ov_ok5 {C M : Nat} {a b c : Int32} (gA : ov_gA C 5 a) (gB : ov_gB C M 5 b) (gC : ov_gC C 5 c) : ov_ok C M 5 a b c := Or.inr (Or.inr (Or.inr (Or.inr (Or.inr (Or.inl ⟨rfl, gA.2 (by decide), gB.1 (by decide), gC.1 (by decide)⟩)))))
theorem ox_em5 (w : ov_wf C M oo aa bb cc) {L : Nat} (hL : L < C) (hm : ¬ md = 1) {a b c : Int32} {post : Int32 → SX → Prop} (h1 : ov_g C M 5 a b c → ∀ lv', ov_lvok C (upd oo L 5) (upd aa L a) (upd bb L b) (upd cc L c) lv' → post (nI L) (g0, g1, g2, g3, g4, g5, g6, g7, g8, g9, g10, g11, g12, g13, nI C, nI M, nI O, ov_al M, nI (L + 1), pl, md, pc, du, sp, rs, cm, tt, upd oo L 5, upd aa L a, upd bb L b, upd cc L c, lv', rg, sv, me, ou, cl, cv, ex)) (h0 : ¬ ov_g C M 5 a b c → post (-2) (g0, g1, g2, g3, g4, g5, g6, g7, g8, g9, g10, g11, g12, g13, nI C, nI M, nI O, ov_al M, nI L, pl, md, pc, du, sp, rs, cm, tt, oo, aa, bb, cc, lv, rg, sv, me, ou, cl, cv, ex)) : wpX_emit post (g0, g1, g2, g3, g4, g5, g6, g7, g8, g9, g10, g11, g12, g13, nI C, nI M, nI O, ov_al M, nI L, pl, md, pc, du, sp, rs, cm, tt, oo, aa, bb, cc, lv, rg, sv, me, ou, cl, cv, ex) 5 a b c := by
  have hC := w.2.1
  have h8 := w.2.2.1
  have hM := w.2.2.2.1
  have hin : vp_in (nI L) 25 := vp_in_nI (by omega) (by omega)
  have hcl : (nI L).toNatClampNeg = L := nI_clamp (by omega)
  refine br_f hm (br_f (nI_ge hL (by omega)) (br_f (by decide) (br_t (by decide) (br_f (by decide) (ox_isReg (fun eA => ?_) (fun eA => ?_))))))
  · refine br_f (by decide) (ox_fB5 hC h8 hM (fun gB => br_f (by decide) (ox_fC5 hC (fun gC => br_f (by decide) (br_f (by decide) ?_)) (fun e => br_t rfl (br_t rfl (h0 (fun g => e g.2.2)))))) (fun e => br_t rfl (br_t rfl (h0 (fun g => e g.2.1)))))
    have gA : ov_gA C 5 a := ⟨fun z => absurd z (by decide), fun _ => eA⟩
    have wn := ov_wf_new w hL (ov_ok5 gA gB gC)
    refine ⟨hin, nm_r (e' := upd oo L 5) (by rw [hcl]) ⟨hin, nm_r (e' := upd aa L a) (by rw [hcl]) ?_⟩⟩
    refine br_f (by decide) (br_f (by decide) (br_f (by decide) (br_f (by decide) ?_)))
    refine ⟨hin, nm_r (e' := upd bb L b) (by rw [hcl]) ?_⟩
    refine br_f (by decide) (br_t (by decide) (br_f (by decide) ?_))
    refine ⟨hin, nm_r (e' := upd cc L c) (by rw [hcl]) (nm_r (nI_1 L) ?_)⟩
    exact ox_refr wn (fun lv' hlv => h1 ⟨gA, gB, gC⟩ lv' hlv)
  · exact br_t rfl (br_t rfl (h0 (fun g => eA (g.1.2 (by decide)))))
theorem ov_ok6 {C M : Nat} {a b c : Int32} (gA : ov_gA C 6 a) (gB : ov_gB C M 6 b) (gC : ov_gC C 6 c) : ov_ok C M 6 a b 0 := Or.inr (Or.inr (Or.inr (Or.inr (Or.inr (Or.inr (Or.inl ⟨rfl, gA.2 (by decide), gB.2.1 (by decide)⟩))))))
theorem ox_em6 (w : ov_wf C M oo aa bb cc) {L : Nat} (hL : L < C) (hm : ¬ md = 1) {a b c : Int32} {post : Int32 → SX → Prop} (h1 : ov_g C M 6 a b c → ∀ lv', ov_lvok C (upd oo L 6) (upd aa L a) (upd bb L b) (upd cc L 0) lv' → post (nI L) (g0, g1, g2, g3, g4, g5, g6, g7, g8, g9, g10, g11, g12, g13, nI C, nI M, nI O, ov_al M, nI (L + 1), pl, md, pc, du, sp, rs, cm, tt, upd oo L 6, upd aa L a, upd bb L b, upd cc L 0, lv', rg, sv, me, ou, cl, cv, ex)) (h0 : ¬ ov_g C M 6 a b c → post (-2) (g0, g1, g2, g3, g4, g5, g6, g7, g8, g9, g10, g11, g12, g13, nI C, nI M, nI O, ov_al M, nI L, pl, md, pc, du, sp, rs, cm, tt, oo, aa, bb, cc, lv, rg, sv, me, ou, cl, cv, ex)) : wpX_emit post (g0, g1, g2, g3, g4, g5, g6, g7, g8, g9, g10, g11, g12, g13, nI C, nI M, nI O, ov_al M, nI L, pl, md, pc, du, sp, rs, cm, tt, oo, aa, bb, cc, lv, rg, sv, me, ou, cl, cv, ex) 6 a b c := by
  have hC := w.2.1
  have h8 := w.2.2.1
  have hM := w.2.2.2.1
  have hin : vp_in (nI L) 25 := vp_in_nI (by omega) (by omega)
  have hcl : (nI L).toNatClampNeg = L := nI_clamp (by omega)
  refine br_f hm (br_f (nI_ge hL (by omega)) (br_f (by decide) (br_t (by decide) (br_f (by decide) (ox_isReg (fun eA => ?_) (fun eA => ?_))))))
  · refine br_f (by decide) (ox_fB6 hC h8 hM (fun gB => br_f (by decide) (ox_fC6 hC (fun gC => br_f (by decide) (br_f (by decide) ?_)) (fun e => br_t rfl (br_t rfl (h0 (fun g => e g.2.2)))))) (fun e => br_t rfl (br_t rfl (h0 (fun g => e g.2.1)))))
    have gA : ov_gA C 6 a := ⟨fun z => absurd z (by decide), fun _ => eA⟩
    have wn := ov_wf_new w hL (ov_ok6 gA gB gC)
    refine ⟨hin, nm_r (e' := upd oo L 6) (by rw [hcl]) ⟨hin, nm_r (e' := upd aa L a) (by rw [hcl]) ?_⟩⟩
    refine br_f (by decide) (br_f (by decide) (br_f (by decide) (br_f (by decide) ?_)))
    refine ⟨hin, nm_r (e' := upd bb L b) (by rw [hcl]) ?_⟩
    refine br_f (by decide) (br_f (by decide) (br_f (by decide) (br_f (by decide) (br_t rfl (br_f (by decide) (br_t rfl ?_))))))
    refine ⟨hin, nm_r (e' := upd cc L 0) (by rw [hcl]) (nm_r (nI_1 L) ?_)⟩
    exact ox_refr wn (fun lv' hlv => h1 ⟨gA, gB, gC⟩ lv' hlv)
  · exact br_t rfl (br_t rfl (h0 (fun g => eA (g.1.2 (by decide)))))
theorem ov_ok7 {C M : Nat} {a b c : Int32} (gA : ov_gA C 7 a) (gB : ov_gB C M 7 b) (gC : ov_gC C 7 c) : ov_ok C M 7 a b c := Or.inr (Or.inr (Or.inr (Or.inr (Or.inr (Or.inr (Or.inr (Or.inl ⟨rfl, gA.2 (by decide), gB.2.2.1 (by decide), gC.1 (by decide)⟩)))))))
theorem ox_em7 (w : ov_wf C M oo aa bb cc) {L : Nat} (hL : L < C) (hm : ¬ md = 1) {a b c : Int32} {post : Int32 → SX → Prop} (h1 : ov_g C M 7 a b c → ∀ lv', ov_lvok C (upd oo L 7) (upd aa L a) (upd bb L b) (upd cc L c) lv' → post (nI L) (g0, g1, g2, g3, g4, g5, g6, g7, g8, g9, g10, g11, g12, g13, nI C, nI M, nI O, ov_al M, nI (L + 1), pl, md, pc, du, sp, rs, cm, tt, upd oo L 7, upd aa L a, upd bb L b, upd cc L c, lv', rg, sv, me, ou, cl, cv, ex)) (h0 : ¬ ov_g C M 7 a b c → post (-2) (g0, g1, g2, g3, g4, g5, g6, g7, g8, g9, g10, g11, g12, g13, nI C, nI M, nI O, ov_al M, nI L, pl, md, pc, du, sp, rs, cm, tt, oo, aa, bb, cc, lv, rg, sv, me, ou, cl, cv, ex)) : wpX_emit post (g0, g1, g2, g3, g4, g5, g6, g7, g8, g9, g10, g11, g12, g13, nI C, nI M, nI O, ov_al M, nI L, pl, md, pc, du, sp, rs, cm, tt, oo, aa, bb, cc, lv, rg, sv, me, ou, cl, cv, ex) 7 a b c := by
  have hC := w.2.1
  have h8 := w.2.2.1
  have hM := w.2.2.2.1
  have hin : vp_in (nI L) 25 := vp_in_nI (by omega) (by omega)
  have hcl : (nI L).toNatClampNeg = L := nI_clamp (by omega)
  refine br_f hm (br_f (nI_ge hL (by omega)) (br_f (by decide) (br_t (by decide) (br_f (by decide) (ox_isReg (fun eA => ?_) (fun eA => ?_))))))
  · refine br_f (by decide) (ox_fB7 hC h8 hM (fun gB => br_f (by decide) (ox_fC7 hC (fun gC => br_f (by decide) (br_f (by decide) ?_)) (fun e => br_t rfl (br_t rfl (h0 (fun g => e g.2.2)))))) (fun e => br_t rfl (br_t rfl (h0 (fun g => e g.2.1)))))
    have gA : ov_gA C 7 a := ⟨fun z => absurd z (by decide), fun _ => eA⟩
    have wn := ov_wf_new w hL (ov_ok7 gA gB gC)
    refine ⟨hin, nm_r (e' := upd oo L 7) (by rw [hcl]) ⟨hin, nm_r (e' := upd aa L a) (by rw [hcl]) ?_⟩⟩
    refine br_f (by decide) (br_f (by decide) (br_f (by decide) (br_f (by decide) ?_)))
    refine ⟨hin, nm_r (e' := upd bb L b) (by rw [hcl]) ?_⟩
    refine br_f (by decide) (br_f (by decide) (br_t rfl (br_f (by decide) (br_f (by decide) ?_))))
    refine ⟨hin, nm_r (e' := upd cc L c) (by rw [hcl]) (nm_r (nI_1 L) ?_)⟩
    exact ox_refr wn (fun lv' hlv => h1 ⟨gA, gB, gC⟩ lv' hlv)
  · exact br_t rfl (br_t rfl (h0 (fun g => eA (g.1.2 (by decide)))))
theorem ov_ok8 {C M : Nat} {a b c : Int32} (gA : ov_gA C 8 a) (gB : ov_gB C M 8 b) (gC : ov_gC C 8 c) : ov_ok C M 8 a b 0 := Or.inr (Or.inr (Or.inr (Or.inr (Or.inr (Or.inr (Or.inr (Or.inr (Or.inl ⟨rfl, gA.2 (by decide), gB.2.1 (by decide)⟩))))))))
theorem ox_em8 (w : ov_wf C M oo aa bb cc) {L : Nat} (hL : L < C) (hm : ¬ md = 1) {a b c : Int32} {post : Int32 → SX → Prop} (h1 : ov_g C M 8 a b c → ∀ lv', ov_lvok C (upd oo L 8) (upd aa L a) (upd bb L b) (upd cc L 0) lv' → post (nI L) (g0, g1, g2, g3, g4, g5, g6, g7, g8, g9, g10, g11, g12, g13, nI C, nI M, nI O, ov_al M, nI (L + 1), pl, md, pc, du, sp, rs, cm, tt, upd oo L 8, upd aa L a, upd bb L b, upd cc L 0, lv', rg, sv, me, ou, cl, cv, ex)) (h0 : ¬ ov_g C M 8 a b c → post (-2) (g0, g1, g2, g3, g4, g5, g6, g7, g8, g9, g10, g11, g12, g13, nI C, nI M, nI O, ov_al M, nI L, pl, md, pc, du, sp, rs, cm, tt, oo, aa, bb, cc, lv, rg, sv, me, ou, cl, cv, ex)) : wpX_emit post (g0, g1, g2, g3, g4, g5, g6, g7, g8, g9, g10, g11, g12, g13, nI C, nI M, nI O, ov_al M, nI L, pl, md, pc, du, sp, rs, cm, tt, oo, aa, bb, cc, lv, rg, sv, me, ou, cl, cv, ex) 8 a b c := by
  have hC := w.2.1
  have h8 := w.2.2.1
  have hM := w.2.2.2.1
  have hin : vp_in (nI L) 25 := vp_in_nI (by omega) (by omega)
  have hcl : (nI L).toNatClampNeg = L := nI_clamp (by omega)
  refine br_f hm (br_f (nI_ge hL (by omega)) (br_f (by decide) (br_t (by decide) (br_f (by decide) (ox_isReg (fun eA => ?_) (fun eA => ?_))))))
  · refine br_f (by decide) (ox_fB8 hC h8 hM (fun gB => br_f (by decide) (ox_fC8 hC (fun gC => br_f (by decide) (br_f (by decide) ?_)) (fun e => br_t rfl (br_t rfl (h0 (fun g => e g.2.2)))))) (fun e => br_t rfl (br_t rfl (h0 (fun g => e g.2.1)))))
    have gA : ov_gA C 8 a := ⟨fun z => absurd z (by decide), fun _ => eA⟩
    have wn := ov_wf_new w hL (ov_ok8 gA gB gC)
    refine ⟨hin, nm_r (e' := upd oo L 8) (by rw [hcl]) ⟨hin, nm_r (e' := upd aa L a) (by rw [hcl]) ?_⟩⟩
    refine br_f (by decide) (br_f (by decide) (br_f (by decide) (br_f (by decide) ?_)))
    refine ⟨hin, nm_r (e' := upd bb L b) (by rw [hcl]) ?_⟩
    refine br_f (by decide) (br_f (by decide) (br_f (by decide) (br_f (by decide) (br_t rfl (br_f (by decide) (br_t rfl ?_))))))
    refine ⟨hin, nm_r (e' := upd cc L 0) (by rw [hcl]) (nm_r (nI_1 L) ?_)⟩
    exact ox_refr wn (fun lv' hlv => h1 ⟨gA, gB, gC⟩ lv' hlv)
  · exact br_t rfl (br_t rfl (h0 (fun g => eA (g.1.2 (by decide)))))
theorem ov_ok9 {C M : Nat} {a b c : Int32} (gA : ov_gA C 9 a) (gB : ov_gB C M 9 b) (gC : ov_gC C 9 c) : ov_ok C M 9 a b c := Or.inr (Or.inr (Or.inr (Or.inr (Or.inr (Or.inr (Or.inr (Or.inr (Or.inr (Or.inl ⟨rfl, gA.2 (by decide), gB.2.2.1 (by decide), gC.1 (by decide)⟩)))))))))
theorem ox_em9 (w : ov_wf C M oo aa bb cc) {L : Nat} (hL : L < C) (hm : ¬ md = 1) {a b c : Int32} {post : Int32 → SX → Prop} (h1 : ov_g C M 9 a b c → ∀ lv', ov_lvok C (upd oo L 9) (upd aa L a) (upd bb L b) (upd cc L c) lv' → post (nI L) (g0, g1, g2, g3, g4, g5, g6, g7, g8, g9, g10, g11, g12, g13, nI C, nI M, nI O, ov_al M, nI (L + 1), pl, md, pc, du, sp, rs, cm, tt, upd oo L 9, upd aa L a, upd bb L b, upd cc L c, lv', rg, sv, me, ou, cl, cv, ex)) (h0 : ¬ ov_g C M 9 a b c → post (-2) (g0, g1, g2, g3, g4, g5, g6, g7, g8, g9, g10, g11, g12, g13, nI C, nI M, nI O, ov_al M, nI L, pl, md, pc, du, sp, rs, cm, tt, oo, aa, bb, cc, lv, rg, sv, me, ou, cl, cv, ex)) : wpX_emit post (g0, g1, g2, g3, g4, g5, g6, g7, g8, g9, g10, g11, g12, g13, nI C, nI M, nI O, ov_al M, nI L, pl, md, pc, du, sp, rs, cm, tt, oo, aa, bb, cc, lv, rg, sv, me, ou, cl, cv, ex) 9 a b c := by
  have hC := w.2.1
  have h8 := w.2.2.1
  have hM := w.2.2.2.1
  have hin : vp_in (nI L) 25 := vp_in_nI (by omega) (by omega)
  have hcl : (nI L).toNatClampNeg = L := nI_clamp (by omega)
  refine br_f hm (br_f (nI_ge hL (by omega)) (br_f (by decide) (br_t (by decide) (br_f (by decide) (ox_isReg (fun eA => ?_) (fun eA => ?_))))))
  · refine br_f (by decide) (ox_fB9 hC h8 hM (fun gB => br_f (by decide) (ox_fC9 hC (fun gC => br_f (by decide) (br_f (by decide) ?_)) (fun e => br_t rfl (br_t rfl (h0 (fun g => e g.2.2)))))) (fun e => br_t rfl (br_t rfl (h0 (fun g => e g.2.1)))))
    have gA : ov_gA C 9 a := ⟨fun z => absurd z (by decide), fun _ => eA⟩
    have wn := ov_wf_new w hL (ov_ok9 gA gB gC)
    refine ⟨hin, nm_r (e' := upd oo L 9) (by rw [hcl]) ⟨hin, nm_r (e' := upd aa L a) (by rw [hcl]) ?_⟩⟩
    refine br_f (by decide) (br_f (by decide) (br_f (by decide) (br_f (by decide) ?_)))
    refine ⟨hin, nm_r (e' := upd bb L b) (by rw [hcl]) ?_⟩
    refine br_f (by decide) (br_f (by decide) (br_f (by decide) (br_t rfl (br_f (by decide) (br_f (by decide) ?_)))))
    refine ⟨hin, nm_r (e' := upd cc L c) (by rw [hcl]) (nm_r (nI_1 L) ?_)⟩
    exact ox_refr wn (fun lv' hlv => h1 ⟨gA, gB, gC⟩ lv' hlv)
  · exact br_t rfl (br_t rfl (h0 (fun g => eA (g.1.2 (by decide)))))
theorem ov_ok10 {C M : Nat} {a b c : Int32} (gA : ov_gA C 10 a) (gB : ov_gB C M 10 b) (gC : ov_gC C 10 c) : ov_ok C M 10 a 0 0 := Or.inr (Or.inr (Or.inr (Or.inr (Or.inr (Or.inr (Or.inr (Or.inr (Or.inr (Or.inr (Or.inl ⟨rfl, gA.1 rfl⟩))))))))))
theorem ox_em10 (w : ov_wf C M oo aa bb cc) {L : Nat} (hL : L < C) (hm : ¬ md = 1) {a b c : Int32} {post : Int32 → SX → Prop} (h1 : ov_g C M 10 a b c → ∀ lv', ov_lvok C (upd oo L 10) (upd aa L a) (upd bb L 0) (upd cc L 0) lv' → post (nI L) (g0, g1, g2, g3, g4, g5, g6, g7, g8, g9, g10, g11, g12, g13, nI C, nI M, nI O, ov_al M, nI (L + 1), pl, md, pc, du, sp, rs, cm, tt, upd oo L 10, upd aa L a, upd bb L 0, upd cc L 0, lv', rg, sv, me, ou, cl, cv, ex)) (h0 : ¬ ov_g C M 10 a b c → post (-2) (g0, g1, g2, g3, g4, g5, g6, g7, g8, g9, g10, g11, g12, g13, nI C, nI M, nI O, ov_al M, nI L, pl, md, pc, du, sp, rs, cm, tt, oo, aa, bb, cc, lv, rg, sv, me, ou, cl, cv, ex)) : wpX_emit post (g0, g1, g2, g3, g4, g5, g6, g7, g8, g9, g10, g11, g12, g13, nI C, nI M, nI O, ov_al M, nI L, pl, md, pc, du, sp, rs, cm, tt, oo, aa, bb, cc, lv, rg, sv, me, ou, cl, cv, ex) 10 a b c := by
  have hC := w.2.1
  have h8 := w.2.2.1
  have hM := w.2.2.2.1
  have hin : vp_in (nI L) 25 := vp_in_nI (by omega) (by omega)
  have hcl : (nI L).toNatClampNeg = L := nI_clamp (by omega)
  refine br_f hm (br_f (nI_ge hL (by omega)) (br_f (by decide) (br_t (by decide) (br_t rfl (ox_isCode hC (fun eA => ?_) (fun eA => ?_))))))
  · refine br_f (by decide) (ox_fB10 hC h8 hM (fun gB => br_f (by decide) (ox_fC10 hC (fun gC => br_f (by decide) (br_f (by decide) ?_)) (fun e => br_t rfl (br_t rfl (h0 (fun g => e g.2.2)))))) (fun e => br_t rfl (br_t rfl (h0 (fun g => e g.2.1)))))
    have gA : ov_gA C 10 a := ⟨fun _ => eA, fun z => absurd z (by decide)⟩
    have wn := ov_wf_new w hL (ov_ok10 gA gB gC)
    refine ⟨hin, nm_r (e' := upd oo L 10) (by rw [hcl]) ⟨hin, nm_r (e' := upd aa L a) (by rw [hcl]) ?_⟩⟩
    refine br_f (by decide) (br_t rfl (br_t rfl ?_))
    refine ⟨hin, nm_r (e' := upd bb L 0) (by rw [hcl]) ?_⟩
    refine br_f (by decide) (br_f (by decide) (br_f (by decide) (br_f (by decide) (br_t rfl (br_f (by decide) (br_t rfl ?_))))))
    refine ⟨hin, nm_r (e' := upd cc L 0) (by rw [hcl]) (nm_r (nI_1 L) ?_)⟩
    exact ox_refr wn (fun lv' hlv => h1 ⟨gA, gB, gC⟩ lv' hlv)
  · exact br_t rfl (br_t rfl (h0 (fun g => eA (g.1.1 rfl))))
theorem ov_ok11 {C M : Nat} {a b c : Int32} (gA : ov_gA C 11 a) (gB : ov_gB C M 11 b) (gC : ov_gC C 11 c) : ov_ok C M 11 a b 0 := Or.inr (Or.inr (Or.inr (Or.inr (Or.inr (Or.inr (Or.inr (Or.inr (Or.inr (Or.inr (Or.inr (Or.inl ⟨rfl, gA.2 (by decide), gB.2.2.2 (by decide)⟩)))))))))))
theorem ox_em11 (w : ov_wf C M oo aa bb cc) {L : Nat} (hL : L < C) (hm : ¬ md = 1) {a b c : Int32} {post : Int32 → SX → Prop} (h1 : ov_g C M 11 a b c → ∀ lv', ov_lvok C (upd oo L 11) (upd aa L a) (upd bb L b) (upd cc L 0) lv' → post (nI L) (g0, g1, g2, g3, g4, g5, g6, g7, g8, g9, g10, g11, g12, g13, nI C, nI M, nI O, ov_al M, nI (L + 1), pl, md, pc, du, sp, rs, cm, tt, upd oo L 11, upd aa L a, upd bb L b, upd cc L 0, lv', rg, sv, me, ou, cl, cv, ex)) (h0 : ¬ ov_g C M 11 a b c → post (-2) (g0, g1, g2, g3, g4, g5, g6, g7, g8, g9, g10, g11, g12, g13, nI C, nI M, nI O, ov_al M, nI L, pl, md, pc, du, sp, rs, cm, tt, oo, aa, bb, cc, lv, rg, sv, me, ou, cl, cv, ex)) : wpX_emit post (g0, g1, g2, g3, g4, g5, g6, g7, g8, g9, g10, g11, g12, g13, nI C, nI M, nI O, ov_al M, nI L, pl, md, pc, du, sp, rs, cm, tt, oo, aa, bb, cc, lv, rg, sv, me, ou, cl, cv, ex) 11 a b c := by
  have hC := w.2.1
  have h8 := w.2.2.1
  have hM := w.2.2.2.1
  have hin : vp_in (nI L) 25 := vp_in_nI (by omega) (by omega)
  have hcl : (nI L).toNatClampNeg = L := nI_clamp (by omega)
  refine br_f hm (br_f (nI_ge hL (by omega)) (br_f (by decide) (br_t (by decide) (br_f (by decide) (ox_isReg (fun eA => ?_) (fun eA => ?_))))))
  · refine br_f (by decide) (ox_fB11 hC h8 hM (fun gB => br_f (by decide) (ox_fC11 hC (fun gC => br_f (by decide) (br_f (by decide) ?_)) (fun e => br_t rfl (br_t rfl (h0 (fun g => e g.2.2)))))) (fun e => br_t rfl (br_t rfl (h0 (fun g => e g.2.1)))))
    have gA : ov_gA C 11 a := ⟨fun z => absurd z (by decide), fun _ => eA⟩
    have wn := ov_wf_new w hL (ov_ok11 gA gB gC)
    refine ⟨hin, nm_r (e' := upd oo L 11) (by rw [hcl]) ⟨hin, nm_r (e' := upd aa L a) (by rw [hcl]) ?_⟩⟩
    refine br_f (by decide) (br_f (by decide) (br_f (by decide) (br_f (by decide) ?_)))
    refine ⟨hin, nm_r (e' := upd bb L b) (by rw [hcl]) ?_⟩
    refine br_f (by decide) (br_f (by decide) (br_f (by decide) (br_f (by decide) (br_t rfl (br_f (by decide) (br_t rfl ?_))))))
    refine ⟨hin, nm_r (e' := upd cc L 0) (by rw [hcl]) (nm_r (nI_1 L) ?_)⟩
    exact ox_refr wn (fun lv' hlv => h1 ⟨gA, gB, gC⟩ lv' hlv)
  · exact br_t rfl (br_t rfl (h0 (fun g => eA (g.1.2 (by decide)))))
theorem ov_ok12 {C M : Nat} {a b c : Int32} (gA : ov_gA C 12 a) (gB : ov_gB C M 12 b) (gC : ov_gC C 12 c) : ov_ok C M 12 a b c := Or.inr (Or.inr (Or.inr (Or.inr (Or.inr (Or.inr (Or.inr (Or.inr (Or.inr (Or.inr (Or.inr (Or.inr (Or.inl ⟨rfl, gA.2 (by decide), gB.1 (by decide), gC.2 (by decide)⟩))))))))))))
theorem ox_em12 (w : ov_wf C M oo aa bb cc) {L : Nat} (hL : L < C) (hm : ¬ md = 1) {a b c : Int32} {post : Int32 → SX → Prop} (h1 : ov_g C M 12 a b c → ∀ lv', ov_lvok C (upd oo L 12) (upd aa L a) (upd bb L b) (upd cc L c) lv' → post (nI L) (g0, g1, g2, g3, g4, g5, g6, g7, g8, g9, g10, g11, g12, g13, nI C, nI M, nI O, ov_al M, nI (L + 1), pl, md, pc, du, sp, rs, cm, tt, upd oo L 12, upd aa L a, upd bb L b, upd cc L c, lv', rg, sv, me, ou, cl, cv, ex)) (h0 : ¬ ov_g C M 12 a b c → post (-2) (g0, g1, g2, g3, g4, g5, g6, g7, g8, g9, g10, g11, g12, g13, nI C, nI M, nI O, ov_al M, nI L, pl, md, pc, du, sp, rs, cm, tt, oo, aa, bb, cc, lv, rg, sv, me, ou, cl, cv, ex)) : wpX_emit post (g0, g1, g2, g3, g4, g5, g6, g7, g8, g9, g10, g11, g12, g13, nI C, nI M, nI O, ov_al M, nI L, pl, md, pc, du, sp, rs, cm, tt, oo, aa, bb, cc, lv, rg, sv, me, ou, cl, cv, ex) 12 a b c := by
  have hC := w.2.1
  have h8 := w.2.2.1
  have hM := w.2.2.2.1
  have hin : vp_in (nI L) 25 := vp_in_nI (by omega) (by omega)
  have hcl : (nI L).toNatClampNeg = L := nI_clamp (by omega)
  refine br_f hm (br_f (nI_ge hL (by omega)) (br_f (by decide) (br_t (by decide) (br_f (by decide) (ox_isReg (fun eA => ?_) (fun eA => ?_))))))
  · refine br_f (by decide) (ox_fB12 hC h8 hM (fun gB => br_f (by decide) (ox_fC12 hC (fun gC => br_f (by decide) (br_f (by decide) ?_)) (fun e => br_t rfl (br_t rfl (h0 (fun g => e g.2.2)))))) (fun e => br_t rfl (br_t rfl (h0 (fun g => e g.2.1)))))
    have gA : ov_gA C 12 a := ⟨fun z => absurd z (by decide), fun _ => eA⟩
    have wn := ov_wf_new w hL (ov_ok12 gA gB gC)
    refine ⟨hin, nm_r (e' := upd oo L 12) (by rw [hcl]) ⟨hin, nm_r (e' := upd aa L a) (by rw [hcl]) ?_⟩⟩
    refine br_f (by decide) (br_f (by decide) (br_f (by decide) (br_f (by decide) ?_)))
    refine ⟨hin, nm_r (e' := upd bb L b) (by rw [hcl]) ?_⟩
    refine br_f (by decide) (br_f (by decide) (br_f (by decide) (br_f (by decide) (br_t rfl (br_t rfl (br_f (by decide) ?_))))))
    refine ⟨hin, nm_r (e' := upd cc L c) (by rw [hcl]) (nm_r (nI_1 L) ?_)⟩
    exact ox_refr wn (fun lv' hlv => h1 ⟨gA, gB, gC⟩ lv' hlv)
  · exact br_t rfl (br_t rfl (h0 (fun g => eA (g.1.2 (by decide)))))
theorem ov_ok13 {C M : Nat} {a b c : Int32} (gA : ov_gA C 13 a) (gB : ov_gB C M 13 b) (gC : ov_gC C 13 c) : ov_ok C M 13 a 0 0 := Or.inr (Or.inr (Or.inr (Or.inr (Or.inr (Or.inr (Or.inr (Or.inr (Or.inr (Or.inr (Or.inr (Or.inr (Or.inr (⟨rfl, gA.2 (by decide)⟩)))))))))))))
theorem ox_em13 (w : ov_wf C M oo aa bb cc) {L : Nat} (hL : L < C) (hm : ¬ md = 1) {a b c : Int32} {post : Int32 → SX → Prop} (h1 : ov_g C M 13 a b c → ∀ lv', ov_lvok C (upd oo L 13) (upd aa L a) (upd bb L 0) (upd cc L 0) lv' → post (nI L) (g0, g1, g2, g3, g4, g5, g6, g7, g8, g9, g10, g11, g12, g13, nI C, nI M, nI O, ov_al M, nI (L + 1), pl, md, pc, du, sp, rs, cm, tt, upd oo L 13, upd aa L a, upd bb L 0, upd cc L 0, lv', rg, sv, me, ou, cl, cv, ex)) (h0 : ¬ ov_g C M 13 a b c → post (-2) (g0, g1, g2, g3, g4, g5, g6, g7, g8, g9, g10, g11, g12, g13, nI C, nI M, nI O, ov_al M, nI L, pl, md, pc, du, sp, rs, cm, tt, oo, aa, bb, cc, lv, rg, sv, me, ou, cl, cv, ex)) : wpX_emit post (g0, g1, g2, g3, g4, g5, g6, g7, g8, g9, g10, g11, g12, g13, nI C, nI M, nI O, ov_al M, nI L, pl, md, pc, du, sp, rs, cm, tt, oo, aa, bb, cc, lv, rg, sv, me, ou, cl, cv, ex) 13 a b c := by
  have hC := w.2.1
  have h8 := w.2.2.1
  have hM := w.2.2.2.1
  have hin : vp_in (nI L) 25 := vp_in_nI (by omega) (by omega)
  have hcl : (nI L).toNatClampNeg = L := nI_clamp (by omega)
  refine br_f hm (br_f (nI_ge hL (by omega)) (br_f (by decide) (br_t (by decide) (br_f (by decide) (ox_isReg (fun eA => ?_) (fun eA => ?_))))))
  · refine br_f (by decide) (ox_fB13 hC h8 hM (fun gB => br_f (by decide) (ox_fC13 hC (fun gC => br_f (by decide) (br_f (by decide) ?_)) (fun e => br_t rfl (br_t rfl (h0 (fun g => e g.2.2)))))) (fun e => br_t rfl (br_t rfl (h0 (fun g => e g.2.1)))))
    have gA : ov_gA C 13 a := ⟨fun z => absurd z (by decide), fun _ => eA⟩
    have wn := ov_wf_new w hL (ov_ok13 gA gB gC)
    refine ⟨hin, nm_r (e' := upd oo L 13) (by rw [hcl]) ⟨hin, nm_r (e' := upd aa L a) (by rw [hcl]) ?_⟩⟩
    refine br_f (by decide) (br_f (by decide) (br_t rfl (br_t rfl ?_)))
    refine ⟨hin, nm_r (e' := upd bb L 0) (by rw [hcl]) ?_⟩
    refine br_f (by decide) (br_f (by decide) (br_f (by decide) (br_f (by decide) (br_t rfl (br_f (by decide) (br_t rfl ?_))))))
    refine ⟨hin, nm_r (e' := upd cc L 0) (by rw [hcl]) (nm_r (nI_1 L) ?_)⟩
    exact ox_refr wn (fun lv' hlv => h1 ⟨gA, gB, gC⟩ lv' hlv)
  · exact br_t rfl (br_t rfl (h0 (fun g => eA (g.1.2 (by decide)))))
end
end
section
/-! ===== Y: emit (written by gen20.py) ===== -/
section
variable {ln pl md pc wl sp rs cm tt : Int32} {oo aa bb cc rg sv me ou : Nat → Int32}
variable {C M O : Nat}
theorem oy_w7  {x : Int32} {post : Int32 → Prop} (h1 : ov_R x → post 1) (h0 : ¬ ov_R x → post 0) : wpY_within post (nI C, nI M, nI O, ln, pl, md, pc, wl, sp, rs, cm, tt, oo, aa, bb, cc, rg, sv, me, ou) x 7 :=
  br_c (fun e => h0 (fun z => (ov_R7.mp z).1 e)) (fun e => br_c (fun e2 => h0 (fun z => (ov_R7.mp z).2 e2)) (fun e2 => h1 (ov_R7.mpr ⟨e, e2⟩)))
theorem oy_wK (hC : C ≤ 24) {x : Int32} {post : Int32 → Prop} (h1 : ov_K C x → post 1) (h0 : ¬ ov_K C x → post 0) : wpY_within post (nI C, nI M, nI O, ln, pl, md, pc, wl, sp, rs, cm, tt, oo, aa, bb, cc, rg, sv, me, ou) x (nI C) :=
  br_c (fun e => h0 (fun z => ((ov_Kiff hC).mp z).1 e)) (fun e => br_c (fun e2 => h0 (fun z => ((ov_Kiff hC).mp z).2 e2)) (fun e2 => h1 ((ov_Kiff hC).mpr ⟨e, e2⟩)))
theorem oy_wM (h8 : 8 ≤ M) (hM : M ≤ 16) {x : Int32} {post : Int32 → Prop} (h1 : ov_Mm M x → post 1) (h0 : ¬ ov_Mm M x → post 0) : wpY_within post (nI C, nI M, nI O, ln, pl, md, pc, wl, sp, rs, cm, tt, oo, aa, bb, cc, rg, sv, me, ou) x (nI M - 1) :=
  br_c (fun e => h0 (fun z => ((ov_Mm1 h8 hM).mp z).1 e)) (fun e => br_c (fun e2 => h0 (fun z => ((ov_Mm1 h8 hM).mp z).2 e2)) (fun e2 => h1 ((ov_Mm1 h8 hM).mpr ⟨e, e2⟩)))
theorem oy_wW (h8 : 8 ≤ M) (hM : M ≤ 16) {x : Int32} {post : Int32 → Prop} (h1 : ov_Wn M x → post 1) (h0 : ¬ ov_Wn M x → post 0) : wpY_within post (nI C, nI M, nI O, ln, pl, md, pc, wl, sp, rs, cm, tt, oo, aa, bb, cc, rg, sv, me, ou) x (nI M - 4) :=
  br_c (fun e => h0 (fun z => ((ov_Wn4 h8 hM).mp z).1 e)) (fun e => br_c (fun e2 => h0 (fun z => ((ov_Wn4 h8 hM).mp z).2 e2)) (fun e2 => h1 ((ov_Wn4 h8 hM).mpr ⟨e, e2⟩)))
theorem oy_z291 {x1 x2 x3 x4 : Int32} {post : Int32 → SY → Prop} (h : post (-2) (nI C, nI M, nI O, ln, pl, md, pc, wl, sp, rs, cm, tt, oo, aa, bb, cc, rg, sv, me, ou)) : wY_emit_291 post x1 x2 x3 x4 0 (nI C) (nI M) (nI O) ln pl md pc wl sp rs cm tt oo aa bb cc rg sv me ou := br_t rfl h
theorem oy_z260 {x1 x2 x3 x4 : Int32} {post : Int32 → SY → Prop} (h : post (-2) (nI C, nI M, nI O, ln, pl, md, pc, wl, sp, rs, cm, tt, oo, aa, bb, cc, rg, sv, me, ou)) : wY_emit_260 post x1 x2 x3 x4 0 (nI C) (nI M) (nI O) ln pl md pc wl sp rs cm tt oo aa bb cc rg sv me ou := br_c (fun _ => br_t rfl (oy_z291 h)) (fun _ => oy_z291 h)
theorem oy_z237 {x1 x2 x3 x4 : Int32} {post : Int32 → SY → Prop} (h : post (-2) (nI C, nI M, nI O, ln, pl, md, pc, wl, sp, rs, cm, tt, oo, aa, bb, cc, rg, sv, me, ou)) : wY_emit_237 post x1 x2 x3 x4 0 (nI C) (nI M) (nI O) ln pl md pc wl sp rs cm tt oo aa bb cc rg sv me ou := br_t rfl (oy_z260 h)
theorem oy_z225 {x1 x2 x3 x4 : Int32} {post : Int32 → SY → Prop} (h : post (-2) (nI C, nI M, nI O, ln, pl, md, pc, wl, sp, rs, cm, tt, oo, aa, bb, cc, rg, sv, me, ou)) : wY_emit_225 post x1 x2 x3 x4 0 (nI C) (nI M) (nI O) ln pl md pc wl sp rs cm tt oo aa bb cc rg sv me ou := br_c (fun _ => oy_z237 h) (fun _ => br_c (fun _ => oy_z237 h) (fun _ => oy_z260 h))
theorem oy_z215 {x1 x2 x3 x4 : Int32} {post : Int32 → SY → Prop} (h : post (-2) (nI C, nI M, nI O, ln, pl, md, pc, wl, sp, rs, cm, tt, oo, aa, bb, cc, rg, sv, me, ou)) : wY_emit_215 post x1 x2 x3 x4 0 (nI C) (nI M) (nI O) ln pl md pc wl sp rs cm tt oo aa bb cc rg sv me ou := br_c (fun _ => oy_z225 h) (fun _ => br_c (fun _ => oy_z237 h) (fun _ => oy_z225 h))
theorem oy_z185 {x1 x2 x3 x4 : Int32} {post : Int32 → SY → Prop} (h : post (-2) (nI C, nI M, nI O, ln, pl, md, pc, wl, sp, rs, cm, tt, oo, aa, bb, cc, rg, sv, me, ou)) : wY_emit_185 post x1 x2 x3 x4 0 (nI C) (nI M) (nI O) ln pl md pc wl sp rs cm tt oo aa bb cc rg sv me ou := br_c (fun _ => br_t rfl (oy_z215 h)) (fun _ => oy_z215 h)
theorem oy_z159 {x1 x2 x3 x4 : Int32} {post : Int32 → SY → Prop} (h : post (-2) (nI C, nI M, nI O, ln, pl, md, pc, wl, sp, rs, cm, tt, oo, aa, bb, cc, rg, sv, me, ou)) : wY_emit_159 post x1 x2 x3 x4 0 (nI C) (nI M) (nI O) ln pl md pc wl sp rs cm tt oo aa bb cc rg sv me ou := br_t rfl (oy_z185 h)
theorem oy_z147 {x1 x2 x3 x4 : Int32} {post : Int32 → SY → Prop} (h : post (-2) (nI C, nI M, nI O, ln, pl, md, pc, wl, sp, rs, cm, tt, oo, aa, bb, cc, rg, sv, me, ou)) : wY_emit_147 post x1 x2 x3 x4 0 (nI C) (nI M) (nI O) ln pl md pc wl sp rs cm tt oo aa bb cc rg sv me ou := br_c (fun _ => oy_z159 h) (fun _ => br_c (fun _ => oy_z159 h) (fun _ => oy_z185 h))
theorem oy_z121 {x1 x2 x3 x4 : Int32} {post : Int32 → SY → Prop} (h : post (-2) (nI C, nI M, nI O, ln, pl, md, pc, wl, sp, rs, cm, tt, oo, aa, bb, cc, rg, sv, me, ou)) : wY_emit_121 post x1 x2 x3 x4 0 (nI C) (nI M) (nI O) ln pl md pc wl sp rs cm tt oo aa bb cc rg sv me ou := br_t rfl (oy_z147 h)
theorem oy_z109 {x1 x2 x3 x4 : Int32} {post : Int32 → SY → Prop} (h : post (-2) (nI C, nI M, nI O, ln, pl, md, pc, wl, sp, rs, cm, tt, oo, aa, bb, cc, rg, sv, me, ou)) : wY_emit_109 post x1 x2 x3 x4 0 (nI C) (nI M) (nI O) ln pl md pc wl sp rs cm tt oo aa bb cc rg sv me ou := br_c (fun _ => oy_z121 h) (fun _ => br_c (fun _ => oy_z121 h) (fun _ => oy_z147 h))
theorem oy_z87 {x1 x2 x3 x4 : Int32} {post : Int32 → SY → Prop} (h : post (-2) (nI C, nI M, nI O, ln, pl, md, pc, wl, sp, rs, cm, tt, oo, aa, bb, cc, rg, sv, me, ou)) : wY_emit_87 post x1 x2 x3 x4 0 (nI C) (nI M) (nI O) ln pl md pc wl sp rs cm tt oo aa bb cc rg sv me ou := br_t rfl (oy_z109 h)
theorem oy_z81 {x1 x2 x3 x4 : Int32} {post : Int32 → SY → Prop} (h : post (-2) (nI C, nI M, nI O, ln, pl, md, pc, wl, sp, rs, cm, tt, oo, aa, bb, cc, rg, sv, me, ou)) : wY_emit_81 post x1 x2 x3 x4 0 (nI C) (nI M) (nI O) ln pl md pc wl sp rs cm tt oo aa bb cc rg sv me ou := br_c (fun _ => oy_z87 h) (fun _ => oy_z109 h)
theorem oy_z69 {x1 x2 x3 x4 : Int32} {post : Int32 → SY → Prop} (h : post (-2) (nI C, nI M, nI O, ln, pl, md, pc, wl, sp, rs, cm, tt, oo, aa, bb, cc, rg, sv, me, ou)) : wY_emit_69 post x1 x2 x3 x4 0 (nI C) (nI M) (nI O) ln pl md pc wl sp rs cm tt oo aa bb cc rg sv me ou := br_c (fun _ => oy_z81 h) (fun _ => br_c (fun _ => oy_z87 h) (fun _ => oy_z81 h))
theorem oy_z34 {x1 x2 x3 x4 : Int32} {post : Int32 → SY → Prop} (h : post (-2) (nI C, nI M, nI O, ln, pl, md, pc, wl, sp, rs, cm, tt, oo, aa, bb, cc, rg, sv, me, ou)) : wY_emit_34 post x1 x2 x3 x4 0 (nI C) (nI M) (nI O) ln pl md pc wl sp rs cm tt oo aa bb cc rg sv me ou := br_t rfl (oy_z69 h)
theorem oy_z33 {x1 x2 x3 x4 : Int32} {post : Int32 → SY → Prop} (h : post (-2) (nI C, nI M, nI O, ln, pl, md, pc, wl, sp, rs, cm, tt, oo, aa, bb, cc, rg, sv, me, ou)) : wY_emit_33 post x1 x2 x3 x4 (nI C) (nI M) (nI O) ln pl md pc wl sp rs cm tt oo aa bb cc rg sv me ou := oy_z34 h
theorem oy_em0 (w : ov_wf C M oo aa bb cc) {L : Nat} (hL : L < C) (hm : ¬ md = 1) {a b c : Int32} {post : Int32 → SY → Prop} (h1 : ov_g C M 0 a b c → post (nI L) (nI C, nI M, nI O, nI (L + 1), pl, md, pc, wl, sp, rs, cm, tt, upd oo L 0, upd aa L a, upd bb L 0, upd cc L 0, rg, sv, me, ou)) (h0 : ¬ ov_g C M 0 a b c → post (-2) (nI C, nI M, nI O, nI L, pl, md, pc, wl, sp, rs, cm, tt, oo, aa, bb, cc, rg, sv, me, ou)) : wpY_emit post (nI C, nI M, nI O, nI L, pl, md, pc, wl, sp, rs, cm, tt, oo, aa, bb, cc, rg, sv, me, ou) 0 a b c := by
  have hC := w.2.1
  have h8 := w.2.2.1
  have hM := w.2.2.2.1
  have hin : vp_in (nI L) 25 := vp_in_nI (by omega) (by omega)
  have hcl : (nI L).toNatClampNeg = L := nI_clamp (by omega)
  refine br_f hm (br_f (nI_ge hL (by omega)) (br_f (by decide) (br_f (by decide) ?_)))
  refine br_f (by decide) (br_f (by decide) ?_)
  refine oy_w7 (fun eA => br_f (by decide) ?_) (fun eA => br_t rfl (oy_z69 (h0 (fun g => eA (g.1.2 (by decide))))))
  refine br_t (by decide) (br_f (by decide) ?_)
  refine br_f (by decide) (br_f (by decide) ?_)
  refine br_f (by decide) (br_f (by decide) ?_)
  refine br_f (by decide) ?_
  refine br_t (by decide) ?_
  refine br_f (by decide) (br_f (by decide) ?_)
  refine br_f (by decide) ?_
  have G : ov_g C M 0 a b c := ⟨⟨fun z => absurd z (by decide), fun _ => eA⟩, ⟨fun z => absurd z (by decide), fun z => absurd z (by decide), fun z => absurd z (by decide), fun z => absurd z (by decide)⟩, ⟨fun z => absurd z (by decide), fun z => absurd z (by decide)⟩⟩
  refine br_f (by decide) ⟨hin, nm_r (e' := upd oo L 0) (by rw [hcl]) ⟨hin, nm_r (e' := upd aa L a) (by rw [hcl]) (br_t rfl ?_)⟩⟩
  refine ⟨hin, nm_r (e' := upd bb L 0) (by rw [hcl]) (br_t (by decide) (br_f (by decide) (br_f (by decide) (br_f (by decide) ?_))))⟩
  refine ⟨hin, nm_r (e' := upd cc L 0) (by rw [hcl]) (nm_r (nI_1 L) ?_)⟩
  rw [nI_pred]
  exact h1 G
theorem oy_em1 (w : ov_wf C M oo aa bb cc) {L : Nat} (hL : L < C) (hm : ¬ md = 1) {a b c : Int32} {post : Int32 → SY → Prop} (h1 : ov_g C M 1 a b c → post (nI L) (nI C, nI M, nI O, nI (L + 1), pl, md, pc, wl, sp, rs, cm, tt, upd oo L 1, upd aa L a, upd bb L b, upd cc L 0, rg, sv, me, ou)) (h0 : ¬ ov_g C M 1 a b c → post (-2) (nI C, nI M, nI O, nI L, pl, md, pc, wl, sp, rs, cm, tt, oo, aa, bb, cc, rg, sv, me, ou)) : wpY_emit post (nI C, nI M, nI O, nI L, pl, md, pc, wl, sp, rs, cm, tt, oo, aa, bb, cc, rg, sv, me, ou) 1 a b c := by
  have hC := w.2.1
  have h8 := w.2.2.1
  have hM := w.2.2.2.1
  have hin : vp_in (nI L) 25 := vp_in_nI (by omega) (by omega)
  have hcl : (nI L).toNatClampNeg = L := nI_clamp (by omega)
  refine br_f hm (br_f (nI_ge hL (by omega)) (br_f (by decide) (br_f (by decide) ?_)))
  refine br_f (by decide) (br_f (by decide) ?_)
  refine oy_w7 (fun eA => br_f (by decide) ?_) (fun eA => br_t rfl (oy_z69 (h0 (fun g => eA (g.1.2 (by decide))))))
  refine br_t (by decide) (br_f (by decide) ?_)
  refine br_f (by decide) (br_f (by decide) ?_)
  refine br_f (by decide) (br_f (by decide) ?_)
  refine br_f (by decide) ?_
  refine br_t (by decide) ?_
  refine br_f (by decide) (br_f (by decide) ?_)
  refine br_f (by decide) ?_
  have G : ov_g C M 1 a b c := ⟨⟨fun z => absurd z (by decide), fun _ => eA⟩, ⟨fun z => absurd z (by decide), fun z => absurd z (by decide), fun z => absurd z (by decide), fun z => absurd z (by decide)⟩, ⟨fun z => absurd z (by decide), fun z => absurd z (by decide)⟩⟩
  refine br_f (by decide) ⟨hin, nm_r (e' := upd oo L 1) (by rw [hcl]) ⟨hin, nm_r (e' := upd aa L a) (by rw [hcl]) (br_f (by decide) (br_f (by decide) (br_f (by decide) ?_)))⟩⟩
  refine ⟨hin, nm_r (e' := upd bb L b) (by rw [hcl]) (br_t (by decide) (br_f (by decide) (br_f (by decide) (br_f (by decide) ?_))))⟩
  refine ⟨hin, nm_r (e' := upd cc L 0) (by rw [hcl]) (nm_r (nI_1 L) ?_)⟩
  rw [nI_pred]
  exact h1 G
theorem oy_em2 (w : ov_wf C M oo aa bb cc) {L : Nat} (hL : L < C) (hm : ¬ md = 1) {a b c : Int32} {post : Int32 → SY → Prop} (h1 : ov_g C M 2 a b c → post (nI L) (nI C, nI M, nI O, nI (L + 1), pl, md, pc, wl, sp, rs, cm, tt, upd oo L 2, upd aa L a, upd bb L b, upd cc L c, rg, sv, me, ou)) (h0 : ¬ ov_g C M 2 a b c → post (-2) (nI C, nI M, nI O, nI L, pl, md, pc, wl, sp, rs, cm, tt, oo, aa, bb, cc, rg, sv, me, ou)) : wpY_emit post (nI C, nI M, nI O, nI L, pl, md, pc, wl, sp, rs, cm, tt, oo, aa, bb, cc, rg, sv, me, ou) 2 a b c := by
  have hC := w.2.1
  have h8 := w.2.2.1
  have hM := w.2.2.2.1
  have hin : vp_in (nI L) 25 := vp_in_nI (by omega) (by omega)
  have hcl : (nI L).toNatClampNeg = L := nI_clamp (by omega)
  refine br_f hm (br_f (nI_ge hL (by omega)) (br_f (by decide) (br_f (by decide) ?_)))
  refine br_f (by decide) (br_f (by decide) ?_)
  refine oy_w7 (fun eA => br_f (by decide) ?_) (fun eA => br_t rfl (oy_z69 (h0 (fun g => eA (g.1.2 (by decide))))))
  refine br_f (by decide) (br_t (by decide) (br_f (by decide) ?_))
  refine oy_w7 (fun eB => br_f (by decide) ?_) (fun e => br_t rfl (oy_z109 (h0 (fun g => e (g.2.1.1 (by decide))))))
  refine br_f (by decide) (br_f (by decide) ?_)
  refine br_f (by decide) (br_f (by decide) ?_)
  refine br_f (by decide) ?_
  refine br_t (by decide) ?_
  refine br_f (by decide) (br_f (by decide) ?_)
  refine br_f (by decide) ?_
  have G : ov_g C M 2 a b c := ⟨⟨fun z => absurd z (by decide), fun _ => eA⟩, ⟨fun _ => eB, fun z => absurd z (by decide), fun z => absurd z (by decide), fun z => absurd z (by decide)⟩, ⟨fun z => absurd z (by decide), fun z => absurd z (by decide)⟩⟩
  refine br_f (by decide) ⟨hin, nm_r (e' := upd oo L 2) (by rw [hcl]) ⟨hin, nm_r (e' := upd aa L a) (by rw [hcl]) (br_f (by decide) (br_f (by decide) (br_f (by decide) ?_)))⟩⟩
  refine ⟨hin, nm_r (e' := upd bb L b) (by rw [hcl]) (br_f (by decide) (br_t (by decide) ?_))⟩
  refine ⟨hin, nm_r (e' := upd cc L c) (by rw [hcl]) (nm_r (nI_1 L) ?_)⟩
  rw [nI_pred]
  exact h1 G
theorem oy_em3 (w : ov_wf C M oo aa bb cc) {L : Nat} (hL : L < C) (hm : ¬ md = 1) {a b c : Int32} {post : Int32 → SY → Prop} (h1 : ov_g C M 3 a b c → post (nI L) (nI C, nI M, nI O, nI (L + 1), pl, md, pc, wl, sp, rs, cm, tt, upd oo L 3, upd aa L a, upd bb L b, upd cc L c, rg, sv, me, ou)) (h0 : ¬ ov_g C M 3 a b c → post (-2) (nI C, nI M, nI O, nI L, pl, md, pc, wl, sp, rs, cm, tt, oo, aa, bb, cc, rg, sv, me, ou)) : wpY_emit post (nI C, nI M, nI O, nI L, pl, md, pc, wl, sp, rs, cm, tt, oo, aa, bb, cc, rg, sv, me, ou) 3 a b c := by
  have hC := w.2.1
  have h8 := w.2.2.1
  have hM := w.2.2.2.1
  have hin : vp_in (nI L) 25 := vp_in_nI (by omega) (by omega)
  have hcl : (nI L).toNatClampNeg = L := nI_clamp (by omega)
  refine br_f hm (br_f (nI_ge hL (by omega)) (br_f (by decide) (br_f (by decide) ?_)))
  refine br_f (by decide) (br_f (by decide) ?_)
  refine oy_w7 (fun eA => br_f (by decide) ?_) (fun eA => br_t rfl (oy_z69 (h0 (fun g => eA (g.1.2 (by decide))))))
  refine br_f (by decide) (br_t (by decide) (br_f (by decide) ?_))
  refine oy_w7 (fun eB => br_f (by decide) ?_) (fun e => br_t rfl (oy_z109 (h0 (fun g => e (g.2.1.1 (by decide))))))
  refine br_f (by decide) (br_f (by decide) ?_)
  refine br_f (by decide) (br_f (by decide) ?_)
  refine br_f (by decide) ?_
  refine br_f (by decide) (br_t (by decide) (br_f (by decide) ?_))
  refine oy_w7 (fun eC => br_f (by decide) ?_) (fun e => br_t rfl (oy_z260 (h0 (fun g => e (g.2.2.1 (by decide))))))
  refine br_f (by decide) ?_
  have G : ov_g C M 3 a b c := ⟨⟨fun z => absurd z (by decide), fun _ => eA⟩, ⟨fun _ => eB, fun z => absurd z (by decide), fun z => absurd z (by decide), fun z => absurd z (by decide)⟩, ⟨fun _ => eC, fun z => absurd z (by decide)⟩⟩
  refine br_f (by decide) ⟨hin, nm_r (e' := upd oo L 3) (by rw [hcl]) ⟨hin, nm_r (e' := upd aa L a) (by rw [hcl]) (br_f (by decide) (br_f (by decide) (br_f (by decide) ?_)))⟩⟩
  refine ⟨hin, nm_r (e' := upd bb L b) (by rw [hcl]) (br_f (by decide) (br_t (by decide) ?_))⟩
  refine ⟨hin, nm_r (e' := upd cc L c) (by rw [hcl]) (nm_r (nI_1 L) ?_)⟩
  rw [nI_pred]
  exact h1 G
theorem oy_em4 (w : ov_wf C M oo aa bb cc) {L : Nat} (hL : L < C) (hm : ¬ md = 1) {a b c : Int32} {post : Int32 → SY → Prop} (h1 : ov_g C M 4 a b c → post (nI L) (nI C, nI M, nI O, nI (L + 1), pl, md, pc, wl, sp, rs, cm, tt, upd oo L 4, upd aa L a, upd bb L b, upd cc L c, rg, sv, me, ou)) (h0 : ¬ ov_g C M 4 a b c → post (-2) (nI C, nI M, nI O, nI L, pl, md, pc, wl, sp, rs, cm, tt, oo, aa, bb, cc, rg, sv, me, ou)) : wpY_emit post (nI C, nI M, nI O, nI L, pl, md, pc, wl, sp, rs, cm, tt, oo, aa, bb, cc, rg, sv, me, ou) 4 a b c := by
  have hC := w.2.1
  have h8 := w.2.2.1
  have hM := w.2.2.2.1
  have hin : vp_in (nI L) 25 := vp_in_nI (by omega) (by omega)
  have hcl : (nI L).toNatClampNeg = L := nI_clamp (by omega)
  refine br_f hm (br_f (nI_ge hL (by omega)) (br_f (by decide) (br_f (by decide) ?_)))
  refine br_f (by decide) (br_f (by decide) ?_)
  refine oy_w7 (fun eA => br_f (by decide) ?_) (fun eA => br_t rfl (oy_z69 (h0 (fun g => eA (g.1.2 (by decide))))))
  refine br_f (by decide) (br_t (by decide) (br_f (by decide) ?_))
  refine oy_w7 (fun eB => br_f (by decide) ?_) (fun e => br_t rfl (oy_z109 (h0 (fun g => e (g.2.1.1 (by decide))))))
  refine br_f (by decide) (br_f (by decide) ?_)
  refine br_f (by decide) (br_f (by decide) ?_)
  refine br_f (by decide) ?_
  refine br_f (by decide) (br_t (by decide) (br_f (by decide) ?_))
  refine oy_w7 (fun eC => br_f (by decide) ?_) (fun e => br_t rfl (oy_z260 (h0 (fun g => e (g.2.2.1 (by decide))))))
  refine br_f (by decide) ?_
  have G : ov_g C M 4 a b c := ⟨⟨fun z => absurd z (by decide), fun _ => eA⟩, ⟨fun _ => eB, fun z => absurd z (by decide), fun z => absurd z (by decide), fun z => absurd z (by decide)⟩, ⟨fun _ => eC, fun z => absurd z (by decide)⟩⟩
  refine br_f (by decide) ⟨hin, nm_r (e' := upd oo L 4) (by rw [hcl]) ⟨hin, nm_r (e' := upd aa L a) (by rw [hcl]) (br_f (by decide) (br_f (by decide) (br_f (by decide) ?_)))⟩⟩
  refine ⟨hin, nm_r (e' := upd bb L b) (by rw [hcl]) (br_f (by decide) (br_t (by decide) ?_))⟩
  refine ⟨hin, nm_r (e' := upd cc L c) (by rw [hcl]) (nm_r (nI_1 L) ?_)⟩
  rw [nI_pred]
  exact h1 G
theorem oy_em5 (w : ov_wf C M oo aa bb cc) {L : Nat} (hL : L < C) (hm : ¬ md = 1) {a b c : Int32} {post : Int32 → SY → Prop} (h1 : ov_g C M 5 a b c → post (nI L) (nI C, nI M, nI O, nI (L + 1), pl, md, pc, wl, sp, rs, cm, tt, upd oo L 5, upd aa L a, upd bb L b, upd cc L c, rg, sv, me, ou)) (h0 : ¬ ov_g C M 5 a b c → post (-2) (nI C, nI M, nI O, nI L, pl, md, pc, wl, sp, rs, cm, tt, oo, aa, bb, cc, rg, sv, me, ou)) : wpY_emit post (nI C, nI M, nI O, nI L, pl, md, pc, wl, sp, rs, cm, tt, oo, aa, bb, cc, rg, sv, me, ou) 5 a b c := by
  have hC := w.2.1
  have h8 := w.2.2.1
  have hM := w.2.2.2.1
  have hin : vp_in (nI L) 25 := vp_in_nI (by omega) (by omega)
  have hcl : (nI L).toNatClampNeg = L := nI_clamp (by omega)
  refine br_f hm (br_f (nI_ge hL (by omega)) (br_f (by decide) (br_f (by decide) ?_)))
  refine br_f (by decide) (br_f (by decide) ?_)
  refine oy_w7 (fun eA => br_f (by decide) ?_) (fun eA => br_t rfl (oy_z69 (h0 (fun g => eA (g.1.2 (by decide))))))
  refine br_f (by decide) (br_t (by decide) (br_f (by decide) ?_))
  refine oy_w7 (fun eB => br_f (by decide) ?_) (fun e => br_t rfl (oy_z109 (h0 (fun g => e (g.2.1.1 (by decide))))))
  refine br_f (by decide) (br_f (by decide) ?_)
  refine br_f (by decide) (br_f (by decide) ?_)
  refine br_f (by decide) ?_
  refine br_f (by decide) (br_t (by decide) (br_f (by decide) ?_))
  refine oy_w7 (fun eC => br_f (by decide) ?_) (fun e => br_t rfl (oy_z260 (h0 (fun g => e (g.2.2.1 (by decide))))))
  refine br_f (by decide) ?_
  have G : ov_g C M 5 a b c := ⟨⟨fun z => absurd z (by decide), fun _ => eA⟩, ⟨fun _ => eB, fun z => absurd z (by decide), fun z => absurd z (by decide), fun z => absurd z (by decide)⟩, ⟨fun _ => eC, fun z => absurd z (by decide)⟩⟩
  refine br_f (by decide) ⟨hin, nm_r (e' := upd oo L 5) (by rw [hcl]) ⟨hin, nm_r (e' := upd aa L a) (by rw [hcl]) (br_f (by decide) (br_f (by decide) (br_f (by decide) ?_)))⟩⟩
  refine ⟨hin, nm_r (e' := upd bb L b) (by rw [hcl]) (br_f (by decide) (br_t (by decide) ?_))⟩
  refine ⟨hin, nm_r (e' := upd cc L c) (by rw [hcl]) (nm_r (nI_1 L) ?_)⟩
  rw [nI_pred]
  exact h1 G
theorem oy_em6 (w : ov_wf C M oo aa bb cc) {L : Nat} (hL : L < C) (hm : ¬ md = 1) {a b c : Int32} {post : Int32 → SY → Prop} (h1 : ov_g C M 6 a b c → post (nI L) (nI C, nI M, nI O, nI (L + 1), pl, md, pc, wl, sp, rs, cm, tt, upd oo L 6, upd aa L a, upd bb L b, upd cc L 0, rg, sv, me, ou)) (h0 : ¬ ov_g C M 6 a b c → post (-2) (nI C, nI M, nI O, nI L, pl, md, pc, wl, sp, rs, cm, tt, oo, aa, bb, cc, rg, sv, me, ou)) : wpY_emit post (nI C, nI M, nI O, nI L, pl, md, pc, wl, sp, rs, cm, tt, oo, aa, bb, cc, rg, sv, me, ou) 6 a b c := by
  have hC := w.2.1
  have h8 := w.2.2.1
  have hM := w.2.2.2.1
  have hin : vp_in (nI L) 25 := vp_in_nI (by omega) (by omega)
  have hcl : (nI L).toNatClampNeg = L := nI_clamp (by omega)
  refine br_f hm (br_f (nI_ge hL (by omega)) (br_f (by decide) (br_f (by decide) ?_)))
  refine br_f (by decide) (br_f (by decide) ?_)
  refine oy_w7 (fun eA => br_f (by decide) ?_) (fun eA => br_t rfl (oy_z69 (h0 (fun g => eA (g.1.2 (by decide))))))
  refine br_f (by decide) (br_f (by decide) (br_f (by decide) ?_))
  refine br_t rfl (br_f (by decide) ?_)
  refine oy_wM h8 hM (fun eB => br_f (by decide) ?_) (fun e => br_t rfl (oy_z147 (h0 (fun g => e (g.2.1.2.1 (by decide))))))
  refine br_f (by decide) (br_f (by decide) ?_)
  refine br_f (by decide) ?_
  refine br_f (by decide) (br_f (by decide) ?_)
  refine br_f (by decide) (br_f (by decide) ?_)
  refine br_f (by decide) ?_
  have G : ov_g C M 6 a b c := ⟨⟨fun z => absurd z (by decide), fun _ => eA⟩, ⟨fun z => absurd z (by decide), fun _ => eB, fun z => absurd z (by decide), fun z => absurd z (by decide)⟩, ⟨fun z => absurd z (by decide), fun z => absurd z (by decide)⟩⟩
  refine br_f (by decide) ⟨hin, nm_r (e' := upd oo L 6) (by rw [hcl]) ⟨hin, nm_r (e' := upd aa L a) (by rw [hcl]) (br_f (by decide) (br_f (by decide) (br_f (by decide) ?_)))⟩⟩
  refine ⟨hin, nm_r (e' := upd bb L b) (by rw [hcl]) (br_f (by decide) (br_f (by decide) (br_f (by decide) (br_f (by decide) (br_f (by decide) ?_)))))⟩
  refine ⟨hin, nm_r (e' := upd cc L 0) (by rw [hcl]) (nm_r (nI_1 L) ?_)⟩
  rw [nI_pred]
  exact h1 G
theorem oy_em7 (w : ov_wf C M oo aa bb cc) {L : Nat} (hL : L < C) (hm : ¬ md = 1) {a b c : Int32} {post : Int32 → SY → Prop} (h1 : ov_g C M 7 a b c → post (nI L) (nI C, nI M, nI O, nI (L + 1), pl, md, pc, wl, sp, rs, cm, tt, upd oo L 7, upd aa L a, upd bb L b, upd cc L c, rg, sv, me, ou)) (h0 : ¬ ov_g C M 7 a b c → post (-2) (nI C, nI M, nI O, nI L, pl, md, pc, wl, sp, rs, cm, tt, oo, aa, bb, cc, rg, sv, me, ou)) : wpY_emit post (nI C, nI M, nI O, nI L, pl, md, pc, wl, sp, rs, cm, tt, oo, aa, bb, cc, rg, sv, me, ou) 7 a b c := by
  have hC := w.2.1
  have h8 := w.2.2.1
  have hM := w.2.2.2.1
  have hin : vp_in (nI L) 25 := vp_in_nI (by omega) (by omega)
  have hcl : (nI L).toNatClampNeg = L := nI_clamp (by omega)
  refine br_f hm (br_f (nI_ge hL (by omega)) (br_f (by decide) (br_f (by decide) ?_)))
  refine br_f (by decide) (br_f (by decide) ?_)
  refine oy_w7 (fun eA => br_f (by decide) ?_) (fun eA => br_t rfl (oy_z69 (h0 (fun g => eA (g.1.2 (by decide))))))
  refine br_f (by decide) (br_f (by decide) (br_f (by decide) ?_))
  refine br_f (by decide) (br_f (by decide) ?_)
  refine br_t rfl (br_f (by decide) ?_)
  refine oy_wW h8 hM (fun eB => br_f (by decide) ?_) (fun e => br_t rfl (oy_z185 (h0 (fun g => e (g.2.1.2.2.1 (by decide))))))
  refine br_f (by decide) ?_
  refine br_f (by decide) (br_f (by decide) ?_)
  refine br_t rfl (br_f (by decide) ?_)
  refine oy_w7 (fun eC => br_f (by decide) ?_) (fun e => br_t rfl (oy_z260 (h0 (fun g => e (g.2.2.1 (by decide))))))
  refine br_f (by decide) ?_
  have G : ov_g C M 7 a b c := ⟨⟨fun z => absurd z (by decide), fun _ => eA⟩, ⟨fun z => absurd z (by decide), fun z => absurd z (by decide), fun _ => eB, fun z => absurd z (by decide)⟩, ⟨fun _ => eC, fun z => absurd z (by decide)⟩⟩
  refine br_f (by decide) ⟨hin, nm_r (e' := upd oo L 7) (by rw [hcl]) ⟨hin, nm_r (e' := upd aa L a) (by rw [hcl]) (br_f (by decide) (br_f (by decide) (br_f (by decide) ?_)))⟩⟩
  refine ⟨hin, nm_r (e' := upd bb L b) (by rw [hcl]) (br_f (by decide) (br_f (by decide) (br_t rfl ?_)))⟩
  refine ⟨hin, nm_r (e' := upd cc L c) (by rw [hcl]) (nm_r (nI_1 L) ?_)⟩
  rw [nI_pred]
  exact h1 G
theorem oy_em8 (w : ov_wf C M oo aa bb cc) {L : Nat} (hL : L < C) (hm : ¬ md = 1) {a b c : Int32} {post : Int32 → SY → Prop} (h1 : ov_g C M 8 a b c → post (nI L) (nI C, nI M, nI O, nI (L + 1), pl, md, pc, wl, sp, rs, cm, tt, upd oo L 8, upd aa L a, upd bb L b, upd cc L 0, rg, sv, me, ou)) (h0 : ¬ ov_g C M 8 a b c → post (-2) (nI C, nI M, nI O, nI L, pl, md, pc, wl, sp, rs, cm, tt, oo, aa, bb, cc, rg, sv, me, ou)) : wpY_emit post (nI C, nI M, nI O, nI L, pl, md, pc, wl, sp, rs, cm, tt, oo, aa, bb, cc, rg, sv, me, ou) 8 a b c := by
  have hC := w.2.1
  have h8 := w.2.2.1
  have hM := w.2.2.2.1
  have hin : vp_in (nI L) 25 := vp_in_nI (by omega) (by omega)
  have hcl : (nI L).toNatClampNeg = L := nI_clamp (by omega)
  refine br_f hm (br_f (nI_ge hL (by omega)) (br_f (by decide) (br_f (by decide) ?_)))
  refine br_f (by decide) (br_f (by decide) ?_)
  refine oy_w7 (fun eA => br_f (by decide) ?_) (fun eA => br_t rfl (oy_z69 (h0 (fun g => eA (g.1.2 (by decide))))))
  refine br_f (by decide) (br_f (by decide) (br_f (by decide) ?_))
  refine br_f (by decide) (br_t rfl (br_f (by decide) ?_))
  refine oy_wM h8 hM (fun eB => br_f (by decide) ?_) (fun e => br_t rfl (oy_z147 (h0 (fun g => e (g.2.1.2.1 (by decide))))))
  refine br_f (by decide) (br_f (by decide) ?_)
  refine br_f (by decide) ?_
  refine br_f (by decide) (br_f (by decide) ?_)
  refine br_f (by decide) (br_f (by decide) ?_)
  refine br_f (by decide) ?_
  have G : ov_g C M 8 a b c := ⟨⟨fun z => absurd z (by decide), fun _ => eA⟩, ⟨fun z => absurd z (by decide), fun _ => eB, fun z => absurd z (by decide), fun z => absurd z (by decide)⟩, ⟨fun z => absurd z (by decide), fun z => absurd z (by decide)⟩⟩
  refine br_f (by decide) ⟨hin, nm_r (e' := upd oo L 8) (by rw [hcl]) ⟨hin, nm_r (e' := upd aa L a) (by rw [hcl]) (br_f (by decide) (br_f (by decide) (br_f (by decide) ?_)))⟩⟩
  refine ⟨hin, nm_r (e' := upd bb L b) (by rw [hcl]) (br_f (by decide) (br_f (by decide) (br_f (by decide) (br_f (by decide) (br_f (by decide) ?_)))))⟩
  refine ⟨hin, nm_r (e' := upd cc L 0) (by rw [hcl]) (nm_r (nI_1 L) ?_)⟩
  rw [nI_pred]
  exact h1 G
theorem oy_em9 (w : ov_wf C M oo aa bb cc) {L : Nat} (hL : L < C) (hm : ¬ md = 1) {a b c : Int32} {post : Int32 → SY → Prop} (h1 : ov_g C M 9 a b c → post (nI L) (nI C, nI M, nI O, nI (L + 1), pl, md, pc, wl, sp, rs, cm, tt, upd oo L 9, upd aa L a, upd bb L b, upd cc L c, rg, sv, me, ou)) (h0 : ¬ ov_g C M 9 a b c → post (-2) (nI C, nI M, nI O, nI L, pl, md, pc, wl, sp, rs, cm, tt, oo, aa, bb, cc, rg, sv, me, ou)) : wpY_emit post (nI C, nI M, nI O, nI L, pl, md, pc, wl, sp, rs, cm, tt, oo, aa, bb, cc, rg, sv, me, ou) 9 a b c := by
  have hC := w.2.1
  have h8 := w.2.2.1
  have hM := w.2.2.2.1
  have hin : vp_in (nI L) 25 := vp_in_nI (by omega) (by omega)
  have hcl : (nI L).toNatClampNeg = L := nI_clamp (by omega)
  refine br_f hm (br_f (nI_ge hL (by omega)) (br_f (by decide) (br_f (by decide) ?_)))
  refine br_f (by decide) (br_f (by decide) ?_)
  refine oy_w7 (fun eA => br_f (by decide) ?_) (fun eA => br_t rfl (oy_z69 (h0 (fun g => eA (g.1.2 (by decide))))))
  refine br_f (by decide) (br_f (by decide) (br_f (by decide) ?_))
  refine br_f (by decide) (br_f (by decide) ?_)
  refine br_f (by decide) (br_t rfl (br_f (by decide) ?_))
  refine oy_wW h8 hM (fun eB => br_f (by decide) ?_) (fun e => br_t rfl (oy_z185 (h0 (fun g => e (g.2.1.2.2.1 (by decide))))))
  refine br_f (by decide) ?_
  refine br_f (by decide) (br_f (by decide) ?_)
  refine br_f (by decide) (br_t rfl (br_f (by decide) ?_))
  refine oy_w7 (fun eC => br_f (by decide) ?_) (fun e => br_t rfl (oy_z260 (h0 (fun g => e (g.2.2.1 (by decide))))))
  refine br_f (by decide) ?_
  have G : ov_g C M 9 a b c := ⟨⟨fun z => absurd z (by decide), fun _ => eA⟩, ⟨fun z => absurd z (by decide), fun z => absurd z (by decide), fun _ => eB, fun z => absurd z (by decide)⟩, ⟨fun _ => eC, fun z => absurd z (by decide)⟩⟩
  refine br_f (by decide) ⟨hin, nm_r (e' := upd oo L 9) (by rw [hcl]) ⟨hin, nm_r (e' := upd aa L a) (by rw [hcl]) (br_f (by decide) (br_f (by decide) (br_f (by decide) ?_)))⟩⟩
  refine ⟨hin, nm_r (e' := upd bb L b) (by rw [hcl]) (br_f (by decide) (br_f (by decide) (br_f (by decide) (br_t rfl ?_))))⟩
  refine ⟨hin, nm_r (e' := upd cc L c) (by rw [hcl]) (nm_r (nI_1 L) ?_)⟩
  rw [nI_pred]
  exact h1 G
theorem oy_em10 (w : ov_wf C M oo aa bb cc) {L : Nat} (hL : L < C) (hm : ¬ md = 1) {a b c : Int32} {post : Int32 → SY → Prop} (h1 : ov_g C M 10 a b c → post (nI L) (nI C, nI M, nI O, nI (L + 1), pl, md, pc, wl, sp, rs, cm, tt, upd oo L 10, upd aa L a, upd bb L 0, upd cc L 0, rg, sv, me, ou)) (h0 : ¬ ov_g C M 10 a b c → post (-2) (nI C, nI M, nI O, nI L, pl, md, pc, wl, sp, rs, cm, tt, oo, aa, bb, cc, rg, sv, me, ou)) : wpY_emit post (nI C, nI M, nI O, nI L, pl, md, pc, wl, sp, rs, cm, tt, oo, aa, bb, cc, rg, sv, me, ou) 10 a b c := by
  have hC := w.2.1
  have h8 := w.2.2.1
  have hM := w.2.2.2.1
  have hin : vp_in (nI L) 25 := vp_in_nI (by omega) (by omega)
  have hcl : (nI L).toNatClampNeg = L := nI_clamp (by omega)
  refine br_f hm (br_f (nI_ge hL (by omega)) (br_f (by decide) (br_f (by decide) ?_)))
  refine br_f (by decide) (br_t rfl ?_)
  refine oy_wK hC (fun eA => br_f (by decide) ?_) (fun eA => br_t rfl (oy_z69 (h0 (fun g => eA (g.1.1 rfl)))))
  refine br_f (by decide) (br_f (by decide) (br_f (by decide) ?_))
  refine br_f (by decide) (br_f (by decide) ?_)
  refine br_f (by decide) (br_f (by decide) ?_)
  refine br_f (by decide) ?_
  refine br_f (by decide) (br_f (by decide) ?_)
  refine br_f (by decide) (br_f (by decide) ?_)
  refine br_f (by decide) ?_
  have G : ov_g C M 10 a b c := ⟨⟨fun _ => eA, fun z => absurd z (by decide)⟩, ⟨fun z => absurd z (by decide), fun z => absurd z (by decide), fun z => absurd z (by decide), fun z => absurd z (by decide)⟩, ⟨fun z => absurd z (by decide), fun z => absurd z (by decide)⟩⟩
  refine br_f (by decide) ⟨hin, nm_r (e' := upd oo L 10) (by rw [hcl]) ⟨hin, nm_r (e' := upd aa L a) (by rw [hcl]) (br_f (by decide) (br_t rfl ?_))⟩⟩
  refine ⟨hin, nm_r (e' := upd bb L 0) (by rw [hcl]) (br_f (by decide) (br_f (by decide) (br_f (by decide) (br_f (by decide) (br_f (by decide) ?_)))))⟩
  refine ⟨hin, nm_r (e' := upd cc L 0) (by rw [hcl]) (nm_r (nI_1 L) ?_)⟩
  rw [nI_pred]
  exact h1 G
theorem oy_em11 (w : ov_wf C M oo aa bb cc) {L : Nat} (hL : L < C) (hm : ¬ md = 1) {a b c : Int32} {post : Int32 → SY → Prop} (h1 : ov_g C M 11 a b c → post (nI L) (nI C, nI M, nI O, nI (L + 1), pl, md, pc, wl, sp, rs, cm, tt, upd oo L 11, upd aa L a, upd bb L b, upd cc L 0, rg, sv, me, ou)) (h0 : ¬ ov_g C M 11 a b c → post (-2) (nI C, nI M, nI O, nI L, pl, md, pc, wl, sp, rs, cm, tt, oo, aa, bb, cc, rg, sv, me, ou)) : wpY_emit post (nI C, nI M, nI O, nI L, pl, md, pc, wl, sp, rs, cm, tt, oo, aa, bb, cc, rg, sv, me, ou) 11 a b c := by
  have hC := w.2.1
  have h8 := w.2.2.1
  have hM := w.2.2.2.1
  have hin : vp_in (nI L) 25 := vp_in_nI (by omega) (by omega)
  have hcl : (nI L).toNatClampNeg = L := nI_clamp (by omega)
  refine br_f hm (br_f (nI_ge hL (by omega)) (br_f (by decide) (br_f (by decide) ?_)))
  refine br_f (by decide) (br_f (by decide) ?_)
  refine oy_w7 (fun eA => br_f (by decide) ?_) (fun eA => br_t rfl (oy_z69 (h0 (fun g => eA (g.1.2 (by decide))))))
  refine br_f (by decide) (br_f (by decide) (br_f (by decide) ?_))
  refine br_f (by decide) (br_f (by decide) ?_)
  refine br_f (by decide) (br_f (by decide) ?_)
  refine br_t rfl (br_f (by decide) ?_)
  refine oy_wK hC (fun eB => br_f (by decide) ?_) (fun e => br_t rfl (oy_z215 (h0 (fun g => e (g.2.1.2.2.2 (by decide))))))
  refine br_f (by decide) (br_f (by decide) ?_)
  refine br_f (by decide) (br_f (by decide) ?_)
  refine br_f (by decide) ?_
  have G : ov_g C M 11 a b c := ⟨⟨fun z => absurd z (by decide), fun _ => eA⟩, ⟨fun z => absurd z (by decide), fun z => absurd z (by decide), fun z => absurd z (by decide), fun _ => eB⟩, ⟨fun z => absurd z (by decide), fun z => absurd z (by decide)⟩⟩
  refine br_f (by decide) ⟨hin, nm_r (e' := upd oo L 11) (by rw [hcl]) ⟨hin, nm_r (e' := upd aa L a) (by rw [hcl]) (br_f (by decide) (br_f (by decide) (br_f (by decide) ?_)))⟩⟩
  refine ⟨hin, nm_r (e' := upd bb L b) (by rw [hcl]) (br_f (by decide) (br_f (by decide) (br_f (by decide) (br_f (by decide) (br_f (by decide) ?_)))))⟩
  refine ⟨hin, nm_r (e' := upd cc L 0) (by rw [hcl]) (nm_r (nI_1 L) ?_)⟩
  rw [nI_pred]
  exact h1 G
theorem oy_em12 (w : ov_wf C M oo aa bb cc) {L : Nat} (hL : L < C) (hm : ¬ md = 1) {a b c : Int32} {post : Int32 → SY → Prop} (h1 : ov_g C M 12 a b c → post (nI L) (nI C, nI M, nI O, nI (L + 1), pl, md, pc, wl, sp, rs, cm, tt, upd oo L 12, upd aa L a, upd bb L b, upd cc L c, rg, sv, me, ou)) (h0 : ¬ ov_g C M 12 a b c → post (-2) (nI C, nI M, nI O, nI L, pl, md, pc, wl, sp, rs, cm, tt, oo, aa, bb, cc, rg, sv, me, ou)) : wpY_emit post (nI C, nI M, nI O, nI L, pl, md, pc, wl, sp, rs, cm, tt, oo, aa, bb, cc, rg, sv, me, ou) 12 a b c := by
  have hC := w.2.1
  have h8 := w.2.2.1
  have hM := w.2.2.2.1
  have hin : vp_in (nI L) 25 := vp_in_nI (by omega) (by omega)
  have hcl : (nI L).toNatClampNeg = L := nI_clamp (by omega)
  refine br_f hm (br_f (nI_ge hL (by omega)) (br_f (by decide) (br_f (by decide) ?_)))
  refine br_f (by decide) (br_f (by decide) ?_)
  refine oy_w7 (fun eA => br_f (by decide) ?_) (fun eA => br_t rfl (oy_z69 (h0 (fun g => eA (g.1.2 (by decide))))))
  refine br_f (by decide) (br_f (by decide) (br_t rfl (br_f (by decide) ?_)))
  refine oy_w7 (fun eB => br_f (by decide) ?_) (fun e => br_t rfl (oy_z109 (h0 (fun g => e (g.2.1.1 (by decide))))))
  refine br_f (by decide) (br_f (by decide) ?_)
  refine br_f (by decide) (br_f (by decide) ?_)
  refine br_f (by decide) ?_
  refine br_f (by decide) (br_f (by decide) ?_)
  refine br_f (by decide) (br_f (by decide) ?_)
  refine br_t rfl (br_f (by decide) ?_)
  refine oy_wK hC (fun eC => br_f (by decide) ?_) (fun e => br_t rfl (oy_z291 (h0 (fun g => e (g.2.2.2 (by decide))))))
  have G : ov_g C M 12 a b c := ⟨⟨fun z => absurd z (by decide), fun _ => eA⟩, ⟨fun _ => eB, fun z => absurd z (by decide), fun z => absurd z (by decide), fun z => absurd z (by decide)⟩, ⟨fun z => absurd z (by decide), fun _ => eC⟩⟩
  refine br_f (by decide) ⟨hin, nm_r (e' := upd oo L 12) (by rw [hcl]) ⟨hin, nm_r (e' := upd aa L a) (by rw [hcl]) (br_f (by decide) (br_f (by decide) (br_f (by decide) ?_)))⟩⟩
  refine ⟨hin, nm_r (e' := upd bb L b) (by rw [hcl]) (br_f (by decide) (br_f (by decide) (br_f (by decide) (br_f (by decide) (br_t rfl ?_)))))⟩
  refine ⟨hin, nm_r (e' := upd cc L c) (by rw [hcl]) (nm_r (nI_1 L) ?_)⟩
  rw [nI_pred]
  exact h1 G
theorem oy_em13 (w : ov_wf C M oo aa bb cc) {L : Nat} (hL : L < C) (hm : ¬ md = 1) {a b c : Int32} {post : Int32 → SY → Prop} (h1 : ov_g C M 13 a b c → post (nI L) (nI C, nI M, nI O, nI (L + 1), pl, md, pc, wl, sp, rs, cm, tt, upd oo L 13, upd aa L a, upd bb L 0, upd cc L 0, rg, sv, me, ou)) (h0 : ¬ ov_g C M 13 a b c → post (-2) (nI C, nI M, nI O, nI L, pl, md, pc, wl, sp, rs, cm, tt, oo, aa, bb, cc, rg, sv, me, ou)) : wpY_emit post (nI C, nI M, nI O, nI L, pl, md, pc, wl, sp, rs, cm, tt, oo, aa, bb, cc, rg, sv, me, ou) 13 a b c := by
  have hC := w.2.1
  have h8 := w.2.2.1
  have hM := w.2.2.2.1
  have hin : vp_in (nI L) 25 := vp_in_nI (by omega) (by omega)
  have hcl : (nI L).toNatClampNeg = L := nI_clamp (by omega)
  refine br_f hm (br_f (nI_ge hL (by omega)) (br_f (by decide) (br_f (by decide) ?_)))
  refine br_f (by decide) (br_f (by decide) ?_)
  refine oy_w7 (fun eA => br_f (by decide) ?_) (fun eA => br_t rfl (oy_z69 (h0 (fun g => eA (g.1.2 (by decide))))))
  refine br_f (by decide) (br_f (by decide) (br_f (by decide) ?_))
  refine br_f (by decide) (br_f (by decide) ?_)
  refine br_f (by decide) (br_f (by decide) ?_)
  refine br_f (by decide) ?_
  refine br_f (by decide) (br_f (by decide) ?_)
  refine br_f (by decide) (br_f (by decide) ?_)
  refine br_f (by decide) ?_
  have G : ov_g C M 13 a b c := ⟨⟨fun z => absurd z (by decide), fun _ => eA⟩, ⟨fun z => absurd z (by decide), fun z => absurd z (by decide), fun z => absurd z (by decide), fun z => absurd z (by decide)⟩, ⟨fun z => absurd z (by decide), fun z => absurd z (by decide)⟩⟩
  refine br_f (by decide) ⟨hin, nm_r (e' := upd oo L 13) (by rw [hcl]) ⟨hin, nm_r (e' := upd aa L a) (by rw [hcl]) (br_f (by decide) (br_f (by decide) (br_t rfl ?_)))⟩⟩
  refine ⟨hin, nm_r (e' := upd bb L 0) (by rw [hcl]) (br_f (by decide) (br_f (by decide) (br_f (by decide) (br_f (by decide) (br_f (by decide) ?_)))))⟩
  refine ⟨hin, nm_r (e' := upd cc L 0) (by rw [hcl]) (nm_r (nI_1 L) ?_)⟩
  rw [nI_pred]
  exact h1 G
end
end
section
/-! ===== emit: both classes; the constructors (written by gen22.py) ===== -/
theorem ov_F_new {C M O L pn sn qn tn : Nat} {pl : Int32} {oo aa bb cc lv lv' : Nat → Int32} {k a b c : Int32} (F : ov_F C M O L pn sn qn tn pl oo aa bb cc lv) (hL : L < C) (ok : ov_ok C M k a b c) (hlv : ov_lvok C (upd oo L k) (upd aa L a) (upd bb L b) (upd cc L c) lv') : ov_F C M O (L + 1) pn sn qn tn pl (upd oo L k) (upd aa L a) (upd bb L b) (upd cc L c) lv' := by
  refine ⟨ov_wf_new F.1 hL ok, F.2.1, hL, fun p hp => ?_, hlv, F.2.2.2.2.2⟩
  rw [pk_un (by omega), pk_un (by omega)]
  exact F.2.2.2.1 p (by omega)
theorem i_vc_emit {k : Nat} {u : SX} {v : SY} (I : i_Rel k u v) (hk : k + 5 ≤ 2563) (v1 : Int32) (v2 : Int32) (v3 : Int32) (v4 : Int32) : wpX_emit (fun r u' => wpY_emit (fun r' v' => r' = r ∧ i_Rel (k + 5) u' v') v v1 v2 v3 v4) u v1 v2 v3 v4 := by
  refine I (fun u v => wpX_emit (fun r u' => wpY_emit (fun r' v' => r' = r ∧ i_Rel (k + 5) u' v') v v1 v2 v3 v4) u v1 v2 v3 v4) ?_
  intro g0 g1 g2 g3 g4 g5 g6 g7 g8 g9 g10 g11 g12 g13 C M O L pn sn qn tn pl md du rs oo aa bb cc lv rg sv me ou cl cv ex F
  have w := F.1
  have hC := w.2.1
  have R : i_Rel (k + 5) (g0, g1, g2, g3, g4, g5, g6, g7, g8, g9, g10, g11, g12, g13, nI C, nI M, nI O, ov_al M, nI L, pl, md, nI pn, du, nI sn, rs, nI qn, nI tn, oo, aa, bb, cc, lv, rg, sv, me, ou, cl, cv, ex) (nI C, nI M, nI O, nI L, pl, md, nI pn, du, nI sn, rs, nI qn, nI tn, oo, aa, bb, cc, rg, sv, me, ou) := ov_mk F
  by_cases hm : md = 1
  · exact br_t hm (br_t hm (oy_z33 ⟨rfl, R⟩))
  by_cases hL : L < C
  · have hl : ¬ nI C ≤ nI L := nI_ge hL (by omega)
    by_cases h0 : v1 < 0
    · exact br_f hm (br_f hl (br_t h0 (br_f hm (br_f hl (br_t h0 (oy_z33 ⟨rfl, R⟩))))))
    by_cases h13 : v1 ≤ 13
    · rcases ov_op14 h0 h13 with rfl | rfl | rfl | rfl | rfl | rfl | rfl | rfl | rfl | rfl | rfl | rfl | rfl | rfl
      · refine ox_em0 w hL hm (fun G lv' hlv => ?_) (fun n => ?_)
        · exact oy_em0 w hL hm (fun _ => ⟨rfl, ov_mk (ov_F_new F hL (ov_ok0 G.1 G.2.1 G.2.2) hlv)⟩) (fun n => absurd G n)
        · exact oy_em0 w hL hm (fun G => absurd G n) (fun _ => ⟨rfl, R⟩)
      · refine ox_em1 w hL hm (fun G lv' hlv => ?_) (fun n => ?_)
        · exact oy_em1 w hL hm (fun _ => ⟨rfl, ov_mk (ov_F_new F hL (ov_ok1 G.1 G.2.1 G.2.2) hlv)⟩) (fun n => absurd G n)
        · exact oy_em1 w hL hm (fun G => absurd G n) (fun _ => ⟨rfl, R⟩)
      · refine ox_em2 w hL hm (fun G lv' hlv => ?_) (fun n => ?_)
        · exact oy_em2 w hL hm (fun _ => ⟨rfl, ov_mk (ov_F_new F hL (ov_ok2 G.1 G.2.1 G.2.2) hlv)⟩) (fun n => absurd G n)
        · exact oy_em2 w hL hm (fun G => absurd G n) (fun _ => ⟨rfl, R⟩)
      · refine ox_em3 w hL hm (fun G lv' hlv => ?_) (fun n => ?_)
        · exact oy_em3 w hL hm (fun _ => ⟨rfl, ov_mk (ov_F_new F hL (ov_ok3 G.1 G.2.1 G.2.2) hlv)⟩) (fun n => absurd G n)
        · exact oy_em3 w hL hm (fun G => absurd G n) (fun _ => ⟨rfl, R⟩)
      · refine ox_em4 w hL hm (fun G lv' hlv => ?_) (fun n => ?_)
        · exact oy_em4 w hL hm (fun _ => ⟨rfl, ov_mk (ov_F_new F hL (ov_ok4 G.1 G.2.1 G.2.2) hlv)⟩) (fun n => absurd G n)
        · exact oy_em4 w hL hm (fun G => absurd G n) (fun _ => ⟨rfl, R⟩)
      · refine ox_em5 w hL hm (fun G lv' hlv => ?_) (fun n => ?_)
        · exact oy_em5 w hL hm (fun _ => ⟨rfl, ov_mk (ov_F_new F hL (ov_ok5 G.1 G.2.1 G.2.2) hlv)⟩) (fun n => absurd G n)
        · exact oy_em5 w hL hm (fun G => absurd G n) (fun _ => ⟨rfl, R⟩)
      · refine ox_em6 w hL hm (fun G lv' hlv => ?_) (fun n => ?_)
        · exact oy_em6 w hL hm (fun _ => ⟨rfl, ov_mk (ov_F_new F hL (ov_ok6 G.1 G.2.1 G.2.2) hlv)⟩) (fun n => absurd G n)
        · exact oy_em6 w hL hm (fun G => absurd G n) (fun _ => ⟨rfl, R⟩)
      · refine ox_em7 w hL hm (fun G lv' hlv => ?_) (fun n => ?_)
        · exact oy_em7 w hL hm (fun _ => ⟨rfl, ov_mk (ov_F_new F hL (ov_ok7 G.1 G.2.1 G.2.2) hlv)⟩) (fun n => absurd G n)
        · exact oy_em7 w hL hm (fun G => absurd G n) (fun _ => ⟨rfl, R⟩)
      · refine ox_em8 w hL hm (fun G lv' hlv => ?_) (fun n => ?_)
        · exact oy_em8 w hL hm (fun _ => ⟨rfl, ov_mk (ov_F_new F hL (ov_ok8 G.1 G.2.1 G.2.2) hlv)⟩) (fun n => absurd G n)
        · exact oy_em8 w hL hm (fun G => absurd G n) (fun _ => ⟨rfl, R⟩)
      · refine ox_em9 w hL hm (fun G lv' hlv => ?_) (fun n => ?_)
        · exact oy_em9 w hL hm (fun _ => ⟨rfl, ov_mk (ov_F_new F hL (ov_ok9 G.1 G.2.1 G.2.2) hlv)⟩) (fun n => absurd G n)
        · exact oy_em9 w hL hm (fun G => absurd G n) (fun _ => ⟨rfl, R⟩)
      · refine ox_em10 w hL hm (fun G lv' hlv => ?_) (fun n => ?_)
        · exact oy_em10 w hL hm (fun _ => ⟨rfl, ov_mk (ov_F_new F hL (ov_ok10 G.1 G.2.1 G.2.2) hlv)⟩) (fun n => absurd G n)
        · exact oy_em10 w hL hm (fun G => absurd G n) (fun _ => ⟨rfl, R⟩)
      · refine ox_em11 w hL hm (fun G lv' hlv => ?_) (fun n => ?_)
        · exact oy_em11 w hL hm (fun _ => ⟨rfl, ov_mk (ov_F_new F hL (ov_ok11 G.1 G.2.1 G.2.2) hlv)⟩) (fun n => absurd G n)
        · exact oy_em11 w hL hm (fun G => absurd G n) (fun _ => ⟨rfl, R⟩)
      · refine ox_em12 w hL hm (fun G lv' hlv => ?_) (fun n => ?_)
        · exact oy_em12 w hL hm (fun _ => ⟨rfl, ov_mk (ov_F_new F hL (ov_ok12 G.1 G.2.1 G.2.2) hlv)⟩) (fun n => absurd G n)
        · exact oy_em12 w hL hm (fun G => absurd G n) (fun _ => ⟨rfl, R⟩)
      · refine ox_em13 w hL hm (fun G lv' hlv => ?_) (fun n => ?_)
        · exact oy_em13 w hL hm (fun _ => ⟨rfl, ov_mk (ov_F_new F hL (ov_ok13 G.1 G.2.1 G.2.2) hlv)⟩) (fun n => absurd G n)
        · exact oy_em13 w hL hm (fun G => absurd G n) (fun _ => ⟨rfl, R⟩)
    · have h14 : 13 < v1 := Int32.not_le.mp h13
      exact br_f hm (br_f hl (br_f h0 (br_f h13 (br_f hm (br_f hl (br_f h0 (br_t h14 (oy_z33 ⟨rfl, R⟩))))))))
  · have hl : nI C ≤ nI L := nI_le (by omega) (by have := F.2.2.1; omega)
    exact br_f hm (br_t hl (br_f hm (br_t hl (oy_z33 ⟨rfl, R⟩))))
theorem ov_clp (x : Int32) (lo hi : Nat) (h : lo ≤ hi) (hh : hi < 2 ^ 31) : ∃ n, lo ≤ n ∧ n ≤ hi ∧ ∀ A : Int32 → Prop, A (nI n) → ((nI lo ≤ x → ((x ≤ nI hi → A x) ∧ (¬ x ≤ nI hi → A (nI hi)))) ∧ (¬ nI lo ≤ x → A (nI lo))) := by
  by_cases h1 : nI lo ≤ x
  · by_cases h2 : x ≤ nI hi
    · have h0 : ¬ x < 0 := fun z => absurd (Int32.lt_of_le_of_lt h1 z) (nI_pos (by omega))
      obtain ⟨n, hn, rfl⟩ := nI_of h0
      rw [nI_leI (by omega) hn] at h1
      rw [nI_leI hn hh] at h2
      exact ⟨n, h1, h2, fun A a => br_t (nI_le h1 hn) (br_t (nI_le h2 hh) a)⟩
    · exact ⟨hi, h, Nat.le_refl _, fun A a => br_t h1 (br_f h2 a)⟩
  · exact ⟨lo, Nat.le_refl _, h, fun A a => br_f h1 a⟩
section
variable {g0 g1 g2 g3 g4 g5 g6 g7 g8 g9 g10 g11 g12 g13 al ln pl md pc du sp rs cm tt : Int32} {oo aa bb cc lv rg sv me ou cl cv ex : Nat → Int32}
variable {f1 f2 f3 f4 : Int32}
theorem ox_clamp {x : Int32} {lo hi n : Nat} (H : ∀ A : Int32 → Prop, A (nI n) → ((nI lo ≤ x → ((x ≤ nI hi → A x) ∧ (¬ x ≤ nI hi → A (nI hi)))) ∧ (¬ nI lo ≤ x → A (nI lo)))) {post : Int32 → Prop} (h : post (nI n)) : wpX_clamp post (g0, g1, g2, g3, g4, g5, g6, g7, g8, g9, g10, g11, g12, g13, f1, f2, f3, f4, ln, pl, md, pc, du, sp, rs, cm, tt, oo, aa, bb, cc, lv, rg, sv, me, ou, cl, cv, ex) x (nI lo) (nI hi) := H post h
end
theorem ov_wf0 {C M : Nat} (h1 : 8 ≤ C) (h2 : C ≤ 24) (h3 : 8 ≤ M) (h4 : M ≤ 16) : ov_wf C M (fun _ => 0) (fun _ => 0) (fun _ => 0) (fun _ => 0) := ⟨h1, h2, h3, h4, rfl, fun _ _ => Or.inl ⟨rfl, 0, by omega, rfl⟩⟩
theorem i_vc0 (k0 : Int32) (k1 : Int32) (k2 : Int32) : wpX_init (fun u => wpY_init (fun v => i_Rel 3 u v) k0 k1 k2) k0 k1 k2 := by
  obtain ⟨C, c1, c2, AC⟩ := ov_clp k0 8 24 (by omega) (by omega)
  obtain ⟨M, m1, m2, AM⟩ := ov_clp k1 8 16 (by omega) (by omega)
  obtain ⟨O, o1, o2, AO⟩ := ov_clp k2 4 32 (by omega) (by omega)
  have w := ov_wf0 c1 c2 m1 m2
  unfold wpX_init
  refine ox_clamp AC ?_
  refine ox_clamp AM ?_
  refine ox_clamp AO ?_
  refine nm_r (e' := ov_al M) rfl ?_
  refine ox_refr w (fun lv' hlv => ?_)
  refine AC (fun z => wY_init_92 (fun v => i_Rel 3 (0, 1, 2, 3, 4, 5, 6, 7, 8, 9, 10, 11, 12, 13, nI C, nI M, nI O, ov_al M, 0, 0, 0, 0, 0, 0, 0, 0, 0, (fun _ => 0), (fun _ => 0), (fun _ => 0), (fun _ => 0), lv', (fun _ => 0), (fun _ => 0), (fun _ => 0), (fun _ => 0), (fun _ => 0), (fun _ => 0), (fun _ => 0)) v) k1 k2 z 0 0 0 0 0 0 0 0 0 0 0 0 (fun _ => 0) (fun _ => 0) (fun _ => 0) (fun _ => 0) (fun _ => 0) (fun _ => 0) (fun _ => 0) (fun _ => 0)) ?_
  refine AM (fun z => wY_init_119 (fun v => i_Rel 3 (0, 1, 2, 3, 4, 5, 6, 7, 8, 9, 10, 11, 12, 13, nI C, nI M, nI O, ov_al M, 0, 0, 0, 0, 0, 0, 0, 0, 0, (fun _ => 0), (fun _ => 0), (fun _ => 0), (fun _ => 0), lv', (fun _ => 0), (fun _ => 0), (fun _ => 0), (fun _ => 0), (fun _ => 0), (fun _ => 0), (fun _ => 0)) v) k2 z (nI C) 0 0 0 0 0 0 0 0 0 0 0 (fun _ => 0) (fun _ => 0) (fun _ => 0) (fun _ => 0) (fun _ => 0) (fun _ => 0) (fun _ => 0) (fun _ => 0)) ?_
  refine AO (fun z => i_Rel 3 (0, 1, 2, 3, 4, 5, 6, 7, 8, 9, 10, 11, 12, 13, nI C, nI M, nI O, ov_al M, 0, 0, 0, 0, 0, 0, 0, 0, 0, (fun _ => 0), (fun _ => 0), (fun _ => 0), (fun _ => 0), lv', (fun _ => 0), (fun _ => 0), (fun _ => 0), (fun _ => 0), (fun _ => 0), (fun _ => 0), (fun _ => 0)) (nI C, nI M, z, 0, 0, 0, 0, 0, 0, 0, 0, 0, (fun _ => 0), (fun _ => 0), (fun _ => 0), (fun _ => 0), (fun _ => 0), (fun _ => 0), (fun _ => 0), (fun _ => 0))) ?_
  exact ov_mk (L := 0) (pn := 0) (sn := 0) (qn := 0) (tn := 0) (pl := 0) ⟨w, ⟨o1, o2⟩, Nat.zero_le _, fun _ _ => ⟨rfl, rfl⟩, hlv, fun i _ _ => b_0 i, Nat.zero_le _, Nat.zero_le _, Nat.zero_le _, Nat.zero_le _⟩
end
