section
/-! starting rows (kit/rows): stores, branches by naturals, Int32 by its bits -/
theorem pk_us {f : Nat → Int32} {k : Nat} {x : Int32} : upd f k x k = x := if_pos rfl
theorem pk_un {f : Nat → Int32} {k j : Nat} {x : Int32} (h : j ≠ k) : upd f k x j = f j := if_neg h
theorem pk_sub {a b : Nat} (h : b ≤ a) : nI a - nI b = nI (a - b) := by
  obtain ⟨c, rfl⟩ : ∃ c, a = c + b := ⟨a - b, by omega⟩
  rw [← nI_add, Int32.add_sub_cancel, Nat.add_sub_cancel]
theorem pk_le {x y : Int32} {A B : Prop} (a b : Nat) (f : a ≤ b → A) (g : b < a → B) (hx : x = nI a := by rfl) (hy : y = nI b := by rfl) (ha : a < 2 ^ 31 := by omega) (hb : b < 2 ^ 31 := by omega) : (x ≤ y → A) ∧ (¬ x ≤ y → B) := by
  subst hx hy
  rw [nI_leI ha hb]
  exact ⟨f, fun z => g (by omega)⟩
theorem pk_lt {x y : Int32} {A B : Prop} (a b : Nat) (f : a < b → A) (g : b ≤ a → B) (hx : x = nI a := by rfl) (hy : y = nI b := by rfl) (ha : a < 2 ^ 31 := by omega) (hb : b < 2 ^ 31 := by omega) : (x < y → A) ∧ (¬ x < y → B) := by
  subst hx hy
  rw [nI_ltI ha hb]
  exact ⟨f, fun z => g (by omega)⟩
theorem pk_eq {x y : Int32} {A B : Prop} (a b : Nat) (f : a = b → A) (g : a ≠ b → B) (hx : x = nI a := by rfl) (hy : y = nI b := by rfl) (ha : a < 2 ^ 31 := by omega) (hb : b < 2 ^ 31 := by omega) : (x = y → A) ∧ (¬ x = y → B) := by
  subst hx hy
  rw [nI_eq ha hb]
  exact ⟨f, g⟩
theorem pk_in {x : Int32} (n N : Nat) (h : n < N) (hx : x = nI n := by rfl) (hN : N < 2 ^ 31 := by omega) : vp_in x N := by
  subst hx
  exact vp_in_nI h hN
theorem pk_cl {x : Int32} (n : Nat) (hx : x = nI n := by rfl) (h : n < 2 ^ 31 := by omega) : x.toNatClampNeg = n := by
  subst hx
  exact nI_clamp h
theorem pk_and (x : Int32) {m : Int32} (k : Nat) (hm : m.toBitVec.toNat = 2 ^ k - 1) : x &&& m = nI (x.toBitVec.toNat % 2 ^ k) := by
  apply Int32.toBitVec_inj.mp
  apply BitVec.eq_of_toNat_eq
  rw [Int32.toBitVec_and, BitVec.toNat_and, hm, Nat.and_two_pow_sub_one_eq_mod]
  show _ = (BitVec.ofNat 32 _).toNat
  rw [BitVec.toNat_ofNat]
  exact (Nat.mod_eq_of_lt (Nat.lt_of_le_of_lt (Nat.mod_le _ _) x.toBitVec.isLt)).symm
theorem pk_andE (x : Int32) {m : Int32} (k : Nat) (hm : m.toBitVec.toNat = 2 ^ k - 1) : ∃ j : Nat, j < 2 ^ k ∧ x &&& m = nI j := ⟨_, Nat.mod_lt _ (Nat.two_pow_pos k), pk_and x k hm⟩
def bt (x : Int32) (i : Nat) : Bool := x.toBitVec.getLsbD i
theorem b_ext {x y : Int32} (h : ∀ i, i < 32 → bt x i = bt y i) : x = y := Int32.toBitVec_inj.mp (BitVec.eq_of_getLsbD_eq (fun i hi => h i hi))
theorem b_or (x y : Int32) (i : Nat) : bt (x ||| y) i = (bt x i || bt y i) := by unfold bt; rw [Int32.toBitVec_or, BitVec.getLsbD_or]
theorem b_and (x y : Int32) (i : Nat) : bt (x &&& y) i = (bt x i && bt y i) := by unfold bt; rw [Int32.toBitVec_and, BitVec.getLsbD_and]
theorem b_xor (x y : Int32) (i : Nat) : bt (x ^^^ y) i = (bt x i ^^ bt y i) := by unfold bt; rw [Int32.toBitVec_xor, BitVec.getLsbD_xor]
theorem b_big {x : Int32} {i : Nat} (h : 32 ≤ i) : bt x i = false := BitVec.getLsbD_of_ge _ _ h
theorem b_255 (i : Nat) : bt 255 i = decide (i < 8) := by
  rcases Nat.lt_or_ge i 32 with h | h
  · exact (by decide +kernel : ∀ i, i < 32 → bt 255 i = decide (i < 8)) i h
  · rw [b_big h, decide_eq_false (by omega)]
theorem b_m1 : ∀ i, i < 32 → bt (-1) i = true := by decide +kernel
theorem b_0 (i : Nat) : bt 0 i = false := BitVec.getLsbD_zero
theorem s_l : ∀ n, n < 32 → ((nI n &&& 31).toBitVec.smod 32).toNat = n := by decide +kernel
theorem b_shl (n : Nat) (hn : n < 32) (x : Int32) {i : Nat} (hi : i < 32) : bt (x <<< (nI n &&& 31)) i = (decide (n ≤ i) && bt x (i - n)) := by
  unfold bt
  rw [Int32.toBitVec_shiftLeft]
  show (x.toBitVec <<< ((nI n &&& 31).toBitVec.smod 32).toNat).getLsbD i = _
  rw [s_l n hn, BitVec.getLsbD_shiftLeft]
  rcases Nat.lt_or_ge i n with h | h
  · simp [h, Nat.not_le.mpr h]
  · simp [hi, h, Nat.not_lt.mpr h]
theorem b_sshr (n : Nat) (hn : n < 32) (x : Int32) {i : Nat} (hi : i < 32) : bt (x >>> (nI n &&& 31)) i = if n + i < 32 then bt x (n + i) else bt x 31 := by
  unfold bt
  rw [Int32.toBitVec_shiftRight]
  show (x.toBitVec.sshiftRight ((nI n &&& 31).toBitVec.smod 32).toNat).getLsbD i = _
  rw [s_l n hn, BitVec.getLsbD_sshiftRight, BitVec.msb_eq_getLsbD_last]
  simp [hi]
/-! ===== sets of states: bits 0 to 7 of an Int32 ===== -/
def fr_S (x : Int32) : Prop := ∀ i, 8 ≤ i → bt x i = false
theorem fr_S_lt {x : Int32} (h : fr_S x) {i : Nat} (hb : bt x i = true) : i < 8 := by
  rcases Nat.lt_or_ge i 8 with a | a
  · exact a
  · rw [h i a] at hb; exact absurd hb (by decide)
theorem fr_S_ext {x y : Int32} (hx : fr_S x) (hy : fr_S y) (h : ∀ i, i < 8 → (bt x i = true ↔ bt y i = true)) : x = y := by
  apply b_ext
  intro i _
  rcases Nat.lt_or_ge i 8 with a | a
  · exact Bool.eq_iff_iff.mpr (h i a)
  · rw [hx i a, hy i a]
theorem fr_S_of_lt {x : Int32} (h : ∀ i, bt x i = true → i < 8) : fr_S x := by
  intro i hi
  cases hb : bt x i
  · rfl
  · exact absurd (h i hb) (by omega)
theorem fr_S_0 : fr_S 0 := fun i _ => b_0 i
theorem fr_S_255 : fr_S 255 := fun i hi => by rw [b_255, decide_eq_false (by omega)]
theorem fr_S_andl {x : Int32} (y : Int32) (h : fr_S x) : fr_S (x &&& y) := fun i hi => by rw [b_and, h i hi, Bool.false_and]
theorem fr_S_andr (x : Int32) {y : Int32} (h : fr_S y) : fr_S (x &&& y) := fun i hi => by rw [b_and, h i hi, Bool.and_false]
theorem fr_S_or {x y : Int32} (h : fr_S x) (k : fr_S y) : fr_S (x ||| y) := fun i hi => by rw [b_or, h i hi, k i hi, Bool.or_false]
theorem b_1 : ∀ i, i < 32 → bt 1 i = decide (i = 0) := by decide +kernel
theorem fr_sh (k : Nat) (hk : k < 32) (i : Nat) : bt ((1 : Int32) <<< (nI k &&& 31)) i = decide (i = k) := by
  rcases Nat.lt_or_ge i 32 with h | h
  · rw [b_shl k hk 1 h, b_1 _ (by omega), Bool.eq_iff_iff, Bool.and_eq_true, decide_eq_true_eq, decide_eq_true_eq, decide_eq_true_eq]
    omega
  · rw [b_big h, decide_eq_false (by omega)]
theorem fr_S_sh {k : Nat} (hk : k < 8) : fr_S ((1 : Int32) <<< (nI k &&& 31)) := fun i hi => by rw [fr_sh k (by omega), decide_eq_false (by omega)]
theorem fr_bv {k : Nat} (hk : k < 32) (x : Int32) : (x >>> (nI k &&& 31)) &&& 1 = if bt x k = true then 1 else 0 := by
  apply b_ext
  intro i hi
  rw [b_and, b_sshr k hk x hi, b_1 i hi]
  by_cases h0 : i = 0
  · subst h0
    rw [if_pos (by omega), Nat.add_zero]
    cases h : bt x k
    · rw [if_neg (by decide), b_0]; rfl
    · rw [if_pos rfl, b_1 0 (by omega)]; rfl
  · rw [decide_eq_false h0, Bool.and_false]
    cases h : bt x k
    · rw [if_neg (by decide), b_0]
    · rw [if_pos rfl, b_1 i hi, decide_eq_false h0]
theorem fr_bit {k : Nat} (hk : k < 32) (x : Int32) : ((x >>> (nI k &&& 31)) &&& 1) = 1 ↔ bt x k = true := by
  rw [fr_bv hk]
  cases h : bt x k
  · rw [if_neg (by decide)]; exact ⟨fun z => absurd z (by decide), fun z => absurd z (by decide)⟩
  · rw [if_pos rfl]; exact ⟨fun _ => rfl, fun _ => rfl⟩
theorem fr_bit0 {k : Nat} (hk : k < 32) (x : Int32) : ((x >>> (nI k &&& 31)) &&& 1) = 0 ↔ bt x k = false := by
  rw [fr_bv hk]
  cases h : bt x k
  · rw [if_neg (by decide)]; exact ⟨fun _ => rfl, fun _ => rfl⟩
  · rw [if_pos rfl]; exact ⟨fun z => absurd z (by decide), fun z => absurd z (by decide)⟩
theorem fr_nz (x : Int32) : ¬ x = 0 ↔ ∃ i, bt x i = true := by
  constructor
  · intro h
    apply Classical.byContradiction
    intro hn
    apply h
    apply b_ext
    intro i _
    rw [b_0]
    cases hb : bt x i
    · rfl
    · exact absurd ⟨i, hb⟩ hn
  · rintro ⟨i, hb⟩ h
    rw [h, b_0] at hb
    exact absurd hb (by decide)
theorem fr_anz (x y : Int32) : ¬ (x &&& y) = 0 ↔ ∃ i, bt x i = true ∧ bt y i = true := by
  rw [fr_nz]
  constructor
  · rintro ⟨i, h⟩
    rw [b_and, Bool.and_eq_true] at h
    exact ⟨i, h⟩
  · rintro ⟨i, h⟩
    exact ⟨i, by rw [b_and, Bool.and_eq_true]; exact h⟩
theorem fr_S_of {x : Int32} (h0 : ¬ x < 0) (h1 : x ≤ 255) : fr_S x := by
  obtain ⟨j, hj, rfl⟩ := nI_of2 (n := 255) (M := 255) (by decide) h0 h1
  intro i hi
  show (BitVec.ofNat 32 j).getLsbD i = false
  rw [BitVec.getLsbD_ofNat, Nat.testBit_lt_two_pow (Nat.lt_of_lt_of_le (show j < 2 ^ 8 by omega) (Nat.pow_le_pow_right (by decide) hi)), Bool.and_false]
theorem fr_S_and255 {x : Int32} (h : fr_S x) : x &&& 255 = x := by
  apply b_ext
  intro i _
  rw [b_and, b_255]
  rcases Nat.lt_or_ge i 8 with a | a
  · rw [decide_eq_true a, Bool.and_true]
  · rw [h i a, Bool.false_and]
theorem fr_S_nn {x : Int32} (h : fr_S x) : ¬ x < 0 := by
  obtain ⟨j, hj, e⟩ := pk_andE x (m := 255) 8 (by decide)
  rw [fr_S_and255 h] at e
  rw [e]
  exact nI_pos (by omega)
theorem fr_S_nm1 {x : Int32} (h : fr_S x) : ¬ x = -1 := by
  intro e
  have := h 8 (by omega)
  rw [e, b_m1 8 (by omega)] at this
  exact absurd this (by decide)
/-! ===== the set of a property; the count of a set ===== -/
noncomputable def fr_mkN (P : Nat → Prop) : Nat → Int32
  | 0 => 0
  | n + 1 => @ite _ (P n) (Classical.propDecidable _) (fr_mkN P n ||| ((1 : Int32) <<< (nI n &&& 31))) (fr_mkN P n)
theorem fr_mkN_bt (P : Nat → Prop) (n : Nat) (hn : n ≤ 32) (i : Nat) : bt (fr_mkN P n) i = true ↔ i < n ∧ P i := by
  induction n with
  | zero =>
    rw [show fr_mkN P 0 = 0 from rfl, b_0]
    exact ⟨fun z => absurd z (by decide), fun z => absurd z.1 (by omega)⟩
  | succ n ih =>
    by_cases h : P n
    · rw [show fr_mkN P (n + 1) = fr_mkN P n ||| ((1 : Int32) <<< (nI n &&& 31)) from if_pos h, b_or, Bool.or_eq_true, ih (by omega), fr_sh n (by omega), decide_eq_true_eq]
      constructor
      · rintro (⟨a, b⟩ | a)
        · exact ⟨by omega, b⟩
        · exact ⟨by omega, by rw [a]; exact h⟩
      · rintro ⟨a, b⟩
        by_cases e : i = n
        · exact Or.inr e
        · exact Or.inl ⟨by omega, b⟩
    · rw [show fr_mkN P (n + 1) = fr_mkN P n from if_neg h, ih (by omega)]
      constructor
      · rintro ⟨a, b⟩
        exact ⟨by omega, b⟩
      · rintro ⟨a, b⟩
        by_cases e : i = n
        · rw [e] at b; exact absurd b h
        · exact ⟨by omega, b⟩
noncomputable def fr_mk (P : Nat → Prop) : Int32 := fr_mkN P 8
theorem fr_mk_bt (P : Nat → Prop) (i : Nat) : bt (fr_mk P) i = true ↔ i < 8 ∧ P i := fr_mkN_bt P 8 (by omega) i
theorem fr_mk_S (P : Nat → Prop) : fr_S (fr_mk P) := fr_S_of_lt fun i h => ((fr_mk_bt P i).mp h).1
theorem fr_mk_eq {P : Nat → Prop} {x : Int32} (hx : fr_S x) (h : ∀ i, bt x i = true ↔ P i) : x = fr_mk P := by
  apply fr_S_ext hx (fr_mk_S P)
  intro i hi
  rw [h i, fr_mk_bt]
  exact ⟨fun a => ⟨hi, a⟩, fun a => a.2⟩
def fr_cn (x : Int32) : Nat → Nat
  | 0 => 0
  | n + 1 => fr_cn x n + (if bt x n = true then 1 else 0)
theorem fr_cn_s1 {x : Int32} {n : Nat} (h : bt x n = true) : fr_cn x (n + 1) = fr_cn x n + 1 := by
  show fr_cn x n + (if bt x n = true then 1 else 0) = _
  rw [if_pos h]
theorem fr_cn_s0 {x : Int32} {n : Nat} (h : ¬ bt x n = true) : fr_cn x (n + 1) = fr_cn x n := by
  show fr_cn x n + (if bt x n = true then 1 else 0) = _
  rw [if_neg h]; rfl
theorem fr_cn_le (x : Int32) (n : Nat) : fr_cn x n ≤ n := by
  induction n with
  | zero => exact Nat.le_refl 0
  | succ n ih =>
    by_cases h : bt x n = true
    · rw [fr_cn_s1 h]; omega
    · rw [fr_cn_s0 h]; omega
theorem fr_cn_mono {x y : Int32} {n : Nat} (h : ∀ i, i < n → bt x i = true → bt y i = true) : fr_cn x n ≤ fr_cn y n := by
  induction n with
  | zero => exact Nat.le_refl 0
  | succ n ih =>
    have i0 := ih (fun i hi => h i (by omega))
    by_cases hx : bt x n = true
    · rw [fr_cn_s1 hx, fr_cn_s1 (h n (by omega) hx)]; omega
    · rw [fr_cn_s0 hx]
      by_cases hy : bt y n = true
      · rw [fr_cn_s1 hy]; omega
      · rw [fr_cn_s0 hy]; omega
theorem fr_cn_lt {x y : Int32} {n : Nat} (h : ∀ i, i < n → bt x i = true → bt y i = true) {k : Nat} (hk : k < n) (h1 : ¬ bt x k = true) (h2 : bt y k = true) : fr_cn x n < fr_cn y n := by
  induction n with
  | zero => exact absurd hk (by omega)
  | succ n ih =>
    by_cases e : k = n
    · subst e
      have := fr_cn_mono (n := k) (fun i hi => h i (by omega))
      rw [fr_cn_s0 h1, fr_cn_s1 h2]; omega
    · have i0 := ih (fun i hi => h i (by omega)) (by omega)
      by_cases hx : bt x n = true
      · rw [fr_cn_s1 hx, fr_cn_s1 (h n (by omega) hx)]; omega
      · rw [fr_cn_s0 hx]
        by_cases hy : bt y n = true
        · rw [fr_cn_s1 hy]; omega
        · rw [fr_cn_s0 hy]; omega
theorem fr_cn_full {x : Int32} {n : Nat} (h : n ≤ fr_cn x n) : ∀ i, i < n → bt x i = true := by
  induction n with
  | zero => intro i hi; exact absurd hi (by omega)
  | succ n ih =>
    have hl := fr_cn_le x n
    by_cases hx : bt x n = true
    · rw [fr_cn_s1 hx] at h
      intro i hi
      by_cases e : i = n
      · rw [e]; exact hx
      · exact ih (by omega) i (by omega)
    · rw [fr_cn_s0 hx] at h; omega
theorem fr_cn_0 {x : Int32} {n : Nat} (h : fr_cn x n = 0) : ∀ i, i < n → ¬ bt x i = true := by
  induction n with
  | zero => intro i hi; exact absurd hi (by omega)
  | succ n ih =>
    by_cases hx : bt x n = true
    · rw [fr_cn_s1 hx] at h; omega
    · rw [fr_cn_s0 hx] at h
      intro i hi
      by_cases e : i = n
      · rw [e]; exact hx
      · exact ih h i (by omega)
theorem fr_cn_ss {x y : Int32} (hx : fr_S x) (hy : fr_S y) (h : ∀ i, bt x i = true → bt y i = true) (hne : ¬ x = y) : fr_cn x 8 < fr_cn y 8 := by
  have hk : ∃ k, k < 8 ∧ ¬ bt x k = true ∧ bt y k = true := by
    apply Classical.byContradiction
    intro hn
    apply hne
    apply fr_S_ext hx hy
    intro i hi
    refine ⟨h i, fun hb => ?_⟩
    apply Classical.byContradiction
    intro hb2
    exact hn ⟨i, hi, hb2, hb⟩
  obtain ⟨k, hk, h1, h2⟩ := hk
  exact fr_cn_lt (fun i _ => h i) hk h1 h2
/-- a growing chain of sets of eight states stands still from its seventh member on -/
theorem fr_chain (c : Nat → Int32) (hS : ∀ n, fr_S (c n)) (hi : ∀ n i, bt (c n) i = true → bt (c (n + 1)) i = true) (hs : ∀ n, c n = c (n + 1) → c (n + 1) = c (n + 2)) (hz : c 0 = 0 → c 0 = c 1) : c 7 = c 8 := by
  have key : ∀ n, c n = c (n + 1) ∨ n + 1 ≤ fr_cn (c n) 8 := by
    intro n
    induction n with
    | zero =>
      by_cases h : fr_cn (c 0) 8 = 0
      · refine Or.inl (hz (fr_S_ext (hS 0) fr_S_0 fun i h8 => ⟨fun z => absurd z (fr_cn_0 h i h8), fun z => ?_⟩))
        rw [b_0] at z; exact absurd z (by decide)
      · exact Or.inr (by omega)
    | succ n ih =>
      rcases ih with h | h
      · exact Or.inl (hs n h)
      · by_cases e : c n = c (n + 1)
        · exact Or.inl (hs n e)
        · have := fr_cn_ss (hS n) (hS (n + 1)) (hi n) e
          exact Or.inr (by omega)
  rcases key 7 with h | h
  · exact h
  · exact fr_S_ext (hS 7) (hS 8) fun i h8 => ⟨hi 7 i, fun _ => fr_cn_full (n := 8) (by omega) i h8⟩
end
section
/-! ===== arcs, ways within a set ===== -/
def fr_E (T : Nat → Int32) (i j : Nat) : Prop := i < 8 ∧ j < 8 ∧ bt (T i) j = true
def fr_EW (T : Nat → Int32) (w : Int32) (i j : Nat) : Prop := fr_E T i j ∧ bt w i = true ∧ bt w j = true
abbrev fr_P (T : Nat → Int32) (w : Int32) : Nat → Nat → Prop := Relation.TransGen (fr_EW T w)
theorem fr_P_l {T : Nat → Int32} {w : Int32} {i j : Nat} (h : Relation.TransGen (fr_EW T w) i j) : i < 8 ∧ bt w i = true := by
  induction h with
  | single h => exact ⟨h.1.1, h.2.1⟩
  | tail _ _ ih => exact ih
theorem fr_P_r {T : Nat → Int32} {w : Int32} {i j : Nat} (h : Relation.TransGen (fr_EW T w) i j) : j < 8 ∧ bt w j = true := by
  cases h with
  | single h => exact ⟨h.1.2.1, h.2.2⟩
  | tail _ h => exact ⟨h.1.2.1, h.2.2⟩
theorem fr_P_mono {T : Nat → Int32} {w w' : Int32} {i j : Nat} (hw : ∀ k, bt w k = true → bt w' k = true) (h : Relation.TransGen (fr_EW T w) i j) : Relation.TransGen (fr_EW T w') i j := by
  induction h with
  | single h => exact Relation.TransGen.single ⟨h.1, hw _ h.2.1, hw _ h.2.2⟩
  | tail _ h ih => exact Relation.TransGen.tail ih ⟨h.1, hw _ h.2.1, hw _ h.2.2⟩
theorem fr_P_head {T : Nat → Int32} {w : Int32} {i t : Nat} (h : Relation.TransGen (fr_EW T w) i t) : ∃ j, fr_EW T w i j ∧ (j = t ∨ Relation.TransGen (fr_EW T w) j t) := by
  induction h with
  | single h => exact ⟨_, h, Or.inl rfl⟩
  | tail _ h ih =>
    obtain ⟨j, e, hj⟩ := ih
    refine ⟨j, e, Or.inr ?_⟩
    rcases hj with rfl | hj
    · exact Relation.TransGen.single h
    · exact Relation.TransGen.tail hj h
theorem fr_P_all {T : Nat → Int32} {i j : Nat} (h : fr_E T i j) : fr_EW T 255 i j := ⟨h, by rw [b_255]; exact decide_eq_true h.1, by rw [b_255]; exact decide_eq_true h.2.1⟩
/-! ===== before ===== -/
def fr_befN (T : Nat → Int32) (x : Int32) : Nat → Int32
  | 0 => 0
  | n + 1 => if T n &&& x = 0 then fr_befN T x n else fr_befN T x n ||| ((1 : Int32) <<< (nI n &&& 31))
theorem fr_befN_bt (T : Nat → Int32) (x : Int32) (n : Nat) (hn : n ≤ 32) (i : Nat) : bt (fr_befN T x n) i = true ↔ i < n ∧ ∃ j, bt (T i) j = true ∧ bt x j = true := by
  induction n with
  | zero =>
    rw [show fr_befN T x 0 = 0 from rfl, b_0]
    exact ⟨fun z => absurd z (by decide), fun z => absurd z.1 (by omega)⟩
  | succ n ih =>
    have hx := fr_anz (T n) x
    by_cases h : T n &&& x = 0
    · rw [show fr_befN T x (n + 1) = fr_befN T x n from if_pos h, ih (by omega)]
      constructor
      · rintro ⟨a, b⟩
        exact ⟨by omega, b⟩
      · rintro ⟨a, b⟩
        by_cases e : i = n
        · rw [e] at b; exact absurd h (hx.mpr b)
        · exact ⟨by omega, b⟩
    · rw [show fr_befN T x (n + 1) = fr_befN T x n ||| ((1 : Int32) <<< (nI n &&& 31)) from if_neg h, b_or, Bool.or_eq_true, ih (by omega), fr_sh n (by omega), decide_eq_true_eq]
      constructor
      · rintro (⟨a, b⟩ | a)
        · exact ⟨by omega, b⟩
        · exact ⟨by omega, by rw [a]; exact hx.mp h⟩
      · rintro ⟨a, b⟩
        by_cases e : i = n
        · exact Or.inr e
        · exact Or.inl ⟨by omega, b⟩
def fr_bef (T : Nat → Int32) (x : Int32) : Int32 := fr_befN T x 8
theorem fr_bef_bt {T : Nat → Int32} (hT : ∀ i, fr_S (T i)) (x : Int32) (i : Nat) : bt (fr_bef T x) i = true ↔ ∃ j, fr_E T i j ∧ bt x j = true := by
  show bt (fr_befN T x 8) i = true ↔ _
  rw [fr_befN_bt T x 8 (by omega)]
  constructor
  · rintro ⟨a, j, b, c⟩
    exact ⟨j, ⟨a, fr_S_lt (hT i) b, b⟩, c⟩
  · rintro ⟨j, ⟨a, _, b⟩, c⟩
    exact ⟨a, j, b, c⟩
theorem fr_bef_S (T : Nat → Int32) (x : Int32) : fr_S (fr_bef T x) := fr_S_of_lt fun i h => ((fr_befN_bt T x 8 (by omega) i).mp h).1
/-! ===== the states that come to a goal over a set ===== -/
def fr_com (T : Nat → Int32) (o g : Int32) : Nat → Int32
  | 0 => g
  | n + 1 => fr_com T o g n ||| (fr_bef T (fr_com T o g n) &&& o)
theorem fr_com_S {T : Nat → Int32} {o g : Int32} (hg : fr_S g) (n : Nat) : fr_S (fr_com T o g n) := by
  induction n with
  | zero => exact hg
  | succ n ih => exact fr_S_or ih (fr_S_andl _ (fr_bef_S _ _))
theorem fr_com_step {T : Nat → Int32} (hT : ∀ i, fr_S (T i)) (o g : Int32) (n i : Nat) : bt (fr_com T o g (n + 1)) i = true ↔ bt (fr_com T o g n) i = true ∨ (bt o i = true ∧ ∃ j, fr_E T i j ∧ bt (fr_com T o g n) j = true) := by
  show bt (fr_com T o g n ||| (fr_bef T (fr_com T o g n) &&& o)) i = true ↔ _
  rw [b_or, b_and, Bool.or_eq_true, Bool.and_eq_true, fr_bef_bt hT]
  constructor
  · rintro (a | ⟨a, b⟩)
    · exact Or.inl a
    · exact Or.inr ⟨b, a⟩
  · rintro (a | ⟨a, b⟩)
    · exact Or.inl a
    · exact Or.inr ⟨b, a⟩
theorem fr_bef_0 (T : Nat → Int32) : fr_bef T 0 = 0 := by
  apply fr_S_ext (fr_bef_S _ _) fr_S_0
  intro i _
  show bt (fr_befN T 0 8) i = true ↔ _
  rw [fr_befN_bt T 0 8 (by omega), b_0]
  constructor
  · rintro ⟨_, j, _, b⟩
    rw [b_0] at b; exact b
  · intro z
    exact absurd z (by decide)
theorem fr_com_stab {T : Nat → Int32} (hT : ∀ i, fr_S (T i)) (o : Int32) {g : Int32} (hg : fr_S g) : fr_com T o g 7 = fr_com T o g 8 := by
  refine fr_chain (fr_com T o g) (fr_com_S hg) (fun n i h => (fr_com_step hT o g n i).mpr (Or.inl h)) (fun n h => ?_) (fun h => ?_)
  · exact congrArg (fun z => z ||| (fr_bef T z &&& o)) h
  · have h0 : g = 0 := h
    show g = g ||| (fr_bef T g &&& o)
    rw [h0, fr_bef_0]
    apply b_ext
    intro i _
    rw [b_or, b_and, b_0]; rfl
theorem fr_com_goal {T : Nat → Int32} (hT : ∀ i, fr_S (T i)) {o g : Int32} (n : Nat) {i : Nat} (h : bt g i = true) : bt (fr_com T o g n) i = true := by
  induction n with
  | zero => exact h
  | succ n ih => exact (fr_com_step hT o g n i).mpr (Or.inl ih)
theorem fr_com_cl {T : Nat → Int32} (hT : ∀ i, fr_S (T i)) {o g : Int32} (hg : fr_S g) {i j : Nat} (ho : bt o i = true) (he : fr_E T i j) (hj : bt (fr_com T o g 8) j = true) : bt (fr_com T o g 8) i = true := by
  refine (fr_com_step hT o g 7 i).mpr (Or.inr ⟨ho, j, he, ?_⟩)
  rw [fr_com_stab hT o hg]
  exact hj
theorem fr_com_least {T : Nat → Int32} (hT : ∀ i, fr_S (T i)) {o g : Int32} (Q : Nat → Prop) (h0 : ∀ i, bt g i = true → Q i) (hc : ∀ i j, bt o i = true → fr_E T i j → Q j → Q i) (n : Nat) : ∀ i, bt (fr_com T o g n) i = true → Q i := by
  induction n with
  | zero => exact h0
  | succ n ih =>
    intro i h
    rcases (fr_com_step hT o g n i).mp h with a | ⟨a, j, b, c⟩
    · exact ih i a
    · exact hc i j a b (ih j c)
/-! ===== behind; the states that one comes to ===== -/
def fr_behN (T : Nat → Int32) (x : Int32) : Nat → Int32
  | 0 => 0
  | n + 1 => if bt x n = true then fr_behN T x n ||| T n else fr_behN T x n
theorem fr_behN_bt (T : Nat → Int32) (x : Int32) (n j : Nat) : bt (fr_behN T x n) j = true ↔ ∃ i, i < n ∧ bt x i = true ∧ bt (T i) j = true := by
  induction n with
  | zero =>
    rw [show fr_behN T x 0 = 0 from rfl, b_0]
    constructor
    · intro z; exact absurd z (by decide)
    · rintro ⟨i, a, _⟩; exact absurd a (by omega)
  | succ n ih =>
    by_cases h : bt x n = true
    · rw [show fr_behN T x (n + 1) = fr_behN T x n ||| T n from if_pos h, b_or, Bool.or_eq_true, ih]
      constructor
      · rintro (⟨i, a, b⟩ | a)
        · exact ⟨i, by omega, b⟩
        · exact ⟨n, by omega, h, a⟩
      · rintro ⟨i, a, b, c⟩
        by_cases e : i = n
        · rw [e] at c; exact Or.inr c
        · exact Or.inl ⟨i, by omega, b, c⟩
    · rw [show fr_behN T x (n + 1) = fr_behN T x n from if_neg h, ih]
      constructor
      · rintro ⟨i, a, b⟩
        exact ⟨i, by omega, b⟩
      · rintro ⟨i, a, b, c⟩
        by_cases e : i = n
        · rw [e] at b; exact absurd b h
        · exact ⟨i, by omega, b, c⟩
def fr_beh (T : Nat → Int32) (x : Int32) : Int32 := fr_behN T x 8
theorem fr_beh_bt {T : Nat → Int32} (hT : ∀ i, fr_S (T i)) (x : Int32) (j : Nat) : bt (fr_beh T x) j = true ↔ ∃ i, bt x i = true ∧ fr_E T i j := by
  show bt (fr_behN T x 8) j = true ↔ _
  rw [fr_behN_bt T x 8]
  constructor
  · rintro ⟨i, a, b, c⟩
    exact ⟨i, b, a, fr_S_lt (hT i) c, c⟩
  · rintro ⟨i, b, a, _, c⟩
    exact ⟨i, a, b, c⟩
theorem fr_beh_S {T : Nat → Int32} (hT : ∀ i, fr_S (T i)) (x : Int32) : fr_S (fr_beh T x) := fr_S_of_lt fun j h => by
  obtain ⟨i, _, e⟩ := (fr_beh_bt hT x j).mp h
  exact e.2.1
def fr_rea (T : Nat → Int32) (x : Int32) : Nat → Int32
  | 0 => x
  | n + 1 => fr_rea T x n ||| fr_beh T (fr_rea T x n)
theorem fr_rea_S {T : Nat → Int32} (hT : ∀ i, fr_S (T i)) {x : Int32} (hx : fr_S x) (n : Nat) : fr_S (fr_rea T x n) := by
  induction n with
  | zero => exact hx
  | succ n ih => exact fr_S_or ih (fr_beh_S hT _)
theorem fr_rea_step {T : Nat → Int32} (hT : ∀ i, fr_S (T i)) (x : Int32) (n j : Nat) : bt (fr_rea T x (n + 1)) j = true ↔ bt (fr_rea T x n) j = true ∨ ∃ i, bt (fr_rea T x n) i = true ∧ fr_E T i j := by
  show bt (fr_rea T x n ||| fr_beh T (fr_rea T x n)) j = true ↔ _
  rw [b_or, Bool.or_eq_true, fr_beh_bt hT]
theorem fr_rea_stab {T : Nat → Int32} (hT : ∀ i, fr_S (T i)) {x : Int32} (hx : fr_S x) : fr_rea T x 7 = fr_rea T x 8 := by
  refine fr_chain (fr_rea T x) (fr_rea_S hT hx) (fun n j h => (fr_rea_step hT x n j).mpr (Or.inl h)) (fun n h => ?_) (fun h => ?_)
  · exact congrArg (fun z => z ||| fr_beh T z) h
  · have h0 : x = 0 := h
    apply fr_S_ext (fr_rea_S hT hx 0) (fr_rea_S hT hx 1)
    intro j _
    rw [fr_rea_step hT x 0 j]
    refine ⟨Or.inl, ?_⟩
    rintro (a | ⟨i, a, _⟩)
    · exact a
    · rw [show fr_rea T x 0 = 0 from h0, b_0] at a; exact absurd a (by decide)
theorem fr_rea_goal {T : Nat → Int32} (hT : ∀ i, fr_S (T i)) {x : Int32} (n : Nat) {j : Nat} (h : bt x j = true) : bt (fr_rea T x n) j = true := by
  induction n with
  | zero => exact h
  | succ n ih => exact (fr_rea_step hT x n j).mpr (Or.inl ih)
theorem fr_rea_cl {T : Nat → Int32} (hT : ∀ i, fr_S (T i)) {x : Int32} (hx : fr_S x) {i j : Nat} (he : fr_E T i j) (hi : bt (fr_rea T x 8) i = true) : bt (fr_rea T x 8) j = true := by
  refine (fr_rea_step hT x 7 j).mpr (Or.inr ⟨i, ?_, he⟩)
  rw [fr_rea_stab hT hx]
  exact hi
theorem fr_rea_least {T : Nat → Int32} (hT : ∀ i, fr_S (T i)) {x : Int32} (Q : Nat → Prop) (h0 : ∀ i, bt x i = true → Q i) (hc : ∀ i j, fr_E T i j → Q i → Q j) (n : Nat) : ∀ j, bt (fr_rea T x n) j = true → Q j := by
  induction n with
  | zero => exact h0
  | succ n ih =>
    intro j h
    rcases (fr_rea_step hT x n j).mp h with a | ⟨i, a, b⟩
    · exact ih j a
    · exact hc i j b (ih i a)
/-! ===== fair states ===== -/
def fr_good (T D : Nat → Int32) (n : Nat) (w : Int32) (t : Nat) : Prop := fr_P T w t t ∧ ∀ d, d < n → ∃ u, fr_P T w t u ∧ fr_P T w u t ∧ bt (D d) u = true
def fr_fair (T D : Nat → Int32) (n : Nat) (w : Int32) (i : Nat) : Prop := ∃ t, fr_good T D n w t ∧ (i = t ∨ fr_P T w i t)
noncomputable def fr_FS (T D : Nat → Int32) (n : Nat) (w : Int32) : Int32 := fr_mk (fr_fair T D n w)
theorem fr_FS_S (T D : Nat → Int32) (n : Nat) (w : Int32) : fr_S (fr_FS T D n w) := fr_mk_S _
theorem fr_fair_w {T D : Nat → Int32} {n : Nat} {w : Int32} {i : Nat} (h : fr_fair T D n w i) : i < 8 ∧ bt w i = true := by
  obtain ⟨t, g, h⟩ := h
  rcases h with e | h
  · rw [e]; exact fr_P_l g.1
  · exact fr_P_l h
theorem fr_fair_cl {T D : Nat → Int32} {n : Nat} {w : Int32} {i j : Nat} (hp : fr_P T w i j) (hf : fr_fair T D n w j) : fr_fair T D n w i := by
  obtain ⟨t, g, h⟩ := hf
  rcases h with e | h
  · rw [e] at hp; exact ⟨t, g, Or.inr hp⟩
  · exact ⟨t, g, Or.inr (hp.trans h)⟩
theorem fr_fair_pos {T D : Nat → Int32} {n : Nat} {w : Int32} {i : Nat} (hf : fr_fair T D n w i) : ∃ t, fr_good T D n w t ∧ fr_P T w i t := by
  obtain ⟨t, g, h⟩ := hf
  rcases h with e | h
  · exact ⟨t, g, by rw [e]; exact g.1⟩
  · exact ⟨t, g, h⟩
theorem fr_fair_bef {T D : Nat → Int32} (hT : ∀ i, fr_S (T i)) {n : Nat} {w L : Int32} (hL : ∀ k, fr_fair T D n w k → bt L k = true) {i : Nat} (hf : fr_fair T D n w i) : bt (fr_bef T L) i = true := by
  obtain ⟨t, g, h⟩ := fr_fair_pos hf
  obtain ⟨j, e, hj⟩ := fr_P_head h
  exact (fr_bef_bt hT L i).mpr ⟨j, e.1, hL j ⟨t, g, hj⟩⟩
theorem fr_fair_dem {T D : Nat → Int32} (hT : ∀ i, fr_S (T i)) {n : Nat} {w L : Int32} (hS : fr_S L) (hL : ∀ k, fr_fair T D n w k → bt L k = true) {d : Nat} (hd : d < n) {i : Nat} (hf : fr_fair T D n w i) : bt (fr_bef T (fr_com T L (L &&& D d) 8)) i = true := by
  obtain ⟨t, g, ht⟩ := fr_fair_pos hf
  obtain ⟨u, h1, h2, h3⟩ := g.2 d hd
  have hu : fr_fair T D n w u := ⟨t, g, Or.inr h2⟩
  have hp : fr_P T w i u := ht.trans h1
  have hc : bt (fr_com T L (L &&& D d) 8) u = true := fr_com_goal hT 8 (by rw [b_and, hL u hu, h3]; rfl)
  clear h1 h2 h3 ht hf
  induction hp with
  | single h => exact (fr_bef_bt hT _ _).mpr ⟨_, h.1, hc⟩
  | tail _ h ih =>
    have hb := fr_fair_cl (Relation.TransGen.single h) hu
    exact ih hb (fr_com_cl hT (fr_S_andl _ hS) (hL _ hb) h.1 hc)
/-- where nothing is taken away any more, all is fair -/
theorem fr_fix {T D : Nat → Int32} (hT : ∀ i, fr_S (T i)) {n : Nat} {w L : Int32} (hw : ∀ k, bt L k = true → bt w k = true) (h0 : ∀ i, bt L i = true → bt (fr_bef T L) i = true) (hd : ∀ d, d < n → ∀ i, bt L i = true → bt (fr_bef T (fr_com T L (L &&& D d) 8)) i = true) : ∀ m t, bt L t = true → fr_cn (fr_mk (fun j => t = j ∨ fr_P T L t j)) 8 < m → fr_fair T D n w t := by
  intro m
  induction m with
  | zero => intro t _ h; exact absurd h (by omega)
  | succ m ih =>
    intro t ht hm
    by_cases hb : ∀ u, fr_P T L t u → fr_P T L u t
    · obtain ⟨j, e, hj⟩ := (fr_bef_bt hT _ _).mp (h0 t ht)
      have p : fr_P T L t j := Relation.TransGen.single ⟨e, ht, hj⟩
      refine ⟨t, ⟨(fr_P_mono hw p).trans (fr_P_mono hw (hb j p)), fun d hd' => ?_⟩, Or.inl rfl⟩
      obtain ⟨j, e, hj⟩ := (fr_bef_bt hT _ _).mp (hd d hd' t ht)
      obtain ⟨u, hu, hDu, hju⟩ := fr_com_least hT (fun j => ∃ u, bt L u = true ∧ bt (D d) u = true ∧ (j = u ∨ fr_P T L j u)) (fun i hi => by
        rw [b_and, Bool.and_eq_true] at hi
        exact ⟨i, hi.1, hi.2, Or.inl rfl⟩) (fun i j ho he hq => by
        obtain ⟨u, a, b, c⟩ := hq
        refine ⟨u, a, b, Or.inr ?_⟩
        rcases c with c | c
        · rw [← c] at a ⊢; exact Relation.TransGen.single ⟨he, ho, a⟩
        · exact Relation.TransGen.trans (Relation.TransGen.single ⟨he, ho, (fr_P_l c).2⟩) c) 8 j hj
      have p : fr_P T L t u := by
        rcases hju with c | c
        · rw [← c] at hu ⊢; exact Relation.TransGen.single ⟨e, ht, hu⟩
        · exact Relation.TransGen.trans (Relation.TransGen.single ⟨e, ht, (fr_P_l c).2⟩) c
      exact ⟨u, fr_P_mono hw p, fr_P_mono hw (hb u p), hDu⟩
    · have hx : ∃ u, fr_P T L t u ∧ ¬ fr_P T L u t := by
        apply Classical.byContradiction
        intro hn
        apply hb
        intro u hu
        apply Classical.byContradiction
        intro h
        exact hn ⟨u, hu, h⟩
      obtain ⟨u, h1, h2⟩ := hx
      refine fr_fair_cl (fr_P_mono hw h1) (ih u (fr_P_r h1).2 ?_)
      have hlt := fr_cn_lt (x := fr_mk (fun j => u = j ∨ fr_P T L u j)) (y := fr_mk (fun j => t = j ∨ fr_P T L t j)) (n := 8) (k := t) (fun i hi hx => by
        rw [fr_mk_bt] at hx ⊢
        refine ⟨hi, Or.inr ?_⟩
        rcases hx.2 with c | c
        · rw [← c]; exact h1
        · exact h1.trans c) (fr_P_l h1).1 (by
        rw [fr_mk_bt]
        rintro ⟨_, c | c⟩
        · rw [c] at h1 h2; exact h2 h1
        · exact h2 c) ((fr_mk_bt _ _).mpr ⟨(fr_P_l h1).1, Or.inl rfl⟩)
      omega
/-! ===== the reference's rounds ===== -/
def fr_rnd (T D : Nat → Int32) (x : Int32) : Nat → Int32
  | 0 => x &&& fr_bef T x
  | d + 1 => fr_rnd T D x d &&& fr_bef T (fr_com T (fr_rnd T D x d) (fr_rnd T D x d &&& D d) 8)
theorem fr_rnd_S {T D : Nat → Int32} {x : Int32} (hx : fr_S x) (d : Nat) : fr_S (fr_rnd T D x d) := by
  induction d with
  | zero => exact fr_S_andl _ hx
  | succ d ih => exact fr_S_andl _ ih
theorem fr_rnd_s (T D : Nat → Int32) (x : Int32) (d i : Nat) : bt (fr_rnd T D x (d + 1)) i = true ↔ bt (fr_rnd T D x d) i = true ∧ bt (fr_bef T (fr_com T (fr_rnd T D x d) (fr_rnd T D x d &&& D d) 8)) i = true := by
  show bt (fr_rnd T D x d &&& _) i = true ↔ _
  rw [b_and, Bool.and_eq_true]
theorem fr_rnd_0 (T D : Nat → Int32) (x : Int32) (i : Nat) : bt (fr_rnd T D x 0) i = true ↔ bt x i = true ∧ bt (fr_bef T x) i = true := by
  show bt (x &&& _) i = true ↔ _
  rw [b_and, Bool.and_eq_true]
theorem fr_rnd_sub {T D : Nat → Int32} {x : Int32} (d : Nat) : ∀ i, bt (fr_rnd T D x d) i = true → bt x i = true := by
  induction d with
  | zero => intro i h; exact ((fr_rnd_0 T D x i).mp h).1
  | succ d ih => intro i h; exact ih i ((fr_rnd_s T D x d i).mp h).1
theorem fr_rnd_fair {T D : Nat → Int32} (hT : ∀ i, fr_S (T i)) {n : Nat} {w x : Int32} (hx : fr_S x) (hf : ∀ k, fr_fair T D n w k → bt x k = true) (d : Nat) (hd : d ≤ n) : ∀ k, fr_fair T D n w k → bt (fr_rnd T D x d) k = true := by
  induction d with
  | zero => intro k h; exact (fr_rnd_0 T D x k).mpr ⟨hf k h, fr_fair_bef hT hf h⟩
  | succ d ih =>
    intro k h
    have i0 := ih (by omega)
    exact (fr_rnd_s T D x d k).mpr ⟨i0 k h, fr_fair_dem hT (fr_rnd_S hx d) i0 (by omega) h⟩
theorem fr_rnd_dec {T D : Nat → Int32} {x : Int32} {d e : Nat} (h : d ≤ e) : ∀ i, bt (fr_rnd T D x e) i = true → bt (fr_rnd T D x d) i = true := by
  induction e with
  | zero => obtain rfl : d = 0 := by omega
            exact fun i h => h
  | succ e ih =>
    by_cases c : d = e + 1
    · rw [c]; exact fun i h => h
    · intro i hi; exact ih (by omega) i ((fr_rnd_s T D x e i).mp hi).1
theorem fr_rnd_eq {T D : Nat → Int32} {x : Int32} (hx : fr_S x) {n d : Nat} (hd : d ≤ n) (h : fr_rnd T D x n = x) : fr_rnd T D x d = x := by
  apply fr_S_ext (fr_rnd_S hx d) hx
  intro i _
  refine ⟨fr_rnd_sub d i, fun z => fr_rnd_dec hd i ?_⟩
  rw [h]; exact z
theorem fr_rnd_fix {T D : Nat → Int32} (hT : ∀ i, fr_S (T i)) {n : Nat} {w L : Int32} (hL : fr_S L) (hw : ∀ k, bt L k = true → bt w k = true) (hf : ∀ k, fr_fair T D n w k → bt L k = true) (h : fr_rnd T D L n = L) : L = fr_FS T D n w := by
  refine fr_mk_eq hL fun i => ⟨fun hi => ?_, hf i⟩
  refine fr_fix hT hw (fun i hi => ?_) (fun d hd i hi => ?_) _ i hi (Nat.lt_succ_self _)
  · have e := fr_rnd_eq hL (Nat.zero_le n) h
    exact ((fr_rnd_0 T D L i).mp (by rw [e]; exact hi)).2
  · have e1 := fr_rnd_eq hL (Nat.le_of_lt hd) h
    have e2 := fr_rnd_eq hL hd h
    have := ((fr_rnd_s T D L d i).mp (by rw [e2]; exact hi)).2
    rw [e1] at this
    exact this
end
section
/-! ===== the component's ways: arcs first, then over each state in turn ===== -/
def fr_wi (T : Nat → Int32) (x : Int32) (w0 : Nat → Int32) : Nat → (Nat → Int32)
  | 0 => w0
  | s + 1 => upd (fr_wi T x w0 s) s (if bt x s = true then T s &&& x else 0)
theorem fr_wi_at (T : Nat → Int32) (x : Int32) (w0 : Nat → Int32) (n s : Nat) (h : s < n) : fr_wi T x w0 n s = if bt x s = true then T s &&& x else 0 := by
  induction n with
  | zero => exact absurd h (by omega)
  | succ n ih =>
    show upd (fr_wi T x w0 n) n _ s = _
    by_cases e : s = n
    · subst e; exact pk_us
    · rw [pk_un e, ih (by omega)]
def fr_wp (w : Nat → Int32) (k : Nat) : Nat → (Nat → Int32)
  | 0 => w
  | s + 1 => if bt (fr_wp w k s s) k = true then upd (fr_wp w k s) s (fr_wp w k s s ||| fr_wp w k s k) else fr_wp w k s
theorem fr_or_self (x : Int32) : x ||| x = x := by
  apply b_ext
  intro i _
  rw [b_or, Bool.or_self]
theorem fr_wp_at (w : Nat → Int32) (k n : Nat) : ∀ s, fr_wp w k n s = if s < n ∧ bt (w s) k = true then w s ||| w k else w s := by
  induction n with
  | zero => intro s; rw [if_neg (by omega)]; rfl
  | succ n ih =>
    have hn : fr_wp w k n n = w n := by rw [ih n, if_neg (by omega)]
    have hk : fr_wp w k n k = w k := by
      rw [ih k]
      by_cases c : k < n ∧ bt (w k) k = true
      · rw [if_pos c, fr_or_self]
      · rw [if_neg c]
    intro s
    by_cases c : bt (w n) k = true
    · rw [show fr_wp w k (n + 1) = upd (fr_wp w k n) n (fr_wp w k n n ||| fr_wp w k n k) from if_pos (by rw [hn]; exact c), hn, hk]
      by_cases e : s = n
      · subst e; rw [pk_us, if_pos ⟨by omega, c⟩]
      · rw [pk_un e, ih s]
        by_cases c2 : s < n ∧ bt (w s) k = true
        · rw [if_pos c2, if_pos ⟨by omega, c2.2⟩]
        · rw [if_neg c2, if_neg (fun z => c2 ⟨by omega, z.2⟩)]
    · rw [show fr_wp w k (n + 1) = fr_wp w k n from if_neg (by rw [hn]; exact c), ih s]
      by_cases c2 : s < n ∧ bt (w s) k = true
      · rw [if_pos c2, if_pos ⟨by omega, c2.2⟩]
      · rw [if_neg c2, if_neg]
        rintro ⟨a, b⟩
        by_cases e : s = n
        · rw [e] at b; exact c b
        · exact c2 ⟨by omega, b⟩
def fr_wq (w : Nat → Int32) : Nat → (Nat → Int32)
  | 0 => w
  | k + 1 => fr_wp (fr_wq w k) k 8
theorem fr_wq_s (w : Nat → Int32) (k s t : Nat) (hs : s < 8) : bt (fr_wq w (k + 1) s) t = true ↔ bt (fr_wq w k s) t = true ∨ (bt (fr_wq w k s) k = true ∧ bt (fr_wq w k k) t = true) := by
  show bt (fr_wp (fr_wq w k) k 8 s) t = true ↔ _
  rw [fr_wp_at]
  by_cases c : bt (fr_wq w k s) k = true
  · rw [if_pos ⟨hs, c⟩, b_or, Bool.or_eq_true]
    constructor
    · rintro (a | a)
      · exact Or.inl a
      · exact Or.inr ⟨c, a⟩
    · rintro (a | a)
      · exact Or.inl a
      · exact Or.inr a.2
  · rw [if_neg (fun z => c z.2)]
    constructor
    · exact Or.inl
    · rintro (a | a)
      · exact a
      · exact absurd a.1 c
theorem fr_wq_inc (w : Nat → Int32) (k s t : Nat) (hs : s < 8) (h : bt (w s) t = true) : bt (fr_wq w k s) t = true := by
  induction k with
  | zero => exact h
  | succ k ih => exact (fr_wq_s w k s t hs).mpr (Or.inl ih)
theorem fr_wq_tr (w : Nat → Int32) (k : Nat) (hk : k ≤ 8) : ∀ m, m < k → ∀ s t, s < 8 → bt (fr_wq w k s) m = true → bt (fr_wq w k m) t = true → bt (fr_wq w k s) t = true := by
  induction k with
  | zero => intro m hm; exact absurd hm (by omega)
  | succ k ih =>
    have i0 := ih (by omega)
    intro m hm s t hs h1 h2
    rw [fr_wq_s w k s t hs]
    rw [fr_wq_s w k s m hs] at h1
    rw [fr_wq_s w k m t (by omega)] at h2
    by_cases e : m = k
    · rw [e] at h1 h2
      have a : bt (fr_wq w k s) k = true := by
        rcases h1 with a | a
        · exact a
        · exact a.1
      have b : bt (fr_wq w k k) t = true := by
        rcases h2 with a | a
        · exact a
        · exact a.2
      exact Or.inr ⟨a, b⟩
    · have hmk : m < k := by omega
      rcases h1 with a | ⟨a, b⟩
      · rcases h2 with c | ⟨c, d⟩
        · exact Or.inl (i0 m hmk s t hs a c)
        · exact Or.inr ⟨i0 m hmk s k hs a c, d⟩
      · rcases h2 with c | ⟨c, d⟩
        · exact Or.inr ⟨a, i0 m hmk k t (by omega) b c⟩
        · exact Or.inr ⟨a, d⟩
def fr_ways (T : Nat → Int32) (x : Int32) (w0 : Nat → Int32) : Nat → Int32 := fr_wq (fr_wi T x w0 8) 8
def fr_WP (T : Nat → Int32) (x : Int32) (w : Nat → Int32) : Prop := ∀ s t, s < 8 → (bt (w s) t = true ↔ fr_P T x s t)
theorem fr_wi_bt {T : Nat → Int32} (hT : ∀ i, fr_S (T i)) (x : Int32) (w0 : Nat → Int32) (s t : Nat) (hs : s < 8) : bt (fr_wi T x w0 8 s) t = true ↔ fr_EW T x s t := by
  rw [fr_wi_at T x w0 8 s hs]
  by_cases c : bt x s = true
  · rw [if_pos c, b_and, Bool.and_eq_true]
    constructor
    · rintro ⟨a, b⟩
      exact ⟨⟨hs, fr_S_lt (hT s) a, a⟩, c, b⟩
    · rintro ⟨a, _, b⟩
      exact ⟨a.2.2, b⟩
  · rw [if_neg c, b_0]
    constructor
    · intro z; exact absurd z (by decide)
    · intro z; exact absurd z.2.1 c
theorem fr_ways_P {T : Nat → Int32} (hT : ∀ i, fr_S (T i)) (x : Int32) (w0 : Nat → Int32) : fr_WP T x (fr_ways T x w0) := by
  have sound : ∀ k, k ≤ 8 → ∀ s t, s < 8 → bt (fr_wq (fr_wi T x w0 8) k s) t = true → fr_P T x s t := by
    intro k
    induction k with
    | zero =>
      intro _ s t hs h
      exact Relation.TransGen.single ((fr_wi_bt hT x w0 s t hs).mp h)
    | succ k ih =>
      intro hk s t hs h
      rcases (fr_wq_s _ k s t hs).mp h with a | ⟨a, b⟩
      · exact ih (by omega) s t hs a
      · exact Relation.TransGen.trans (ih (by omega) s k hs a) (ih (by omega) k t (by omega) b)
  intro s t hs
  refine ⟨sound 8 (by omega) s t hs, fun h => ?_⟩
  have key : ∀ s t, Relation.TransGen (fr_EW T x) s t → bt (fr_ways T x w0 s) t = true := by
    intro s t h
    induction h with
    | single h => exact fr_wq_inc _ 8 _ _ h.1.1 ((fr_wi_bt hT x w0 _ _ h.1.1).mpr h)
    | tail h' h ih => exact fr_wq_tr _ 8 (by omega) _ h.1.1 _ _ (fr_P_l h').1 ih (fr_wq_inc _ 8 _ _ h.1.1 ((fr_wi_bt hT x w0 _ _ h.1.1).mpr h))
  exact key s t h
/-! ===== knots, demands met, good states ===== -/
def fr_kn (w : Nat → Int32) (s : Nat) : Nat → Int32
  | 0 => 0
  | t + 1 => if bt (w s) t = true ∧ bt (w t) s = true then fr_kn w s t ||| ((1 : Int32) <<< (nI t &&& 31)) else fr_kn w s t
theorem fr_kn_bt (w : Nat → Int32) (s n : Nat) (hn : n ≤ 32) (i : Nat) : bt (fr_kn w s n) i = true ↔ i < n ∧ bt (w s) i = true ∧ bt (w i) s = true := by
  induction n with
  | zero =>
    rw [show fr_kn w s 0 = 0 from rfl, b_0]
    exact ⟨fun z => absurd z (by decide), fun z => absurd z.1 (by omega)⟩
  | succ n ih =>
    by_cases h : bt (w s) n = true ∧ bt (w n) s = true
    · rw [show fr_kn w s (n + 1) = fr_kn w s n ||| ((1 : Int32) <<< (nI n &&& 31)) from if_pos h, b_or, Bool.or_eq_true, ih (by omega), fr_sh n (by omega), decide_eq_true_eq]
      constructor
      · rintro (⟨a, b⟩ | a)
        · exact ⟨by omega, b⟩
        · exact ⟨by omega, by rw [a]; exact h⟩
      · rintro ⟨a, b⟩
        by_cases e : i = n
        · exact Or.inr e
        · exact Or.inl ⟨by omega, b⟩
    · rw [show fr_kn w s (n + 1) = fr_kn w s n from if_neg h, ih (by omega)]
      constructor
      · rintro ⟨a, b⟩
        exact ⟨by omega, b⟩
      · rintro ⟨a, b⟩
        by_cases e : i = n
        · rw [e] at b; exact absurd b h
        · exact ⟨by omega, b⟩
theorem fr_kn_P {T : Nat → Int32} {x : Int32} {w : Nat → Int32} (hw : fr_WP T x w) {s : Nat} (hs : s < 8) (i : Nat) : bt (fr_kn w s 8) i = true ↔ fr_P T x s i ∧ fr_P T x i s := by
  rw [fr_kn_bt w s 8 (by omega)]
  constructor
  · rintro ⟨a, b, c⟩
    exact ⟨(hw s i hs).mp b, (hw i s a).mp c⟩
  · rintro ⟨b, c⟩
    exact ⟨(fr_P_r b).1, (hw s i hs).mpr b, (hw i s (fr_P_r b).1).mpr c⟩
def fr_md (D : Nat → Int32) (x : Int32) : Nat → Bool
  | 0 => decide (¬ x = 0)
  | n + 1 => fr_md D x n && decide (¬ (x &&& D n) = 0)
theorem fr_md_iff (D : Nat → Int32) (x : Int32) (n : Nat) : fr_md D x n = true ↔ (∃ i, bt x i = true) ∧ ∀ d, d < n → ∃ u, bt x u = true ∧ bt (D d) u = true := by
  induction n with
  | zero =>
    show decide (¬ x = 0) = true ↔ _
    rw [decide_eq_true_eq, fr_nz]
    exact ⟨fun a => ⟨a, fun d hd => absurd hd (by omega)⟩, fun a => a.1⟩
  | succ n ih =>
    show (fr_md D x n && decide (¬ (x &&& D n) = 0)) = true ↔ _
    rw [Bool.and_eq_true, ih, decide_eq_true_eq, fr_anz]
    constructor
    · rintro ⟨⟨a, b⟩, c⟩
      refine ⟨a, fun d hd => ?_⟩
      by_cases e : d = n
      · rw [e]; exact c
      · exact b d (by omega)
    · rintro ⟨a, b⟩
      exact ⟨⟨a, fun d hd => b d (by omega)⟩, b n (by omega)⟩
def fr_gd (w D : Nat → Int32) (n : Nat) : Nat → Int32
  | 0 => 0
  | s + 1 => if fr_md D (fr_kn w s 8) n = true then fr_gd w D n s ||| fr_kn w s 8 else fr_gd w D n s
theorem fr_gd_bt (w D : Nat → Int32) (n m i : Nat) : bt (fr_gd w D n m) i = true ↔ ∃ s, s < m ∧ bt (fr_kn w s 8) i = true ∧ fr_md D (fr_kn w s 8) n = true := by
  induction m with
  | zero =>
    rw [show fr_gd w D n 0 = 0 from rfl, b_0]
    constructor
    · intro z; exact absurd z (by decide)
    · rintro ⟨s, a, _⟩; exact absurd a (by omega)
  | succ m ih =>
    by_cases h : fr_md D (fr_kn w m 8) n = true
    · rw [show fr_gd w D n (m + 1) = fr_gd w D n m ||| fr_kn w m 8 from if_pos h, b_or, Bool.or_eq_true, ih]
      constructor
      · rintro (⟨s, a, b⟩ | a)
        · exact ⟨s, by omega, b⟩
        · exact ⟨m, by omega, a, h⟩
      · rintro ⟨s, a, b, c⟩
        by_cases e : s = m
        · rw [e] at b; exact Or.inr b
        · exact Or.inl ⟨s, by omega, b, c⟩
    · rw [show fr_gd w D n (m + 1) = fr_gd w D n m from if_neg h, ih]
      constructor
      · rintro ⟨s, a, b⟩
        exact ⟨s, by omega, b⟩
      · rintro ⟨s, a, b, c⟩
        by_cases e : s = m
        · rw [e] at c; exact absurd c h
        · exact ⟨s, by omega, b, c⟩
theorem fr_gd_good {T : Nat → Int32} {x : Int32} {w : Nat → Int32} (hw : fr_WP T x w) (D : Nat → Int32) (n i : Nat) : bt (fr_gd w D n 8) i = true ↔ fr_good T D n x i := by
  rw [fr_gd_bt]
  constructor
  · rintro ⟨s, hs, a, b⟩
    rw [fr_kn_P hw hs] at a
    rw [fr_md_iff] at b
    refine ⟨a.2.trans a.1, fun d hd => ?_⟩
    obtain ⟨u, hu, hD⟩ := b.2 d hd
    rw [fr_kn_P hw hs] at hu
    exact ⟨u, a.2.trans hu.1, hu.2.trans a.1, hD⟩
  · rintro ⟨a, b⟩
    have hi := (fr_P_l a).1
    refine ⟨i, hi, (fr_kn_P hw hi i).mpr ⟨a, a⟩, (fr_md_iff _ _ _).mpr ⟨⟨i, (fr_kn_P hw hi i).mpr ⟨a, a⟩⟩, fun d hd => ?_⟩⟩
    obtain ⟨u, h1, h2, h3⟩ := b d hd
    exact ⟨u, (fr_kn_P hw hi u).mpr ⟨h1, h2⟩, h3⟩
/-- the component's answer: the fair states -/
theorem fr_X_stay {T : Nat → Int32} (hT : ∀ i, fr_S (T i)) {x : Int32} {w : Nat → Int32} (hw : fr_WP T x w) (D : Nat → Int32) (n : Nat) : fr_com T x (fr_gd w D n 8) 8 = fr_FS T D n x := by
  have hg := fr_gd_good hw D n
  have hS : fr_S (fr_gd w D n 8) := fr_S_of_lt fun i h => (fr_P_l ((hg i).mp h).1).1
  refine fr_mk_eq (fr_com_S hS 8) fun i => ⟨?_, ?_⟩
  · refine fr_com_least hT _ (fun i h => ⟨i, (hg i).mp h, Or.inl rfl⟩) (fun i j ho he hf => ?_) 8 i
    exact fr_fair_cl (Relation.TransGen.single ⟨he, ho, (fr_fair_w hf).2⟩) hf
  · rintro ⟨t, g, h⟩
    have ht : bt (fr_com T x (fr_gd w D n 8) 8) t = true := fr_com_goal hT 8 ((hg t).mpr g)
    rcases h with e | h
    · rw [e]; exact ht
    · clear g
      induction h with
      | single h => exact fr_com_cl hT hS h.2.1 h.1 ht
      | tail _ h ih => exact ih (fr_com_cl hT hS h.2.1 h.1 ht)
/-! ===== reach, steps, knots ===== -/
theorem fr_rea_P {T : Nat → Int32} (hT : ∀ i, fr_S (T i)) {x : Int32} (hx : fr_S x) (j : Nat) : bt (fr_rea T x 8) j = true ↔ ∃ i, bt x i = true ∧ (i = j ∨ fr_P T 255 i j) := by
  constructor
  · refine fr_rea_least hT (fun j => ∃ i, bt x i = true ∧ (i = j ∨ fr_P T 255 i j)) (fun i h => ⟨i, h, Or.inl rfl⟩) (fun i j he hq => ?_) 8 j
    obtain ⟨k, a, b⟩ := hq
    refine ⟨k, a, Or.inr ?_⟩
    rcases b with b | b
    · rw [b]; exact Relation.TransGen.single (fr_P_all he)
    · exact Relation.TransGen.tail b (fr_P_all he)
  · rintro ⟨i, a, b⟩
    rcases b with b | b
    · rw [← b]; exact fr_rea_goal hT 8 a
    · have key : ∀ i j, Relation.TransGen (fr_EW T 255) i j → bt x i = true → bt (fr_rea T x 8) j = true := by
        intro i j h ha
        induction h with
        | single h => exact fr_rea_cl hT hx h.1 (fr_rea_goal hT 8 ha)
        | tail _ h ih => exact fr_rea_cl hT hx h.1 ih
      exact key i j b a
theorem fr_com_P {T : Nat → Int32} (hT : ∀ i, fr_S (T i)) {g : Int32} (hg : fr_S g) (i : Nat) : bt (fr_com T 255 g 8) i = true ↔ ∃ j, bt g j = true ∧ (i = j ∨ fr_P T 255 i j) := by
  constructor
  · refine fr_com_least hT (fun i => ∃ j, bt g j = true ∧ (i = j ∨ fr_P T 255 i j)) (fun i h => ⟨i, h, Or.inl rfl⟩) (fun i j _ he hq => ?_) 8 i
    obtain ⟨k, a, b⟩ := hq
    refine ⟨k, a, Or.inr ?_⟩
    rcases b with b | b
    · rw [← b]; exact Relation.TransGen.single (fr_P_all he)
    · exact Relation.TransGen.trans (Relation.TransGen.single (fr_P_all he)) b
  · rintro ⟨j, a, b⟩
    have ha := fr_com_goal hT (o := 255) 8 a
    rcases b with b | b
    · rw [b]; exact ha
    · clear a
      induction b with
      | single h => exact fr_com_cl hT hg h.2.1 h.1 ha
      | tail _ h ih => exact ih (fr_com_cl hT hg h.2.1 h.1 ha)
theorem fr_sh_bt {s : Nat} (hs : s < 8) (i : Nat) : bt ((1 : Int32) <<< (nI s &&& 31)) i = true ↔ i = s := by
  rw [fr_sh s (by omega), decide_eq_true_eq]
theorem fr_reach_eq {T : Nat → Int32} (hT : ∀ i, fr_S (T i)) {w : Nat → Int32} (hw : fr_WP T 255 w) {s : Nat} (hs : s < 8) : fr_rea T ((1 : Int32) <<< (nI s &&& 31)) 8 = w s ||| ((1 : Int32) <<< (nI s &&& 31)) := by
  apply b_ext
  intro j _
  rw [Bool.eq_iff_iff, fr_rea_P hT (fr_S_sh hs), b_or, Bool.or_eq_true, fr_sh_bt hs, hw s j hs]
  constructor
  · rintro ⟨i, a, b⟩
    rw [fr_sh_bt hs] at a
    rcases b with b | b
    · exact Or.inr (by omega)
    · rw [a] at b; exact Or.inl b
  · rintro (a | a)
    · exact ⟨s, (fr_sh_bt hs s).mpr rfl, Or.inr a⟩
    · exact ⟨s, (fr_sh_bt hs s).mpr rfl, Or.inl a.symm⟩
def fr_pn (T : Nat → Int32) : Nat → Nat → Nat → Prop
  | 0 => fun i j => i = j
  | n + 1 => fun i j => fr_pn T n i j ∨ ∃ k, fr_E T i k ∧ fr_pn T n k j
theorem fr_pn_r (T : Nat → Int32) (n : Nat) : ∀ i j, fr_pn T (n + 1) i j ↔ fr_pn T n i j ∨ ∃ k, fr_pn T n i k ∧ fr_E T k j := by
  induction n with
  | zero =>
    intro i j
    constructor
    · rintro (a | ⟨k, a, b⟩)
      · exact Or.inl a
      · have b : k = j := b
        rw [b] at a; exact Or.inr ⟨i, rfl, a⟩
    · rintro (a | ⟨k, a, b⟩)
      · exact Or.inl a
      · have a : i = k := a
        rw [← a] at b; exact Or.inr ⟨j, b, rfl⟩
  | succ n ih =>
    intro i j
    constructor
    · rintro (a | ⟨k, a, b⟩)
      · exact Or.inl a
      · rcases (ih k j).mp b with c | ⟨l, c, d⟩
        · exact Or.inl (Or.inr ⟨k, a, c⟩)
        · exact Or.inr ⟨l, Or.inr ⟨k, a, c⟩, d⟩
    · rintro (a | ⟨l, a, b⟩)
      · exact Or.inl a
      · rcases a with a | ⟨k, a, c⟩
        · exact Or.inl ((ih i j).mpr (Or.inr ⟨l, a, b⟩))
        · exact Or.inr ⟨k, a, (ih k j).mpr (Or.inr ⟨l, c, b⟩)⟩
def fr_xs (T : Nat → Int32) (g : Int32) : Nat → Int32
  | 0 => g
  | n + 1 => fr_xs T g n ||| fr_bef T (fr_xs T g n)
theorem fr_xs_step {T : Nat → Int32} (hT : ∀ i, fr_S (T i)) (g : Int32) (n i : Nat) : bt (fr_xs T g (n + 1)) i = true ↔ bt (fr_xs T g n) i = true ∨ ∃ j, fr_E T i j ∧ bt (fr_xs T g n) j = true := by
  show bt (fr_xs T g n ||| fr_bef T (fr_xs T g n)) i = true ↔ _
  rw [b_or, Bool.or_eq_true, fr_bef_bt hT]
theorem fr_xs_pn {T : Nat → Int32} (hT : ∀ i, fr_S (T i)) (g : Int32) (n : Nat) : ∀ i, bt (fr_xs T g n) i = true ↔ ∃ t, bt g t = true ∧ fr_pn T n i t := by
  induction n with
  | zero =>
    intro i
    constructor
    · intro h; exact ⟨i, h, rfl⟩
    · rintro ⟨t, a, b⟩
      have b : i = t := b
      rw [b]; exact a
  | succ n ih =>
    intro i
    rw [fr_xs_step hT, ih]
    constructor
    · rintro (⟨t, a, b⟩ | ⟨j, a, b⟩)
      · exact ⟨t, a, Or.inl b⟩
      · obtain ⟨t, c, d⟩ := (ih j).mp b
        exact ⟨t, c, Or.inr ⟨j, a, d⟩⟩
    · rintro ⟨t, a, b⟩
      rcases b with b | ⟨k, b, c⟩
      · exact Or.inl ⟨t, a, b⟩
      · exact Or.inr ⟨k, b, (ih k).mpr ⟨t, a, c⟩⟩
theorem fr_rea_pn {T : Nat → Int32} (hT : ∀ i, fr_S (T i)) (x : Int32) (n : Nat) : ∀ j, bt (fr_rea T x n) j = true ↔ ∃ i, bt x i = true ∧ fr_pn T n i j := by
  induction n with
  | zero =>
    intro j
    constructor
    · intro h; exact ⟨j, h, rfl⟩
    · rintro ⟨t, a, b⟩
      have b : t = j := b
      rw [← b]; exact a
  | succ n ih =>
    intro j
    rw [fr_rea_step hT, ih]
    constructor
    · rintro (⟨t, a, b⟩ | ⟨i, a, b⟩)
      · exact ⟨t, a, (fr_pn_r T n t j).mpr (Or.inl b)⟩
      · obtain ⟨t, c, d⟩ := (ih i).mp a
        exact ⟨t, c, (fr_pn_r T n t j).mpr (Or.inr ⟨i, d, b⟩)⟩
    · rintro ⟨t, a, b⟩
      rcases (fr_pn_r T n t j).mp b with b | ⟨k, b, c⟩
      · exact Or.inl ⟨t, a, b⟩
      · exact Or.inr ⟨k, (ih k).mpr ⟨t, a, b⟩, c⟩
theorem fr_steps_eq {T : Nat → Int32} (hT : ∀ i, fr_S (T i)) (g : Int32) {s : Nat} (hs : s < 8) (n : Nat) : bt (fr_xs T g n) s = true ↔ ¬ (fr_rea T ((1 : Int32) <<< (nI s &&& 31)) n &&& g) = 0 := by
  rw [fr_xs_pn hT, fr_anz]
  constructor
  · rintro ⟨t, a, b⟩
    exact ⟨t, (fr_rea_pn hT _ n t).mpr ⟨s, (fr_sh_bt hs s).mpr rfl, b⟩, a⟩
  · rintro ⟨t, a, b⟩
    obtain ⟨i, c, d⟩ := (fr_rea_pn hT _ n t).mp a
    rw [fr_sh_bt hs] at c
    rw [c] at d
    exact ⟨t, b, d⟩
theorem fr_xs_S {T : Nat → Int32} {g : Int32} (hg : fr_S g) (n : Nat) : fr_S (fr_xs T g n) := by
  induction n with
  | zero => exact hg
  | succ n ih => exact fr_S_or ih (fr_bef_S _ _)
theorem fr_xs_stab {T : Nat → Int32} (hT : ∀ i, fr_S (T i)) {g : Int32} (hg : fr_S g) : fr_xs T g 7 = fr_xs T g 8 := by
  refine fr_chain (fr_xs T g) (fr_xs_S hg) (fun n i h => (fr_xs_step hT g n i).mpr (Or.inl h)) (fun n h => ?_) (fun h => ?_)
  · exact congrArg (fun z => z ||| fr_bef T z) h
  · have h0 : g = 0 := h
    show g = g ||| fr_bef T g
    rw [h0, fr_bef_0]
    rfl
/-! knots -/
def fr_kY (T : Nat → Int32) (s : Nat) : Int32 := fr_rea T (fr_beh T ((1 : Int32) <<< (nI s &&& 31))) 8 &&& fr_com T 255 ((1 : Int32) <<< (nI s &&& 31)) 8
theorem fr_kY_eq {T : Nat → Int32} (hT : ∀ i, fr_S (T i)) {w : Nat → Int32} (hw : fr_WP T 255 w) {s : Nat} (hs : s < 8) : fr_kY T s = fr_kn w s 8 := by
  apply b_ext
  intro j _
  show bt (_ &&& _) j = _
  rw [Bool.eq_iff_iff, b_and, Bool.and_eq_true, fr_rea_P hT (fr_beh_S hT _), fr_com_P hT (fr_S_sh hs), fr_kn_P hw hs]
  have hb : ∀ i, bt (fr_beh T ((1 : Int32) <<< (nI s &&& 31))) i = true ↔ fr_E T s i := by
    intro i
    rw [fr_beh_bt hT]
    constructor
    · rintro ⟨k, a, b⟩
      rw [fr_sh_bt hs] at a
      rw [a] at b; exact b
    · intro a; exact ⟨s, (fr_sh_bt hs s).mpr rfl, a⟩
  constructor
  · rintro ⟨⟨i, a, b⟩, k, c, d⟩
    rw [hb] at a
    rw [fr_sh_bt hs] at c
    have p : fr_P T 255 s j := by
      rcases b with b | b
      · rw [← b]; exact Relation.TransGen.single (fr_P_all a)
      · exact Relation.TransGen.trans (Relation.TransGen.single (fr_P_all a)) b
    refine ⟨p, ?_⟩
    rcases d with d | d
    · rw [d, c] at p ⊢; exact p
    · rw [c] at d; exact d
  · rintro ⟨p, q⟩
    refine ⟨?_, s, (fr_sh_bt hs s).mpr rfl, Or.inr q⟩
    obtain ⟨i, a, b⟩ := fr_P_head p
    exact ⟨i, (hb i).mpr a.1, b⟩
def fr_sn (w : Nat → Int32) : Nat → Int32
  | 0 => 0
  | s + 1 => fr_sn w s ||| fr_kn w s 8
theorem fr_sn_bt (w : Nat → Int32) (m i : Nat) : bt (fr_sn w m) i = true ↔ ∃ s, s < m ∧ bt (fr_kn w s 8) i = true := by
  induction m with
  | zero =>
    rw [show fr_sn w 0 = 0 from rfl, b_0]
    constructor
    · intro z; exact absurd z (by decide)
    · rintro ⟨s, a, _⟩; exact absurd a (by omega)
  | succ m ih =>
    rw [show fr_sn w (m + 1) = fr_sn w m ||| fr_kn w m 8 from rfl, b_or, Bool.or_eq_true, ih]
    constructor
    · rintro (⟨s, a, b⟩ | a)
      · exact ⟨s, by omega, b⟩
      · exact ⟨m, by omega, a⟩
    · rintro ⟨s, a, b⟩
      by_cases e : s = m
      · rw [e] at b; exact Or.inr b
      · exact Or.inl ⟨s, by omega, b⟩
theorem fr_low : ∀ s, s < 8 → ∀ i, i < 32 → bt (((1 : Int32) <<< (nI s &&& 31)) - 1) i = decide (i < s) := by decide +kernel
theorem fr_lowz {s : Nat} (hs : s < 8) (x : Int32) : (x &&& (((1 : Int32) <<< (nI s &&& 31)) - 1)) = 0 ↔ ∀ i, i < s → ¬ bt x i = true := by
  constructor
  · intro h i hi hb
    have := (fr_anz x (((1 : Int32) <<< (nI s &&& 31)) - 1)).mpr ⟨i, hb, by rw [fr_low s hs i (by omega)]; exact decide_eq_true hi⟩
    exact this h
  · intro h
    apply Classical.byContradiction
    intro hn
    obtain ⟨i, a, b⟩ := (fr_anz _ _).mp hn
    rcases Nat.lt_or_ge i 32 with c | c
    · rw [fr_low s hs i c, decide_eq_true_eq] at b
      exact h i b a
    · rw [b_big c] at a; exact absurd a (by decide)
def fr_kc (w : Nat → Int32) (s : Nat) : Prop := ¬ fr_kn w s 8 = 0 ∧ bt (fr_sn w s) s = false
theorem fr_kc_iff {T : Nat → Int32} {x : Int32} {w : Nat → Int32} (hw : fr_WP T x w) {s : Nat} (hs : s < 8) : fr_kc w s ↔ bt (fr_kn w s 8) s = true ∧ (fr_kn w s 8 &&& (((1 : Int32) <<< (nI s &&& 31)) - 1)) = 0 := by
  rw [fr_lowz hs]
  constructor
  · rintro ⟨a, b⟩
    obtain ⟨i, c⟩ := (fr_nz _).mp a
    rw [fr_kn_P hw hs] at c
    refine ⟨(fr_kn_P hw hs s).mpr ⟨c.1.trans c.2, c.1.trans c.2⟩, fun i hi hb => ?_⟩
    rw [fr_kn_P hw hs] at hb
    have := (fr_sn_bt w s s).mpr ⟨i, hi, (fr_kn_P hw (by omega) s).mpr ⟨hb.2, hb.1⟩⟩
    rw [b] at this; exact absurd this (by decide)
  · rintro ⟨a, b⟩
    refine ⟨(fr_nz _).mpr ⟨s, a⟩, ?_⟩
    cases h : bt (fr_sn w s) s
    · rfl
    · obtain ⟨i, c, d⟩ := (fr_sn_bt w s s).mp h
      rw [fr_kn_P hw (by omega)] at d
      exact absurd ((fr_kn_P hw hs i).mpr ⟨d.2, d.1⟩) (b i c)
noncomputable def fr_ct (w : Nat → Int32) : Nat → Nat
  | 0 => 0
  | s + 1 => @ite _ (fr_kc w s) (Classical.propDecidable _) (fr_ct w s + 1) (fr_ct w s)
end
section
/-! ===== the values of formulas ===== -/
def fr_not (x : Int32) : Int32 := 255 &&& (x ^^^ (-1))
theorem fr_not_S (x : Int32) : fr_S (fr_not x) := fr_S_andl _ fr_S_255
noncomputable def fr_ov (T D : Nat → Int32) (n : Nat) : Nat → Int32 → Int32
  | 0 => fun x => fr_not x
  | 1 => fun x => fr_bef T (x &&& fr_FS T D n 255)
  | 2 => fun x => fr_com T 255 (x &&& fr_FS T D n 255) 8
  | 3 => fun x => fr_FS T D n x
  | 4 => fun x => fr_not (fr_bef T (fr_not x &&& fr_FS T D n 255))
  | 5 => fun x => fr_not (fr_FS T D n (fr_not x))
  | _ => fun x => fr_not (fr_com T 255 (fr_not x &&& fr_FS T D n 255) 8)
noncomputable def fr_tv (T D : Nat → Int32) (n : Nat) : Nat → Int32 → Int32 → Int32
  | 0 => fun x y => x &&& y
  | 1 => fun x y => x ||| y
  | 2 => fun x y => fr_com T x (y &&& fr_FS T D n 255) 8
  | _ => fun x y => fr_not (fr_FS T D n (fr_not y) ||| fr_com T (fr_not y) ((fr_not y &&& (x ^^^ (-1))) &&& fr_FS T D n 255) 8)
theorem fr_op7 {P : Nat → Prop} (h0 : P 0) (h1 : P 1) (h2 : P 2) (h3 : P 3) (h4 : P 4) (h5 : P 5) (h6 : P 6) {i : Nat} (hi : i < 7) : P i := by
  have : i = 0 ∨ i = 1 ∨ i = 2 ∨ i = 3 ∨ i = 4 ∨ i = 5 ∨ i = 6 := by omega
  rcases this with e | e | e | e | e | e | e <;> rw [e] <;> assumption
theorem fr_op4 {P : Nat → Prop} (h0 : P 0) (h1 : P 1) (h2 : P 2) (h3 : P 3) {i : Nat} (hi : i < 4) : P i := by
  have : i = 0 ∨ i = 1 ∨ i = 2 ∨ i = 3 := by omega
  rcases this with e | e | e | e <;> rw [e] <;> assumption
theorem fr_ov_S (T D : Nat → Int32) (n : Nat) {op : Nat} (ho : op < 7) (x : Int32) : fr_S (fr_ov T D n op x) :=
  fr_op7 (P := fun op => fr_S (fr_ov T D n op x)) (fr_not_S _) (fr_bef_S _ _) (fr_com_S (fr_S_andr _ (fr_FS_S _ _ _ _)) 8) (fr_FS_S _ _ _ _) (fr_not_S _) (fr_not_S _) (fr_not_S _) ho
theorem fr_tv_S (T D : Nat → Int32) (n : Nat) {op : Nat} (ho : op < 4) {x y : Int32} (hx : fr_S x) (hy : fr_S y) : fr_S (fr_tv T D n op x y) :=
  fr_op4 (P := fun op => fr_S (fr_tv T D n op x y)) (fr_S_andl _ hx) (fr_S_or hx hy) (fr_com_S (fr_S_andr _ (fr_FS_S _ _ _ _)) 8) (fr_not_S _) ho
/-! ===== the component's walks ===== -/
theorem fr_8 : (8 : Int32) ≤ nI 8 := nI_le (a := 8) (b := 8) (by omega) (by omega)
theorem fr_n8 {i : Nat} (h : i < 8) : ¬ (8 : Int32) ≤ nI i := nI_ge (b := 8) h (by omega)
def fr_fl (b : Bool) : Int32 := if b = true then 1 else 0
section
variable {fd fm fh : Int32} {T mk dm ki le ri va st wa : Nat → Int32}
theorem fr_xbef4 {post : Int32 → Prop} {x : Int32} (hp : post (fr_bef T x)) : ∀ d i, i + d = 8 → wX_before_4 post x fd fm fh T mk dm ki le ri va st wa (d + 1) (fr_befN T x i) (nI i) := by
  intro d
  induction d with
  | zero =>
    intro i hi
    obtain rfl : i = 8 := by omega
    exact br_t fr_8 hp
  | succ d ih =>
    intro i hi
    have i0 := ih (i + 1) (by omega)
    refine br_f (fr_n8 (by omega)) ⟨vp_in_nI (by omega) (by omega), ?_⟩
    rw [nI_clamp (show i < 2 ^ 31 by omega)]
    by_cases z : T i &&& x = 0
    · rw [show fr_befN T x (i + 1) = fr_befN T x i from if_pos z] at i0
      exact br_t z (nm_r (nI_1 i) i0)
    · rw [show fr_befN T x (i + 1) = fr_befN T x i ||| ((1 : Int32) <<< (nI i &&& 31)) from if_neg z] at i0
      exact br_f z (nm_e (nm_r (nI_1 i) i0))
theorem fr_xbef {post : Int32 → Prop} {x : Int32} (hp : post (fr_bef T x)) : wpX_before post (fd, fm, fh, T, mk, dm, ki, le, ri, va, st, wa) x := Exists.intro (8 + 1) (fr_xbef4 hp 8 0 rfl)
theorem fr_xcom5 {post : Int32 → Prop} {o g : Int32} (hp : post (fr_com T o g 8)) : ∀ d i, i + d = 8 → wX_backFrom_5 post o fd fm fh T mk dm ki le ri va st wa (d + 1) (fr_com T o g i) (nI i) := by
  intro d
  induction d with
  | zero =>
    intro i hi
    obtain rfl : i = 8 := by omega
    exact br_t fr_8 hp
  | succ d ih =>
    intro i hi
    exact br_f (fr_n8 (by omega)) (fr_xbef (nm_e (nm_r (nI_1 i) (ih (i + 1) (by omega)))))
theorem fr_xcom {post : Int32 → Prop} {o g : Int32} (hp : post (fr_com T o g 8)) : wpX_backFrom post (fd, fm, fh, T, mk, dm, ki, le, ri, va, st, wa) g o := Exists.intro (8 + 1) (fr_xcom5 hp 8 0 rfl)
theorem fr_xw51 {post : SX → Prop} {J : Int32 → (Nat → Int32) → (Nat → Int32) → (Nat → Int32) → (Nat → Int32) → (Nat → Int32) → (Nat → Int32) → (Nat → Int32) → (Nat → Int32) → (Nat → Int32) → Prop} {w : Nat → Int32} {k : Nat} (hk : k < 8) (hJ : J (nI (k + 1)) T mk dm ki le ri va st (fr_wp w k 8)) : ∀ d s, s + d = 8 → wX_findWays_51 post J (nI k) fd fm fh (d + 1) (nI s) T mk dm ki le ri va st (fr_wp w k s) := by
  intro d
  induction d with
  | zero =>
    intro s hs
    obtain rfl : s = 8 := by omega
    exact br_t fr_8 (nm_r (nI_1 k) hJ)
  | succ d ih =>
    intro s hs
    have i0 := ih (s + 1) (by omega)
    refine br_f (fr_n8 (by omega)) ⟨vp_in_nI (by omega) (by omega), ?_⟩
    rw [nI_clamp (show s < 2 ^ 31 by omega), nI_clamp (show k < 2 ^ 31 by omega)]
    by_cases z : bt (fr_wp w k s s) k = true
    · rw [show fr_wp w k (s + 1) = upd (fr_wp w k s) s (fr_wp w k s s ||| fr_wp w k s k) from if_pos z] at i0
      exact br_t ((fr_bit (by omega) _).mpr z) ⟨vp_in_nI (by omega) (by omega), vp_in_nI (by omega) (by omega), vp_in_nI (by omega) (by omega), nm_e (nm_r (nI_1 s) i0)⟩
    · rw [show fr_wp w k (s + 1) = fr_wp w k s from if_neg z] at i0
      exact br_f (fun c => z ((fr_bit (by omega) _).mp c)) (nm_r (nI_1 s) i0)
theorem fr_xw43 {post : SX → Prop} {w : Nat → Int32} (hp : post (fd, fm, fh, T, mk, dm, ki, le, ri, va, st, fr_wq w 8)) : ∀ d k, k + d = 8 → wX_findWays_43 post fd fm fh (d + 1) (nI k) T mk dm ki le ri va st (fr_wq w k) := by
  intro d
  induction d with
  | zero =>
    intro k hk
    obtain rfl : k = 8 := by omega
    exact br_t fr_8 hp
  | succ d ih =>
    intro k hk
    exact br_f (fr_n8 (by omega)) ⟨8 + 1, fr_xw51 (w := fr_wq w k) (by omega) (ih (k + 1) (by omega)) 8 0 rfl⟩
theorem fr_xw2 {post : SX → Prop} {x : Int32} {w0 : Nat → Int32} (hp : post (fd, fm, fh, T, mk, dm, ki, le, ri, va, st, fr_ways T x w0)) : ∀ d s, s + d = 8 → wX_findWays_2 post x fd fm fh (d + 1) (nI s) T mk dm ki le ri va st (fr_wi T x w0 s) := by
  intro d
  induction d with
  | zero =>
    intro s hs
    obtain rfl : s = 8 := by omega
    exact br_t fr_8 ⟨8 + 1, fr_xw43 hp 8 0 rfl⟩
  | succ d ih =>
    intro s hs
    have i0 := ih (s + 1) (by omega)
    refine br_f (fr_n8 (by omega)) ?_
    rw [nI_clamp (show s < 2 ^ 31 by omega)]
    by_cases z : bt x s = true
    · rw [show fr_wi T x w0 (s + 1) = upd (fr_wi T x w0 s) s (T s &&& x) from congrArg (upd (fr_wi T x w0 s) s) (if_pos z)] at i0
      exact br_t ((fr_bit (by omega) _).mpr z) ⟨vp_in_nI (by omega) (by omega), vp_in_nI (by omega) (by omega), nm_e (nm_r (nI_1 s) i0)⟩
    · rw [show fr_wi T x w0 (s + 1) = upd (fr_wi T x w0 s) s 0 from congrArg (upd (fr_wi T x w0 s) s) (if_neg z)] at i0
      exact br_f (fun c => z ((fr_bit (by omega) _).mp c)) ⟨vp_in_nI (by omega) (by omega), nm_e (nm_r (nI_1 s) i0)⟩
theorem fr_xways {post : SX → Prop} {x : Int32} (hp : post (fd, fm, fh, T, mk, dm, ki, le, ri, va, st, fr_ways T x wa)) : wpX_findWays post (fd, fm, fh, T, mk, dm, ki, le, ri, va, st, wa) x := Exists.intro (8 + 1) (fr_xw2 hp 8 0 rfl)
theorem fr_xkn4 {post : Int32 → Prop} {s : Nat} (hs : s < 8) (hp : post (fr_kn wa s 8)) : ∀ d t, t + d = 8 → wX_knotOf_4 post (nI s) fd fm fh T mk dm ki le ri va st wa (d + 1) (fr_kn wa s t) (nI t) := by
  intro d
  induction d with
  | zero =>
    intro t ht
    obtain rfl : t = 8 := by omega
    exact br_t fr_8 hp
  | succ d ih =>
    intro t ht
    have i0 := ih (t + 1) (by omega)
    refine br_f (fr_n8 (by omega)) ⟨vp_in_nI (by omega) (by omega), ?_⟩
    rw [nI_clamp (show s < 2 ^ 31 by omega), nI_clamp (show t < 2 ^ 31 by omega)]
    by_cases z : bt (wa s) t = true
    · refine br_t ((fr_bit (by omega) _).mpr z) ⟨vp_in_nI (by omega) (by omega), ?_⟩
      by_cases y : bt (wa t) s = true
      · rw [show fr_kn wa s (t + 1) = fr_kn wa s t ||| ((1 : Int32) <<< (nI t &&& 31)) from if_pos ⟨z, y⟩] at i0
        exact br_t ((fr_bit (by omega) _).mpr y) (nm_e (nm_r (nI_1 t) i0))
      · rw [show fr_kn wa s (t + 1) = fr_kn wa s t from if_neg (fun c => y c.2)] at i0
        exact br_f (fun c => y ((fr_bit (by omega) _).mp c)) (nm_r (nI_1 t) i0)
    · rw [show fr_kn wa s (t + 1) = fr_kn wa s t from if_neg (fun c => z c.1)] at i0
      exact br_f (fun c => z ((fr_bit (by omega) _).mp c)) (nm_r (nI_1 t) i0)
theorem fr_xkn {post : Int32 → Prop} {s : Nat} (hs : s < 8) (hp : post (fr_kn wa s 8)) : wpX_knotOf post (fd, fm, fh, T, mk, dm, ki, le, ri, va, st, wa) (nI s) := Exists.intro (8 + 1) (fr_xkn4 hs hp 8 0 rfl)
theorem fr_xmd12 {post : Int32 → Prop} {x : Int32} {n : Nat} (hn : n ≤ 3) (hp : post (fr_fl (fr_md dm x n))) : ∀ d i, i + d = n → wX_meetsDemands_12 post x (nI n) fm fh T mk dm ki le ri va st wa (d + 1) (fr_fl (fr_md dm x i)) (nI i) := by
  intro d
  induction d with
  | zero =>
    intro i hi
    obtain rfl : i = n := by omega
    exact br_t (nI_le (Nat.le_refl _) (by omega)) ⟨by cases fr_md dm x i <;> rfl, hp⟩
  | succ d ih =>
    intro i hi
    have i0 := ih (i + 1) (by omega)
    refine br_f (nI_ge (b := n) (by omega) (by omega)) ?_
    cases hb : fr_md dm x i
    · rw [show fr_md dm x (i + 1) = false from by show (fr_md dm x i && _) = false; rw [hb]; rfl] at i0
      exact br_t rfl (nm_r (nI_1 i) i0)
    · refine br_f (by decide) ⟨vp_in_nI (by omega) (by omega), ?_⟩
      rw [nI_clamp (show i < 2 ^ 31 by omega)]
      by_cases z : x &&& dm i = 0
      · rw [show fr_md dm x (i + 1) = false from by show (fr_md dm x i && decide (¬ x &&& dm i = 0)) = false; rw [decide_eq_false (fun c => c z), Bool.and_false]] at i0
        exact br_t z (nm_r (nI_1 i) i0)
      · rw [show fr_md dm x (i + 1) = true from by show (fr_md dm x i && decide (¬ x &&& dm i = 0)) = true; rw [hb, decide_eq_true z]; rfl] at i0
        exact br_f z (nm_r (nI_1 i) i0)
theorem fr_xmd {post : Int32 → Prop} {x : Int32} {n : Nat} (hn : n ≤ 3) (hp : post (fr_fl (fr_md dm x n))) : wpX_meetsDemands post (nI n, fm, fh, T, mk, dm, ki, le, ri, va, st, wa) x := by
  have h := fr_xmd12 (fm := fm) (fh := fh) (T := T) (mk := mk) (ki := ki) (le := le) (ri := ri) (va := va) (st := st) (wa := wa) hn hp n 0 (by omega)
  by_cases z : x = 0
  · rw [show fr_md dm x 0 = false from decide_eq_false (fun c => c z)] at h
    exact br_t z (Exists.intro _ h)
  · rw [show fr_md dm x 0 = true from decide_eq_true z] at h
    exact br_f z (Exists.intro _ h)
theorem fr_xst9 {post : Int32 → SX → Prop} {x : Int32} {n : Nat} (hn : n ≤ 3) (hp : post (fr_com T x (fr_gd wa dm n 8) 8) (nI n, fm, fh, T, mk, dm, ki, le, ri, va, st, wa)) : ∀ d s, s + d = 8 → wX_staying_9 post x (nI n) fm fh T mk dm ki le ri va st wa (d + 1) (fr_gd wa dm n s) (nI s) := by
  intro d
  induction d with
  | zero =>
    intro s hs
    obtain rfl : s = 8 := by omega
    exact br_t fr_8 (fr_xcom hp)
  | succ d ih =>
    intro s hs
    have i0 := ih (s + 1) (by omega)
    refine br_f (fr_n8 (by omega)) (fr_xkn (by omega) (fr_xmd hn ?_))
    by_cases z : fr_md dm (fr_kn wa s 8) n = true
    · rw [show fr_gd wa dm n (s + 1) = fr_gd wa dm n s ||| fr_kn wa s 8 from if_pos z] at i0
      rw [z]
      exact br_f (by decide) (nm_e (nm_r (nI_1 s) i0))
    · rw [show fr_gd wa dm n (s + 1) = fr_gd wa dm n s from if_neg z] at i0
      rw [show fr_md dm (fr_kn wa s 8) n = false from Bool.eq_false_iff.mpr z]
      exact br_t rfl (nm_r (nI_1 s) i0)
theorem fr_xst {post : Int32 → SX → Prop} {x : Int32} {n : Nat} (hT : ∀ i, fr_S (T i)) (hn : n ≤ 3) (hp : ∀ wa', post (fr_FS T dm n x) (nI n, fm, fh, T, mk, dm, ki, le, ri, va, st, wa')) : wpX_staying post (nI n, fm, fh, T, mk, dm, ki, le, ri, va, st, wa) x := by
  unfold wpX_staying
  refine fr_xways ?_
  refine Exists.intro (8 + 1) (fr_xst9 hn ?_ 8 0 rfl)
  rw [fr_X_stay hT (fr_ways_P hT x wa)]
  exact hp _
theorem fr_xun {post : Int32 → SX → Prop} {o g : Int32} {n : Nat} (hT : ∀ i, fr_S (T i)) (hn : n ≤ 3) (hp : ∀ wa', post (fr_com T o (g &&& fr_FS T dm n 255) 8) (nI n, fm, fh, T, mk, dm, ki, le, ri, va, st, wa')) : wpX_until post (nI n, fm, fh, T, mk, dm, ki, le, ri, va, st, wa) o g := by
  unfold wpX_until
  refine fr_xst hT hn (fun wa' => ?_)
  exact fr_xcom (hp wa')
theorem fr_xnx {post : Int32 → SX → Prop} {x : Int32} {n : Nat} (hT : ∀ i, fr_S (T i)) (hn : n ≤ 3) (hp : ∀ wa', post (fr_bef T (x &&& fr_FS T dm n 255)) (nI n, fm, fh, T, mk, dm, ki, le, ri, va, st, wa')) : wpX_someNext post (nI n, fm, fh, T, mk, dm, ki, le, ri, va, st, wa) x := by
  unfold wpX_someNext
  refine fr_xst hT hn (fun wa' => ?_)
  exact fr_xbef (hp wa')
theorem fr_xau {post : Int32 → SX → Prop} {x y : Int32} {n : Nat} (hT : ∀ i, fr_S (T i)) (hn : n ≤ 3) (hp : ∀ wa', post (fr_not (fr_FS T dm n (fr_not y) ||| fr_com T (fr_not y) ((fr_not y &&& (x ^^^ (-1))) &&& fr_FS T dm n 255) 8)) (nI n, fm, fh, T, mk, dm, ki, le, ri, va, st, wa')) : wpX_allUntil post (nI n, fm, fh, T, mk, dm, ki, le, ri, va, st, wa) x y := by
  unfold wpX_allUntil
  refine nm_r (e' := fr_not y) rfl (nm_e ?_)
  refine fr_xst hT hn (fun wa' => ?_)
  exact fr_xun hT hn (fun wa'' => hp wa'')
theorem fr_xov {post : Int32 → SX → Prop} {x : Int32} {n op : Nat} (hT : ∀ i, fr_S (T i)) (hn : n ≤ 3) (ho : op < 7) (hp : ∀ wa', post (fr_ov T dm n op x) (nI n, fm, fh, T, mk, dm, ki, le, ri, va, st, wa')) : wpX_oneValue post (nI n, fm, fh, T, mk, dm, ki, le, ri, va, st, wa) (nI (1 + op)) x := by
  revert hp
  refine fr_op7 (P := fun op => (∀ wa', post (fr_ov T dm n op x) (nI n, fm, fh, T, mk, dm, ki, le, ri, va, st, wa')) → wpX_oneValue post (nI n, fm, fh, T, mk, dm, ki, le, ri, va, st, wa) (nI (1 + op)) x) ?_ ?_ ?_ ?_ ?_ ?_ ?_ ho
  · intro hp
    exact nm_r (e' := fr_not x) rfl (br_t (by decide) (hp wa))
  · intro hp
    exact nm_r (e' := fr_not x) rfl (br_f (by decide) (br_t (by decide) (fr_xnx hT hn hp)))
  · intro hp
    exact nm_r (e' := fr_not x) rfl (br_f (by decide) (br_f (by decide) (br_t (by decide) (fr_xun hT hn hp))))
  · intro hp
    exact nm_r (e' := fr_not x) rfl (br_f (by decide) (br_f (by decide) (br_f (by decide) (br_t (by decide) (fr_xst hT hn hp)))))
  · intro hp
    exact nm_r (e' := fr_not x) rfl (br_f (by decide) (br_f (by decide) (br_f (by decide) (br_f (by decide) (br_t (by decide) (fr_xnx hT hn hp))))))
  · intro hp
    exact nm_r (e' := fr_not x) rfl (br_f (by decide) (br_f (by decide) (br_f (by decide) (br_f (by decide) (br_f (by decide) (br_t (by decide) (fr_xst hT hn hp)))))))
  · intro hp
    exact nm_r (e' := fr_not x) rfl (br_f (by decide) (br_f (by decide) (br_f (by decide) (br_f (by decide) (br_f (by decide) (br_f (by decide) (fr_xun hT hn hp)))))))
theorem fr_xtv {post : Int32 → SX → Prop} {x y : Int32} {n op : Nat} (hT : ∀ i, fr_S (T i)) (hn : n ≤ 3) (ho : op < 4) (hp : ∀ wa', post (fr_tv T dm n op x y) (nI n, fm, fh, T, mk, dm, ki, le, ri, va, st, wa')) : wpX_twoValue post (nI n, fm, fh, T, mk, dm, ki, le, ri, va, st, wa) (nI (8 + op)) x y := by
  revert hp
  refine fr_op4 (P := fun op => (∀ wa', post (fr_tv T dm n op x y) (nI n, fm, fh, T, mk, dm, ki, le, ri, va, st, wa')) → wpX_twoValue post (nI n, fm, fh, T, mk, dm, ki, le, ri, va, st, wa) (nI (8 + op)) x y) ?_ ?_ ?_ ?_ ho
  · intro hp
    exact br_t (by decide) (hp wa)
  · intro hp
    exact br_f (by decide) (br_t (by decide) (hp wa))
  · intro hp
    exact br_f (by decide) (br_f (by decide) (br_t (by decide) (fr_xun hT hn hp)))
  · intro hp
    exact br_f (by decide) (br_f (by decide) (br_f (by decide) (fr_xau hT hn hp)))
end
end
section
/-! ===== formulas: both tables, and the values in the order in which they were made ===== -/
def fr_FK (ki le ri kk ff ss : Nat → Int32) (i : Nat) : Prop :=
  (ki i = nI 0 ∧ ∃ k, k < 4 ∧ le i = nI k ∧ kk i = nI (20 + k)) ∨ (∃ op a, op < 7 ∧ a < i ∧ ki i = nI (1 + op) ∧ le i = nI a ∧ kk i = nI op ∧ ff i = nI a) ∨ (∃ op a b, op < 4 ∧ a < i ∧ b < i ∧ ki i = nI (8 + op) ∧ le i = nI a ∧ ri i = nI b ∧ kk i = nI (10 + op) ∧ ff i = nI a ∧ ss i = nI b)
noncomputable def fr_vs (T D : Nat → Int32) (n : Nat) (mk ki le ri f : Nat → Int32) (i : Nat) : Int32 :=
  if (ki i).toNatClampNeg = 0 then mk (le i).toNatClampNeg else if (ki i).toNatClampNeg < 8 then fr_ov T D n ((ki i).toNatClampNeg - 1) (f (le i).toNatClampNeg) else fr_tv T D n ((ki i).toNatClampNeg - 8) (f (le i).toNatClampNeg) (f (ri i).toNatClampNeg)
noncomputable def fr_vv (T D : Nat → Int32) (n : Nat) (mk ki le ri : Nat → Int32) : Nat → (Nat → Int32)
  | 0 => fun _ => 0
  | i + 1 => upd (fr_vv T D n mk ki le ri i) i (fr_vs T D n mk ki le ri (fr_vv T D n mk ki le ri i) i)
section
variable {T dm mk ki le ri kk ff ss : Nat → Int32} {n : Nat}
theorem fr_vs_0 {f : Nat → Int32} {i k : Nat} (h : ki i = nI 0) (hk : k < 4) (hl : le i = nI k) : fr_vs T dm n mk ki le ri f i = mk k := by
  unfold fr_vs
  rw [h, hl, nI_clamp (show 0 < 2 ^ 31 by omega), nI_clamp (show k < 2 ^ 31 by omega), if_pos rfl]
theorem fr_vs_1 {f : Nat → Int32} {i op a : Nat} (ho : op < 7) (ha : a < 20) (h : ki i = nI (1 + op)) (hl : le i = nI a) : fr_vs T dm n mk ki le ri f i = fr_ov T dm n op (f a) := by
  unfold fr_vs
  rw [h, hl, nI_clamp (show 1 + op < 2 ^ 31 by omega), nI_clamp (show a < 2 ^ 31 by omega), if_neg (by omega), if_pos (by omega), Nat.add_sub_cancel_left]
theorem fr_vs_2 {f : Nat → Int32} {i op a b : Nat} (ho : op < 4) (ha : a < 20) (hb : b < 20) (h : ki i = nI (8 + op)) (hl : le i = nI a) (hr : ri i = nI b) : fr_vs T dm n mk ki le ri f i = fr_tv T dm n op (f a) (f b) := by
  unfold fr_vs
  rw [h, hl, hr, nI_clamp (show 8 + op < 2 ^ 31 by omega), nI_clamp (show a < 2 ^ 31 by omega), nI_clamp (show b < 2 ^ 31 by omega), if_neg (by omega), if_neg (by omega), Nat.add_sub_cancel_left]
theorem fr_vs_congr {f g : Nat → Int32} {i : Nat} (hi : i < 20) (hF : fr_FK ki le ri kk ff ss i) (h : ∀ j, j < i → f j = g j) : fr_vs T dm n mk ki le ri f i = fr_vs T dm n mk ki le ri g i := by
  rcases hF with ⟨h0, k, hk, hl, _⟩ | ⟨op, a, ho, ha, h1, hl, _⟩ | ⟨op, a, b, ho, ha, hb, h1, hl, hr, _⟩
  · rw [fr_vs_0 h0 hk hl, fr_vs_0 h0 hk hl]
  · rw [fr_vs_1 ho (by omega) h1 hl, fr_vs_1 ho (by omega) h1 hl, h a ha]
  · rw [fr_vs_2 ho (by omega) (by omega) h1 hl hr, fr_vs_2 ho (by omega) (by omega) h1 hl hr, h a ha, h b hb]
theorem fr_vv_step {i : Nat} {va : Nat → Int32} (hi : i < 20) (hF : fr_FK ki le ri kk ff ss i) (h : ∀ j, j < i → va j = fr_vv T dm n mk ki le ri i j) : ∀ j, j < i + 1 → upd va i (fr_vs T dm n mk ki le ri va i) j = fr_vv T dm n mk ki le ri (i + 1) j := by
  intro j hj
  show _ = upd (fr_vv T dm n mk ki le ri i) i (fr_vs T dm n mk ki le ri (fr_vv T dm n mk ki le ri i) i) j
  by_cases e : j = i
  · subst e
    rw [pk_us, pk_us]
    exact fr_vs_congr hi hF h
  · rw [pk_un e, pk_un e]
    exact h j (by omega)
theorem fr_vv_st {i i' j : Nat} (hj : j < i) (h : i ≤ i') : fr_vv T dm n mk ki le ri i' j = fr_vv T dm n mk ki le ri i j := by
  induction i' with
  | zero => exact absurd hj (by omega)
  | succ i' ih =>
    by_cases e : i = i' + 1
    · rw [e]
    · show upd (fr_vv T dm n mk ki le ri i') i' _ j = _
      rw [pk_un (by omega), ih (by omega)]
theorem fr_vv_S (hM : ∀ j, fr_S (mk j)) {i : Nat} (hi : i ≤ 20) (hF : ∀ j, j < i → fr_FK ki le ri kk ff ss j) : ∀ j, j < i → fr_S (fr_vv T dm n mk ki le ri i j) := by
  induction i with
  | zero => intro j hj; exact absurd hj (by omega)
  | succ i ih =>
    have i0 := ih (by omega) (fun j hj => hF j (by omega))
    intro j hj
    show fr_S (upd (fr_vv T dm n mk ki le ri i) i _ j)
    by_cases e : j = i
    · subst e
      rw [pk_us]
      rcases hF j (by omega) with ⟨h0, k, hk, hl, _⟩ | ⟨op, a, ho, ha, h1, hl, _⟩ | ⟨op, a, b, ho, ha, hb, h1, hl, hr, _⟩
      · rw [fr_vs_0 h0 hk hl]; exact hM k
      · rw [fr_vs_1 ho (by omega) h1 hl]; exact fr_ov_S _ _ _ ho _
      · rw [fr_vs_2 ho (by omega) (by omega) h1 hl hr]; exact fr_tv_S _ _ _ ho (i0 a ha) (i0 b hb)
    · rw [pk_un e]; exact i0 j (by omega)
end
/-! ===== the component's walks: values, steps, knots ===== -/
section
variable {fd fm fh : Int32} {T mk dm ki le ri va st wa kk ff ss : Nat → Int32}
theorem fr_xvo2 {post : Int32 → SX → Prop} {n N : Nat} (hT : ∀ i, fr_S (T i)) (hn : n ≤ 3) (hN : N < 20) (hF : ∀ i, i ≤ N → fr_FK ki le ri kk ff ss i) (hp : ∀ va' wa', (∀ j, j ≤ N → va' j = fr_vv T dm n mk ki le ri (N + 1) j) → post (fr_vv T dm n mk ki le ri (N + 1) N) (nI n, fm, fh, T, mk, dm, ki, le, ri, va', st, wa')) : ∀ d i va wa, i + d = N + 1 → (∀ j, j < i → va j = fr_vv T dm n mk ki le ri i j) → wX_valueOf_2 post (nI N) (d + 1) (nI i) (nI n) fm fh T mk dm ki le ri va st wa := by
  intro d
  induction d with
  | zero =>
    intro i va wa hi h
    obtain rfl : i = N + 1 := by omega
    refine br_t (nI_lt (by omega) (by omega)) ⟨vp_in_nI hN (by omega), ?_⟩
    rw [nI_clamp (show N < 2 ^ 31 by omega), h N (by omega)]
    exact hp va wa (fun j hj => h j (by omega))
  | succ d ih =>
    intro i va wa hi h
    have hi20 : i < 20 := by omega
    have hs := fr_vv_step hi20 (hF i (by omega)) h
    refine br_f (nI_nlt (by omega) (by omega)) ⟨vp_in_nI hi20 (by omega), nm_e ?_⟩
    rw [nI_clamp (show i < 2 ^ 31 by omega)]
    rcases hF i (by omega) with ⟨h0, k, hk, hl, _⟩ | ⟨op, a, ho, ha, h1, hl, _⟩ | ⟨op, a, b, ho, ha, hb, h1, hl, hr, _⟩
    · rw [fr_vs_0 h0 hk hl] at hs
      rw [h0, hl, nI_clamp (show k < 2 ^ 31 by omega)]
      exact br_t rfl ⟨vp_in_nI hi20 (by omega), vp_in_nI hk (by omega), vp_in_nI hi20 (by omega), nm_e (nm_r (nI_1 i) (ih (i + 1) _ wa (by omega) hs))⟩
    · rw [fr_vs_1 ho (by omega) h1 hl] at hs
      rw [h1, hl, nI_clamp (show a < 2 ^ 31 by omega)]
      refine br_f (nI_ne0 (by omega) (by omega)) (br_f (nI_ge (b := 8) (by omega) (by omega)) ⟨vp_in_nI hi20 (by omega), vp_in_nI (by omega) (by omega), fr_xov hT hn ho (fun wa' => ?_)⟩)
      exact ⟨vp_in_nI hi20 (by omega), nm_e (nm_r (nI_1 i) (ih (i + 1) _ wa' (by omega) hs))⟩
    · rw [fr_vs_2 ho (by omega) (by omega) h1 hl hr] at hs
      rw [h1, hl, hr, nI_clamp (show a < 2 ^ 31 by omega), nI_clamp (show b < 2 ^ 31 by omega)]
      refine br_f (nI_ne0 (by omega) (by omega)) (br_t (nI_le (a := 8) (by omega) (by omega)) ⟨vp_in_nI hi20 (by omega), vp_in_nI (by omega) (by omega), vp_in_nI hi20 (by omega), vp_in_nI (by omega) (by omega), fr_xtv hT hn ho (fun wa' => ?_)⟩)
      exact ⟨vp_in_nI hi20 (by omega), nm_e (nm_r (nI_1 i) (ih (i + 1) _ wa' (by omega) hs))⟩
theorem fr_xvo {post : Int32 → SX → Prop} {n N : Nat} (hT : ∀ i, fr_S (T i)) (hn : n ≤ 3) (hN : N < 20) (hF : ∀ i, i ≤ N → fr_FK ki le ri kk ff ss i) (hp : ∀ va' wa', (∀ j, j ≤ N → va' j = fr_vv T dm n mk ki le ri (N + 1) j) → post (fr_vv T dm n mk ki le ri (N + 1) N) (nI n, fm, fh, T, mk, dm, ki, le, ri, va', st, wa')) : wpX_valueOf post (nI n, fm, fh, T, mk, dm, ki, le, ri, va, st, wa) (nI N) :=
  Exists.intro (N + 1 + 1) (fr_xvo2 hT hn hN hF hp (N + 1) 0 va wa (by omega) (fun j hj => absurd hj (by omega)))
def fr_an (T : Nat → Int32) (g : Int32) (s : Nat) : Nat → Nat → Int32
  | 0 => fun _ => -4
  | d + 1 => fun i => if bt (fr_xs T g i) s = true then nI i else fr_an T g s d (i + 1)
theorem fr_xsp38 {post : Int32 → SX → Prop} {g : Int32} {s : Nat} (hT : ∀ i, fr_S (T i)) (hg : fr_S g) (hs : s < 8) : ∀ d i, i + d = 8 → (∀ j, j < i → ¬ bt (fr_xs T g j) s = true) → post (fr_an T g s d i) (fd, fm, fh, T, mk, dm, ki, le, ri, va, st, wa) → wX_steps_38 post (nI s) fd fm fh T mk dm ki le ri va st wa (d + 2) (fr_xs T g i) (nI i) := by
  intro d
  induction d with
  | zero =>
    intro i hi h hp
    obtain rfl : i = 8 := by omega
    have h8 := h 7 (by omega)
    rw [fr_xs_stab hT hg] at h8
    refine br_f (nI_nlt (a := 8) (b := 8) (by omega) (by omega)) (br_f (fun c => h8 ((fr_bit (by omega) _).mp c)) (fr_xbef (nm_e (nm_r (nI_1 8) ?_))))
    exact br_t (nI_lt (a := 8) (b := 9) (by omega) (by omega)) hp
  | succ d ih =>
    intro i hi h hp
    refine br_f (nI_nlt (b := i) (a := 8) (by omega) (by omega)) ?_
    by_cases z : bt (fr_xs T g i) s = true
    · rw [show fr_an T g s (d + 1) i = nI i from if_pos z] at hp
      exact br_t ((fr_bit (by omega) _).mpr z) hp
    · rw [show fr_an T g s (d + 1) i = fr_an T g s d (i + 1) from if_neg z] at hp
      refine br_f (fun c => z ((fr_bit (by omega) _).mp c)) (fr_xbef (nm_e (nm_r (nI_1 i) (ih (i + 1) (by omega) (fun j hj => ?_) hp))))
      by_cases e : j = i
      · rw [e]; exact z
      · exact h j (by omega)
theorem fr_xkt13 {post : Int32 → SX → Prop} (hp : post (nI (fr_ct wa 8)) (fd, fm, fh, T, mk, dm, ki, le, ri, va, st, wa)) : ∀ d s, s + d = 8 → wX_knots_13 post fd fm fh T mk dm ki le ri va st wa (d + 1) (nI (fr_ct wa s)) (fr_sn wa s) (nI s) := by
  intro d
  induction d with
  | zero =>
    intro s hs
    obtain rfl : s = 8 := by omega
    exact br_t fr_8 hp
  | succ d ih =>
    intro s hs
    have i0 := ih (s + 1) (by omega)
    refine br_f (fr_n8 (by omega)) (fr_xkn (by omega) ?_)
    by_cases z : fr_kn wa s 8 = 0
    · rw [show fr_ct wa (s + 1) = fr_ct wa s from if_neg (fun c => c.1 z)] at i0
      exact br_t z (nm_e (nm_r (nI_1 s) i0))
    · refine br_f z ?_
      by_cases y : bt (fr_sn wa s) s = false
      · rw [show fr_ct wa (s + 1) = fr_ct wa s + 1 from if_pos ⟨z, y⟩] at i0
        exact br_t ((fr_bit0 (by omega) _).mpr y) (nm_r (nI_1 _) (nm_e (nm_r (nI_1 s) i0)))
      · rw [show fr_ct wa (s + 1) = fr_ct wa s from if_neg (fun c => y c.2)] at i0
        exact br_f (fun c => y ((fr_bit0 (by omega) _).mp c)) (nm_e (nm_r (nI_1 s) i0))
theorem fr_xkt {post : Int32 → SX → Prop} (hT : ∀ i, fr_S (T i)) (hp : ∀ w, fr_WP T 255 w → post (nI (fr_ct w 8)) (fd, fm, fh, T, mk, dm, ki, le, ri, va, st, w)) : wpX_knots post (fd, fm, fh, T, mk, dm, ki, le, ri, va, st, wa) := by
  unfold wpX_knots
  refine fr_xways ?_
  exact Exists.intro (8 + 1) (fr_xkt13 (hp _ (fr_ways_P hT 255 wa)) 8 0 rfl)
end
end
section
/-! ===== the reference's walks ===== -/
theorem fr_e1 (x y : Int32) : fr_not y &&& fr_not x = fr_not y &&& (x ^^^ (-1)) := by
  apply b_ext
  intro i hi
  unfold fr_not
  simp only [b_and, b_xor]
  cases bt 255 i <;> cases (bt x i ^^ bt (-1) i) <;> cases (bt y i ^^ bt (-1) i) <;> rfl
theorem fr_e2 (a b : Int32) : fr_not a &&& (b ^^^ (-1)) = fr_not (b ||| a) := by
  apply b_ext
  intro i hi
  unfold fr_not
  rw [b_and, b_and, b_and, b_xor, b_xor, b_xor, b_or, b_m1 i hi]
  cases bt 255 i <;> cases bt a i <;> cases bt b i <;> rfl
section
variable {fd fm fh : Int32} {T mk dm kk ff ss se st : Nat → Int32}
theorem fr_ybef4 {post : Int32 → Prop} {x : Int32} (hp : post (fr_bef T x)) : ∀ d i, i + d = 8 → wY_before_4 post x fd fm fh T mk dm kk ff ss se st (d + 1) (fr_befN T x i) (nI i) := by
  intro d
  induction d with
  | zero =>
    intro i hi
    obtain rfl : i = 8 := by omega
    exact br_t fr_8 hp
  | succ d ih =>
    intro i hi
    have i0 := ih (i + 1) (by omega)
    refine br_f (fr_n8 (by omega)) ⟨vp_in_nI (by omega) (by omega), ?_⟩
    rw [nI_clamp (show i < 2 ^ 31 by omega)]
    by_cases z : T i &&& x = 0
    · rw [show fr_befN T x (i + 1) = fr_befN T x i from if_pos z] at i0
      exact br_t z (nm_r (nI_1 i) i0)
    · rw [show fr_befN T x (i + 1) = fr_befN T x i ||| ((1 : Int32) <<< (nI i &&& 31)) from if_neg z] at i0
      exact br_f z (nm_e (nm_r (nI_1 i) i0))
theorem fr_ybef {post : Int32 → Prop} {x : Int32} (hp : post (fr_bef T x)) : wpY_before post (fd, fm, fh, T, mk, dm, kk, ff, ss, se, st) x := Exists.intro (8 + 1) (fr_ybef4 hp 8 0 rfl)
theorem fr_ycom5 {post : Int32 → Prop} {o g : Int32} (hp : post (fr_com T o g 8)) : ∀ d i, i + d = 8 → wY_coming_5 post o fd fm fh T mk dm kk ff ss se st (d + 1) (fr_com T o g i) (nI i) := by
  intro d
  induction d with
  | zero =>
    intro i hi
    obtain rfl : i = 8 := by omega
    exact br_t fr_8 hp
  | succ d ih =>
    intro i hi
    exact br_f (fr_n8 (by omega)) (fr_ybef (nm_e (nm_r (nI_1 i) (ih (i + 1) (by omega)))))
theorem fr_ycom {post : Int32 → Prop} {o g : Int32} (hp : post (fr_com T o g 8)) : wpY_coming post (fd, fm, fh, T, mk, dm, kk, ff, ss, se, st) o g := Exists.intro (8 + 1) (fr_ycom5 hp 8 0 rfl)
theorem fr_yst22 {post : Int32 → Prop} {J : Int32 → Int32 → Prop} {L o : Int32} {n : Nat} (hn : n ≤ 3) (hJ : J (fr_rnd T dm L n) o) : ∀ d i, i + d = n → wY_staying_22 post J o (nI n) fm fh T mk dm kk ff ss se st (d + 1) (fr_rnd T dm L i) (nI i) := by
  intro d
  induction d with
  | zero =>
    intro i hi
    obtain rfl : i = n := by omega
    exact br_t (nI_le (Nat.le_refl _) (by omega)) hJ
  | succ d ih =>
    intro i hi
    refine br_f (nI_ge (b := n) (by omega) (by omega)) ⟨vp_in_nI (by omega) (by omega), ?_⟩
    rw [nI_clamp (show i < 2 ^ 31 by omega)]
    exact fr_ycom (fr_ybef (nm_e (nm_r (nI_1 i) (ih (i + 1) (by omega)))))
theorem fr_yst4 {post : Int32 → Prop} {w : Int32} {n : Nat} (hT : ∀ i, fr_S (T i)) (hn : n ≤ 3) (hp : post (fr_FS T dm n w)) : ∀ m L old, fr_cn L 8 < m → fr_S L → (∀ k, bt L k = true → bt w k = true) → (∀ k, fr_fair T dm n w k → bt L k = true) → (L = old → fr_rnd T dm L n = L) → wY_staying_4 post (nI n) fm fh T mk dm kk ff ss se st (m + 1) L old := by
  intro m
  induction m with
  | zero => intro L old hm; exact absurd hm (by omega)
  | succ m ih =>
    intro L old hm hS hw hf hx
    by_cases e : L = old
    · have h := fr_rnd_fix hT hS hw hf (hx e)
      rw [← h] at hp
      exact br_t e hp
    · refine br_f e (fr_ybef (nm_r (e' := fr_rnd T dm L 0) rfl ⟨n + 1, fr_yst22 hn ?_ n 0 (by omega)⟩))
      by_cases c : fr_rnd T dm L n = L
      · have h := fr_rnd_fix hT hS hw hf c
        rw [c]
        rw [← h] at hp
        exact br_t rfl hp
      · have hlt := fr_cn_ss (fr_rnd_S hS n) hS (fr_rnd_sub n) c
        exact ih _ _ (by omega) (fr_rnd_S hS n) (fun k h => hw k (fr_rnd_sub n k h)) (fr_rnd_fair hT hS hf n (Nat.le_refl n)) (fun z => absurd z c)
theorem fr_yst {post : Int32 → Prop} {w : Int32} {n : Nat} (hT : ∀ i, fr_S (T i)) (hn : n ≤ 3) (hw : fr_S w) (hp : post (fr_FS T dm n w)) : wpY_staying post (nI n, fm, fh, T, mk, dm, kk, ff, ss, se, st) w :=
  Exists.intro (fr_cn w 8 + 1 + 1) (fr_yst4 hT hn hp (fr_cn w 8 + 1) w (-1) (Nat.lt_succ_self _) hw (fun _ h => h) (fun k h => (fr_fair_w h).2) (fun z => absurd z (fr_S_nm1 hw)))
theorem fr_ynot {post : Int32 → Prop} {x : Int32} (hp : post (fr_not x)) : wpY_not post (fd, fm, fh, T, mk, dm, kk, ff, ss, se, st) x := hp
theorem fr_yov {post : Int32 → Prop} {x : Int32} {n op : Nat} (hT : ∀ i, fr_S (T i)) (hn : n ≤ 3) (hx : fr_S x) (ho : op < 7) (hp : post (fr_ov T dm n op x)) : wpY_ofOne post (nI n, fm, fh, T, mk, dm, kk, ff, ss, se, st) (nI op) x := by
  revert hp
  refine fr_op7 (P := fun op => post (fr_ov T dm n op x) → wpY_ofOne post (nI n, fm, fh, T, mk, dm, kk, ff, ss, se, st) (nI op) x) ?_ ?_ ?_ ?_ ?_ ?_ ?_ ho
  · intro hp
    unfold wpY_ofOne
    refine fr_yst hT hn fr_S_255 ?_
    exact br_t (by decide) (fr_ynot hp)
  · intro hp
    unfold wpY_ofOne
    refine fr_yst hT hn fr_S_255 ?_
    exact br_f (by decide) (br_t (by decide) (fr_ybef hp))
  · intro hp
    unfold wpY_ofOne
    refine fr_yst hT hn fr_S_255 ?_
    exact br_f (by decide) (br_f (by decide) (br_t (by decide) (fr_ycom hp)))
  · intro hp
    unfold wpY_ofOne
    refine fr_yst hT hn fr_S_255 ?_
    exact br_f (by decide) (br_f (by decide) (br_f (by decide) (br_t (by decide) (fr_yst hT hn hx hp))))
  · intro hp
    unfold wpY_ofOne
    refine fr_yst hT hn fr_S_255 ?_
    exact br_f (by decide) (br_f (by decide) (br_f (by decide) (br_f (by decide) (fr_ynot (br_t (by decide) (fr_ybef hp))))))
  · intro hp
    unfold wpY_ofOne
    refine fr_yst hT hn fr_S_255 ?_
    exact br_f (by decide) (br_f (by decide) (br_f (by decide) (br_f (by decide) (fr_ynot (br_f (by decide) (br_t (by decide) (fr_yst hT hn (fr_not_S _) hp)))))))
  · intro hp
    unfold wpY_ofOne
    refine fr_yst hT hn fr_S_255 ?_
    exact br_f (by decide) (br_f (by decide) (br_f (by decide) (br_f (by decide) (fr_ynot (br_f (by decide) (br_f (by decide) (fr_ycom hp)))))))
theorem fr_ytv {post : Int32 → Prop} {x y : Int32} {n op : Nat} (hT : ∀ i, fr_S (T i)) (hn : n ≤ 3) (ho : op < 4) (hp : post (fr_tv T dm n op x y)) : wpY_ofTwo post (nI n, fm, fh, T, mk, dm, kk, ff, ss, se, st) (nI op) x y := by
  revert hp
  refine fr_op4 (P := fun op => post (fr_tv T dm n op x y) → wpY_ofTwo post (nI n, fm, fh, T, mk, dm, kk, ff, ss, se, st) (nI op) x y) ?_ ?_ ?_ ?_ ho
  · intro hp
    exact br_f (by decide) (br_t (by decide) hp)
  · intro hp
    exact br_f (by decide) (br_f (by decide) hp)
  · intro hp
    refine br_t (by decide) (fr_yst hT hn fr_S_255 ?_)
    exact br_t (by decide) (fr_ycom hp)
  · intro hp
    refine br_t (by decide) (fr_yst hT hn fr_S_255 ?_)
    refine br_f (by decide) (fr_ynot (fr_ynot (fr_ycom (fr_yst hT hn (fr_not_S _) ?_))))
    rw [fr_e1]
    have e := fr_e2 (fr_com T (fr_not y) ((fr_not y &&& (x ^^^ (-1))) &&& fr_FS T dm n 255) 8) (fr_FS T dm n (fr_not y))
    have hp' : post (fr_not (fr_FS T dm n (fr_not y) ||| fr_com T (fr_not y) ((fr_not y &&& (x ^^^ (-1))) &&& fr_FS T dm n 255) 8)) := hp
    rw [← e] at hp'
    exact hp'
/-! the values of all formulas made -/
theorem fr_yfs2 {post : SY → Prop} {ki le ri : Nat → Int32} {n m : Nat} (hT : ∀ i, fr_S (T i)) (hM : ∀ j, fr_S (mk j)) (hn : n ≤ 3) (hm : m ≤ 20) (hF : ∀ i, i < m → fr_FK ki le ri kk ff ss i) (hp : ∀ se', (∀ j, j < m → se' j = fr_vv T dm n mk ki le ri m j) → post (nI n, nI m, fh, T, mk, dm, kk, ff, ss, se', st)) : ∀ d i se, i + d = m → (∀ j, j < i → se j = fr_vv T dm n mk ki le ri i j) → wY_findSets_2 post (nI n) (nI m) fh (d + 1) (nI i) T mk dm kk ff ss se st := by
  intro d
  induction d with
  | zero =>
    intro i se hi h
    obtain rfl : i = m := by omega
    exact br_t (nI_le (Nat.le_refl _) (by omega)) (hp se h)
  | succ d ih =>
    intro i se hi h
    have hi20 : i < 20 := by omega
    have hs := fr_vv_step hi20 (hF i (by omega)) h
    have hS : ∀ j, j < i → fr_S (se j) := fun j hj => by
      rw [h j hj]
      exact fr_vv_S hM (by omega) (fun j hj => hF j (by omega)) j hj
    refine br_f (nI_ge (b := m) (by omega) (by omega)) ⟨vp_in_nI hi20 (by omega), nm_e ?_⟩
    rw [nI_clamp (show i < 2 ^ 31 by omega)]
    rcases hF i (by omega) with ⟨h0, k, hk, hl, hq⟩ | ⟨op, a, ho, ha, h1, hl, hq, hf⟩ | ⟨op, a, b, ho, ha, hb, h1, hl, hr, hq, hf, hg⟩
    · rw [fr_vs_0 h0 hk hl] at hs
      have e : nI (20 + k) - 20 = nI k := by
        have z := pk_sub (a := 20 + k) (b := 20) (by omega)
        rw [Nat.add_sub_cancel_left] at z
        exact z
      rw [hq, e, nI_clamp (show k < 2 ^ 31 by omega)]
      exact br_f (nI_ge (a := 19) (by omega) (by omega)) ⟨vp_in_nI hk (by omega), vp_in_nI hi20 (by omega), nm_e (nm_r (nI_1 i) (ih (i + 1) _ (by omega) hs))⟩
    · rw [fr_vs_1 ho (by omega) h1 hl] at hs
      rw [hq, hf, nI_clamp (show a < 2 ^ 31 by omega)]
      refine br_t (nI_le (b := 19) (by omega) (by omega)) (br_t (nI_le (b := 9) (by omega) (by omega)) ⟨vp_in_nI hi20 (by omega), vp_in_nI (by omega) (by omega), fr_yov hT hn (hS a ha) ho ?_⟩)
      exact ⟨vp_in_nI hi20 (by omega), nm_e (nm_r (nI_1 i) (ih (i + 1) _ (by omega) hs))⟩
    · rw [fr_vs_2 ho (by omega) (by omega) h1 hl hr] at hs
      have e : nI (10 + op) - 10 = nI op := by
        have z := pk_sub (a := 10 + op) (b := 10) (by omega)
        rw [Nat.add_sub_cancel_left] at z
        exact z
      rw [hq, hf, hg, e, nI_clamp (show a < 2 ^ 31 by omega), nI_clamp (show b < 2 ^ 31 by omega)]
      refine br_t (nI_le (b := 19) (by omega) (by omega)) (br_f (nI_ge (a := 9) (by omega) (by omega)) ⟨vp_in_nI hi20 (by omega), vp_in_nI (by omega) (by omega), vp_in_nI hi20 (by omega), vp_in_nI (by omega) (by omega), fr_ytv hT hn ho ?_⟩)
      exact ⟨vp_in_nI hi20 (by omega), nm_e (nm_r (nI_1 i) (ih (i + 1) _ (by omega) hs))⟩
theorem fr_yfs {post : SY → Prop} {ki le ri : Nat → Int32} {n m : Nat} (hT : ∀ i, fr_S (T i)) (hM : ∀ j, fr_S (mk j)) (hn : n ≤ 3) (hm : m ≤ 20) (hF : ∀ i, i < m → fr_FK ki le ri kk ff ss i) (hp : ∀ se', (∀ j, j < m → se' j = fr_vv T dm n mk ki le ri m j) → post (nI n, nI m, fh, T, mk, dm, kk, ff, ss, se', st)) : wpY_findSets post (nI n, nI m, fh, T, mk, dm, kk, ff, ss, se, st) :=
  Exists.intro (m + 1) (fr_yfs2 hT hM hn hm hF hp m 0 se (by omega) (fun j hj => absurd hj (by omega)))
/-! behind, reach, steps, knots -/
theorem fr_ybeh4 {post : Int32 → Prop} {x : Int32} (hp : post (fr_beh T x)) : ∀ d i, i + d = 8 → wY_behind_4 post x fd fm fh T mk dm kk ff ss se st (d + 1) (fr_behN T x i) (nI i) := by
  intro d
  induction d with
  | zero =>
    intro i hi
    obtain rfl : i = 8 := by omega
    exact br_t fr_8 hp
  | succ d ih =>
    intro i hi
    have i0 := ih (i + 1) (by omega)
    refine br_f (fr_n8 (by omega)) ?_
    rw [nI_clamp (show i < 2 ^ 31 by omega)]
    by_cases z : bt x i = true
    · rw [show fr_behN T x (i + 1) = fr_behN T x i ||| T i from if_pos z] at i0
      exact br_t ((fr_bit (by omega) _).mpr z) ⟨vp_in_nI (by omega) (by omega), nm_e (nm_r (nI_1 i) i0)⟩
    · rw [show fr_behN T x (i + 1) = fr_behN T x i from if_neg z] at i0
      exact br_f (fun c => z ((fr_bit (by omega) _).mp c)) (nm_r (nI_1 i) i0)
theorem fr_ybeh {post : Int32 → Prop} {x : Int32} (hp : post (fr_beh T x)) : wpY_behind post (fd, fm, fh, T, mk, dm, kk, ff, ss, se, st) x := Exists.intro (8 + 1) (fr_ybeh4 hp 8 0 rfl)
theorem fr_yre16 {post : Int32 → Prop} {x : Int32} (hp : post (fr_rea T x 8)) : ∀ d i, i + d = 8 → wY_reach_16 post fd fm fh T mk dm kk ff ss se st (d + 1) (fr_rea T x i) (nI i) := by
  intro d
  induction d with
  | zero =>
    intro i hi
    obtain rfl : i = 8 := by omega
    exact br_t fr_8 hp
  | succ d ih =>
    intro i hi
    exact br_f (fr_n8 (by omega)) (fr_ybeh (nm_e (nm_r (nI_1 i) (ih (i + 1) (by omega)))))
theorem fr_ysp22 {post : Int32 → SY → Prop} {g : Int32} {s : Nat} (hT : ∀ i, fr_S (T i)) (hg : fr_S g) (hs : s < 8) : ∀ d i, i + d = 8 → post (fr_an T g s d i) (fd, fm, fh, T, mk, dm, kk, ff, ss, se, st) → wY_steps_22 post g fd fm fh T mk dm kk ff ss se st (d + 1) (fr_rea T ((1 : Int32) <<< (nI s &&& 31)) i) (nI i) := by
  intro d
  induction d with
  | zero =>
    intro i hi hp
    obtain rfl : i = 8 := by omega
    exact br_t fr_8 hp
  | succ d ih =>
    intro i hi hp
    have he := fr_steps_eq hT g hs i
    refine br_f (fr_n8 (by omega)) (br_f (fr_S_nn hg) ?_)
    by_cases z : bt (fr_xs T g i) s = true
    · rw [show fr_an T g s (d + 1) i = nI i from if_pos z] at hp
      exact br_f (he.mp z) hp
    · rw [show fr_an T g s (d + 1) i = fr_an T g s d (i + 1) from if_neg z] at hp
      have hz : fr_rea T ((1 : Int32) <<< (nI s &&& 31)) i &&& g = 0 := Classical.byContradiction fun c => z (he.mpr c)
      exact br_t hz (fr_ybeh (nm_e (nm_r (nI_1 i) (ih (i + 1) (by omega) hp))))
theorem fr_ykt24 {post : Int32 → Prop} {J : Int32 → Int32 → Prop} {c : Nat} {w : Nat → Int32} {s : Nat} (hT : ∀ i, fr_S (T i)) (hw : fr_WP T 255 w) (hs : s < 8) (hc : c = fr_ct w s) (hJ : J (nI (fr_ct w (s + 1))) (nI (s + 1))) : ∀ d i, i + d = 8 → wY_knots_24 post J (nI c) (nI s) fd fm fh T mk dm kk ff ss se st (d + 1) (fr_rea T (fr_beh T ((1 : Int32) <<< (nI s &&& 31))) i) (nI i) := by
  intro d
  induction d with
  | zero =>
    intro i hi
    obtain rfl : i = 8 := by omega
    refine br_t fr_8 (fr_ycom (nm_r (e' := fr_kn w s 8) (fr_kY_eq hT hw hs) ?_))
    have hk := fr_kc_iff hw hs
    by_cases z : bt (fr_kn w s 8) s = true
    · refine br_t ((fr_bit (by omega) _).mpr z) ?_
      by_cases y : (fr_kn w s 8 &&& (((1 : Int32) <<< (nI s &&& 31)) - 1)) = 0
      · rw [show fr_ct w (s + 1) = fr_ct w s + 1 from if_pos (hk.mpr ⟨z, y⟩), ← hc] at hJ
        exact br_t y (nm_r (nI_1 c) (nm_r (nI_1 s) hJ))
      · rw [show fr_ct w (s + 1) = fr_ct w s from if_neg (fun q => y (hk.mp q).2), ← hc] at hJ
        exact br_f y (nm_r (nI_1 s) hJ)
    · rw [show fr_ct w (s + 1) = fr_ct w s from if_neg (fun q => z (hk.mp q).1), ← hc] at hJ
      exact br_f (fun q => z ((fr_bit (by omega) _).mp q)) (nm_r (nI_1 s) hJ)
  | succ d ih =>
    intro i hi
    exact br_f (fr_n8 (by omega)) (fr_ybeh (nm_e (nm_r (nI_1 i) (ih (i + 1) (by omega)))))
theorem fr_ykt4 {post : Int32 → Prop} {w : Nat → Int32} (hT : ∀ i, fr_S (T i)) (hw : fr_WP T 255 w) (hp : post (nI (fr_ct w 8))) : ∀ d s, s + d = 8 → wY_knots_4 post fd fm fh T mk dm kk ff ss se st (d + 1) (nI (fr_ct w s)) (nI s) := by
  intro d
  induction d with
  | zero =>
    intro s hs
    obtain rfl : s = 8 := by omega
    exact br_t fr_8 hp
  | succ d ih =>
    intro s hs
    exact br_f (fr_n8 (by omega)) (fr_ybeh ⟨8 + 1, fr_ykt24 hT hw (by omega) rfl (ih (s + 1) (by omega)) 8 0 rfl⟩)
theorem fr_ykt {post : Int32 → Prop} {w : Nat → Int32} (hT : ∀ i, fr_S (T i)) (hw : fr_WP T 255 w) (hp : post (nI (fr_ct w 8))) : wpY_knots post (fd, fm, fh, T, mk, dm, kk, ff, ss, se, st) := Exists.intro (8 + 1) (fr_ykt4 hT hw hp 8 0 rfl)
end
end
section
/-! ===== the relation ===== -/
def fr_R (n m h : Nat) (T mk ki le ri st kk ff ss : Nat → Int32) : Prop :=
  n ≤ 3 ∧ m ≤ 20 ∧ h ≤ 6 ∧ (∀ i, fr_S (T i)) ∧ (∀ i, fr_S (mk i)) ∧ (∀ i, i < m → fr_FK ki le ri kk ff ss i) ∧ (∀ j, j < h → ∃ a, a < m ∧ st j = nI a)
def i_Rel (_ : Nat) (u : SX) (v : SY) : Prop := ∃ (n m h : Nat) (T mk dm ki le ri va st wa kk ff ss se : Nat → Int32), u = (nI n, nI m, nI h, T, mk, dm, ki, le, ri, va, st, wa) ∧ v = (nI n, nI m, nI h, T, mk, dm, kk, ff, ss, se, st) ∧ fr_R n m h T mk ki le ri st kk ff ss
theorem fr_I {k : Nat} {n m h : Nat} {T mk dm ki le ri va st wa kk ff ss se : Nat → Int32} (hR : fr_R n m h T mk ki le ri st kk ff ss) : i_Rel k (nI n, nI m, nI h, T, mk, dm, ki, le, ri, va, st, wa) (nI n, nI m, nI h, T, mk, dm, kk, ff, ss, se, st) :=
  ⟨n, m, h, T, mk, dm, ki, le, ri, va, st, wa, kk, ff, ss, se, rfl, rfl, hR⟩
theorem fr_el {P : SX → SY → Prop} {k : Nat} {u : SX} {v : SY} (H : ∀ (n m h : Nat) (T mk dm ki le ri va st wa kk ff ss se : Nat → Int32), fr_R n m h T mk ki le ri st kk ff ss → P (nI n, nI m, nI h, T, mk, dm, ki, le, ri, va, st, wa) (nI n, nI m, nI h, T, mk, dm, kk, ff, ss, se, st)) (I : i_Rel k u v) : P u v := by
  obtain ⟨n, m, h, T, mk, dm, ki, le, ri, va, st, wa, kk, ff, ss, se, rfl, rfl, hR⟩ := I
  exact H n m h T mk dm ki le ri va st wa kk ff ss se hR
theorem i_up {k : Nat} {u : SX} {v : SY} (h : i_Rel k u v) : i_Rel (k + 3) u v := h
theorem i_vc0 : wpX_init (fun u => wpY_init (fun v => i_Rel 0 u v)) :=
  fr_I (k := 0) (n := 0) (m := 0) (h := 0) ⟨by omega, by omega, by omega, fun _ => fr_S_0, fun _ => fr_S_0, fun i hi => absurd hi (by omega), fun j hj => absurd hj (by omega)⟩
/-! ===== arguments ===== -/
def fr_bad (v a b : Int32) : Prop := v < 0 ∨ (¬ v < 0 ∧ ¬ v ≤ a ∧ a < v ∧ ¬ v < b)
theorem fr_arg (v : Int32) {N : Nat} {a b : Int32} (ha : a.toInt = N) (hb : b.toInt = N + 1) : (∃ j, j ≤ N ∧ v = nI j) ∨ fr_bad v a b := by
  by_cases h0 : v < 0
  · exact Or.inr (Or.inl h0)
  · by_cases h1 : v ≤ a
    · exact Or.inl (nI_of2 ha h0 h1)
    · refine Or.inr (Or.inr ⟨h0, h1, Int32.not_le.mp h1, ?_⟩)
      rw [Int32.le_iff_toInt_le] at h1
      rw [Int32.lt_iff_toInt_lt]
      omega
theorem fr_arg8 (v : Int32) : (∃ j, j ≤ 7 ∧ v = nI j) ∨ fr_bad v 7 8 := fr_arg v (by decide) (by decide)
theorem fr_arg256 (v : Int32) : (∃ j, j ≤ 255 ∧ v = nI j) ∨ fr_bad v 255 256 := fr_arg v (by decide) (by decide)
theorem fr_arg4 (v : Int32) : (∃ j, j ≤ 3 ∧ v = nI j) ∨ fr_bad v 3 4 := fr_arg v (by decide) (by decide)
theorem fr_arg7 (v : Int32) : (∃ j, j ≤ 6 ∧ v = nI j) ∨ fr_bad v 6 7 := fr_arg v (by decide) (by decide)
theorem fr_nS {j : Nat} (hj : j ≤ 255) : fr_S (nI j) := fr_S_of (nI_pos (by omega)) (nI_le (b := 255) hj (by omega))
theorem fr_updS {T : Nat → Int32} (h : ∀ i, fr_S (T i)) {x : Int32} (hx : fr_S x) (k : Nat) : ∀ i, fr_S (upd T k x i) := by
  intro i
  by_cases e : i = k
  · rw [e, pk_us]; exact hx
  · rw [pk_un e]; exact h i
section
variable {fd fm fh : Int32} {T mk dm ki le ri va st wa kk ff ss se : Nat → Int32}
theorem fr_xs_g {post : Int32 → Prop} {j : Nat} (hj : j ≤ 7) (hp : post 0) : wpX_badState post (fd, fm, fh, T, mk, dm, ki, le, ri, va, st, wa) (nI j) := br_f (nI_pos (by omega)) (br_t (nI_lt (b := 8) (by omega) (by omega)) hp)
theorem fr_xs_b {post : Int32 → Prop} {v : Int32} (hv : fr_bad v 7 8) (hp : post 1) : wpX_badState post (fd, fm, fh, T, mk, dm, ki, le, ri, va, st, wa) v := by
  rcases hv with h | ⟨h, _, _, h2⟩
  · exact br_t h hp
  · exact br_f h (br_f h2 hp)
theorem fr_xe_g {post : Int32 → Prop} {j : Nat} (hj : j ≤ 255) (hp : post 0) : wpX_badSet post (fd, fm, fh, T, mk, dm, ki, le, ri, va, st, wa) (nI j) := br_f (nI_pos (by omega)) (br_t (nI_le (b := 255) (by omega) (by omega)) hp)
theorem fr_xe_b {post : Int32 → Prop} {v : Int32} (hv : fr_bad v 255 256) (hp : post 1) : wpX_badSet post (fd, fm, fh, T, mk, dm, ki, le, ri, va, st, wa) v := by
  rcases hv with h | ⟨h, h1, _, _⟩
  · exact br_t h hp
  · exact br_f h (br_f h1 hp)
theorem fr_ys_g {post : Int32 → Prop} {j : Nat} (hj : j ≤ 7) (hp : post 1) : wpY_isState post (fd, fm, fh, T, mk, dm, kk, ff, ss, se, st) (nI j) := br_f (nI_pos (by omega)) (br_f (nI_nlt (a := 7) (by omega) (by omega)) hp)
theorem fr_ys_b {post : Int32 → Prop} {v : Int32} (hv : fr_bad v 7 8) (hp : post 0) : wpY_isState post (fd, fm, fh, T, mk, dm, kk, ff, ss, se, st) v := by
  rcases hv with h | ⟨h, _, h1, _⟩
  · exact br_t h hp
  · exact br_f h (br_t h1 hp)
theorem fr_ye_g {post : Int32 → Prop} {j : Nat} (hj : j ≤ 255) (hp : post 1) : wpY_isSet post (fd, fm, fh, T, mk, dm, kk, ff, ss, se, st) (nI j) := br_f (nI_pos (by omega)) (br_f (nI_nlt (a := 255) (by omega) (by omega)) hp)
theorem fr_ye_b {post : Int32 → Prop} {v : Int32} (hv : fr_bad v 255 256) (hp : post 0) : wpY_isSet post (fd, fm, fh, T, mk, dm, kk, ff, ss, se, st) v := by
  rcases hv with h | ⟨h, _, h1, _⟩
  · exact br_t h hp
  · exact br_f h (br_t h1 hp)
theorem fr_xmake {post : Int32 → SX → Prop} {m : Nat} {a b c : Int32} (hm : m < 20) (hp : post (nI m) (fd, nI (m + 1), fh, T, mk, dm, upd ki m a, upd le m b, upd ri m c, va, st, wa)) : wpX_make post (fd, nI m, fh, T, mk, dm, ki, le, ri, va, st, wa) a b c := by
  unfold wpX_make
  dsimp only
  rw [nI_clamp (show m < 2 ^ 31 by omega)]
  refine ⟨vp_in_nI hm (by omega), nm_e ⟨vp_in_nI hm (by omega), nm_e ⟨vp_in_nI hm (by omega), nm_e (nm_r (nI_1 m) ?_)⟩⟩⟩
  rw [nI_pred]
  exact hp
theorem fr_ynote {post : Int32 → SY → Prop} {m h : Nat} {a b c : Int32} (hm : m < 20) (hh : h < 6) (hp : post (nI (h + 1)) (fd, nI (m + 1), nI (h + 1), T, mk, dm, upd kk m a, upd ff m b, upd ss m c, se, upd st h (nI m))) : wpY_note post (fd, nI m, nI h, T, mk, dm, kk, ff, ss, se, st) a b c := by
  unfold wpY_note
  dsimp only
  rw [nI_clamp (show m < 2 ^ 31 by omega), nI_clamp (show h < 2 ^ 31 by omega)]
  exact ⟨vp_in_nI hm (by omega), nm_e ⟨vp_in_nI hm (by omega), nm_e ⟨vp_in_nI hm (by omega), nm_e ⟨vp_in_nI hh (by omega), nm_e (nm_r (nI_1 m) (nm_r (nI_1 h) hp))⟩⟩⟩⟩
theorem fr_FK_new {m : Nat} {a b c a' b' c' : Int32} (h : ∀ i, i < m → fr_FK ki le ri kk ff ss i) (hn : fr_FK (upd ki m a) (upd le m b) (upd ri m c) (upd kk m a') (upd ff m b') (upd ss m c') m) : ∀ i, i < m + 1 → fr_FK (upd ki m a) (upd le m b) (upd ri m c) (upd kk m a') (upd ff m b') (upd ss m c') i := by
  intro i hi
  by_cases e : i = m
  · rw [e]; exact hn
  · have h0 := h i (by omega)
    unfold fr_FK at h0 ⊢
    rw [pk_un e, pk_un e, pk_un e, pk_un e, pk_un e, pk_un e]
    exact h0
theorem fr_st_new {m h h' : Nat} (hs : ∀ j, j < h → ∃ a, a < m ∧ st j = nI a) (hh : h' ≤ h) : ∀ j, j < h' + 1 → ∃ a, a < m + 1 ∧ upd st h' (nI m) j = nI a := by
  intro j hj
  by_cases e : j = h'
  · exact ⟨m, by omega, by rw [e, pk_us]⟩
  · obtain ⟨a, ha, hb⟩ := hs j (by omega)
    exact ⟨a, by omega, by rw [pk_un e]; exact hb⟩
end
end
section
/-! ===== what is owed: the machine ===== -/
theorem i_vc_arcs {k : Nat} {u : SX} {v : SY} (I : i_Rel k u v) (hk : k + 3 ≤ 1536) (v1 : Int32) (v2 : Int32) : wpX_arcs (fun r u' => wpY_arcs (fun r' v' => r' = r ∧ i_Rel (k + 3) u' v') v v1 v2) u v1 v2 := by
  refine fr_el (P := fun u v => wpX_arcs (fun r u' => wpY_arcs (fun r' v' => r' = r ∧ i_Rel (k + 3) u' v') v v1 v2) u v1 v2) ?_ I
  intro n m h T mk dm ki le ri va st wa kk ff ss se hR
  unfold wpX_arcs wpY_arcs
  dsimp only
  rcases fr_arg8 v1 with ⟨j, hj, rfl⟩ | hb
  · rcases fr_arg256 v2 with ⟨x, hx, rfl⟩ | hb
    · refine fr_xs_g hj (br_t rfl (fr_xe_g hx (br_t rfl ⟨vp_in_nI (by omega) (by omega), nm_e ⟨vp_in_nI (by omega) (by omega), nm_e ?_⟩⟩)))
      refine fr_ys_g hj (br_f (by decide) (fr_ye_g hx (br_f (by decide) ⟨vp_in_nI (by omega) (by omega), nm_e ⟨vp_in_nI (by omega) (by omega), nm_e ⟨rfl, fr_I ?_⟩⟩⟩)))
      obtain ⟨h1, h2, h3, h4, h5, h6, h7⟩ := hR
      exact ⟨h1, h2, h3, fr_updS h4 (fr_nS hx) _, h5, h6, h7⟩
    · exact fr_xs_g hj (br_t rfl (fr_xe_b hb (br_f (by decide) (fr_ys_g hj (br_f (by decide) (fr_ye_b hb (br_t rfl ⟨rfl, fr_I hR⟩)))))))
  · exact fr_xs_b hb (br_f (by decide) (fr_ys_b hb (br_t rfl ⟨rfl, fr_I hR⟩)))
theorem i_vc_mark {k : Nat} {u : SX} {v : SY} (I : i_Rel k u v) (hk : k + 3 ≤ 1536) (v1 : Int32) (v2 : Int32) : wpX_mark (fun r u' => wpY_mark (fun r' v' => r' = r ∧ i_Rel (k + 3) u' v') v v1 v2) u v1 v2 := by
  refine fr_el (P := fun u v => wpX_mark (fun r u' => wpY_mark (fun r' v' => r' = r ∧ i_Rel (k + 3) u' v') v v1 v2) u v1 v2) ?_ I
  intro n m h T mk dm ki le ri va st wa kk ff ss se hR
  unfold wpX_mark wpY_mark
  dsimp only
  rcases fr_arg4 v1 with ⟨j, hj, rfl⟩ | hb
  · have a1 : ¬ nI j < 0 := nI_pos (by omega)
    have a2 : ¬ (3 : Int32) < nI j := nI_nlt (a := 3) (by omega) (by omega)
    rcases fr_arg256 v2 with ⟨x, hx, rfl⟩ | hb
    · refine br_f a1 (br_f a2 (fr_xe_g hx (br_t rfl ⟨vp_in_nI (by omega) (by omega), nm_e ⟨vp_in_nI (by omega) (by omega), nm_e ?_⟩⟩)))
      refine br_f a1 (br_f a2 (fr_ye_g hx (br_f (by decide) ⟨vp_in_nI (by omega) (by omega), nm_e ⟨vp_in_nI (by omega) (by omega), nm_e ⟨rfl, fr_I ?_⟩⟩⟩)))
      obtain ⟨h1, h2, h3, h4, h5, h6, h7⟩ := hR
      exact ⟨h1, h2, h3, h4, fr_updS h5 (fr_nS hx) _, h6, h7⟩
    · exact br_f a1 (br_f a2 (fr_xe_b hb (br_f (by decide) (br_f a1 (br_f a2 (fr_ye_b hb (br_t rfl ⟨rfl, fr_I hR⟩)))))))
  · rcases hb with a1 | ⟨a1, _, a2, _⟩
    · exact br_t a1 (br_t a1 ⟨rfl, fr_I hR⟩)
    · exact br_f a1 (br_t a2 (br_f a1 (br_t a2 ⟨rfl, fr_I hR⟩)))
theorem i_vc_demand {k : Nat} {u : SX} {v : SY} (I : i_Rel k u v) (hk : k + 3 ≤ 1536) (v1 : Int32) : wpX_demand (fun r u' => wpY_demand (fun r' v' => r' = r ∧ i_Rel (k + 3) u' v') v v1) u v1 := by
  refine fr_el (P := fun u v => wpX_demand (fun r u' => wpY_demand (fun r' v' => r' = r ∧ i_Rel (k + 3) u' v') v v1) u v1) ?_ I
  intro n m h T mk dm ki le ri va st wa kk ff ss se hR
  unfold wpX_demand wpY_demand
  dsimp only
  rcases fr_arg256 v1 with ⟨x, hx, rfl⟩ | hb
  · have h1 := hR.1
    by_cases e : n = 3
    · have e3 : nI n = 3 := by rw [e]; rfl
      exact fr_xe_g hx (br_t rfl (br_t e3 (fr_ye_g hx (br_f (by decide) (br_t e3 ⟨rfl, fr_I hR⟩)))))
    · have e3 : ¬ nI n = 3 := fun c => e ((nI_eq (b := 3) (by omega) (by omega)).mp c)
      refine fr_xe_g hx (br_t rfl (br_f e3 ⟨vp_in_nI (by omega) (by omega), nm_e (nm_r (nI_1 n) ?_)⟩))
      refine fr_ye_g hx (br_f (by decide) (br_f e3 ⟨vp_in_nI (by omega) (by omega), nm_e (nm_r (nI_1 n) ⟨rfl, fr_I ?_⟩)⟩))
      exact ⟨by omega, hR.2⟩
  · exact fr_xe_b hb (br_f (by decide) (fr_ye_b hb (br_t rfl ⟨rfl, fr_I hR⟩)))
theorem i_vc_undemand {k : Nat} {u : SX} {v : SY} (I : i_Rel k u v) (hk : k + 3 ≤ 1536) : wpX_undemand (fun r u' => wpY_undemand (fun r' v' => r' = r ∧ i_Rel (k + 3) u' v') v) u := by
  refine fr_el (P := fun u v => wpX_undemand (fun r u' => wpY_undemand (fun r' v' => r' = r ∧ i_Rel (k + 3) u' v') v) u) ?_ I
  intro n m h T mk dm ki le ri va st wa kk ff ss se hR
  unfold wpX_undemand wpY_undemand
  dsimp only
  have h1 := hR.1
  cases n with
  | zero => exact br_t rfl (br_t rfl ⟨rfl, fr_I hR⟩)
  | succ n =>
    have e : ¬ nI (n + 1) = 0 := nI_ne0 (by omega) (by omega)
    exact br_f e (nm_r (nI_pred n) ⟨vp_in_nI (by omega) (by omega), br_f e (nm_r (nI_pred n) ⟨vp_in_nI (by omega) (by omega), rfl, fr_I ⟨by omega, hR.2⟩⟩)⟩)
/-! ===== formulas ===== -/
theorem i_vc_push {k : Nat} {u : SX} {v : SY} (I : i_Rel k u v) (hk : k + 3 ≤ 1536) (v1 : Int32) : wpX_push (fun r u' => wpY_push (fun r' v' => r' = r ∧ i_Rel (k + 3) u' v') v v1) u v1 := by
  refine fr_el (P := fun u v => wpX_push (fun r u' => wpY_push (fun r' v' => r' = r ∧ i_Rel (k + 3) u' v') v v1) u v1) ?_ I
  intro n m h T mk dm ki le ri va st wa kk ff ss se hR
  unfold wpX_push wpY_push
  dsimp only
  rcases fr_arg4 v1 with ⟨j, hj, rfl⟩ | hb
  · have a1 : ¬ nI j < 0 := nI_pos (by omega)
    have a2 : nI j ≤ (3 : Int32) := nI_le (b := 3) (by omega) (by omega)
    obtain ⟨h1, h2, h3, h4, h5, h6, h7⟩ := hR
    have hR : fr_R n m h T mk ki le ri st kk ff ss := ⟨h1, h2, h3, h4, h5, h6, h7⟩
    by_cases e : h = 6
    · have e6 : nI h = 6 := by rw [e]; rfl
      exact br_f a1 (br_t a2 (br_t e6 (br_f a1 (br_t a2 (br_t e6 ⟨rfl, fr_I hR⟩)))))
    · have e6 : ¬ nI h = 6 := fun c => e ((nI_eq (b := 6) (by omega) (by omega)).mp c)
      by_cases f : m = 20
      · have f20 : nI m = 20 := by rw [f]; rfl
        exact br_f a1 (br_t a2 (br_f e6 (br_t f20 (br_f a1 (br_t a2 (br_f e6 (br_t f20 ⟨rfl, fr_I hR⟩)))))))
      · have f20 : ¬ nI m = 20 := fun c => f ((nI_eq (b := 20) (by omega) (by omega)).mp c)
        refine br_f a1 (br_t a2 (br_f e6 (br_f f20 (fr_xmake (by omega) ?_))))
        dsimp only
        rw [nI_clamp (show h < 2 ^ 31 by omega)]
        refine ⟨vp_in_nI (by omega) (by omega), nm_e (nm_r (nI_1 h) ?_)⟩
        refine br_f a1 (br_t a2 (br_f e6 (br_f f20 (fr_ynote (by omega) (by omega) ?_))))
        refine ⟨rfl, fr_I ⟨h1, by omega, by omega, h4, h5, fr_FK_new h6 (Or.inl ⟨pk_us, j, by omega, pk_us, ?_⟩), fr_st_new h7 (Nat.le_refl h)⟩⟩
        rw [pk_us]
        exact nI_add 20 j
  · rcases hb with a1 | ⟨a1, a2, _, _⟩
    · exact br_t a1 (br_t a1 ⟨rfl, fr_I hR⟩)
    · exact br_f a1 (br_f a2 (br_f a1 (br_f a2 ⟨rfl, fr_I hR⟩)))
theorem i_vc_one {k : Nat} {u : SX} {v : SY} (I : i_Rel k u v) (hk : k + 3 ≤ 1536) (v1 : Int32) : wpX_one (fun r u' => wpY_one (fun r' v' => r' = r ∧ i_Rel (k + 3) u' v') v v1) u v1 := by
  refine fr_el (P := fun u v => wpX_one (fun r u' => wpY_one (fun r' v' => r' = r ∧ i_Rel (k + 3) u' v') v v1) u v1) ?_ I
  intro n m h T mk dm ki le ri va st wa kk ff ss se hR
  unfold wpX_one wpY_one
  dsimp only
  rcases fr_arg7 v1 with ⟨op, hj, rfl⟩ | hb
  · have a1 : ¬ nI op < 0 := nI_pos (by omega)
    have a2 : nI op ≤ (6 : Int32) := nI_le (b := 6) (by omega) (by omega)
    obtain ⟨h1, h2, h3, h4, h5, h6, h7⟩ := hR
    have hR : fr_R n m h T mk ki le ri st kk ff ss := ⟨h1, h2, h3, h4, h5, h6, h7⟩
    cases h with
    | zero => exact br_f a1 (br_t a2 (br_t rfl (br_f a1 (br_t a2 (br_t rfl ⟨rfl, fr_I hR⟩)))))
    | succ h =>
      have e0 : ¬ nI (h + 1) = 0 := nI_ne0 (by omega) (by omega)
      by_cases f : m = 20
      · have f20 : nI m = 20 := by rw [f]; rfl
        exact br_f a1 (br_t a2 (br_f e0 (br_t f20 (br_f a1 (br_t a2 (br_f e0 (br_t f20 ⟨rfl, fr_I hR⟩)))))))
      · have f20 : ¬ nI m = 20 := fun c => f ((nI_eq (b := 20) (by omega) (by omega)).mp c)
        obtain ⟨a, ha, hs⟩ := h7 h (by omega)
        rw [nI_pred, nI_clamp (show h < 2 ^ 31 by omega), hs, show (1 : Int32) + nI op = nI (1 + op) from nI_add 1 op]
        refine br_f a1 (br_t a2 (br_f e0 (br_f f20 ⟨vp_in_nI (by omega) (by omega), fr_xmake (by omega) ?_⟩)))
        dsimp only
        refine ⟨vp_in_nI (by omega) (by omega), nm_e ?_⟩
        refine br_f a1 (br_t a2 (br_f e0 (br_f f20 (nm_r (e' := nI h) rfl ?_))))
        rw [nI_clamp (show h < 2 ^ 31 by omega), hs]
        refine ⟨vp_in_nI (by omega) (by omega), fr_ynote (by omega) (by omega) ?_⟩
        exact ⟨rfl, fr_I ⟨h1, by omega, h3, h4, h5, fr_FK_new h6 (Or.inr (Or.inl ⟨op, a, by omega, ha, pk_us, pk_us, pk_us, pk_us⟩)), fr_st_new h7 (by omega)⟩⟩
  · rcases hb with a1 | ⟨a1, a2, _, _⟩
    · exact br_t a1 (br_t a1 ⟨rfl, fr_I hR⟩)
    · exact br_f a1 (br_f a2 (br_f a1 (br_f a2 ⟨rfl, fr_I hR⟩)))
theorem i_vc_two {k : Nat} {u : SX} {v : SY} (I : i_Rel k u v) (hk : k + 3 ≤ 1536) (v1 : Int32) : wpX_two (fun r u' => wpY_two (fun r' v' => r' = r ∧ i_Rel (k + 3) u' v') v v1) u v1 := by
  refine fr_el (P := fun u v => wpX_two (fun r u' => wpY_two (fun r' v' => r' = r ∧ i_Rel (k + 3) u' v') v v1) u v1) ?_ I
  intro n m h T mk dm ki le ri va st wa kk ff ss se hR
  unfold wpX_two wpY_two
  dsimp only
  rcases fr_arg4 v1 with ⟨op, hj, rfl⟩ | hb
  · have a1 : ¬ nI op < 0 := nI_pos (by omega)
    have a2 : nI op ≤ (3 : Int32) := nI_le (b := 3) (by omega) (by omega)
    obtain ⟨h1, h2, h3, h4, h5, h6, h7⟩ := hR
    have hR : fr_R n m h T mk ki le ri st kk ff ss := ⟨h1, h2, h3, h4, h5, h6, h7⟩
    by_cases e : h < 2
    · have e2 : ¬ (2 : Int32) ≤ nI h := nI_ge (b := 2) e (by omega)
      exact br_f a1 (br_t a2 (br_f e2 (br_f a1 (br_t a2 (br_f e2 ⟨rfl, fr_I hR⟩)))))
    · obtain ⟨g, rfl⟩ : ∃ g, h = g + 2 := ⟨h - 2, by omega⟩
      have e2 : (2 : Int32) ≤ nI (g + 2) := nI_le (a := 2) (by omega) (by omega)
      by_cases f : m = 20
      · have f20 : nI m = 20 := by rw [f]; rfl
        exact br_f a1 (br_t a2 (br_t e2 (br_t f20 (br_f a1 (br_t a2 (br_t e2 (br_t f20 ⟨rfl, fr_I hR⟩)))))))
      · have f20 : ¬ nI m = 20 := fun c => f ((nI_eq (b := 20) (by omega) (by omega)).mp c)
        obtain ⟨a, ha, hs⟩ := h7 g (by omega)
        obtain ⟨b, hb, ht⟩ := h7 (g + 1) (by omega)
        have es : nI (g + 2) - 2 = nI g := pk_sub (a := g + 2) (b := 2) (by omega)
        refine br_f a1 (br_t a2 (br_t e2 (br_f f20 (nm_r (nI_pred (g + 1)) ?_))))
        rw [nI_pred, nI_clamp (show g < 2 ^ 31 by omega), nI_clamp (show g + 1 < 2 ^ 31 by omega), hs, ht, show (8 : Int32) + nI op = nI (8 + op) from nI_add 8 op]
        refine ⟨vp_in_nI (by omega) (by omega), vp_in_nI (by omega) (by omega), fr_xmake (by omega) ?_⟩
        dsimp only
        refine ⟨vp_in_nI (by omega) (by omega), nm_e ?_⟩
        refine br_f a1 (br_t a2 (br_t e2 (br_f f20 (nm_r es ?_))))
        rw [nI_1 g, nI_clamp (show g < 2 ^ 31 by omega), nI_clamp (show g + 1 < 2 ^ 31 by omega), hs, ht, show (10 : Int32) + nI op = nI (10 + op) from nI_add 10 op]
        refine ⟨vp_in_nI (by omega) (by omega), vp_in_nI (by omega) (by omega), fr_ynote (by omega) (by omega) ?_⟩
        exact ⟨rfl, fr_I ⟨h1, by omega, by omega, h4, h5, fr_FK_new h6 (Or.inr (Or.inr ⟨op, a, b, by omega, ha, hb, pk_us, pk_us, pk_us, pk_us, pk_us, pk_us⟩)), fr_st_new h7 (by omega)⟩⟩
  · rcases hb with a1 | ⟨a1, a2, _, _⟩
    · exact br_t a1 (br_t a1 ⟨rfl, fr_I hR⟩)
    · exact br_f a1 (br_f a2 (br_f a1 (br_f a2 ⟨rfl, fr_I hR⟩)))
theorem i_vc_discard {k : Nat} {u : SX} {v : SY} (I : i_Rel k u v) (hk : k + 3 ≤ 1536) : wpX_discard (fun u' => wpY_discard (fun v' => i_Rel (k + 3) u' v') v) u := by
  refine fr_el (P := fun u v => wpX_discard (fun u' => wpY_discard (fun v' => i_Rel (k + 3) u' v') v) u) ?_ I
  intro n m h T mk dm ki le ri va st wa kk ff ss se hR
  obtain ⟨h1, h2, h3, h4, h5, h6, h7⟩ := hR
  unfold wpX_discard wpY_discard
  dsimp only
  exact fr_I (k := k + 3) (n := n) (m := 0) (h := 0) ⟨h1, by omega, by omega, h4, h5, fun i hi => absurd hi (by omega), fun j hj => absurd hj (by omega)⟩
theorem i_vc_depth {k : Nat} {u : SX} {v : SY} (I : i_Rel k u v) (hk : k + 3 ≤ 1536) : wpX_depth (fun r => wpY_depth (fun r' => r' = r ∧ i_Rel (k + 3) u v) v) u := by
  refine fr_el (P := fun u v => wpX_depth (fun r => wpY_depth (fun r' => r' = r ∧ i_Rel (k + 3) u v) v) u) ?_ I
  intro n m h T mk dm ki le ri va st wa kk ff ss se hR
  unfold wpX_depth wpY_depth
  dsimp only
  exact ⟨rfl, fr_I hR⟩
/-! ===== questions ===== -/
theorem i_vc_fair {k : Nat} {u : SX} {v : SY} (I : i_Rel k u v) (hk : k + 3 ≤ 1536) : wpX_fair (fun r u' => wpY_fair (fun r' => r' = r ∧ i_Rel (k + 3) u' v) v) u := by
  refine fr_el (P := fun u v => wpX_fair (fun r u' => wpY_fair (fun r' => r' = r ∧ i_Rel (k + 3) u' v) v) u) ?_ I
  intro n m h T mk dm ki le ri va st wa kk ff ss se hR
  unfold wpX_fair wpY_fair
  dsimp only
  refine fr_xst hR.2.2.2.1 hR.1 (fun wa' => ?_)
  dsimp only
  exact fr_yst hR.2.2.2.1 hR.1 fr_S_255 ⟨rfl, fr_I hR⟩
theorem i_vc_reach {k : Nat} {u : SX} {v : SY} (I : i_Rel k u v) (hk : k + 3 ≤ 1536) (v1 : Int32) : wpX_reach (fun r u' => wpY_reach (fun r' => r' = r ∧ i_Rel (k + 3) u' v) v v1) u v1 := by
  refine fr_el (P := fun u v => wpX_reach (fun r u' => wpY_reach (fun r' => r' = r ∧ i_Rel (k + 3) u' v) v v1) u v1) ?_ I
  intro n m h T mk dm ki le ri va st wa kk ff ss se hR
  have hT := hR.2.2.2.1
  unfold wpX_reach wpY_reach
  dsimp only
  rcases fr_arg8 v1 with ⟨s, hs, rfl⟩ | hb
  · refine fr_xs_g hs (br_t rfl (fr_xways ?_))
    dsimp only
    rw [nI_clamp (show s < 2 ^ 31 by omega)]
    refine ⟨vp_in_nI (by omega) (by omega), ?_⟩
    refine fr_ys_g hs (br_f (by decide) (nm_e (Exists.intro (8 + 1) (fr_yre16 ?_ 8 0 rfl))))
    exact ⟨fr_reach_eq hT (fr_ways_P hT 255 wa) (by omega), fr_I hR⟩
  · exact fr_xs_b hb (br_f (by decide) (fr_ys_b hb (br_t rfl ⟨rfl, fr_I hR⟩)))
theorem i_vc_knots {k : Nat} {u : SX} {v : SY} (I : i_Rel k u v) (hk : k + 3 ≤ 1536) : wpX_knots (fun r u' => wpY_knots (fun r' => r' = r ∧ i_Rel (k + 3) u' v) v) u := by
  refine fr_el (P := fun u v => wpX_knots (fun r u' => wpY_knots (fun r' => r' = r ∧ i_Rel (k + 3) u' v) v) u) ?_ I
  intro n m h T mk dm ki le ri va st wa kk ff ss se hR
  have hT := hR.2.2.2.1
  refine fr_xkt hT (fun w hw => ?_)
  exact fr_ykt hT hw ⟨rfl, fr_I hR⟩
theorem i_vc_holds {k : Nat} {u : SX} {v : SY} (I : i_Rel k u v) (hk : k + 3 ≤ 1536) : wpX_holds (fun r u' => wpY_holds (fun r' v' => r' = r ∧ i_Rel (k + 3) u' v') v) u := by
  refine fr_el (P := fun u v => wpX_holds (fun r u' => wpY_holds (fun r' v' => r' = r ∧ i_Rel (k + 3) u' v') v) u) ?_ I
  intro n m h T mk dm ki le ri va st wa kk ff ss se hR
  obtain ⟨h1, h2, h3, h4, h5, h6, h7⟩ := hR
  have hR : fr_R n m h T mk ki le ri st kk ff ss := ⟨h1, h2, h3, h4, h5, h6, h7⟩
  unfold wpX_holds wpY_holds
  dsimp only
  cases h with
  | zero =>
    refine br_t rfl ?_
    refine fr_yfs h4 h5 h1 h2 h6 (fun se' hs' => ?_)
    exact br_t rfl ⟨rfl, fr_I hR⟩
  | succ h =>
    have e0 : ¬ nI (h + 1) = 0 := nI_ne0 (by omega) (by omega)
    obtain ⟨a, ha, hs⟩ := h7 h (by omega)
    rw [nI_pred, nI_clamp (show h < 2 ^ 31 by omega), hs]
    refine br_f e0 ⟨vp_in_nI (by omega) (by omega), fr_xvo h4 h1 (by omega) (fun i hi => h6 i (by omega)) (fun va' wa' hv => ?_)⟩
    dsimp only
    refine fr_yfs h4 h5 h1 h2 h6 (fun se' hs' => ?_)
    dsimp only
    rw [nI_pred, nI_clamp (show h < 2 ^ 31 by omega), hs, nI_clamp (show a < 2 ^ 31 by omega)]
    refine br_f e0 ⟨vp_in_nI (by omega) (by omega), vp_in_nI (by omega) (by omega), ?_, fr_I hR⟩
    rw [hs' a ha]
    exact fr_vv_st (by omega) (by omega)
theorem i_vc_alike {k : Nat} {u : SX} {v : SY} (I : i_Rel k u v) (hk : k + 3 ≤ 1536) : wpX_alike (fun r u' => wpY_alike (fun r' v' => r' = r ∧ i_Rel (k + 3) u' v') v) u := by
  refine fr_el (P := fun u v => wpX_alike (fun r u' => wpY_alike (fun r' v' => r' = r ∧ i_Rel (k + 3) u' v') v) u) ?_ I
  intro n m h T mk dm ki le ri va st wa kk ff ss se hR
  obtain ⟨h1, h2, h3, h4, h5, h6, h7⟩ := hR
  have hR : fr_R n m h T mk ki le ri st kk ff ss := ⟨h1, h2, h3, h4, h5, h6, h7⟩
  unfold wpX_alike
  dsimp only
  by_cases e : h < 2
  · refine br_f (nI_ge (b := 2) e (by omega)) ?_
    unfold wpY_alike
    dsimp only
    refine fr_yfs h4 h5 h1 h2 h6 (fun se' hs' => ?_)
    exact br_t (nI_le (b := 1) (by omega) (by omega)) ⟨rfl, fr_I hR⟩
  · obtain ⟨g, rfl⟩ : ∃ g, h = g + 2 := ⟨h - 2, by omega⟩
    obtain ⟨a, ha, hs⟩ := h7 g (by omega)
    obtain ⟨b, hb, ht⟩ := h7 (g + 1) (by omega)
    obtain ⟨p, rfl⟩ : ∃ p, m = p + 1 := ⟨m - 1, by omega⟩
    have es : nI (g + 2) - 2 = nI g := pk_sub (a := g + 2) (b := 2) (by omega)
    have ep : nI (g + 2) - 1 = nI (g + 1) := nI_pred (g + 1)
    rw [ep, es, nI_pred p, nI_clamp (show g < 2 ^ 31 by omega), nI_clamp (show g + 1 < 2 ^ 31 by omega), hs, ht]
    refine br_t (nI_le (a := 2) (by omega) (by omega)) ⟨vp_in_nI (by omega) (by omega), nm_e ⟨vp_in_nI (by omega) (by omega), nm_e ?_⟩⟩
    refine fr_xvo h4 h1 (by omega) (fun i hi => h6 i (by omega)) (fun va' wa' hv => ?_)
    dsimp only
    rw [nI_clamp (show a < 2 ^ 31 by omega), nI_clamp (show b < 2 ^ 31 by omega)]
    refine ⟨vp_in_nI (by omega) (by omega), vp_in_nI (by omega) (by omega), ?_⟩
    have hy : ∀ (post : Int32 → SY → Prop) (r : Int32), (∀ se', (va' b = va' a → r = 1) → (¬ va' b = va' a → r = 0) → post r (nI n, nI (p + 1), nI (g + 2), T, mk, dm, kk, ff, ss, se', st)) → ((va' b = va' a → r = 1) ∧ (¬ va' b = va' a → r = 0)) → wpY_alike post (nI n, nI (p + 1), nI (g + 2), T, mk, dm, kk, ff, ss, se, st) := by
      intro post r hp hr
      unfold wpY_alike
      dsimp only
      refine fr_yfs h4 h5 h1 h2 h6 (fun se' hs' => ?_)
      dsimp only
      rw [ep, es, nI_clamp (show g < 2 ^ 31 by omega), nI_clamp (show g + 1 < 2 ^ 31 by omega), hs, ht, nI_clamp (show a < 2 ^ 31 by omega), nI_clamp (show b < 2 ^ 31 by omega)]
      refine br_f (nI_ge (a := 1) (by omega) (by omega)) ⟨vp_in_nI (by omega) (by omega), vp_in_nI (by omega) (by omega), vp_in_nI (by omega) (by omega), vp_in_nI (by omega) (by omega), ?_⟩
      rw [hs' a ha, hs' b hb, ← hv a (by omega), ← hv b (by omega)]
      have hp' := hp se' hr.1 hr.2
      by_cases z : va' b = va' a
      · rw [hr.1 z] at hp'; exact br_t z hp'
      · rw [hr.2 z] at hp'; exact br_f z hp'
    have hy' : ∀ r : Int32, ((va' b = va' a → r = 1) ∧ (¬ va' b = va' a → r = 0)) → wpY_alike (fun r' v' => r' = r ∧ i_Rel (k + 3) (nI n, nI (p + 1), nI (g + 2), T, mk, dm, ki, le, ri, va', st, wa') v') (nI n, nI (p + 1), nI (g + 2), T, mk, dm, kk, ff, ss, se, st) := fun r hr => hy _ r (fun se' _ _ => ⟨rfl, fr_I hR⟩) hr
    by_cases z : va' b = va' a
    · exact br_t z (hy' 1 ⟨fun _ => rfl, fun c => absurd z c⟩)
    · exact br_f z (hy' 0 ⟨fun c => absurd c z, fun _ => rfl⟩)
theorem i_vc_steps {k : Nat} {u : SX} {v : SY} (I : i_Rel k u v) (hk : k + 3 ≤ 1536) (v1 : Int32) : wpX_steps (fun r u' => wpY_steps (fun r' v' => r' = r ∧ i_Rel (k + 3) u' v') v v1) u v1 := by
  refine fr_el (P := fun u v => wpX_steps (fun r u' => wpY_steps (fun r' v' => r' = r ∧ i_Rel (k + 3) u' v') v v1) u v1) ?_ I
  intro n m h T mk dm ki le ri va st wa kk ff ss se hR
  obtain ⟨h1, h2, h3, h4, h5, h6, h7⟩ := hR
  have hR : fr_R n m h T mk ki le ri st kk ff ss := ⟨h1, h2, h3, h4, h5, h6, h7⟩
  unfold wpX_steps wpY_steps
  dsimp only
  rcases fr_arg8 v1 with ⟨s, hs8, rfl⟩ | hb
  · refine fr_xs_g hs8 (br_t rfl ?_)
    cases h with
    | zero =>
      refine br_t rfl ?_
      refine fr_ys_g hs8 (br_f (by decide) ?_)
      unfold wpY_holds
      dsimp only
      refine fr_yfs h4 h5 h1 h2 h6 (fun se' hs' => ?_)
      refine br_t rfl (nm_e (Exists.intro (0 + 1) ?_))
      exact br_f (by decide) (br_t (by decide) ⟨rfl, fr_I hR⟩)
    | succ h =>
      have e0 : ¬ nI (h + 1) = 0 := nI_ne0 (by omega) (by omega)
      obtain ⟨a, ha, hs⟩ := h7 h (by omega)
      rw [nI_pred, nI_clamp (show h < 2 ^ 31 by omega), hs]
      refine br_f e0 ⟨vp_in_nI (by omega) (by omega), fr_xvo h4 h1 (by omega) (fun i hi => h6 i (by omega)) (fun va' wa' hv => ?_)⟩
      have hg : fr_S (fr_vv T dm n mk ki le ri (a + 1) a) := fr_vv_S h5 (by omega) (fun j hj => h6 j (by omega)) a (by omega)
      refine Exists.intro (8 + 2) (fr_xsp38 h4 hg (by omega) 8 0 rfl (fun j hj => absurd hj (by omega)) ?_)
      refine fr_ys_g hs8 (br_f (by decide) ?_)
      unfold wpY_holds
      dsimp only
      refine fr_yfs h4 h5 h1 h2 h6 (fun se' hs' => ?_)
      dsimp only
      rw [nI_pred, nI_clamp (show h < 2 ^ 31 by omega), hs, nI_clamp (show a < 2 ^ 31 by omega), hs' a ha, fr_vv_st (show a < a + 1 by omega) (show a + 1 ≤ m by omega)]
      refine br_f e0 ⟨vp_in_nI (by omega) (by omega), vp_in_nI (by omega) (by omega), nm_e (Exists.intro (8 + 1) ?_)⟩
      exact fr_ysp22 h4 hg (by omega) 8 0 rfl ⟨rfl, fr_I hR⟩
  · exact fr_xs_b hb (br_f (by decide) (fr_ys_b hb (br_t rfl ⟨rfl, fr_I hR⟩)))
end
