section
/-! ===== Int32 by its bits: bt x i ===== -/
def bt (x : Int32) (i : Nat) : Bool := x.toBitVec.getLsbD i
theorem b_ext {x y : Int32} (h : ∀ i, i < 32 → bt x i = bt y i) : x = y := Int32.toBitVec_inj.mp (BitVec.eq_of_getLsbD_eq (fun i hi => h i hi))
theorem b_or (x y : Int32) (i : Nat) : bt (x ||| y) i = (bt x i || bt y i) := by unfold bt; rw [Int32.toBitVec_or, BitVec.getLsbD_or]
theorem b_and (x y : Int32) (i : Nat) : bt (x &&& y) i = (bt x i && bt y i) := by unfold bt; rw [Int32.toBitVec_and, BitVec.getLsbD_and]
theorem b_xor (x y : Int32) (i : Nat) : bt (x ^^^ y) i = (bt x i ^^ bt y i) := by unfold bt; rw [Int32.toBitVec_xor, BitVec.getLsbD_xor]
theorem b_big {x : Int32} {i : Nat} (h : 32 ≤ i) : bt x i = false := BitVec.getLsbD_of_ge _ _ h
theorem b_255 (i : Nat) : bt 255 i = decide (i < 8) := by
  rcases Nat.lt_or_ge i 32 with h | h
  · exact (by decide +kernel : ∀ i, i < 32 → bt 255 i = decide (i < 8)) i h
  · rw [b_big h, decide_eq_false (by omega)]
theorem b_65535 (i : Nat) : bt 65535 i = decide (i < 16) := by
  rcases Nat.lt_or_ge i 32 with h | h
  · exact (by decide +kernel : ∀ i, i < 32 → bt 65535 i = decide (i < 16)) i h
  · rw [b_big h, decide_eq_false (by omega)]
theorem b_m1 : ∀ i, i < 32 → bt (-1) i = true := by decide +kernel
theorem b_0 (i : Nat) : bt 0 i = false := BitVec.getLsbD_zero
theorem s_l : ∀ n, n < 32 → ((nI n &&& 31).toBitVec.smod 32).toNat = n := by decide +kernel
theorem s_u : ∀ n, n < 32 → (((nI n).toUInt32 &&& Int32.toUInt32 31).toBitVec % 32).toNat = n := by decide +kernel
theorem b_shl (n : Nat) (hn : n < 32) (x : Int32) {i : Nat} (hi : i < 32) : bt (x <<< (nI n &&& 31)) i = (decide (n ≤ i) && bt x (i - n)) := by
  unfold bt
  rw [Int32.toBitVec_shiftLeft]
  show (x.toBitVec <<< ((nI n &&& 31).toBitVec.smod 32).toNat).getLsbD i = _
  rw [s_l n hn, BitVec.getLsbD_shiftLeft]
  rcases Nat.lt_or_ge i n with h | h
  · simp [h, Nat.not_le.mpr h]
  · simp [hi, h, Nat.not_lt.mpr h]
theorem b_ushr (n : Nat) (hn : n < 32) (x : Int32) (i : Nat) : bt ((x.toUInt32 >>> ((nI n).toUInt32 &&& Int32.toUInt32 31)).toInt32) i = bt x (n + i) := by
  show (x.toUInt32 >>> ((nI n).toUInt32 &&& Int32.toUInt32 31)).toBitVec.getLsbD i = x.toUInt32.toBitVec.getLsbD (n + i)
  rw [UInt32.toBitVec_shiftRight]
  show (x.toUInt32.toBitVec >>> (((nI n).toUInt32 &&& Int32.toUInt32 31).toBitVec % 32).toNat).getLsbD i = _
  rw [s_u n hn, BitVec.getLsbD_ushiftRight]
theorem b_sshr (n : Nat) (hn : n < 32) (x : Int32) {i : Nat} (hi : i < 32) : bt (x >>> (nI n &&& 31)) i = if n + i < 32 then bt x (n + i) else bt x 31 := by
  unfold bt
  rw [Int32.toBitVec_shiftRight]
  show (x.toBitVec.sshiftRight ((nI n &&& 31).toBitVec.smod 32).toNat).getLsbD i = _
  rw [s_l n hn, BitVec.getLsbD_sshiftRight, BitVec.msb_eq_getLsbD_last]
  simp [hi]
theorem pk_us {f : Nat → Int32} {k : Nat} {x : Int32} : upd f k x k = x := if_pos rfl
theorem pk_un {f : Nat → Int32} {k j : Nat} {x : Int32} (h : j ≠ k) : upd f k x j = f j := if_neg h
theorem pk_sub {a b : Nat} (h : b ≤ a) : nI a - nI b = nI (a - b) := by
  obtain ⟨c, rfl⟩ : ∃ c, a = c + b := ⟨a - b, by omega⟩
  rw [← nI_add, Int32.add_sub_cancel, Nat.add_sub_cancel]
theorem pk_m1 (n : Nat) : nI (n + 1) + (-1) = nI n := by
  rw [← nI_1, Int32.add_assoc, show (1 : Int32) + (-1) = 0 from rfl, Int32.add_zero]
theorem pk_mul (a b : Nat) : nI a * nI b = nI (a * b) := (Int32.ofNat_mul a b).symm
theorem pk_div {a d : Nat} (ha : a < 2 ^ 31) (h0 : 0 < d) (hd : d < 2 ^ 31) : nI a / nI d = nI (a / d) := by
  apply Int32.toInt_inj.mp
  rw [lg_idiv_nonneg (by rw [nI_toInt ha]; omega) (by rw [nI_toInt hd]; omega), nI_toInt ha, nI_toInt hd, nI_toInt (Nat.lt_of_le_of_lt (Nat.div_le_self a d) ha)]
  first | rfl | exact (Int.natCast_ediv _ _).symm
theorem pk_rem {a d : Nat} (ha : a < 2 ^ 31) (h0 : 0 < d) (hd : d < 2 ^ 31) : nI a - nI a / nI d * nI d = nI (a % d) := by
  rw [pk_div ha h0 hd, pk_mul, pk_sub (Nat.div_mul_le_self a d)]
  exact congrArg nI (by have := Nat.div_add_mod' a d; omega)
theorem pk_ix (x : Int32) {n : Nat} (hn : n < 2 ^ 31) : x < 0 ∨ nI n ≤ x ∨ ∃ j : Nat, j < n ∧ x = nI j := by
  by_cases h : x < 0
  · exact Or.inl h
  · obtain ⟨j, hj, rfl⟩ := nI_of h
    by_cases h2 : j < n
    · exact Or.inr (Or.inr ⟨j, h2, rfl⟩)
    · exact Or.inr (Or.inl (nI_le (by omega) hj))
theorem pk_le {x y : Int32} {A B : Prop} (a b : Nat) (f : a ≤ b → A) (g : b < a → B) (hx : x = nI a := by rfl) (hy : y = nI b := by rfl) (ha : a < 2 ^ 31 := by omega) (hb : b < 2 ^ 31 := by omega) : (x ≤ y → A) ∧ (¬ x ≤ y → B) := by
  subst hx hy
  rw [nI_leI ha hb]
  exact ⟨f, fun z => g (by omega)⟩
theorem pk_lt {x y : Int32} {A B : Prop} (a b : Nat) (f : a < b → A) (g : b ≤ a → B) (hx : x = nI a := by rfl) (hy : y = nI b := by rfl) (ha : a < 2 ^ 31 := by omega) (hb : b < 2 ^ 31 := by omega) : (x < y → A) ∧ (¬ x < y → B) := by
  subst hx hy
  rw [nI_ltI ha hb]
  exact ⟨f, fun z => g (by omega)⟩
theorem pk_eq {x y : Int32} {A B : Prop} (a b : Nat) (f : a = b → A) (g : a ≠ b → B) (hx : x = nI a := by rfl) (hy : y = nI b := by rfl) (ha : a < 2 ^ 31 := by omega) (hb : b < 2 ^ 31 := by omega) : (x = y → A) ∧ (¬ x = y → B) := by
  subst hx hy
  rw [nI_eq ha hb]
  exact ⟨f, g⟩
theorem pk_in {x : Int32} (n N : Nat) (h : n < N) (hx : x = nI n := by rfl) (hN : N < 2 ^ 31 := by omega) : vp_in x N := by
  subst hx
  exact vp_in_nI h hN
theorem pk_cl {x : Int32} (n : Nat) (hx : x = nI n := by rfl) (h : n < 2 ^ 31 := by omega) : x.toNatClampNeg = n := by
  subst hx
  exact nI_clamp h
theorem pk_tn {n : Nat} (h : n < 2 ^ 32) : (nI n).toBitVec.toNat = n := Nat.mod_eq_of_lt h
theorem pk_vb (z : Int32) : vp_nar .byte z.toInt8.toInt32 = z.toInt8.toInt32 := by rw [vp_nar_byte]; simp
theorem pk_vs (z : Int32) : vp_nar .short z.toInt16.toInt32 = z.toInt16.toInt32 := by rw [vp_nar_short]; simp
end
section
/-! ===== bits of ints, sets within 0 .. 7, or-sums, counts ===== -/
theorem ps_b1 : ∀ i, i < 32 → bt 1 i = decide (i = 0) := by decide +kernel
theorem ps_zf {x : Int32} {n : Nat} (hn : n < 32) (h : bt x n = false) : ((x >>> (nI n &&& 31)) &&& 1) = 0 := by
  apply b_ext
  intro i hi
  rw [b_and, b_sshr n hn x hi, ps_b1 i hi, b_0]
  by_cases h0 : i = 0
  · subst h0
    rw [if_pos (show n + 0 < 32 by omega), Nat.add_zero, h, Bool.false_and]
  · rw [decide_eq_false h0, Bool.and_false]
theorem ps_zt {x : Int32} {n : Nat} (hn : n < 32) (h : bt x n = true) : ((x >>> (nI n &&& 31)) &&& 1) = 1 := by
  apply b_ext
  intro i hi
  rw [b_and, b_sshr n hn x hi, ps_b1 i hi]
  by_cases h0 : i = 0
  · subst h0
    rw [if_pos (show n + 0 < 32 by omega), Nat.add_zero, h, Bool.true_and]
  · rw [decide_eq_false h0, Bool.and_false]
theorem ps_01 : ¬ (1 : Int32) = 0 := by decide
theorem ps_10 : ¬ (0 : Int32) = 1 := by decide
theorem ps_eq0 {x : Int32} {n : Nat} (hn : n < 32) : ((x >>> (nI n &&& 31)) &&& 1) = 0 ↔ bt x n = false := by
  cases h : bt x n with
  | false => exact ⟨fun _ => rfl, fun _ => ps_zf hn h⟩
  | true =>
    rw [ps_zt hn h]
    exact ⟨fun z => absurd z ps_01, fun z => nomatch z⟩
theorem ps_eq1 {x : Int32} {n : Nat} (hn : n < 32) : ((x >>> (nI n &&& 31)) &&& 1) = 1 ↔ bt x n = true := by
  cases h : bt x n with
  | true => exact ⟨fun _ => rfl, fun _ => ps_zt hn h⟩
  | false =>
    rw [ps_zf hn h]
    exact ⟨fun z => absurd z ps_10, fun z => nomatch z⟩
/-- the branch of a bit test against 0 -/
theorem ps_br0 {x : Int32} {n : Nat} {A B : Prop} (hn : n < 32) (f : bt x n = false → A) (g : bt x n = true → B) : (((x >>> (nI n &&& 31)) &&& 1) = 0 → A) ∧ (¬ ((x >>> (nI n &&& 31)) &&& 1) = 0 → B) := by
  rw [ps_eq0 hn]
  exact ⟨f, fun z => g (by cases h : bt x n with | true => rfl | false => exact absurd h z)⟩
/-- the branch of a bit test against 1 -/
theorem ps_br1 {x : Int32} {n : Nat} {A B : Prop} (hn : n < 32) (g : bt x n = true → A) (f : bt x n = false → B) : (((x >>> (nI n &&& 31)) &&& 1) = 1 → A) ∧ (¬ ((x >>> (nI n &&& 31)) &&& 1) = 1 → B) := by
  rw [ps_eq1 hn]
  exact ⟨g, fun z => f (by cases h : bt x n with | false => rfl | true => exact absurd h z)⟩
theorem ps_sh {n : Nat} (hn : n < 32) (i : Nat) : bt ((1 : Int32) <<< (nI n &&& 31)) i = decide (i = n) := by
  rcases Nat.lt_or_ge i 32 with h | h
  · rw [b_shl n hn 1 h]
    by_cases hle : n ≤ i
    · rw [ps_b1 (i - n) (by omega), decide_eq_true hle, Bool.true_and]
      exact decide_eq_decide.mpr (by omega)
    · rw [decide_eq_false hle, Bool.false_and, decide_eq_false (by omega)]
  · rw [b_big h, decide_eq_false (by omega)]
theorem ps_an (s x : Int32) (i : Nat) : bt (s &&& (x ^^^ (-1))) i = (bt s i && !bt x i) := by
  rw [b_and]
  rcases Nat.lt_or_ge i 32 with h | h
  · rw [b_xor, b_m1 i h, Bool.xor_true]
  · rw [b_big h, Bool.false_and, Bool.false_and]
theorem ps_or0 (x : Int32) : x ||| 0 = x := b_ext fun i _ => by rw [b_or, b_0, Bool.or_false]
/-- a set of variables: no bit at 8 or beyond -/
def ps_F (x : Int32) : Prop := ∀ i, 8 ≤ i → bt x i = false
theorem ps_F0 : ps_F 0 := fun i _ => b_0 i
theorem ps_Flt {x : Int32} {i : Nat} (h : ps_F x) (hb : bt x i = true) : i < 8 := by
  rcases Nat.lt_or_ge i 8 with h8 | h8
  · exact h8
  · rw [h i h8] at hb; exact nomatch hb
theorem ps_For {x y : Int32} (hx : ps_F x) (hy : ps_F y) : ps_F (x ||| y) := fun i hi => by rw [b_or, hx i hi, hy i hi]; rfl
theorem ps_Fan {x y : Int32} (hx : ps_F x) : ps_F (x &&& (y ^^^ (-1))) := fun i hi => by rw [ps_an, hx i hi]; rfl
theorem ps_Fsh {n : Nat} (hn : n < 8) : ps_F ((1 : Int32) <<< (nI n &&& 31)) := fun i hi => by rw [ps_sh (by omega), decide_eq_false (by omega)]
theorem ps_Fof {x : Int32} (h : ps_F x) : ∃ n, n < 256 ∧ x = nI n := by
  refine ⟨x.toBitVec.toNat, Nat.lt_pow_two_of_testBit (n := 8) _ (fun i hi => ?_), ?_⟩
  · exact h i hi
  · apply Int32.toBitVec_inj.mp
    apply BitVec.eq_of_toNat_eq
    exact (pk_tn x.toBitVec.isLt).symm
theorem ps_nr : ∀ n, n < 256 → (nI n).toInt16.toInt32 = nI n := by decide +kernel
theorem ps_nar {x : Int32} (h : ps_F x) : vp_nar .short x.toInt16.toInt32 = x := by
  obtain ⟨n, hn, rfl⟩ := ps_Fof h
  rw [pk_vs, ps_nr n hn]
theorem ps_nr8 : ∀ n, n < 8 → (nI n).toInt8.toInt32 = nI n := by decide +kernel
theorem ps_nar8 {n : Nat} (h : n < 8) : vp_nar .byte (nI n).toInt8.toInt32 = nI n := by rw [pk_vb, ps_nr8 n h]
theorem ps_nar0 : vp_nar .short 0 = 0 := by rw [vp_nar_short]; decide
/-- the or of the bits n with f n -/
def ps_mk (f : Nat → Bool) : Nat → Int32
  | 0 => 0
  | n + 1 => ps_mk f n ||| (if f n = true then (1 : Int32) <<< (nI n &&& 31) else 0)
theorem ps_mk_b (f : Nat → Bool) : ∀ n, n ≤ 32 → ∀ i, bt (ps_mk f n) i = (decide (i < n) && f i) := by
  intro n
  induction n with
  | zero =>
    intro _ i
    show bt 0 i = _
    rw [b_0, decide_eq_false (by omega), Bool.false_and]
  | succ n ih =>
    intro hn i
    show bt (ps_mk f n ||| _) i = _
    rw [b_or, ih (by omega) i]
    cases hf : f n with
    | true =>
      rw [if_pos rfl, ps_sh (by omega)]
      by_cases e : i = n
      · subst e
        rw [hf, decide_eq_true (rfl : i = i), decide_eq_true (by omega : i < i + 1), Bool.or_true]
        rfl
      · rw [decide_eq_false e, Bool.or_false]
        congr 1
        exact decide_eq_decide.mpr (by omega)
    | false =>
      rw [if_neg (by decide), b_0, Bool.or_false]
      by_cases e : i = n
      · subst e
        rw [hf, Bool.and_false, Bool.and_false]
      · congr 1
        exact decide_eq_decide.mpr (by omega)
theorem ps_mkt {f : Nat → Bool} {n : Nat} (h : f n = true) : ps_mk f n ||| (1 : Int32) <<< (nI n &&& 31) = ps_mk f (n + 1) := by
  show _ = ps_mk f n ||| _
  rw [if_pos h]
theorem ps_mkf {f : Nat → Bool} {n : Nat} (h : f n = false) : ps_mk f n = ps_mk f (n + 1) := by
  show _ = ps_mk f n ||| _
  rw [if_neg (by rw [h]; decide), ps_or0]
theorem ps_mkF {f : Nat → Bool} {n : Nat} (hn : n ≤ 8) : ps_F (ps_mk f n) := fun i hi => by
  rw [ps_mk_b f n (by omega), decide_eq_false (by omega), Bool.false_and]
theorem ps_mkc {f g : Nat → Bool} : ∀ n, (∀ i, i < n → f i = g i) → ps_mk f n = ps_mk g n := by
  intro n
  induction n with
  | zero => intro _; rfl
  | succ n ih =>
    intro h
    show ps_mk f n ||| _ = ps_mk g n ||| _
    rw [ih (fun i hi => h i (by omega)), h n (by omega)]
/-- how many i below n have f i -/
def ps_cn (f : Nat → Bool) : Nat → Nat
  | 0 => 0
  | n + 1 => ps_cn f n + (if f n = true then 1 else 0)
theorem ps_cn_le (f : Nat → Bool) : ∀ n, ps_cn f n ≤ n := by
  intro n
  induction n with
  | zero => exact Nat.le_refl 0
  | succ n ih =>
    show ps_cn f n + _ ≤ n + 1
    split <;> omega
theorem ps_cn_mono {f g : Nat → Bool} : ∀ n, (∀ i, i < n → f i = true → g i = true) → ps_cn f n ≤ ps_cn g n := by
  intro n
  induction n with
  | zero => intro _; exact Nat.le_refl 0
  | succ n ih =>
    intro h
    have h1 := ih (fun i hi => h i (by omega))
    show ps_cn f n + _ ≤ ps_cn g n + _
    by_cases hf : f n = true
    · rw [if_pos hf, if_pos (h n (by omega) hf)]; omega
    · rw [if_neg hf]; omega
theorem ps_cn_lt {f g : Nat → Bool} : ∀ n, (∀ i, i < n → f i = true → g i = true) → ∀ j, j < n → f j = false → g j = true → ps_cn f n < ps_cn g n := by
  intro n
  induction n with
  | zero => intro _ j hj; omega
  | succ n ih =>
    intro h j hj hf hg
    show ps_cn f n + _ < ps_cn g n + _
    by_cases e : j = n
    · subst e
      have h1 := ps_cn_mono j (fun i hi => h i (by omega))
      rw [if_neg (by rw [hf]; decide), if_pos hg]; omega
    · have h1 := ih (fun i hi => h i (by omega)) j (by omega) hf hg
      by_cases hf' : f n = true
      · rw [if_pos hf', if_pos (h n (by omega) hf')]; omega
      · rw [if_neg hf']; omega
theorem ps_cn_eq {f g : Nat → Bool} {n : Nat} (h : ∀ i, i < n → f i = true → g i = true) (e : ps_cn f n = ps_cn g n) : ∀ i, i < n → f i = g i := by
  intro i hi
  cases hf : f i with
  | true => rw [h i hi hf]
  | false =>
    cases hg : g i with
    | false => rfl
    | true =>
      have := ps_cn_lt n h i hi hf hg
      omega
theorem ps_cn_c {f g : Nat → Bool} {n : Nat} (h : ∀ i, i < n → f i = g i) : ps_cn f n = ps_cn g n :=
  Nat.le_antisymm (ps_cn_mono n (fun i hi hf => by rw [← h i hi]; exact hf)) (ps_cn_mono n (fun i hi hg => by rw [h i hi]; exact hg))
theorem ps_cn_s (f : Nat → Bool) (n : Nat) : ps_cn f (n + 1) = ps_cn f n + (if f n = true then 1 else 0) := rfl
/-- a relation on 8 by 8, in a row of 64 -/
theorem ps_dm {x z : Nat} (hz : z < 8) : (8 * x + z) / 8 = x ∧ (8 * x + z) % 8 = z := by omega
end
section
/-! ===== the least set of pointers that all statements keep ===== -/
/-- S keeps one statement: x = &y, x = y, x = *y, *x = y -/
def ps_St (kd xd yd : Nat) (S : Nat → Nat → Prop) : Prop :=
  (kd = 0 → S xd yd) ∧ (kd = 1 → ∀ w, S yd w → S xd w) ∧ (kd = 2 → ∀ z w, S yd z → S z w → S xd w) ∧ (kd = 3 → ∀ z w, S xd z → S yd w → S z w)
def ps_Cl (pr : Int32) (kd xd yd : Nat → Nat) (S : Nat → Nat → Prop) : Prop := ∀ k, k < 13 → bt pr k = true → ps_St (kd k) (xd k) (yd k) S
def ps_L (pr : Int32) (kd xd yd : Nat → Nat) (x z : Nat) : Prop := ∀ S, ps_Cl pr kd xd yd S → S x z
def ps_Ok (kd xd yd : Nat → Nat) : Prop := ∀ k, kd k < 4 ∧ xd k < 8 ∧ yd k < 8
theorem ps_L_cl (pr : Int32) (kd xd yd : Nat → Nat) : ps_Cl pr kd xd yd (ps_L pr kd xd yd) := by
  intro k hk hp
  refine ⟨?_, ?_, ?_, ?_⟩
  · intro e S hS
    exact (hS k hk hp).1 e
  · intro e w h S hS
    exact (hS k hk hp).2.1 e w (h S hS)
  · intro e z w h1 h2 S hS
    exact (hS k hk hp).2.2.1 e z w (h1 S hS) (h2 S hS)
  · intro e z w h1 h2 S hS
    exact (hS k hk hp).2.2.2 e z w (h1 S hS) (h2 S hS)
theorem ps_L_8 {pr : Int32} {kd xd yd : Nat → Nat} (ok : ps_Ok kd xd yd) {x z : Nat} (h : ps_L pr kd xd yd x z) : x < 8 ∧ z < 8 := by
  refine h (fun x z => x < 8 ∧ z < 8) ?_
  intro k hk hp
  have o := ok k
  exact ⟨fun _ => ⟨o.2.1, o.2.2⟩, fun _ w h => ⟨o.2.1, h.2⟩, fun _ z w _ h => ⟨o.2.1, h.2⟩, fun _ z w h1 h2 => ⟨h1.2, h2.2⟩⟩
/-- fewer statements, smaller least set -/
theorem ps_L_mono {pr pr' : Int32} {kd xd yd : Nat → Nat} (h : ∀ k, k < 13 → bt pr' k = true → bt pr k = true) {x z : Nat} (hl : ps_L pr' kd xd yd x z) : ps_L pr kd xd yd x z :=
  fun S hS => hl S (fun k hk hp => hS k hk (h k hk hp))
/-- the least set's row x as an int -/
noncomputable def ps_P (pr : Int32) (kd xd yd : Nat → Nat) (x : Nat) : Int32 := ps_mk (fun z => @decide (ps_L pr kd xd yd x z) (Classical.propDecidable _)) 8
theorem ps_P_b {pr : Int32} {kd xd yd : Nat → Nat} (ok : ps_Ok kd xd yd) (x z : Nat) : bt (ps_P pr kd xd yd x) z = true ↔ ps_L pr kd xd yd x z := by
  unfold ps_P
  rw [ps_mk_b _ 8 (by omega)]
  constructor
  · intro h
    have h2 := (Bool.and_eq_true _ _ ▸ h : decide (z < 8) = true ∧ _).2
    exact @of_decide_eq_true _ (Classical.propDecidable _) h2
  · intro h
    rw [decide_eq_true (ps_L_8 ok h).2, Bool.true_and]
    exact @decide_eq_true _ (Classical.propDecidable _) h
theorem ps_P_F (pr : Int32) (kd xd yd : Nat → Nat) (x : Nat) : ps_F (ps_P pr kd xd yd x) := ps_mkF (Nat.le_refl 8)
/-- an array holds the answer -/
def ps_Sol (pr : Int32) (kd xd yd : Nat → Nat) (a : Nat → Int32) : Prop := ∀ x, x < 8 → a x = ps_P pr kd xd yd x
/-- the pairs of an array -/
def ps_S (a : Nat → Int32) (x z : Nat) : Prop := x < 8 ∧ bt (a x) z = true
theorem ps_Sol_of {pr : Int32} {kd xd yd : Nat → Nat} (ok : ps_Ok kd xd yd) {a : Nat → Int32} (hs : ∀ x, x < 8 → ∀ z, bt (a x) z = true → ps_L pr kd xd yd x z) (hc : ps_Cl pr kd xd yd (ps_S a)) : ps_Sol pr kd xd yd a := by
  intro x hx
  apply b_ext
  intro i _
  rw [Bool.eq_iff_iff, ps_P_b ok]
  exact ⟨hs x hx i, fun h => (h _ hc).2⟩
/-! ===== what X keeps while it passes on ===== -/
/-- p points, f fresh, l links; Pd: the pairs passed on (points, not fresh); Q: those of them that went along all links -/
def ps_J (pr : Int32) (kd xd yd : Nat → Nat) (Pd Q : Nat → Nat → Bool) (p f l : Nat → Int32) : Prop :=
  (∀ x, x < 8 → ps_F (p x) ∧ ps_F (f x) ∧ ps_F (l x)) ∧
  (∀ x, x < 8 → ∀ z, bt (f x) z = true → bt (p x) z = true) ∧
  (∀ x, x < 8 → ∀ z, Pd x z = (bt (p x) z && !bt (f x) z)) ∧
  (∀ x, x < 8 → ∀ z, bt (p x) z = true → ps_L pr kd xd yd x z) ∧
  (∀ x, x < 8 → ∀ y, bt (l x) y = true → ∀ z, ps_L pr kd xd yd x z → ps_L pr kd xd yd y z) ∧
  (∀ x, x < 8 → ∀ y, bt (l x) y = true → ∀ z, Q x z = true → bt (p y) z = true) ∧
  (∀ x, x < 8 → ∀ z, Q x z = true → Pd x z = true)
/-- points and links only grow -/
def ps_G (p l p' l' : Nat → Int32) : Prop :=
  (∀ x, x < 8 → ∀ z, bt (p x) z = true → bt (p' x) z = true) ∧ (∀ x, x < 8 → ∀ z, bt (l x) z = true → bt (l' x) z = true)
theorem ps_G_r (p l : Nat → Int32) : ps_G p l p l := ⟨fun _ _ _ h => h, fun _ _ _ h => h⟩
theorem ps_G_t {p l p' l' p'' l'' : Nat → Int32} (h : ps_G p l p' l') (h' : ps_G p' l' p'' l'') : ps_G p l p'' l'' :=
  ⟨fun x hx z hz => h'.1 x hx z (h.1 x hx z hz), fun x hx z hz => h'.2 x hx z (h.2 x hx z hz)⟩
section
variable {pr : Int32} {kd xd yd : Nat → Nat} {Pd Q : Nat → Nat → Bool} {p f l : Nat → Int32}
theorem ps_J_point (J : ps_J pr kd xd yd Pd Q p f l) {x : Nat} (hx : x < 8) {s : Int32} (hs : ps_F s) (hL : ∀ z, bt s z = true → ps_L pr kd xd yd x z) :
    ps_J pr kd xd yd Pd Q (upd p x (p x ||| (s &&& (p x ^^^ (-1))))) (upd f x (f x ||| (s &&& (p x ^^^ (-1))))) l ∧
    ps_G p l (upd p x (p x ||| (s &&& (p x ^^^ (-1))))) l ∧ (∀ z, bt s z = true → bt (upd p x (p x ||| (s &&& (p x ^^^ (-1)))) x) z = true) := by
  obtain ⟨j1, j2, j3, j4, j5, j6, j7⟩ := J
  have bp : ∀ z, bt (p x ||| (s &&& (p x ^^^ (-1)))) z = (bt (p x) z || bt s z) := fun z => by
    rw [b_or, ps_an]; cases bt (p x) z <;> cases bt s z <;> rfl
  have bf : ∀ z, bt (f x ||| (s &&& (p x ^^^ (-1)))) z = (bt (f x) z || (bt s z && !bt (p x) z)) := fun z => by
    rw [b_or, ps_an]
  have G : ∀ y, y < 8 → ∀ z, bt (p y) z = true → bt (upd p x (p x ||| (s &&& (p x ^^^ (-1)))) y) z = true := by
    intro y hy z h
    by_cases e : y = x
    · subst e; rw [pk_us, bp, h]; rfl
    · rw [pk_un e]; exact h
  refine ⟨⟨?_, ?_, ?_, ?_, j5, ?_, j7⟩, ⟨G, fun _ _ _ h => h⟩, ?_⟩
  · intro y hy
    by_cases e : y = x
    · subst e
      rw [pk_us, pk_us]
      exact ⟨ps_For (j1 y hy).1 (ps_Fan hs), ps_For (j1 y hy).2.1 (ps_Fan hs), (j1 y hy).2.2⟩
    · rw [pk_un e, pk_un e]; exact j1 y hy
  · intro y hy z h
    by_cases e : y = x
    · subst e
      rw [pk_us, bf] at h
      rw [pk_us, bp]
      have := j2 y hy z
      revert h this
      cases bt (p y) z <;> cases bt (f y) z <;> cases bt s z <;> simp
    · rw [pk_un e] at h
      rw [pk_un e]; exact j2 y hy z h
  · intro y hy z
    by_cases e : y = x
    · subst e
      rw [pk_us, pk_us, bp, bf, j3 y hy z]
      have := j2 y hy z
      revert this
      cases bt (p y) z <;> cases bt (f y) z <;> cases bt s z <;> simp
    · rw [pk_un e, pk_un e]; exact j3 y hy z
  · intro y hy z h
    by_cases e : y = x
    · subst e
      rw [pk_us, bp, Bool.or_eq_true] at h
      rcases h with h | h
      · exact j4 y hy z h
      · exact hL z h
    · rw [pk_un e] at h; exact j4 y hy z h
  · intro y hy t ht z hq
    exact G t (ps_Flt (j1 y hy).2.2 ht) z (j6 y hy t ht z hq)
  · intro z h
    rw [pk_us, bp, h, Bool.or_true]
/-- a link is added behind the points that go along it -/
theorem ps_J_link (J : ps_J pr kd xd yd Pd Q p f l) {a b : Nat} (ha : a < 8) (hb : b < 8) (hL : ∀ z, ps_L pr kd xd yd a z → ps_L pr kd xd yd b z) (hp : ∀ z, Pd a z = true → bt (p b) z = true) :
    ps_J pr kd xd yd Pd Q p f (upd l a (l a ||| (1 : Int32) <<< (nI b &&& 31))) ∧ ps_G p l p (upd l a (l a ||| (1 : Int32) <<< (nI b &&& 31))) ∧ bt (upd l a (l a ||| (1 : Int32) <<< (nI b &&& 31)) a) b = true := by
  obtain ⟨j1, j2, j3, j4, j5, j6, j7⟩ := J
  have bl : ∀ z, bt (l a ||| (1 : Int32) <<< (nI b &&& 31)) z = (bt (l a) z || decide (z = b)) := fun z => by rw [b_or, ps_sh (by omega)]
  refine ⟨⟨?_, j2, j3, j4, ?_, ?_, j7⟩, ⟨fun _ _ _ h => h, ?_⟩, ?_⟩
  · intro y hy
    by_cases e : y = a
    · subst e
      rw [pk_us]
      exact ⟨(j1 y hy).1, (j1 y hy).2.1, ps_For (j1 y hy).2.2 (ps_Fsh hb)⟩
    · rw [pk_un e]; exact j1 y hy
  · intro y hy t h z hz
    by_cases e : y = a
    · subst e
      rw [pk_us, bl, Bool.or_eq_true] at h
      rcases h with h | h
      · exact j5 y hy t h z hz
      · rw [of_decide_eq_true h]; exact hL z hz
    · rw [pk_un e] at h; exact j5 y hy t h z hz
  · intro y hy t h z hz
    by_cases e : y = a
    · subst e
      rw [pk_us, bl, Bool.or_eq_true] at h
      rcases h with h | h
      · exact j6 y hy t h z hz
      · rw [of_decide_eq_true h]
        exact hp z (j7 y hy z hz)
    · rw [pk_un e] at h; exact j6 y hy t h z hz
  · intro y hy z h
    by_cases e : y = a
    · subst e; rw [pk_us, bl, h]; rfl
    · rw [pk_un e]; exact h
  · rw [pk_us, bl, decide_eq_true (rfl : b = b), Bool.or_true]
/-- what v has fresh counts as passed on -/
def ps_Pn (Pd : Nat → Nat → Bool) (v : Nat) (s : Int32) : Nat → Nat → Bool := fun x z => Pd x z || (decide (x = v) && bt s z)
theorem ps_J_take (J : ps_J pr kd xd yd Pd Pd p f l) {v : Nat} (hv : v < 8) : ps_J pr kd xd yd (ps_Pn Pd v (f v)) Pd p (upd f v 0) l := by
  obtain ⟨j1, j2, j3, j4, j5, j6, _⟩ := J
  refine ⟨?_, ?_, ?_, j4, j5, j6, ?_⟩
  · intro y hy
    by_cases e : y = v
    · subst e; rw [pk_us]; exact ⟨(j1 y hy).1, ps_F0, (j1 y hy).2.2⟩
    · rw [pk_un e]; exact j1 y hy
  · intro y hy z h
    by_cases e : y = v
    · subst e; rw [pk_us, b_0] at h; exact nomatch h
    · rw [pk_un e] at h; exact j2 y hy z h
  · intro y hy z
    unfold ps_Pn
    rw [j3 y hy z]
    by_cases e : y = v
    · subst e
      rw [pk_us, b_0, decide_eq_true (rfl : y = y)]
      have := j2 y hy z
      revert this
      cases bt (p y) z <;> cases bt (f y) z <;> simp
    · rw [pk_un e, decide_eq_false e, Bool.false_and, Bool.or_false]
  · intro y hy z h
    unfold ps_Pn
    rw [h]; rfl
/-- once what was new went along all links of v, all is linked again -/
theorem ps_J_done {v : Nat} {s : Int32} (J : ps_J pr kd xd yd (ps_Pn Pd v s) Pd p f l) (h : ∀ w, w < 8 → bt (l v) w = true → ∀ z, bt s z = true → bt (p w) z = true) : ps_J pr kd xd yd (ps_Pn Pd v s) (ps_Pn Pd v s) p f l := by
  obtain ⟨j1, j2, j3, j4, j5, j6, j7⟩ := J
  refine ⟨j1, j2, j3, j4, j5, ?_, fun _ _ _ h => h⟩
  intro x hx y hy z hz
  unfold ps_Pn at hz
  rw [Bool.or_eq_true, Bool.and_eq_true] at hz
  rcases hz with hz | ⟨e, hz⟩
  · exact j6 x hx y hy z hz
  · have e' := of_decide_eq_true e
    subst e'
    exact h y (ps_Flt (j1 x hx).2.2 hy) hy z hz
/-- at the head of a round -/
def ps_M (pr : Int32) (kd xd yd : Nat → Nat) (Pd : Nat → Nat → Bool) (p l : Nat → Int32) : Prop :=
  ∀ k, k < 13 → bt pr k = true → (kd k = 0 → bt (p (xd k)) (yd k) = true) ∧ (kd k = 1 → bt (l (yd k)) (xd k) = true) ∧
    (kd k = 2 → ∀ z, Pd (yd k) z = true → bt (l z) (xd k) = true) ∧ (kd k = 3 → ∀ z, Pd (xd k) z = true → bt (l (yd k)) z = true)
theorem ps_end (ok : ps_Ok kd xd yd) (J : ps_J pr kd xd yd Pd Pd p f l) (M : ps_M pr kd xd yd Pd p l) (hf : ∀ x, x < 8 → f x = 0) : ps_Sol pr kd xd yd p := by
  obtain ⟨j1, j2, j3, j4, j5, j6, j7⟩ := J
  have e : ∀ x, x < 8 → ∀ z, Pd x z = bt (p x) z := fun x hx z => by
    rw [j3 x hx z, hf x hx, b_0]; simp
  refine ps_Sol_of ok j4 ?_
  intro k hk hp
  obtain ⟨m0, m1, m2, m3⟩ := M k hk hp
  have o := ok k
  refine ⟨fun h => ⟨o.2.1, m0 h⟩, ?_, ?_, ?_⟩
  · intro h w hw
    refine ⟨o.2.1, j6 (yd k) o.2.2 (xd k) (m1 h) w ?_⟩
    rw [e _ o.2.2]; exact hw.2
  · intro h z w hz hw
    refine ⟨o.2.1, j6 z hw.1 (xd k) (m2 h z ?_) w ?_⟩
    · rw [e _ o.2.2]; exact hz.2
    · rw [e _ hw.1]; exact hw.2
  · intro h z w hz hw
    have h8 : z < 8 := ps_Flt (j1 (xd k) o.2.1).1 hz.2
    refine ⟨h8, j6 (yd k) o.2.2 z (m3 h z ?_) w ?_⟩
    · rw [e _ o.2.1]; exact hz.2
    · rw [e _ o.2.2]; exact hw.2
/-- the number of pairs of an array of bits -/
def ps_c2 (P : Nat → Nat → Bool) : Nat := ps_cn (fun c => P (c / 8) (c % 8)) 64
theorem ps_c2_le (P : Nat → Nat → Bool) : ps_c2 P ≤ 64 := ps_cn_le _ 64
theorem ps_c2_mono {P P' : Nat → Nat → Bool} (h : ∀ x, x < 8 → ∀ z, z < 8 → P x z = true → P' x z = true) : ps_c2 P ≤ ps_c2 P' :=
  ps_cn_mono 64 (fun i hi hp => h (i / 8) (by omega) (i % 8) (by omega) hp)
theorem ps_c2_lt {P P' : Nat → Nat → Bool} (h : ∀ x, x < 8 → ∀ z, z < 8 → P x z = true → P' x z = true) {x z : Nat} (hx : x < 8) (hz : z < 8) (h0 : P x z = false) (h1 : P' x z = true) : ps_c2 P < ps_c2 P' := by
  refine ps_cn_lt 64 (fun i hi hp => h (i / 8) (by omega) (i % 8) (by omega) hp) (8 * x + z) (by omega) ?_ ?_
  · show P ((8 * x + z) / 8) ((8 * x + z) % 8) = false
    rw [(ps_dm hz).1, (ps_dm hz).2]; exact h0
  · show P' ((8 * x + z) / 8) ((8 * x + z) % 8) = true
    rw [(ps_dm hz).1, (ps_dm hz).2]; exact h1
theorem ps_c2_eq {P P' : Nat → Nat → Bool} (h : ∀ x, x < 8 → ∀ z, z < 8 → P x z = true → P' x z = true) (e : ps_c2 P = ps_c2 P') {x z : Nat} (hx : x < 8) (hz : z < 8) : P x z = P' x z := by
  have h1 := ps_cn_eq (n := 64) (fun i hi hp => h (i / 8) (by omega) (i % 8) (by omega) hp) e (8 * x + z) (by omega)
  have h2 : P ((8 * x + z) / 8) ((8 * x + z) % 8) = P' ((8 * x + z) / 8) ((8 * x + z) % 8) := h1
  rw [(ps_dm hz).1, (ps_dm hz).2] at h2
  exact h2
/-- a round passes on something more -/
theorem ps_J_more (J : ps_J pr kd xd yd Pd Pd p f l) {v : Nat} (hv : v < 8) (hn : f v ≠ 0) : ps_c2 Pd < ps_c2 (ps_Pn Pd v (f v)) := by
  obtain ⟨j1, j2, j3, j4, j5, j6, _⟩ := J
  have hz : ∃ z, z < 8 ∧ bt (f v) z = true := by
    apply Classical.byContradiction
    intro hne
    apply hn
    apply b_ext
    intro i _
    rw [b_0]
    cases hb : bt (f v) i with
    | false => rfl
    | true => exact absurd ⟨i, ps_Flt (j1 v hv).2.1 hb, hb⟩ hne
  obtain ⟨z, h8, hz⟩ := hz
  refine ps_c2_lt (fun x _ z _ h => ?_) hv h8 ?_ ?_
  · unfold ps_Pn; rw [h]; rfl
  · rw [j3 v hv z, hz]; simp
  · unfold ps_Pn; rw [hz, decide_eq_true (rfl : v = v)]; simp
end
end
section
/-! ===== X: point, link, waiting, follow, passOn, solve ===== -/
/-- an array of small numbers -/
def ps_A (g : Nat → Nat) : Nat → Int32 := fun k => nI (g k)
theorem ps_A_at (g : Nat → Nat) {k : Nat} (hk : k < 2 ^ 31) : ps_A g (nI k).toNatClampNeg = nI (g k) := by
  rw [nI_clamp hk]; rfl
theorem qx_in {post : Int32 → Prop} {s i : Int32} (n : Nat) (hn : n < 32) (h0 : bt s n = false → post 0) (h1 : bt s n = true → post 1) (e : i = nI n := by rfl) : wpX_in post s i := by
  subst e
  exact ps_br0 hn h0 h1
section
variable {pr kn : Int32} {kd xd yd : Nat → Nat} {Pd Q : Nat → Nat → Bool} {K X Y p f l l0 : Nat → Int32}
theorem qx_point {post : SX → Prop} (J : ps_J pr kd xd yd Pd Q p f l) {A S : Int32} (x : Nat) (s : Int32) (hx : x < 8) (ea : A = nI x) (es : S = s) (hs : ps_F s) (hL : ∀ z, bt s z = true → ps_L pr kd xd yd x z)
    (k : ∀ p' f', ps_J pr kd xd yd Pd Q p' f' l → ps_G p l p' l → (∀ z, bt s z = true → bt (p' x) z = true) → post (pr, kn, K, X, Y, p', f', l0)) : wpX_point post (pr, kn, K, X, Y, p, f, l0) A S := by
  subst ea es
  have hi : vp_in (nI x) 8 := vp_in_nI hx (by omega)
  have ec : (nI x).toNatClampNeg = x := nI_clamp (by omega)
  have h := ps_J_point J hx hs hL
  unfold wpX_point
  dsimp only
  rw [ec]
  refine ⟨hi, nm_e ⟨hi, hi, nm_r (e' := upd p x (p x ||| (S &&& (p x ^^^ (-1))))) ?_ ⟨hi, hi, nm_r (e' := upd f x (f x ||| (S &&& (p x ^^^ (-1))))) ?_ (k _ _ h.1 h.2.1 h.2.2)⟩⟩⟩
  · rw [ps_nar (ps_For (J.1 x hx).1 (ps_Fan hs))]
  · rw [ps_nar (ps_For (J.1 x hx).2.1 (ps_Fan hs))]
theorem qx_link {post : SX → Prop} (J : ps_J pr kd xd yd Pd Q p f l) {A B : Int32} (a b : Nat) (ha : a < 8) (hb : b < 8) (ea : A = nI a) (eb : B = nI b) (hL : ∀ z, ps_L pr kd xd yd a z → ps_L pr kd xd yd b z)
    (k : ∀ p' f' l', ps_J pr kd xd yd Pd Q p' f' l' → ps_G p l p' l' → bt (l' a) b = true → post (pr, kn, K, X, Y, p', f', l')) : wpX_link post (pr, kn, K, X, Y, p, f, l) A B := by
  subst ea eb
  have hi : vp_in (nI a) 8 := vp_in_nI ha (by omega)
  have ec : (nI a).toNatClampNeg = a := nI_clamp (by omega)
  unfold wpX_link
  dsimp only
  rw [ec]
  refine ⟨hi, qx_in b (by omega) (fun h0 => br_t rfl ⟨hi, hi, nm_r (e' := upd l a (l a ||| (1 : Int32) <<< (nI b &&& 31))) ?_ ⟨hi, ?_⟩⟩) (fun h1 => br_f ps_01 (k p f l J (ps_G_r p l) h1))⟩
  · rw [ps_nar (ps_For (J.1 a ha).2.2 (ps_Fsh hb))]
  · refine qx_point J b (p a) hb rfl rfl (J.1 a ha).1 (fun z hz => hL z (J.2.2.2.1 a ha z hz)) (fun p' f' J' G' h' => ?_)
    have hp : ∀ z, Pd a z = true → bt (p' b) z = true := fun z hz => h' z (by
      have e := J.2.2.1 a ha z
      rw [e, Bool.and_eq_true] at hz
      exact hz.1)
    have h2 := ps_J_link J' ha hb hL hp
    exact k _ _ _ h2.1 (ps_G_t G' h2.2.1) h2.2.2
theorem qx_wait_l {post : Int32 → Prop} (h0 : (∀ x, x < 8 → f x = 0) → post (-1)) (h1 : ∀ v, v < 8 → f v ≠ 0 → post (nI v)) :
    ∀ d j, j + d = 8 → (∀ x, x < j → f x = 0) → wX_waiting_2 post pr kn K X Y p f l (d + 1) (nI j) := by
  intro d
  induction d with
  | zero =>
    intro j hj h
    exact pk_le 8 j (fun _ => h0 (fun x hx => h x (by omega))) (fun z => absurd z (by omega))
  | succ d ih =>
    intro j hj h
    have ec : (nI j).toNatClampNeg = j := nI_clamp (by omega)
    refine pk_le 8 j (fun z => absurd z (by omega)) (fun z => ⟨vp_in_nI (by omega) (by omega), br_c (fun hz => nm_r (nI_1 j) (ih (j + 1) (by omega) ?_)) (fun hz => h1 j (by omega) ?_)⟩)
    · intro x hx
      by_cases e : x = j
      · subst e; rw [ec] at hz; exact hz
      · exact h x (by omega)
    · rw [ec] at hz; exact hz
theorem qx_wait {post : Int32 → Prop} (h0 : (∀ x, x < 8 → f x = 0) → post (-1)) (h1 : ∀ v, v < 8 → f v ≠ 0 → post (nI v)) : wpX_waiting post (pr, kn, K, X, Y, p, f, l) :=
  ⟨9, qx_wait_l h0 h1 8 0 rfl (fun x hx => absurd hx (Nat.not_lt_zero x))⟩
theorem qx_follow_l {post : SX → Prop} {k v : Nat} {s la lb : Int32} {p0 q0 : Nat → Int32} (hk : k < 13) (ok : ps_Ok kd xd yd) (hp : bt pr k = true)
    (hs : ∀ z, bt s z = true → ps_L pr kd xd yd v z) (ha : la ≠ 0 → kd k = 2 ∧ yd k = v) (hb : lb ≠ 0 → kd k = 3 ∧ xd k = v)
    (kk : ∀ p' f' l', ps_J pr kd xd yd Pd Q p' f' l' → ps_G p0 q0 p' l' → (la ≠ 0 → ∀ z, z < 8 → bt s z = true → bt (l' z) (xd k) = true) → (lb ≠ 0 → ∀ z, z < 8 → bt s z = true → bt (l' (yd k)) z = true) → post (pr, kn, ps_A kd, ps_A xd, ps_A yd, p', f', l')) :
    ∀ d j p f l, j + d = 8 → ps_J pr kd xd yd Pd Q p f l → ps_G p0 q0 p l → (la ≠ 0 → ∀ z, z < j → bt s z = true → bt (l z) (xd k) = true) → (lb ≠ 0 → ∀ z, z < j → bt s z = true → bt (l (yd k)) z = true) →
      wX_follow_57 post (nI k) s la lb (d + 1) (nI j) pr kn (ps_A kd) (ps_A xd) (ps_A yd) p f l := by
  intro d
  have o := ok k
  induction d with
  | zero =>
    intro j p f l hj J G a b
    have e : j = 8 := by omega
    subst e
    exact pk_le 8 8 (fun _ => kk p f l J G a b) (fun z => absurd z (by omega))
  | succ d ih =>
    intro j p f l hj J G a b
    have hi : vp_in (nI k) 13 := vp_in_nI hk (by omega)
    have H : ∀ p f l, ps_J pr kd xd yd Pd Q p f l → ps_G p0 q0 p l → (la ≠ 0 → ∀ z, z < j + 1 → bt s z = true → bt (l z) (xd k) = true) → (lb ≠ 0 → ∀ z, z < j → bt s z = true → bt (l (yd k)) z = true) →
        wX_follow_90 post (wX_follow_57 post (nI k) s la lb (d + 1)) (nI k) s la lb (nI j) pr kn (ps_A kd) (ps_A xd) (ps_A yd) p f l := by
      intro p f l J G a b
      refine qx_in j (by omega) (fun h0 => br_t rfl (nm_r (nI_1 j) (ih (j + 1) p f l (by omega) J G a ?_))) (fun h1 => br_f ps_01 (br_c (fun z => nm_r (nI_1 j) (ih (j + 1) p f l (by omega) J G a ?_)) (fun z => ⟨hi, ?_⟩)))
      · intro hn y hy hz
        by_cases e : y = j
        · subst e; rw [h0] at hz; exact nomatch hz
        · exact b hn y (by omega) hz
      · intro hn
        exact absurd z hn
      · refine qx_link J (yd k) j o.2.2 (by omega) (ps_A_at yd (by omega)) rfl (fun w hw => ?_) (fun p' f' l' J' G' h' => nm_r (nI_1 j) (ih (j + 1) p' f' l' (by omega) J' (ps_G_t G G') ?_ ?_))
        · have hz := hb z
          refine (ps_L_cl pr kd xd yd k hk hp).2.2.2 hz.1 j w ?_ hw
          rw [hz.2]; exact hs j h1
        · intro hn y hy hz
          exact G'.2 y (by omega) _ (a hn y hy hz)
        · intro hn y hy hz
          by_cases e : y = j
          · subst e; exact h'
          · exact G'.2 _ o.2.2 _ (b hn y (by omega) hz)
    refine pk_le 8 j (fun z => absurd z (by omega)) (fun _ => qx_in j (by omega) (fun h0 => br_t rfl (H p f l J G ?_ b)) (fun h1 => br_f ps_01 (br_c (fun z => H p f l J G ?_ b) (fun z => ⟨hi, ?_⟩))))
    · intro hn y hy hz
      by_cases e : y = j
      · subst e; rw [h0] at hz; exact nomatch hz
      · exact a hn y (by omega) hz
    · intro hn
      exact absurd z hn
    · refine qx_link J j (xd k) (by omega) o.2.1 rfl (ps_A_at xd (by omega)) (fun w hw => ?_) (fun p' f' l' J' G' h' => H p' f' l' J' (ps_G_t G G') ?_ ?_)
      · have hz := ha z
        refine (ps_L_cl pr kd xd yd k hk hp).2.2.1 hz.1 j w ?_ hw
        rw [hz.2]; exact hs j h1
      · intro hn y hy hz
        by_cases e : y = j
        · subst e; exact h'
        · exact G'.2 y (by omega) _ (a hn y (by omega) hz)
      · intro hn y hy hz
        exact G'.2 _ o.2.2 _ (b hn y hy hz)
/-- the links that news s of v bring for statement k -/
def ps_C (kd xd yd : Nat → Nat) (v : Nat) (s : Int32) (l : Nat → Int32) (k : Nat) : Prop :=
  (kd k = 2 → yd k = v → ∀ z, z < 8 → bt s z = true → bt (l z) (xd k) = true) ∧ (kd k = 3 → xd k = v → ∀ z, z < 8 → bt s z = true → bt (l (yd k)) z = true)
theorem ps_C_m {p' l' : Nat → Int32} {v k : Nat} {s : Int32} (ok : ps_Ok kd xd yd) (G : ps_G p l p' l') (h : ps_C kd xd yd v s l k) : ps_C kd xd yd v s l' k :=
  ⟨fun e1 e2 z hz hb => G.2 z hz _ (h.1 e1 e2 z hz hb), fun e1 e2 z hz hb => G.2 _ (ok k).2.2 _ (h.2 e1 e2 z hz hb)⟩
theorem qx_follow {post : SX → Prop} {k v : Nat} {s : Int32} (hk : k < 13) (hv : v < 8) (ok : ps_Ok kd xd yd) (hp : bt pr k = true) (hs : ∀ z, bt s z = true → ps_L pr kd xd yd v z) (J : ps_J pr kd xd yd Pd Q p f l)
    (kk : ∀ p' f' l', ps_J pr kd xd yd Pd Q p' f' l' → ps_G p l p' l' → ps_C kd xd yd v s l' k → post (pr, kn, ps_A kd, ps_A xd, ps_A yd, p', f', l')) :
    wpX_follow post (pr, kn, ps_A kd, ps_A xd, ps_A yd, p, f, l) (nI k) (nI v) s := by
  have o := ok k
  have hi : vp_in (nI k) 13 := vp_in_nI hk (by omega)
  have hk' : k < 2 ^ 31 := by omega
  have H : ∀ z0 : Int32, (z0 ≠ 0 ↔ kd k = 2 ∧ yd k = v) → wX_follow_25 post (nI k) (nI v) s z0 pr kn (ps_A kd) (ps_A xd) (ps_A yd) p f l := by
    intro z0 h0
    have L : ∀ z1 : Int32, (z1 ≠ 0 ↔ kd k = 3 ∧ xd k = v) → ∃ n57 : Nat, wX_follow_57 post (nI k) s z0 z1 n57 0 pr kn (ps_A kd) (ps_A xd) (ps_A yd) p f l := fun z1 h1 =>
      ⟨9, qx_follow_l hk ok hp hs h0.mp h1.mp (fun p' f' l' J' G' a b => kk p' f' l' J' G' ⟨fun e1 e2 => a (h0.mpr ⟨e1, e2⟩), fun e1 e2 => b (h1.mpr ⟨e1, e2⟩)⟩) 8 0 p f l rfl J (ps_G_r p l) (fun _ z hz => absurd hz (Nat.not_lt_zero z)) (fun _ z hz => absurd hz (Nat.not_lt_zero z))⟩
    unfold wX_follow_25
    exact ⟨hi, pk_eq (kd k) 3 (fun e => ⟨hi, pk_eq (xd k) v (fun e2 => L 1 ⟨fun _ => ⟨e, e2⟩, fun _ => ps_01⟩) (fun e2 => L 0 ⟨fun z => absurd rfl z, fun z => absurd z.2 e2⟩) (ps_A_at xd hk')⟩) (fun e => L 0 ⟨fun z => absurd rfl z, fun z => absurd z.1 e⟩) (ps_A_at kd hk')⟩
  unfold wpX_follow
  dsimp only
  exact ⟨hi, pk_eq (kd k) 2 (fun e => ⟨hi, pk_eq (yd k) v (fun e2 => H 1 ⟨fun _ => ⟨e, e2⟩, fun _ => ps_01⟩) (fun e2 => H 0 ⟨fun z => absurd rfl z, fun z => absurd z.2 e2⟩) (ps_A_at yd hk')⟩) (fun e => H 0 ⟨fun z => absurd rfl z, fun z => absurd z.1 e⟩) (ps_A_at kd hk')⟩
end
end
section
/-! ===== X: passOn, solve ===== -/
section
variable {pr kn : Int32} {kd xd yd : Nat → Nat} {Pd Q : Nat → Nat → Bool} {K X Y p f l p0 q0 : Nat → Int32}
theorem qx_pass48 {post : SX → Prop} {v : Nat} {s : Int32} (hv : v < 8) (hF : ps_F s) (hs : ∀ z, bt s z = true → ps_L pr kd xd yd v z)
    (kk : ∀ p' f', ps_J pr kd xd yd Pd Q p' f' l → ps_G p0 q0 p' l → (∀ w, w < 8 → bt (l v) w = true → ∀ z, bt s z = true → bt (p' w) z = true) → post (pr, kn, K, X, Y, p', f', l)) :
    ∀ d j p f, j + d = 8 → ps_J pr kd xd yd Pd Q p f l → ps_G p0 q0 p l → (∀ w, w < j → bt (l v) w = true → ∀ z, bt s z = true → bt (p w) z = true) →
      wX_passOn_48 post (nI v) s (d + 1) (nI j) pr kn K X Y p f l := by
  intro d
  have hi : vp_in (nI v) 8 := vp_in_nI hv (by omega)
  have ec : (nI v).toNatClampNeg = v := nI_clamp (by omega)
  induction d with
  | zero =>
    intro j p f hj J G a
    have e : j = 8 := by omega
    subst e
    exact pk_le 8 8 (fun _ => kk p f J G a) (fun z => absurd z (by omega))
  | succ d ih =>
    intro j p f hj J G a
    refine pk_le 8 j (fun z => absurd z (by omega)) (fun _ => ⟨hi, qx_in j (by omega) (fun h0 => br_t rfl (nm_r (nI_1 j) (ih (j + 1) p f (by omega) J G ?_))) (fun h1 => br_f ps_01 ?_)⟩)
    · rw [ec] at h0
      intro w hw hb
      by_cases e : w = j
      · subst e; rw [h0] at hb; exact nomatch hb
      · exact a w (by omega) hb
    · rw [ec] at h1
      refine qx_point J j s (by omega) rfl rfl hF (fun z hz => J.2.2.2.2.1 v hv j h1 z (hs z hz)) (fun p' f' J' G' h' => nm_r (nI_1 j) (ih (j + 1) p' f' (by omega) J' (ps_G_t G G') ?_))
      intro w hw hb z hz
      by_cases e : w = j
      · subst e; exact h' z hz
      · exact G'.1 w (by omega) z (a w (by omega) hb z hz)
theorem qx_pass16 {post : SX → Prop} {v : Nat} {s : Int32} (hv : v < 8) (ok : ps_Ok kd xd yd) (hF : ps_F s) (hs : ∀ z, bt s z = true → ps_L pr kd xd yd v z)
    (kk : ∀ p' f' l', ps_J pr kd xd yd Pd Q p' f' l' → ps_G p0 q0 p' l' → (∀ k, k < 13 → bt pr k = true → ps_C kd xd yd v s l' k) → (∀ w, w < 8 → bt (l' v) w = true → ∀ z, bt s z = true → bt (p' w) z = true) → post (pr, kn, ps_A kd, ps_A xd, ps_A yd, p', f', l')) :
    ∀ d j p f l, j + d = 13 → ps_J pr kd xd yd Pd Q p f l → ps_G p0 q0 p l → (∀ k, k < j → bt pr k = true → ps_C kd xd yd v s l k) →
      wX_passOn_16 post (nI v) s (d + 1) (nI j) pr kn (ps_A kd) (ps_A xd) (ps_A yd) p f l := by
  intro d
  induction d with
  | zero =>
    intro j p f l hj J G a
    have e : j = 13 := by omega
    subst e
    exact pk_lt 12 13 (fun _ => ⟨9, qx_pass48 hv hF hs (fun p' f' J' G' h' => kk p' f' l J' G' a h') 8 0 p f rfl J G (fun w hw => absurd hw (Nat.not_lt_zero w))⟩) (fun z => absurd z (by omega))
  | succ d ih =>
    intro j p f l hj J G a
    refine pk_lt 12 j (fun z => absurd z (by omega)) (fun _ => ps_br0 (by omega) (fun h0 => nm_r (nI_1 j) (ih (j + 1) p f l (by omega) J G ?_)) (fun h1 => qx_follow (by omega) hv ok h1 hs J (fun p' f' l' J' G' h' => nm_r (nI_1 j) (ih (j + 1) p' f' l' (by omega) J' (ps_G_t G G') ?_))))
    · intro k hk hb
      by_cases e : k = j
      · subst e; rw [h0] at hb; exact nomatch hb
      · exact a k (by omega) hb
    · intro k hk hb
      by_cases e : k = j
      · subst e; exact h'
      · exact ps_C_m ok G' (a k (by omega) hb)
theorem qx_passOn {post : SX → Prop} {v : Nat} (hv : v < 8) (ok : ps_Ok kd xd yd) (J : ps_J pr kd xd yd Pd Pd p f l)
    (kk : ∀ p' f' l', ps_J pr kd xd yd (ps_Pn Pd v (f v)) (ps_Pn Pd v (f v)) p' f' l' → ps_G p l p' l' → (∀ k, k < 13 → bt pr k = true → ps_C kd xd yd v (f v) l' k) → post (pr, kn, ps_A kd, ps_A xd, ps_A yd, p', f', l')) :
    wpX_passOn post (pr, kn, ps_A kd, ps_A xd, ps_A yd, p, f, l) (nI v) := by
  have hi : vp_in (nI v) 8 := vp_in_nI hv (by omega)
  have ec : (nI v).toNatClampNeg = v := nI_clamp (by omega)
  unfold wpX_passOn
  dsimp only
  rw [ec, ps_nar0]
  refine ⟨hi, nm_e ⟨hi, nm_e ⟨14, ?_⟩⟩⟩
  refine qx_pass16 (p0 := p) (q0 := l) hv ok (J.1 v hv).2.1 (fun z hz => J.2.2.2.1 v hv z (J.2.1 v hv z hz)) (fun p' f' l' J' G' hC hD => kk p' f' l' (ps_J_done J' hD) G' hC) 13 0 p _ l rfl (ps_J_take J hv) (ps_G_r p l) (fun k hk => absurd hk (Nat.not_lt_zero k))
theorem ps_M_next {p' l' : Nat → Int32} {v : Nat} (ok : ps_Ok kd xd yd) (J : ps_J pr kd xd yd Pd Pd p f l) (M : ps_M pr kd xd yd Pd p l) (hv : v < 8) (G : ps_G p l p' l') (C : ∀ k, k < 13 → bt pr k = true → ps_C kd xd yd v (f v) l' k) : ps_M pr kd xd yd (ps_Pn Pd v (f v)) p' l' := by
  intro k hk hp
  obtain ⟨m0, m1, m2, m3⟩ := M k hk hp
  have o := ok k
  have c := C k hk hp
  have h8 : ∀ x, x < 8 → ∀ z, Pd x z = true → z < 8 := by
    intro x hx z hz
    rw [J.2.2.1 x hx z, Bool.and_eq_true] at hz
    exact ps_Flt (J.1 x hx).1 hz.1
  refine ⟨fun h => G.1 _ o.2.1 _ (m0 h), fun h => G.2 _ o.2.2 _ (m1 h), ?_, ?_⟩
  · intro h z hz
    unfold ps_Pn at hz
    rw [Bool.or_eq_true, Bool.and_eq_true] at hz
    rcases hz with hz | ⟨e, hz⟩
    · exact G.2 z (h8 _ o.2.2 z hz) _ (m2 h z hz)
    · exact c.1 h (of_decide_eq_true e) z (ps_Flt (J.1 v hv).2.1 hz) hz
  · intro h z hz
    unfold ps_Pn at hz
    rw [Bool.or_eq_true, Bool.and_eq_true] at hz
    rcases hz with hz | ⟨e, hz⟩
    · exact G.2 _ o.2.2 _ (m3 h z hz)
    · exact c.2 h (of_decide_eq_true e) z (ps_Flt (J.1 v hv).2.1 hz) hz
theorem qx_s142 {post : SX → Prop} (ok : ps_Ok kd xd yd) (kk : ∀ p' f' l', ps_Sol pr kd xd yd p' → post (pr, kn, ps_A kd, ps_A xd, ps_A yd, p', f', l')) :
    ∀ d j p f l Pd, j + d = 65 → ps_J pr kd xd yd Pd Pd p f l → ps_M pr kd xd yd Pd p l → j ≤ ps_c2 Pd →
      wX_solve_142 post (d + 1) (nI j) pr kn (ps_A kd) (ps_A xd) (ps_A yd) p f l := by
  intro d
  induction d with
  | zero =>
    intro j p f l Pd hj J M hc
    have h64 := ps_c2_le Pd
    exfalso
    omega
  | succ d ih =>
    intro j p f l Pd hj J M hc
    refine pk_le 65 j (fun z => absurd z (by omega)) (fun _ => qx_wait (fun hf => br_f (by decide) (kk p f l (ps_end ok J M hf))) (fun v hv hn => br_t (nI_pos' (by omega)) (qx_passOn hv ok J (fun p' f' l' J' G' hC => nm_r (nI_1 j) (ih (j + 1) p' f' l' _ (by omega) J' (ps_M_next ok J M hv G' hC) ?_)))))
    have h1 := ps_J_more J hv hn
    omega
/-- nothing is passed on yet -/
def ps_N : Nat → Nat → Bool := fun _ _ => false
theorem qx_s50 {post : SX → Prop} (ok : ps_Ok kd xd yd) (kk : ∀ p' f' l', ps_Sol pr kd xd yd p' → post (pr, kn, ps_A kd, ps_A xd, ps_A yd, p', f', l')) :
    ∀ d j p f l, j + d = 13 → ps_J pr kd xd yd ps_N ps_N p f l → (∀ k, k < j → bt pr k = true → (kd k = 0 → bt (p (xd k)) (yd k) = true) ∧ (kd k = 1 → bt (l (yd k)) (xd k) = true)) →
      wX_solve_50 post (d + 1) (nI j) pr kn (ps_A kd) (ps_A xd) (ps_A yd) p f l := by
  intro d
  induction d with
  | zero =>
    intro j p f l hj J a
    have e : j = 13 := by omega
    subst e
    refine pk_lt 12 13 (fun _ => ⟨66, qx_s142 ok kk 65 0 p f l ps_N rfl J ?_ (Nat.zero_le _)⟩) (fun z => absurd z (by omega))
    intro k hk hp
    exact ⟨(a k hk hp).1, (a k hk hp).2, fun _ z hz => (nomatch (show false = true from hz)), fun _ z hz => (nomatch (show false = true from hz))⟩
  | succ d ih =>
    intro j p f l hj J a
    have o := ok j
    have hi : vp_in (nI j) 13 := vp_in_nI (by omega) (by omega)
    have hj' : j < 2 ^ 31 := by omega
    have hj3 : j < 13 := by omega
    have H : (bt pr j = true → kd j ≠ 0) → wX_solve_97 post (wX_solve_50 post (d + 1)) (nI j) pr kn (ps_A kd) (ps_A xd) (ps_A yd) p f l := by
      intro hn
      refine ps_br0 (by omega) (fun h0 => nm_r (nI_1 j) (ih (j + 1) p f l (by omega) J ?_)) (fun h1 => ⟨hi, pk_eq (kd j) 1 (fun e => ⟨hi, hi, ?_⟩) (fun e => nm_r (nI_1 j) (ih (j + 1) p f l (by omega) J ?_)) (ps_A_at kd hj')⟩)
      · intro k hk hb
        by_cases e : k = j
        · subst e; rw [h0] at hb; exact nomatch hb
        · exact a k (by omega) hb
      · refine qx_link J (yd j) (xd j) o.2.2 o.2.1 (ps_A_at yd hj') (ps_A_at xd hj') (fun z hz => (ps_L_cl pr kd xd yd j hj3 h1).2.1 e z hz) (fun p' f' l' J' G' h' => nm_r (nI_1 j) (ih (j + 1) p' f' l' (by omega) J' ?_))
        intro k hk hb
        by_cases e : k = j
        · subst e; exact ⟨fun z => absurd z (hn hb), fun _ => h'⟩
        · have h2 := a k (by omega) hb
          exact ⟨fun z => G'.1 _ (ok k).2.1 _ (h2.1 z), fun z => G'.2 _ (ok k).2.2 _ (h2.2 z)⟩
      · intro k hk hb
        by_cases e' : k = j
        · subst e'; exact ⟨fun z => absurd z (hn hb), fun z => absurd z e⟩
        · exact a k (by omega) hb
    refine pk_lt 12 j (fun z => absurd z (by omega)) (fun _ => ps_br0 (by omega) (fun h0 => H (fun z => nomatch (h0.symm.trans z))) (fun h1 => ⟨hi, pk_eq (kd j) 0 (fun e => ⟨hi, hi, ?_⟩) (fun e => H (fun _ => e)) (ps_A_at kd hj')⟩))
    refine qx_point J (xd j) ((1 : Int32) <<< (nI (yd j) &&& 31)) o.2.1 (ps_A_at xd hj') (by rw [ps_A_at yd hj']) (ps_Fsh o.2.2) ?_ (fun p' f' J' G' h' => nm_r (nI_1 j) (ih (j + 1) p' f' l (by omega) J' ?_))
    · intro z hz
      rw [ps_sh (by omega)] at hz
      rw [of_decide_eq_true hz]
      exact (ps_L_cl pr kd xd yd j hj3 h1).1 e
    · intro k hk hb
      by_cases e' : k = j
      · subst e'
        refine ⟨fun _ => h' _ ?_, fun z => ?_⟩
        · rw [ps_sh (by omega)]; exact decide_eq_true rfl
        · exfalso; omega
      · have h2 := a k (by omega) hb
        exact ⟨fun z => G'.1 _ (ok k).2.1 _ (h2.1 z), fun z => h2.2 z⟩
theorem qx_s15 {post : SX → Prop} (ok : ps_Ok kd xd yd) (kk : ∀ p' f' l', ps_Sol pr kd xd yd p' → post (pr, kn, ps_A kd, ps_A xd, ps_A yd, p', f', l')) :
    ∀ d j p f l, j + d = 8 → (∀ x, x < j → p x = 0 ∧ f x = 0 ∧ l x = 0) →
      wX_solve_15 post pr kn (d + 1) (nI j) (ps_A kd) (ps_A xd) (ps_A yd) p f l := by
  intro d
  induction d with
  | zero =>
    intro j p f l hj a
    have e : j = 8 := by omega
    subst e
    refine pk_le 8 8 (fun _ => ⟨14, qx_s50 ok kk 13 0 p f l rfl ?_ (fun k hk => absurd hk (Nat.not_lt_zero k))⟩) (fun z => absurd z (by omega))
    refine ⟨?_, ?_, ?_, ?_, ?_, ?_, ?_⟩
    · intro x hx
      rw [(a x hx).1, (a x hx).2.1, (a x hx).2.2]
      exact ⟨ps_F0, ps_F0, ps_F0⟩
    · intro x hx z h
      rw [(a x hx).2.1, b_0] at h; exact nomatch h
    · intro x hx z
      rw [(a x hx).1, b_0]; rfl
    · intro x hx z h
      rw [(a x hx).1, b_0] at h; exact nomatch h
    · intro x hx y h
      rw [(a x hx).2.2, b_0] at h; exact nomatch h
    · intro x hx y h
      rw [(a x hx).2.2, b_0] at h; exact nomatch h
    · intro x hx z h
      exact h
  | succ d ih =>
    intro j p f l hj a
    have ec : (nI j).toNatClampNeg = j := nI_clamp (by omega)
    have hi : vp_in (nI j) 8 := vp_in_nI (by omega) (by omega)
    refine pk_le 8 j (fun z => absurd z (by omega)) (fun _ => ⟨hi, nm_e ⟨hi, nm_e ⟨hi, nm_e (nm_r (nI_1 j) (ih (j + 1) _ _ _ (by omega) ?_))⟩⟩⟩)
    intro x hx
    rw [ec, ps_nar0]
    by_cases e : x = j
    · subst e
      exact ⟨pk_us, pk_us, pk_us⟩
    · rw [pk_un e, pk_un e, pk_un e]
      exact a x (by omega)
theorem qx_solve {post : SX → Prop} (ok : ps_Ok kd xd yd) (hS : kn ≠ 0 → ps_Sol pr kd xd yd p) (kk : ∀ kn' p' f' l', kn' ≠ 0 → ps_Sol pr kd xd yd p' → post (pr, kn', ps_A kd, ps_A xd, ps_A yd, p', f', l')) :
    wpX_solve post (pr, kn, ps_A kd, ps_A xd, ps_A yd, p, f, l) := by
  unfold wpX_solve
  dsimp only
  exact br_c (fun _ => ⟨9, qx_s15 ok (fun p' f' l' h => kk 1 p' f' l' ps_01 h) 8 0 p f l rfl (fun x hx => absurd hx (Nat.not_lt_zero x))⟩) (fun h => kk kn p f l h (hS h))
end
end
section
/-! ===== Y: carryOut, work ===== -/
def ps_Sd (pr : Int32) (kd xd yd : Nat → Nat) (s : Nat → Int32) : Prop := ∀ x, x < 8 → ∀ z, bt (s x) z = true → ps_L pr kd xd yd x z
def ps_cs (s : Nat → Int32) : Nat := ps_c2 (fun x z => bt (s x) z)
theorem ps_an0 {m x : Int32} (h : m &&& (x ^^^ (-1)) = 0) : ∀ z, bt m z = true → bt x z = true := by
  intro z hz
  have e : bt (m &&& (x ^^^ (-1))) z = false := by rw [h, b_0]
  rw [ps_an, hz, Bool.true_and] at e
  cases hx : bt x z with
  | true => rfl
  | false => rw [hx] at e; exact nomatch e
theorem ps_up_0 {s : Nat → Int32} {t : Nat} {m : Int32} (h : m &&& (s t ^^^ (-1)) = 0) : upd s t (s t ||| m) = s := by
  funext j
  by_cases e : j = t
  · subst e
    rw [pk_us]
    apply b_ext
    intro i _
    rw [b_or]
    have := ps_an0 h i
    revert this
    cases bt (s j) i <;> cases bt m i <;> simp
  · rw [pk_un e]
theorem ps_up_m {s : Nat → Int32} {t : Nat} {m : Int32} (x z : Nat) (h : bt (s x) z = true) : bt (upd s t (s t ||| m) x) z = true := by
  by_cases e : x = t
  · subst e
    rw [pk_us, b_or, h]; rfl
  · rw [pk_un e]; exact h
theorem ps_up_le {s : Nat → Int32} {t : Nat} {m : Int32} : ps_cs s ≤ ps_cs (upd s t (s t ||| m)) := ps_c2_mono (fun x _ z _ h => ps_up_m x z h)
theorem ps_up_lt {s : Nat → Int32} {t : Nat} {m : Int32} (ht : t < 8) (hF : ps_F m) (h : ¬ m &&& (s t ^^^ (-1)) = 0) : ps_cs s < ps_cs (upd s t (s t ||| m)) := by
  have hz : ∃ z, bt m z = true ∧ bt (s t) z = false := by
    apply Classical.byContradiction
    intro hne
    apply h
    apply b_ext
    intro i _
    rw [ps_an, b_0]
    cases hm : bt m i with
    | false => rfl
    | true =>
      cases hx : bt (s t) i with
      | true => rfl
      | false => exact absurd ⟨i, hm, hx⟩ hne
  obtain ⟨z, h1, h2⟩ := hz
  refine ps_c2_lt (fun x _ z _ h => ps_up_m x z h) ht (ps_Flt hF h1) h2 ?_
  show bt (upd s t (s t ||| m) t) z = true
  rw [pk_us, b_or, h1, Bool.or_true]
section
variable {pr : Int32} {kd xd yd : Nat → Nat} {th K X Y s o s0 : Nat → Int32}
theorem ps_up_s (hs : ps_Sd pr kd xd yd s) {t : Nat} {m : Int32} (hm : ∀ z, bt m z = true → ps_L pr kd xd yd t z) : ps_Sd pr kd xd yd (upd s t (s t ||| m)) := by
  intro x hx z h
  by_cases e : x = t
  · subst e
    rw [pk_us, b_or, Bool.or_eq_true] at h
    rcases h with h | h
    · exact hs x hx z h
    · exact hm z h
  · rw [pk_un e] at h; exact hs x hx z h
theorem ps_Sd_F (ok : ps_Ok kd xd yd) (hs : ps_Sd pr kd xd yd s) {x : Nat} (hx : x < 8) : ps_F (s x) := by
  intro i hi
  cases h : bt (s x) i with
  | false => rfl
  | true =>
    have h8 := (ps_L_8 ok (hs x hx i h)).2
    omega
theorem ps_LF (ok : ps_Ok kd xd yd) {t : Nat} {m : Int32} (hm : ∀ z, bt m z = true → ps_L pr kd xd yd t z) : ps_F m := by
  intro i hi
  cases h : bt m i with
  | false => rfl
  | true =>
    have h8 := (ps_L_8 ok (hm i h)).2
    omega
theorem qy_181 {post : Int32 → SY → Prop} {J : Int32 → Int32 → (Nat → Int32) → (Nat → Int32) → (Nat → Int32) → (Nat → Int32) → (Nat → Int32) → (Nat → Int32) → Prop} {x1 x2 x3 x4 x5 x6 T M : Int32} (t : Nat) (m : Int32) (ht : t < 8) (eT : T = nI t) (eM : M = m)
    (h0 : x4 = 0 → m &&& (s t ^^^ (-1)) = 0 → J 0 (x6 + 1) th K X Y s o)
    (h1 : (¬ x4 = 0 ∨ ¬ m &&& (s t ^^^ (-1)) = 0) → J 1 (x6 + 1) th K X Y (upd s t (s t ||| m)) o) :
    wY_carryOut_181 post J x1 x2 x3 x4 x5 x6 T M th K X Y s o := by
  subst eT eM
  have hi : vp_in (nI t) 8 := vp_in_nI ht (by omega)
  have ec : (nI t).toNatClampNeg = t := nI_clamp (by omega)
  have L0 : x4 = 0 → M &&& (s t ^^^ (-1)) = 0 → wY_carryOut_208 post J x1 x2 x3 x5 x6 (nI t) M 0 th K X Y s o := by
    intro hx hz
    unfold wY_carryOut_208
    rw [ec]
    exact ⟨hi, hi, nm_r (ps_up_0 hz) (nm_e (h0 hx hz))⟩
  have L1 : (¬ x4 = 0 ∨ ¬ M &&& (s t ^^^ (-1)) = 0) → wY_carryOut_208 post J x1 x2 x3 x5 x6 (nI t) M 1 th K X Y s o := by
    intro hx
    unfold wY_carryOut_208
    rw [ec]
    exact ⟨hi, hi, nm_e (nm_e (h1 hx))⟩
  unfold wY_carryOut_181
  rw [ec]
  exact br_c (fun hx => ⟨hi, br_c (fun hz => L0 hx hz) (fun hz => L1 (Or.inr hz))⟩) (fun hx => L1 (Or.inl hx))
/-- what one statement, carried out, has done: nothing, and it is kept; or more pairs are there -/
def ps_R (s0 : Nat → Int32) (A : Prop) (r : Int32) (s : Nat → Int32) : Prop := (r = 0 ∧ s = s0 ∧ A) ∨ (r = 1 ∧ ps_cs s0 < ps_cs s)
theorem ps_R_n {A : Prop} {r : Int32} (h : ps_R s0 A r s) : narrow .boolean (.int r) = .int r := by
  rcases h with ⟨e, _⟩ | ⟨e, _⟩ <;> subst e <;> rfl
theorem qy_119 {post : Int32 → SY → Prop} {k : Nat} {tr : Int32} (hk : k < 13) (ok : ps_Ok kd xd yd) (hp : bt pr k = true) (h2 : 1 < kd k) (htr : ∀ z, bt tr z = true → if kd k = 2 then ps_L pr kd xd yd (yd k) z else ps_L pr kd xd yd (xd k) z)
    (kk : ∀ r s', ps_Sd pr kd xd yd s' → ps_R s0 (∀ z, z < 8 → bt tr z = true → (kd k = 2 → ∀ w, bt (s0 z) w = true → bt (s0 (xd k)) w = true) ∧ (kd k = 3 → ∀ w, bt (s0 (yd k)) w = true → bt (s0 z) w = true)) r s' → post r (th, ps_A kd, ps_A xd, ps_A yd, s', o)) :
    ∀ d j r s, j + d = 8 → ps_Sd pr kd xd yd s → ps_R s0 (∀ z, z < j → bt tr z = true → (kd k = 2 → ∀ w, bt (s0 z) w = true → bt (s0 (xd k)) w = true) ∧ (kd k = 3 → ∀ w, bt (s0 (yd k)) w = true → bt (s0 z) w = true)) r s →
      wY_carryOut_119 post (nI k) (nI (xd k)) (nI (yd k)) tr (d + 1) r (nI j) th (ps_A kd) (ps_A xd) (ps_A yd) s o := by
  intro d
  have oo := ok k
  have hi : vp_in (nI k) 13 := vp_in_nI hk (by omega)
  have hk' : k < 2 ^ 31 := by omega
  induction d with
  | zero =>
    intro j r s hj S R
    have e : j = 8 := by omega
    subst e
    exact pk_le 8 8 (fun _ => ⟨ps_R_n R, kk r s S R⟩) (fun z => absurd z (by omega))
  | succ d ih =>
    intro j r s hj S R
    have hj8 : j < 8 := by omega
    have hij : vp_in (nI j) 8 := vp_in_nI hj8 (by omega)
    have ecj : (nI j).toNatClampNeg = j := nI_clamp (by omega)
    have ecy : (nI (yd k)).toNatClampNeg = yd k := nI_clamp (by omega)
    have hiy : vp_in (nI (yd k)) 8 := vp_in_nI oo.2.2 (by omega)
    refine pk_le 8 j (fun z => absurd z (by omega)) (fun _ => ps_br1 (by omega) (fun h1 => ⟨hi, pk_eq (kd k) 2 (fun e => ?_) (fun e => ?_) (ps_A_at kd hk')⟩) (fun h0 => nm_r (nI_1 j) (ih (j + 1) r s (by omega) S ?_)))
    · unfold wY_carryOut_153
      refine ⟨hi, pk_eq (kd k) 2 (fun _ => ⟨hij, ?_⟩) (fun z => absurd e z) (ps_A_at kd hk')⟩
      have hl := htr j h1
      rw [if_pos e] at hl
      have hm : ∀ z, bt (s j) z = true → ps_L pr kd xd yd (xd k) z := fun z hz => (ps_L_cl pr kd xd yd k hk hp).2.2.1 e j z hl (S j hj8 z hz)
      refine qy_181 (xd k) (s j) oo.2.1 rfl (by rw [ecj]) (fun hx hz => ?_) (fun hx => ?_)
      · rw [nI_1 j]
        refine ih (j + 1) 0 s (by omega) S ?_
        rcases R with ⟨_, es, hA⟩ | ⟨er, _⟩
        · refine Or.inl ⟨rfl, es, ?_⟩
          intro y hy hb
          by_cases ey : y = j
          · subst ey
            subst es
            exact ⟨fun _ => ps_an0 hz, fun z3 => by omega⟩
          · exact hA y (by omega) hb
        · exact absurd (er.symm.trans hx) ps_01
      · rw [nI_1 j]
        refine ih (j + 1) 1 _ (by omega) (ps_up_s S hm) (Or.inr ⟨rfl, ?_⟩)
        rcases R with ⟨er, es, hA⟩ | ⟨er, hc⟩
        · rw [← es]
          exact ps_up_lt oo.2.1 (ps_LF ok hm) (hx.resolve_left (fun z => z er))
        · exact Nat.lt_of_lt_of_le hc ps_up_le
    · unfold wY_carryOut_153
      have e3 : kd k = 3 := by omega
      refine ⟨hi, pk_eq (kd k) 2 (fun z => absurd z e) (fun _ => ⟨hiy, ?_⟩) (ps_A_at kd hk')⟩
      have hl := htr j h1
      rw [if_neg e] at hl
      have hm : ∀ z, bt (s (yd k)) z = true → ps_L pr kd xd yd j z := fun z hz => (ps_L_cl pr kd xd yd k hk hp).2.2.2 e3 j z hl (S (yd k) oo.2.2 z hz)
      refine qy_181 j (s (yd k)) hj8 rfl (by rw [ecy]) (fun hx hz => ?_) (fun hx => ?_)
      · rw [nI_1 j]
        refine ih (j + 1) 0 s (by omega) S ?_
        rcases R with ⟨_, es, hA⟩ | ⟨er, _⟩
        · refine Or.inl ⟨rfl, es, ?_⟩
          intro y hy hb
          by_cases ey : y = j
          · subst ey
            subst es
            exact ⟨fun z2 => by omega, fun _ => ps_an0 hz⟩
          · exact hA y (by omega) hb
        · exact absurd (er.symm.trans hx) ps_01
      · rw [nI_1 j]
        refine ih (j + 1) 1 _ (by omega) (ps_up_s S hm) (Or.inr ⟨rfl, ?_⟩)
        rcases R with ⟨er, es, hA⟩ | ⟨er, hc⟩
        · rw [← es]
          exact ps_up_lt hj8 (ps_LF ok hm) (hx.resolve_left (fun z => z er))
        · exact Nat.lt_of_lt_of_le hc ps_up_le
    · rcases R with ⟨er, es, hA⟩ | R
      · refine Or.inl ⟨er, es, ?_⟩
        intro y hy hb
        by_cases ey : y = j
        · subst ey; rw [h0] at hb; exact nomatch hb
        · exact hA y (by omega) hb
      · exact Or.inr R
theorem qy_48 {post : Int32 → SY → Prop} {T M : Int32} (t : Nat) (m : Int32) (ht : t < 8) (eT : T = nI t) (eM : M = m) (hF : ps_F m)
    (h0 : (∀ z, bt m z = true → bt (s t) z = true) → post 0 (th, K, X, Y, s, o)) (h1 : ps_cs s < ps_cs (upd s t (s t ||| m)) → post 1 (th, K, X, Y, upd s t (s t ||| m), o)) :
    wY_carryOut_48 post T M th K X Y s o := by
  subst eT eM
  have hi : vp_in (nI t) 8 := vp_in_nI ht (by omega)
  have ec : (nI t).toNatClampNeg = t := nI_clamp (by omega)
  unfold wY_carryOut_48
  rw [ec]
  refine ⟨hi, br_c (fun hz => ?_) (fun hz => ?_)⟩
  · unfold wY_carryOut_69
    rw [ec]
    exact ⟨hi, hi, nm_r (ps_up_0 hz) ⟨rfl, h0 (ps_an0 hz)⟩⟩
  · unfold wY_carryOut_69
    rw [ec]
    exact ⟨hi, hi, nm_e ⟨rfl, h1 (ps_up_lt ht hF hz)⟩⟩
theorem qy_carry {post : Int32 → SY → Prop} {k : Nat} (hk : k < 13) (ok : ps_Ok kd xd yd) (hp : bt pr k = true) (S : ps_Sd pr kd xd yd s)
    (kk : ∀ r s', ps_Sd pr kd xd yd s' → ps_R s (ps_St (kd k) (xd k) (yd k) (ps_S s)) r s' → post r (th, ps_A kd, ps_A xd, ps_A yd, s', o)) :
    wpY_carryOut post (th, ps_A kd, ps_A xd, ps_A yd, s, o) (nI k) := by
  have oo := ok k
  have hi : vp_in (nI k) 13 := vp_in_nI hk (by omega)
  have hk' : k < 2 ^ 31 := by omega
  have hix : vp_in (nI (xd k)) 8 := vp_in_nI oo.2.1 (by omega)
  have hiy : vp_in (nI (yd k)) 8 := vp_in_nI oo.2.2 (by omega)
  have ecx : (nI (xd k)).toNatClampNeg = xd k := nI_clamp (by omega)
  have ecy : (nI (yd k)).toNatClampNeg = yd k := nI_clamp (by omega)
  have cl := ps_L_cl pr kd xd yd k hk hp
  unfold wpY_carryOut
  dsimp only
  refine ⟨hi, nm_r (ps_A_at xd hk') ⟨hi, nm_r (ps_A_at yd hk') ⟨hi, pk_lt 1 (kd k) (fun h1 => ⟨hi, pk_eq (kd k) 2 (fun e => ⟨hiy, nm_r (e' := s (yd k)) (by rw [ecy]) ⟨9, ?_⟩⟩) (fun e => ⟨hix, nm_r (e' := s (xd k)) (by rw [ecx]) ⟨9, ?_⟩⟩) (ps_A_at kd hk')⟩) (fun h1 => ⟨hi, pk_eq (kd k) 0 (fun e => ?_) (fun e => ⟨hiy, ?_⟩) (ps_A_at kd hk')⟩) rfl (ps_A_at kd hk')⟩⟩⟩
  · refine qy_119 hk ok hp h1 (fun z hz => ?_) (fun r s' S' R => kk r s' S' ?_) 8 0 0 s rfl S (Or.inl ⟨rfl, rfl, fun z hz => absurd hz (Nat.not_lt_zero z)⟩)
    · rw [if_pos e]; exact S _ oo.2.2 z hz
    · rcases R with ⟨er, es, hA⟩ | R
      · refine Or.inl ⟨er, es, fun z => by omega, fun z => by omega, fun _ z w hz hw => ⟨oo.2.1, ?_⟩, fun z => by omega⟩
        exact (hA z hw.1 hz.2).1 e w hw.2
      · exact Or.inr R
  · have e3 : kd k = 3 := by omega
    refine qy_119 hk ok hp h1 (fun z hz => ?_) (fun r s' S' R => kk r s' S' ?_) 8 0 0 s rfl S (Or.inl ⟨rfl, rfl, fun z hz => absurd hz (Nat.not_lt_zero z)⟩)
    · rw [if_neg e]; exact S _ oo.2.1 z hz
    · rcases R with ⟨er, es, hA⟩ | R
      · refine Or.inl ⟨er, es, fun z => by omega, fun z => by omega, fun z => by omega, fun _ z w hz hw => ?_⟩
        have h8 := (ps_L_8 ok (S _ oo.2.1 z hz.2)).2
        exact ⟨h8, (hA z h8 hz.2).2 e3 w hw.2⟩
      · exact Or.inr R
  · have hm : ∀ z, bt ((1 : Int32) <<< (nI (yd k) &&& 31)) z = true → ps_L pr kd xd yd (xd k) z := by
      intro z hz
      rw [ps_sh (by omega)] at hz
      rw [of_decide_eq_true hz]
      exact cl.1 e
    refine qy_48 (xd k) _ oo.2.1 rfl rfl (ps_LF ok hm) (fun h => kk 0 s S (Or.inl ⟨rfl, rfl, fun _ => ⟨oo.2.1, h _ ?_⟩, fun z => by omega, fun z => by omega, fun z => by omega⟩)) (fun h => kk 1 _ (ps_up_s S hm) (Or.inr ⟨rfl, h⟩))
    rw [ps_sh (by omega)]
    exact decide_eq_true rfl
  · have e1 : kd k = 1 := by omega
    have hm : ∀ z, bt (s (yd k)) z = true → ps_L pr kd xd yd (xd k) z := fun z hz => cl.2.1 e1 z (S _ oo.2.2 z hz)
    exact qy_48 (xd k) (s (yd k)) oo.2.1 rfl (by rw [ecy]) (ps_LF ok hm) (fun h => kk 0 s S (Or.inl ⟨rfl, rfl, fun z => by omega, fun _ w hw => ⟨oo.2.1, h w hw.2⟩, fun z => by omega, fun z => by omega⟩)) (fun h => kk 1 _ (ps_up_s S hm) (Or.inr ⟨rfl, h⟩))
/-- Y's table of what is there, X's bits -/
def ps_T (pr : Int32) (th : Nat → Int32) : Prop := ∀ k, k < 13 → th k = if bt pr k = true then 1 else 0
theorem qy_39 {post : SY → Prop} {J : Int32 → Int32 → (Nat → Int32) → (Nat → Int32) → (Nat → Int32) → (Nat → Int32) → (Nat → Int32) → (Nat → Int32) → Prop} {q : Nat} (ok : ps_Ok kd xd yd) (hT : ps_T pr th)
    (kk : ∀ r s', ps_Sd pr kd xd yd s' → ps_R s0 (∀ k, k < 13 → bt pr k = true → ps_St (kd k) (xd k) (yd k) (ps_S s0)) r s' → J r (nI (q + 1)) th (ps_A kd) (ps_A xd) (ps_A yd) s' o) :
    ∀ d j r s, j + d = 13 → ps_Sd pr kd xd yd s → ps_R s0 (∀ k, k < j → bt pr k = true → ps_St (kd k) (xd k) (yd k) (ps_S s0)) r s →
      wY_work_39 post J (nI q) (d + 1) r (nI j) th (ps_A kd) (ps_A xd) (ps_A yd) s o := by
  intro d
  induction d with
  | zero =>
    intro j r s hj S R
    have e : j = 13 := by omega
    subst e
    exact pk_le 13 13 (fun _ => nm_r (nI_1 q) (kk r s S R)) (fun z => absurd z (by omega))
  | succ d ih =>
    intro j r s hj S R
    have hj3 : j < 13 := by omega
    have hi : vp_in (nI j) 13 := vp_in_nI hj3 (by omega)
    have ec : (nI j).toNatClampNeg = j := nI_clamp (by omega)
    have H : ∀ s, ps_Sd pr kd xd yd s → ps_R s0 (∀ k, k < j + 1 → bt pr k = true → ps_St (kd k) (xd k) (yd k) (ps_S s0)) r s → wY_work_62 post J (wY_work_39 post J (nI q) (d + 1)) r (nI q) (nI j) th (ps_A kd) (ps_A xd) (ps_A yd) s o := by
      intro s S R
      unfold wY_work_62
      refine br_c (fun e => nm_r (nI_1 j) (ih (j + 1) 0 s (by omega) S ?_)) (fun e => nm_r (nI_1 j) (ih (j + 1) 1 s (by omega) S ?_))
      · rw [← e]; exact R
      · rcases R with ⟨er, _⟩ | ⟨er, hc⟩
        · exact absurd er e
        · exact Or.inr ⟨rfl, hc⟩
    refine pk_le 13 j (fun z => absurd z (by omega)) (fun _ => ⟨hi, br_c (fun e => H s S ?_) (fun e => ?_)⟩)
    · rw [ec, hT j hj3] at e
      rcases R with ⟨er, es, hA⟩ | R
      · refine Or.inl ⟨er, es, ?_⟩
        intro k hk hb
        by_cases ek : k = j
        · subst ek
          rw [if_pos hb] at e
          exact absurd e ps_01
        · exact hA k (by omega) hb
      · exact Or.inr R
    · rw [ec, hT j hj3] at e
      have hp : bt pr j = true := by
        cases h : bt pr j with
        | true => rfl
        | false => rw [h] at e; exact absurd rfl e
      refine qy_carry hj3 ok hp S (fun r' s' S' R' => br_c (fun e0 => H s' S' ?_) (fun e1 => nm_r (nI_1 j) (ih (j + 1) 1 s' (by omega) S' ?_)))
      · rcases R' with ⟨_, es', hA'⟩ | ⟨er', _⟩
        · subst es'
          rcases R with ⟨er, es, hA⟩ | R
          · refine Or.inl ⟨er, es, ?_⟩
            intro k hk hb
            by_cases ek : k = j
            · subst ek
              rw [← es]; exact hA'
            · exact hA k (by omega) hb
          · exact Or.inr R
        · exact absurd (er'.symm.trans e0) ps_01
      · rcases R' with ⟨er', _⟩ | ⟨_, hc'⟩
        · exact absurd er' e1
        · refine Or.inr ⟨rfl, ?_⟩
          rcases R with ⟨_, es, _⟩ | ⟨_, hc⟩
          · rw [← es]; exact hc'
          · exact Nat.lt_trans hc hc'
theorem qy_25 {post : SY → Prop} (ok : ps_Ok kd xd yd) (hT : ps_T pr th) (kk : ∀ s', ps_Sol pr kd xd yd s' → post (th, ps_A kd, ps_A xd, ps_A yd, s', o)) :
    ∀ d q r s, q + d = 65 → ps_Sd pr kd xd yd s → ((r = 0 ∧ ps_Cl pr kd xd yd (ps_S s)) ∨ (r = 1 ∧ q ≤ ps_cs s)) →
      wY_work_25 post (d + 1) r (nI q) th (ps_A kd) (ps_A xd) (ps_A yd) s o := by
  intro d
  induction d with
  | zero =>
    intro q r s hq S R
    have e : q = 65 := by omega
    subst e
    refine pk_le 65 65 (fun _ => ?_) (fun z => absurd z (by omega))
    rcases R with ⟨_, hc⟩ | ⟨_, hc⟩
    · exact kk s (ps_Sol_of ok S hc)
    · have h64 : ps_cs s ≤ 64 := ps_c2_le _
      exfalso
      omega
  | succ d ih =>
    intro q r s hq S R
    refine pk_le 65 q (fun z => absurd z (by omega)) (fun _ => br_c (fun e => ?_) (fun e => ⟨14, ?_⟩))
    · rcases R with ⟨_, hc⟩ | ⟨er, _⟩
      · exact kk s (ps_Sol_of ok S hc)
      · exact absurd (er.symm.trans e) ps_01
    · refine qy_39 (s0 := s) ok hT (fun r' s' S' R' => ih (q + 1) r' s' (by omega) S' ?_) 13 0 0 s rfl S (Or.inl ⟨rfl, rfl, fun k hk => absurd hk (Nat.not_lt_zero k)⟩)
      rcases R' with ⟨er', es', hA⟩ | ⟨er', hc'⟩
      · subst es'
        exact Or.inl ⟨er', hA⟩
      · refine Or.inr ⟨er', ?_⟩
        rcases R with ⟨er, _⟩ | ⟨_, hc⟩
        · exact absurd er e
        · omega
theorem qy_2 {post : SY → Prop} (ok : ps_Ok kd xd yd) (hT : ps_T pr th) (kk : ∀ s', ps_Sol pr kd xd yd s' → post (th, ps_A kd, ps_A xd, ps_A yd, s', o)) :
    ∀ d j s, j + d = 8 → (∀ x, x < j → s x = 0) → wY_work_2 post (d + 1) (nI j) th (ps_A kd) (ps_A xd) (ps_A yd) s o := by
  intro d
  induction d with
  | zero =>
    intro j s hj a
    have e : j = 8 := by omega
    subst e
    refine pk_le 8 8 (fun _ => ⟨66, qy_25 ok hT kk 65 0 1 s rfl ?_ (Or.inr ⟨rfl, Nat.zero_le _⟩)⟩) (fun z => absurd z (by omega))
    intro x hx z h
    rw [a x hx, b_0] at h
    exact nomatch h
  | succ d ih =>
    intro j s hj a
    have ec : (nI j).toNatClampNeg = j := nI_clamp (by omega)
    have hi : vp_in (nI j) 8 := vp_in_nI (by omega) (by omega)
    refine pk_le 8 j (fun z => absurd z (by omega)) (fun _ => ⟨hi, nm_e (nm_r (nI_1 j) (ih (j + 1) _ (by omega) ?_))⟩)
    intro x hx
    rw [ec]
    by_cases e : x = j
    · subst e; exact pk_us
    · rw [pk_un e]; exact a x (by omega)
theorem qy_work {post : SY → Prop} (ok : ps_Ok kd xd yd) (hT : ps_T pr th) (kk : ∀ s', ps_Sol pr kd xd yd s' → post (th, ps_A kd, ps_A xd, ps_A yd, s', o)) :
    wpY_work post (th, ps_A kd, ps_A xd, ps_A yd, s, o) :=
  ⟨9, qy_2 ok hT kk 8 0 s rfl (fun x hx => absurd hx (Nat.not_lt_zero x))⟩
end
end
section
/-! ===== small methods of both sides ===== -/
theorem ps_vc (v : Int32) : (v < 0 ∨ nI 8 ≤ v) ∨ ∃ j, j < 8 ∧ v = nI j := by
  rcases pk_ix v (n := 8) (by omega) with h | h | h
  · exact Or.inl (Or.inl h)
  · exact Or.inl (Or.inr h)
  · exact Or.inr h
theorem ps_kc (v : Int32) : (v < 0 ∨ nI 12 ≤ v) ∨ ∃ j, j < 12 ∧ v = nI j := by
  rcases pk_ix v (n := 12) (by omega) with h | h | h
  · exact Or.inl (Or.inl h)
  · exact Or.inl (Or.inr h)
  · exact Or.inr h
theorem ps_8l {v : Int32} (h : nI 8 ≤ v) (h7 : ¬ 7 < v) : False :=
  absurd (Int32.le_trans h (Int32.not_lt.mp h7)) (by decide)
theorem ps_12l {v : Int32} (h : nI 12 ≤ v) (h7 : ¬ 11 < v) : False :=
  absurd (Int32.le_trans h (Int32.not_lt.mp h7)) (by decide)
theorem qx_var_t {post : Int32 → Prop} {j : Nat} (hj : j < 8) (h : post 1) : wpX_isVariable post (nI j) :=
  br_f (nI_pos (by omega)) (pk_le 8 j (fun z => absurd z (by omega)) (fun _ => h))
theorem qx_var_f {post : Int32 → Prop} {v : Int32} (hv : v < 0 ∨ nI 8 ≤ v) (h : post 0) : wpX_isVariable post v :=
  br_c (fun _ => h) (fun hn => br_c (fun _ => h) (fun h8 => absurd (hv.resolve_left hn) h8))
section
variable {pr kn : Int32} {kd xd yd : Nat → Nat} {K X Y p f l th s o : Nat → Int32}
theorem qy_var_t {post : Int32 → Prop} {j : Nat} (hj : j < 8) (h : post 1) : wpY_variable post (th, K, X, Y, s, o) (nI j) :=
  br_f (nI_pos (by omega)) (pk_lt 7 j (fun z => absurd z (by omega)) (fun _ => h))
theorem qy_var_f {post : Int32 → Prop} {v : Int32} (hv : v < 0 ∨ nI 8 ≤ v) (h : post 0) : wpY_variable post (th, K, X, Y, s, o) v :=
  br_c (fun _ => h) (fun hn => br_c (fun _ => h) (fun h7 => absurd (ps_8l (hv.resolve_left hn) h7) id))
theorem qx_has {post : Int32 → Prop} {k : Nat} (hk : k < 12) (h0 : bt pr k = false → post 0) (h1 : bt pr k = true → post 1) : wpX_has post (pr, kn, K, X, Y, p, f, l) (nI k) :=
  br_f (nI_pos (by omega)) (pk_le 12 k (fun z => absurd z (by omega)) (fun _ => ps_br0 (by omega) h0 h1))
theorem qx_has_f {post : Int32 → Prop} {v : Int32} (hv : v < 0 ∨ nI 12 ≤ v) (h : post 0) : wpX_has post (pr, kn, K, X, Y, p, f, l) v :=
  br_c (fun _ => h) (fun hn => br_c (fun _ => h) (fun h8 => absurd (hv.resolve_left hn) h8))
/-- a statement's three ints are good -/
def ps_o3 (v1 v2 v3 : Int32) : Prop := ∃ a b c : Nat, a < 4 ∧ b < 8 ∧ c < 8 ∧ v1 = nI a ∧ v2 = nI b ∧ v3 = nI c
theorem qx_ok {post : Int32 → Prop} {v1 v2 v3 : Int32} (h1 : ps_o3 v1 v2 v3 → post 1) (h0 : ¬ ps_o3 v1 v2 v3 → post 0) : wpX_statementOk post v1 v2 v3 := by
  by_cases h : ps_o3 v1 v2 v3
  · have h' := h1 h
    obtain ⟨a, b, c, ha, hb, hc, rfl, rfl, rfl⟩ := h
    exact br_f (nI_pos (by omega)) (pk_lt 3 a (fun z => absurd z (by omega)) (fun _ => qx_var_t hb (br_f ps_01 (qx_var_t hc (br_f ps_01 h')))))
  · have h' := h0 h
    refine br_c (fun _ => h') (fun hn => br_c (fun _ => h') (fun h3 => ?_))
    obtain ⟨a, ha, e1⟩ := nI_of2 (M := 3) (n := 3) (by decide) hn (Int32.not_lt.mp h3)
    rcases ps_vc v2 with g | ⟨b, hb, e2⟩
    · exact qx_var_f g (br_t rfl h')
    · rw [e2]
      refine qx_var_t hb (br_f ps_01 ?_)
      rcases ps_vc v3 with g | ⟨c, hc, e3⟩
      · exact qx_var_f g (br_t rfl h')
      · exact absurd ⟨a, b, c, by omega, hb, hc, e1, e2, e3⟩ h
theorem qy_ok {post : Int32 → Prop} {v1 v2 v3 : Int32} (h1 : ps_o3 v1 v2 v3 → post 1) (h0 : ¬ ps_o3 v1 v2 v3 → post 0) : wpY_good post (th, K, X, Y, s, o) v1 v2 v3 := by
  by_cases h : ps_o3 v1 v2 v3
  · have h' := h1 h
    obtain ⟨a, b, c, ha, hb, hc, rfl, rfl, rfl⟩ := h
    exact br_f (nI_pos (by omega)) (pk_lt 3 a (fun z => absurd z (by omega)) (fun _ => qy_var_t hb (br_f ps_01 (qy_var_t hc (br_f ps_01 h')))))
  · have h' := h0 h
    refine br_c (fun _ => h') (fun hn => br_c (fun _ => h') (fun h3 => ?_))
    obtain ⟨a, ha, e1⟩ := nI_of2 (M := 3) (n := 3) (by decide) hn (Int32.not_lt.mp h3)
    rcases ps_vc v2 with g | ⟨b, hb, e2⟩
    · exact qy_var_f g (br_t rfl h')
    · rw [e2]
      refine qy_var_t hb (br_f ps_01 ?_)
      rcases ps_vc v3 with g | ⟨c, hc, e3⟩
      · exact qy_var_f g (br_t rfl h')
      · exact absurd ⟨a, b, c, by omega, hb, hc, e1, e2, e3⟩ h
/-- one number of a table changed -/
def ps_u (g : Nat → Nat) (k a : Nat) : Nat → Nat := fun j => if j = k then a else g j
theorem ps_A_u (g : Nat → Nat) (k a : Nat) : upd (ps_A g) k (nI a) = ps_A (ps_u g k a) := by
  funext j
  by_cases e : j = k
  · subst e
    rw [pk_us]
    show nI a = nI (if j = j then a else g j)
    rw [if_pos rfl]
  · rw [pk_un e]
    show nI (g j) = nI (if j = k then a else g j)
    rw [if_neg e]
theorem ps_Ok_u (ok : ps_Ok kd xd yd) {a b c : Nat} (k : Nat) (ha : a < 4) (hb : b < 8) (hc : c < 8) : ps_Ok (ps_u kd k a) (ps_u xd k b) (ps_u yd k c) := by
  intro j
  have h := ok j
  unfold ps_u
  by_cases e : j = k
  · rw [if_pos e, if_pos e, if_pos e]; exact ⟨ha, hb, hc⟩
  · rw [if_neg e, if_neg e, if_neg e]; exact h
theorem qx_write {post : SX → Prop} {V : Int32} {a b c : Nat} (k : Nat) (hk : k < 13) (eV : V = nI k) (ha : a < 8) (hb : b < 8) (hc : c < 8)
    (h : post (pr ||| (1 : Int32) <<< (nI k &&& 31), 0, ps_A (ps_u kd k a), ps_A (ps_u xd k b), ps_A (ps_u yd k c), p, f, l)) :
    wpX_write post (pr, kn, ps_A kd, ps_A xd, ps_A yd, p, f, l) V (nI a) (nI b) (nI c) := by
  subst eV
  have hi : vp_in (nI k) 13 := vp_in_nI hk (by omega)
  have ec : (nI k).toNatClampNeg = k := nI_clamp (by omega)
  unfold wpX_write
  dsimp only
  rw [ec, ps_nar8 ha, ps_nar8 hb, ps_nar8 hc]
  exact ⟨hi, nm_r (ps_A_u kd k a) ⟨hi, nm_r (ps_A_u xd k b) ⟨hi, nm_r (ps_A_u yd k c) (nm_e h)⟩⟩⟩
theorem qy_hold {post : SY → Prop} {V : Int32} {a b c : Nat} (k : Nat) (hk : k < 13) (eV : V = nI k)
    (h : post (upd th k 1, ps_A (ps_u kd k a), ps_A (ps_u xd k b), ps_A (ps_u yd k c), s, o)) :
    wpY_hold post (th, ps_A kd, ps_A xd, ps_A yd, s, o) V (nI a) (nI b) (nI c) := by
  subst eV
  have hi : vp_in (nI k) 13 := vp_in_nI hk (by omega)
  have ec : (nI k).toNatClampNeg = k := nI_clamp (by omega)
  unfold wpY_hold
  dsimp only
  rw [ec]
  exact ⟨hi, nm_r (e' := upd th k 1) rfl ⟨hi, nm_r (ps_A_u kd k a) ⟨hi, nm_r (ps_A_u xd k b) ⟨hi, nm_r (ps_A_u yd k c) h⟩⟩⟩⟩
theorem ps_set_b (pr : Int32) {k : Nat} (hk : k < 32) (i : Nat) : bt (pr ||| (1 : Int32) <<< (nI k &&& 31)) i = (bt pr i || decide (i = k)) := by
  rw [b_or, ps_sh hk]
theorem ps_clr_b (pr : Int32) {k : Nat} (hk : k < 32) (i : Nat) : bt (pr &&& (((1 : Int32) <<< (nI k &&& 31)) ^^^ (-1))) i = (bt pr i && !decide (i = k)) := by
  rw [ps_an, ps_sh hk]
theorem ps_T_set (h : ps_T pr th) {k : Nat} (hk : k < 32) : ps_T (pr ||| (1 : Int32) <<< (nI k &&& 31)) (upd th k 1) := by
  intro j hj
  rw [ps_set_b pr hk]
  by_cases e : j = k
  · subst e
    rw [pk_us, decide_eq_true (rfl : j = j), Bool.or_true, if_pos rfl]
  · rw [pk_un e, decide_eq_false e, Bool.or_false]; exact h j hj
theorem ps_T_clr (h : ps_T pr th) {k : Nat} (hk : k < 32) : ps_T (pr &&& (((1 : Int32) <<< (nI k &&& 31)) ^^^ (-1))) (upd th k 0) := by
  intro j hj
  rw [ps_clr_b pr hk]
  by_cases e : j = k
  · subst e
    rw [pk_us, decide_eq_true (rfl : j = j), Bool.not_true, Bool.and_false, if_neg (by decide)]
  · rw [pk_un e, decide_eq_false e, Bool.not_false, Bool.and_true]; exact h j hj
theorem ps_T_0 (h : ps_T pr th) {k : Nat} (hk : k < 13) (hb : bt pr k = false) : th (nI k).toNatClampNeg = 0 := by
  rw [nI_clamp (by omega), h k hk, hb]; rfl
theorem ps_T_1 (h : ps_T pr th) {k : Nat} (hk : k < 13) (hb : bt pr k = true) : ¬ th (nI k).toNatClampNeg = 0 := by
  rw [nI_clamp (by omega), h k hk, hb]; exact ps_01
/-- the first free place -/
theorem ps_ff (pr : Int32) : ∀ n, (∀ i, i < n → bt pr i = true) ∨ ∃ j, j < n ∧ bt pr j = false ∧ ∀ i, i < j → bt pr i = true := by
  intro n
  induction n with
  | zero => exact Or.inl (fun i hi => absurd hi (Nat.not_lt_zero i))
  | succ n ih =>
    rcases ih with h | ⟨j, hj, h1, h2⟩
    · cases hb : bt pr n with
      | true =>
        refine Or.inl (fun i hi => ?_)
        by_cases e : i = n
        · subst e; exact hb
        · exact h i (by omega)
      | false => exact Or.inr ⟨n, by omega, hb, h⟩
    · exact Or.inr ⟨j, by omega, h1, h2⟩
theorem qx_add_n {post : Int32 → SX → Prop} {v1 v2 v3 : Int32} (ht : ∀ i, i < 12 → bt pr i = true) (h : post (-2) (pr, kn, K, X, Y, p, f, l)) :
    ∀ d i, i + d = 12 → wX_add_14 post v1 v2 v3 pr kn K X Y p f l (d + 1) (nI i) := by
  intro d
  induction d with
  | zero =>
    intro i hi
    exact pk_le 12 i (fun _ => h) (fun z => absurd z (by omega))
  | succ d ih =>
    intro i hi
    exact pk_le 12 i (fun z => absurd z (by omega)) (fun _ => qx_has (by omega) (fun h0 => nomatch (h0.symm.trans (ht i (by omega)))) (fun _ => br_f ps_01 (nm_r (nI_1 i) (ih (i + 1) (by omega)))))
theorem qx_add_j {post : Int32 → SX → Prop} {j a b c : Nat} (hj : j < 12) (hf : bt pr j = false) (ht : ∀ i, i < j → bt pr i = true) (ha : a < 8) (hb : b < 8) (hc : c < 8)
    (h : post (nI j) (pr ||| (1 : Int32) <<< (nI j &&& 31), 0, ps_A (ps_u kd j a), ps_A (ps_u xd j b), ps_A (ps_u yd j c), p, f, l)) :
    ∀ d i, i + d = j → wX_add_14 post (nI a) (nI b) (nI c) pr kn (ps_A kd) (ps_A xd) (ps_A yd) p f l (d + 1) (nI i) := by
  intro d
  induction d with
  | zero =>
    intro i hi
    have e : i = j := by omega
    subst e
    exact pk_le 12 i (fun z => absurd z (by omega)) (fun _ => qx_has hj (fun _ => br_t rfl (qx_write i (by omega) rfl ha hb hc h)) (fun h1 => nomatch (hf.symm.trans h1)))
  | succ d ih =>
    intro i hi
    exact pk_le 12 i (fun z => absurd z (by omega)) (fun _ => qx_has (by omega) (fun h0 => nomatch (h0.symm.trans (ht i (by omega)))) (fun _ => br_f ps_01 (nm_r (nI_1 i) (ih (i + 1) (by omega)))))
theorem qy_add_n {post : Int32 → SY → Prop} {v1 v2 v3 : Int32} (hT : ps_T pr th) (ht : ∀ i, i < 12 → bt pr i = true) (h : post (-2) (th, K, X, Y, s, o)) :
    ∀ d i, i + d = 12 → wY_add_15 post v1 v2 v3 th K X Y s o (d + 1) (nI i) := by
  intro d
  induction d with
  | zero =>
    intro i hi
    exact pk_le 12 i (fun _ => h) (fun z => absurd z (by omega))
  | succ d ih =>
    intro i hi
    exact pk_le 12 i (fun z => absurd z (by omega)) (fun _ => ⟨vp_in_nI (by omega) (by omega), br_f (ps_T_1 hT (by omega) (ht i (by omega))) (nm_r (nI_1 i) (ih (i + 1) (by omega)))⟩)
theorem qy_add_j {post : Int32 → SY → Prop} {j a b c : Nat} (hT : ps_T pr th) (hj : j < 12) (hf : bt pr j = false) (ht : ∀ i, i < j → bt pr i = true)
    (h : post (nI j) (upd th j 1, ps_A (ps_u kd j a), ps_A (ps_u xd j b), ps_A (ps_u yd j c), s, o)) :
    ∀ d i, i + d = j → wY_add_15 post (nI a) (nI b) (nI c) th (ps_A kd) (ps_A xd) (ps_A yd) s o (d + 1) (nI i) := by
  intro d
  induction d with
  | zero =>
    intro i hi
    have e : i = j := by omega
    subst e
    exact pk_le 12 i (fun z => absurd z (by omega)) (fun _ => ⟨vp_in_nI (by omega) (by omega), br_t (ps_T_0 hT (by omega) hf) (qy_hold i (by omega) rfl h)⟩)
  | succ d ih =>
    intro i hi
    exact pk_le 12 i (fun z => absurd z (by omega)) (fun _ => ⟨vp_in_nI (by omega) (by omega), br_f (ps_T_1 hT (by omega) (ht i (by omega))) (nm_r (nI_1 i) (ih (i + 1) (by omega)))⟩)
theorem qy_stm {post : Int32 → Prop} (hT : ps_T pr th) (h : post (ps_mk (bt pr) 12)) :
    ∀ d i, i + d = 12 → wY_statements_4 post th K X Y s o (d + 1) (ps_mk (bt pr) i) (nI i) := by
  intro d
  induction d with
  | zero =>
    intro i hi
    have e : i = 12 := by omega
    subst e
    exact pk_le 12 12 (fun _ => h) (fun z => absurd z (by omega))
  | succ d ih =>
    intro i hi
    refine pk_le 12 i (fun z => absurd z (by omega)) (fun _ => ⟨vp_in_nI (by omega) (by omega), ?_⟩)
    cases hb : bt pr i with
    | false =>
      refine br_t (ps_T_0 hT (by omega) hb) (nm_r (nI_1 i) ?_)
      rw [ps_mkf hb]
      exact ih (i + 1) (by omega)
    | true => exact br_f (ps_T_1 hT (by omega) hb) (nm_r (ps_mkt hb) (nm_r (nI_1 i) (ih (i + 1) (by omega))))
end
end
section
/-! ===== reach and flows as functions; flows forward and backward ===== -/
def ps_rs (P : Nat → Int32) (g : Int32) : Nat → Int32
  | 0 => g
  | n + 1 => if bt (ps_rs P g n) n = true then ps_rs P g n ||| P n else ps_rs P g n
def ps_rr (P : Nat → Int32) (g : Int32) : Nat → Int32
  | 0 => g
  | n + 1 => ps_rs P (ps_rr P g n) 8
theorem ps_rs_t {P : Nat → Int32} {g : Int32} {n : Nat} (h : bt (ps_rs P g n) n = true) : ps_rs P g n ||| P n = ps_rs P g (n + 1) := by
  show _ = if bt (ps_rs P g n) n = true then ps_rs P g n ||| P n else ps_rs P g n
  rw [if_pos h]
theorem ps_rs_f {P : Nat → Int32} {g : Int32} {n : Nat} (h : bt (ps_rs P g n) n = false) : ps_rs P g n = ps_rs P g (n + 1) := by
  show _ = if bt (ps_rs P g n) n = true then ps_rs P g n ||| P n else ps_rs P g n
  rw [if_neg (by rw [h]; decide)]
/-- one pass of flows along the copies: from (fr k) to (tt k) -/
def ps_fs (pr : Int32) (kd fr tt : Nat → Nat) (g : Int32) : Nat → Int32
  | 0 => g
  | n + 1 => if bt pr n = true ∧ kd n = 1 ∧ bt (ps_fs pr kd fr tt g n) (fr n) = true then ps_fs pr kd fr tt g n ||| (1 : Int32) <<< (nI (tt n) &&& 31) else ps_fs pr kd fr tt g n
def ps_fr (pr : Int32) (kd fr tt : Nat → Nat) (g : Int32) : Nat → Int32
  | 0 => g
  | n + 1 => ps_fs pr kd fr tt (ps_fr pr kd fr tt g n) 12
section
variable {pr : Int32} {kd fr tt : Nat → Nat} {g : Int32}
theorem ps_fs_t {n : Nat} (h : bt pr n = true ∧ kd n = 1 ∧ bt (ps_fs pr kd fr tt g n) (fr n) = true) : ps_fs pr kd fr tt g n ||| (1 : Int32) <<< (nI (tt n) &&& 31) = ps_fs pr kd fr tt g (n + 1) := by
  show _ = if _ then _ else _
  rw [if_pos h]
theorem ps_fs_f {n : Nat} (h : ¬ (bt pr n = true ∧ kd n = 1 ∧ bt (ps_fs pr kd fr tt g n) (fr n) = true)) : ps_fs pr kd fr tt g n = ps_fs pr kd fr tt g (n + 1) := by
  show _ = if _ then _ else _
  rw [if_neg h]
theorem ps_fs_s {n z : Nat} (h : bt (ps_fs pr kd fr tt g n) z = true) : bt (ps_fs pr kd fr tt g (n + 1)) z = true := by
  by_cases c : bt pr n = true ∧ kd n = 1 ∧ bt (ps_fs pr kd fr tt g n) (fr n) = true
  · rw [← ps_fs_t c, b_or, h]; rfl
  · rw [← ps_fs_f c]; exact h
theorem ps_fs_m {n z : Nat} : ∀ d, bt (ps_fs pr kd fr tt g n) z = true → bt (ps_fs pr kd fr tt g (n + d)) z = true := by
  intro d
  induction d with
  | zero => exact fun h => h
  | succ d ih => exact fun h => ps_fs_s (ih h)
theorem ps_fs_g {n z : Nat} (h : bt g z = true) : bt (ps_fs pr kd fr tt g n) z = true := by
  have h2 := ps_fs_m (pr := pr) (kd := kd) (fr := fr) (tt := tt) (g := g) (n := 0) (z := z) n h
  rw [Nat.zero_add] at h2
  exact h2
/-- the set keeps all copies -/
def ps_K (pr : Int32) (kd fr tt : Nat → Nat) (S : Nat → Prop) : Prop := ∀ k, k < 12 → bt pr k = true → kd k = 1 → S (fr k) → S (tt k)
theorem ps_fs_d (ht : ∀ k, tt k < 8) {k : Nat} (hk : k < 12) (hp : bt pr k = true) (h1 : kd k = 1) (h : bt g (fr k) = true) : bt (ps_fs pr kd fr tt g 12) (tt k) = true := by
  have h2 : bt (ps_fs pr kd fr tt g (k + 1)) (tt k) = true := by
    have := ht k
    rw [← ps_fs_t ⟨hp, h1, ps_fs_g h⟩, b_or, ps_sh (by omega), decide_eq_true (rfl : tt k = tt k), Bool.or_true]
  have h3 := ps_fs_m (12 - (k + 1)) h2
  rw [show k + 1 + (12 - (k + 1)) = 12 by omega] at h3
  exact h3
theorem ps_fs_v (ht : ∀ k, tt k < 8) {S : Nat → Prop} (hS : ps_K pr kd fr tt S) (h : ∀ z, bt g z = true → S z) : ∀ n, n ≤ 12 → ∀ z, bt (ps_fs pr kd fr tt g n) z = true → S z := by
  intro n
  induction n with
  | zero => exact fun _ => h
  | succ n ih =>
    intro hn z hz
    by_cases c : bt pr n = true ∧ kd n = 1 ∧ bt (ps_fs pr kd fr tt g n) (fr n) = true
    · have := ht n
      rw [← ps_fs_t c, b_or, ps_sh (by omega), Bool.or_eq_true] at hz
      rcases hz with hz | hz
      · exact ih (by omega) z hz
      · rw [of_decide_eq_true hz]
        exact hS n (by omega) c.1 c.2.1 (ih (by omega) _ c.2.2)
    · rw [← ps_fs_f c] at hz
      exact ih (by omega) z hz
theorem ps_fr_v (ht : ∀ k, tt k < 8) {S : Nat → Prop} (hS : ps_K pr kd fr tt S) (h : ∀ z, bt g z = true → S z) : ∀ n z, bt (ps_fr pr kd fr tt g n) z = true → S z := by
  intro n
  induction n with
  | zero => exact h
  | succ n ih => exact ps_fs_v ht hS ih 12 (Nat.le_refl 12)
theorem ps_fr_g {z : Nat} (h : bt g z = true) : ∀ n, bt (ps_fr pr kd fr tt g n) z = true := by
  intro n
  induction n with
  | zero => exact h
  | succ n ih => exact ps_fs_g ih
theorem ps_fr_F (ht : ∀ k, tt k < 8) (h : ps_F g) (n : Nat) : ps_F (ps_fr pr kd fr tt g n) := by
  intro i hi
  cases hb : bt (ps_fr pr kd fr tt g n) i with
  | false => rfl
  | true =>
    have h8 : i < 8 := ps_fr_v (S := fun z => z < 8) ht (fun k _ _ _ _ => ht k) (fun z hz => ps_Flt h hz) n i hb
    omega
/-- a pass that changes something adds a variable -/
theorem ps_fs_c (ht : ∀ k, tt k < 8) (hF : ps_F g) (h : ps_fs pr kd fr tt g 12 ≠ g) : ps_cn (bt g) 8 < ps_cn (bt (ps_fs pr kd fr tt g 12)) 8 := by
  have hz : ∃ z, bt g z = false ∧ bt (ps_fs pr kd fr tt g 12) z = true := by
    apply Classical.byContradiction
    intro hne
    apply h
    apply b_ext
    intro i _
    cases hg : bt g i with
    | true => exact ps_fs_g hg
    | false =>
      cases hb : bt (ps_fs pr kd fr tt g 12) i with
      | false => rfl
      | true => exact absurd ⟨i, hg, hb⟩ hne
  obtain ⟨z, h0, h1⟩ := hz
  have h8 : z < 8 := ps_fs_v (S := fun z => z < 8) ht (fun k _ _ _ _ => ht k) (fun z hz => ps_Flt hF hz) 12 (Nat.le_refl 12) z h1
  exact ps_cn_lt 8 (fun i _ hi => ps_fs_g hi) z h8 h0 h1
theorem ps_fr_s (ht : ∀ k, tt k < 8) (hF : ps_F g) : ∀ n, ps_fs pr kd fr tt (ps_fr pr kd fr tt g n) 12 = ps_fr pr kd fr tt g n ∨ n ≤ ps_cn (bt (ps_fr pr kd fr tt g n)) 8 := by
  intro n
  induction n with
  | zero => exact Or.inr (Nat.zero_le _)
  | succ n ih =>
    have e : ps_fr pr kd fr tt g (n + 1) = ps_fs pr kd fr tt (ps_fr pr kd fr tt g n) 12 := rfl
    by_cases c : ps_fs pr kd fr tt (ps_fr pr kd fr tt g n) 12 = ps_fr pr kd fr tt g n
    · refine Or.inl ?_
      rw [e, c, c]
    · have h1 := ps_fs_c ht (ps_fr_F ht hF n) c
      have h2 := ih.resolve_left c
      refine Or.inr ?_
      rw [e]
      omega
theorem ps_fr_8 (ht : ∀ k, tt k < 8) (hF : ps_F g) : ps_fs pr kd fr tt (ps_fr pr kd fr tt g 8) 12 = ps_fr pr kd fr tt g 8 := by
  rcases ps_fr_s (pr := pr) (kd := kd) (fr := fr) ht hF 8 with h | h
  · exact h
  · apply Classical.byContradiction
    intro c
    have h1 := ps_fs_c ht (ps_fr_F ht hF 8) c
    have h2 := ps_cn_le (bt (ps_fs pr kd fr tt (ps_fr pr kd fr tt g 8) 12)) 8
    omega
theorem ps_fr_iff (ht : ∀ k, tt k < 8) (hF : ps_F g) (x : Nat) : bt (ps_fr pr kd fr tt g 8) x = true ↔ ∀ S : Nat → Prop, ps_K pr kd fr tt S → (∀ z, bt g z = true → S z) → S x := by
  constructor
  · exact fun h S hS hg => ps_fr_v ht hS hg 8 x h
  · intro h
    refine h (fun z => bt (ps_fr pr kd fr tt g 8) z = true) ?_ (fun z hz => ps_fr_g hz 8)
    intro k hk hp h1 hz
    have h2 := ps_fs_d ht hk hp h1 hz
    rw [ps_fr_8 ht hF] at h2
    exact h2
end
theorem ps_flow {pr : Int32} {kd xd yd : Nat → Nat} (ok : ps_Ok kd xd yd) {x y : Nat} (hx : x < 8) (hy : y < 8) :
    bt (ps_fr pr kd yd xd ((1 : Int32) <<< (nI y &&& 31)) 8) x = bt (ps_fr pr kd xd yd ((1 : Int32) <<< (nI x &&& 31)) 8) y := by
  rw [Bool.eq_iff_iff, ps_fr_iff (fun k => (ok k).2.1) (ps_Fsh hy), ps_fr_iff (fun k => (ok k).2.2) (ps_Fsh hx)]
  have b1 : ∀ {n : Nat}, n < 8 → bt ((1 : Int32) <<< (nI n &&& 31)) n = true := fun hn => by
    rw [ps_sh (by omega)]; exact decide_eq_true rfl
  have b2 : ∀ {n : Nat} (S : Nat → Prop), n < 8 → S n → ∀ z, bt ((1 : Int32) <<< (nI n &&& 31)) z = true → S z := fun S hn h z hz => by
    rw [ps_sh (by omega)] at hz
    rw [of_decide_eq_true hz]; exact h
  constructor
  · intro h T hT hg
    have h1 := h (fun v => T v → T y) (fun k hk hp h1 hs ht => hs (hT k hk hp h1 ht)) (b2 (fun v => T v → T y) hy (fun z => z))
    exact h1 (hg x (b1 hx))
  · intro h T hT hg
    have h1 := h (fun v => T v → T x) (fun k hk hp h1 hs ht => hs (hT k hk hp h1 ht)) (b2 (fun v => T v → T x) hx (fun z => z))
    exact h1 (hg y (b1 hy))
/-- an empty set stays empty -/
theorem ps_fr_0 {pr : Int32} {kd xd yd : Nat → Nat} (ok : ps_Ok kd xd yd) (n : Nat) : ps_fr pr kd xd yd 0 n = 0 := by
  apply b_ext
  intro i _
  rw [b_0]
  cases hb : bt (ps_fr pr kd xd yd 0 n) i with
  | false => rfl
  | true => exact absurd (ps_fr_v (S := fun _ => False) (fun k => (ok k).2.2) (fun _ _ _ _ h => h) (fun z hz => by rw [b_0] at hz; exact nomatch hz) n i hb) id
/-- removing a statement: the counts are equal only if the sets are -/
theorem ps_red {pr pr' : Int32} {kd xd yd : Nat → Nat} (ok : ps_Ok kd xd yd) (h : ∀ k, k < 13 → bt pr' k = true → bt pr k = true) :
    ps_cs (ps_P pr kd xd yd) = ps_cs (ps_P pr' kd xd yd) ↔ ∀ x, x < 8 → ps_P pr kd xd yd x = ps_P pr' kd xd yd x := by
  constructor
  · intro e x hx
    apply b_ext
    intro i _
    rcases Nat.lt_or_ge i 8 with h8 | h8
    · refine (ps_c2_eq (P := fun x z => bt (ps_P pr' kd xd yd x) z) (P' := fun x z => bt (ps_P pr kd xd yd x) z) ?_ e.symm hx h8).symm
      intro x _ z _ hb
      exact (ps_P_b ok x z).mpr (ps_L_mono h ((ps_P_b ok x z).mp hb))
    · rw [ps_P_F pr kd xd yd x i h8, ps_P_F pr' kd xd yd x i h8]
  · intro e
    exact ps_cn_c (fun i hi => by dsimp only; rw [e (i / 8) (by omega)])
theorem ps_cs_c {a b : Nat → Int32} (h : ∀ x, x < 8 → a x = b x) : ps_cs a = ps_cs b := ps_cn_c (fun i hi => by dsimp only; rw [h (i / 8) (by omega)])
/-- one bit more is counted -/
theorem ps_tot {a : Nat → Int32} {n : Nat} : nI (ps_cn (fun c => bt (a (c / 8)) (c % 8)) n) + ((a (n / 8) >>> (nI (n % 8) &&& 31)) &&& 1) = nI (ps_cn (fun c => bt (a (c / 8)) (c % 8)) (n + 1)) := by
  rw [ps_cn_s]
  have hm : n % 8 < 32 := by omega
  cases hb : bt (a (n / 8)) (n % 8) with
  | true => rw [ps_zt hm hb, if_pos rfl, nI_1]
  | false => rw [ps_zf hm hb, if_neg (by decide), Int32.add_zero, Nat.add_zero]
end
section
/-! ===== walks of the answering loops, both sides: a is the solved array, P what it holds ===== -/
section
variable {pr kn : Int32} {kd xd yd : Nat → Nat} {K X Y f l th o a P : Nat → Int32}
theorem qx_pby {post : Int32 → SX → Prop} {y : Nat} (hy : y < 8) (ha : ∀ x, x < 8 → a x = P x) (h : post (ps_mk (fun x => bt (P x) y) 8) (pr, kn, K, X, Y, a, f, l)) :
    ∀ d j, j + d = 8 → wX_pointedBy_17 post (nI y) pr kn K X Y a f l (d + 1) (ps_mk (fun x => bt (P x) y) j) (nI j) := by
  intro d
  induction d with
  | zero =>
    intro j hj
    have e : j = 8 := by omega
    subst e
    exact pk_le 8 8 (fun _ => h) (fun z => absurd z (by omega))
  | succ d ih =>
    intro j hj
    have ec : a (nI j).toNatClampNeg = P j := by rw [nI_clamp (by omega), ha j (by omega)]
    refine pk_le 8 j (fun z => absurd z (by omega)) (fun _ => ⟨vp_in_nI (by omega) (by omega), qx_in y (by omega) (fun h0 => br_t rfl (nm_r (e' := ps_mk (fun x => bt (P x) y) (j + 1)) ?_ (nm_r (nI_1 j) (ih (j + 1) (by omega))))) (fun h1 => br_f ps_01 (nm_r (e' := ps_mk (fun x => bt (P x) y) (j + 1)) ?_ (nm_r (nI_1 j) (ih (j + 1) (by omega)))))⟩)
    · rw [ec] at h0
      rw [ps_or0]
      exact ps_mkf (f := fun x => bt (P x) y) h0
    · rw [ec] at h1
      exact ps_mkt (f := fun x => bt (P x) y) h1
theorem qy_pby {post : Int32 → SY → Prop} {y : Nat} (hy : y < 8) (ha : ∀ x, x < 8 → a x = P x) (h : post (ps_mk (fun x => bt (P x) y) 8) (th, K, X, Y, a, o)) :
    ∀ d j, j + d = 8 → wY_pointedBy_8 post (nI y) th K X Y a o (d + 1) (ps_mk (fun x => bt (P x) y) j) (nI j) := by
  intro d
  induction d with
  | zero =>
    intro j hj
    have e : j = 8 := by omega
    subst e
    exact pk_le 8 8 (fun _ => h) (fun z => absurd z (by omega))
  | succ d ih =>
    intro j hj
    have ec : a (nI j).toNatClampNeg = P j := by rw [nI_clamp (by omega), ha j (by omega)]
    refine pk_le 8 j (fun z => absurd z (by omega)) (fun _ => qy_var_t hy (br_f ps_01 ⟨vp_in_nI (by omega) (by omega), ps_br1 (by omega) (fun h1 => nm_r (e' := ps_mk (fun x => bt (P x) y) (j + 1)) ?_ (nm_r (nI_1 j) (ih (j + 1) (by omega)))) (fun h0 => nm_r (nI_1 j) ?_)⟩))
    · rw [ec] at h1
      exact ps_mkt (f := fun x => bt (P x) y) h1
    · rw [ec] at h0
      rw [ps_mkf (f := fun x => bt (P x) y) h0]
      exact ih (j + 1) (by omega)
theorem qx_twn {post : Int32 → SX → Prop} {y : Nat} (hy : y < 8) (ha : ∀ x, x < 8 → a x = P x) (h : post (ps_mk (fun x => decide (P x = P y)) 8) (pr, kn, K, X, Y, a, f, l)) :
    ∀ d j, j + d = 8 → wX_twins_17 post (nI y) pr kn K X Y a f l (d + 1) (ps_mk (fun x => decide (P x = P y)) j) (nI j) := by
  intro d
  have ey : a (nI y).toNatClampNeg = P y := by rw [nI_clamp (by omega), ha y hy]
  induction d with
  | zero =>
    intro j hj
    have e : j = 8 := by omega
    subst e
    exact pk_le 8 8 (fun _ => h) (fun z => absurd z (by omega))
  | succ d ih =>
    intro j hj
    have ec : a (nI j).toNatClampNeg = P j := by rw [nI_clamp (by omega), ha j (by omega)]
    refine pk_le 8 j (fun z => absurd z (by omega)) (fun _ => ⟨vp_in_nI (by omega) (by omega), vp_in_nI hy (by omega), br_c (fun h1 => nm_r (e' := ps_mk (fun x => decide (P x = P y)) (j + 1)) ?_ (nm_r (nI_1 j) (ih (j + 1) (by omega)))) (fun h0 => nm_r (e' := ps_mk (fun x => decide (P x = P y)) (j + 1)) ?_ (nm_r (nI_1 j) (ih (j + 1) (by omega))))⟩)
    · rw [ec, ey] at h1
      exact ps_mkt (f := fun x => decide (P x = P y)) (decide_eq_true h1)
    · rw [ec, ey] at h0
      rw [ps_or0]
      exact ps_mkf (f := fun x => decide (P x = P y)) (decide_eq_false h0)
theorem qy_twn {post : Int32 → SY → Prop} {y : Nat} (hy : y < 8) (ha : ∀ x, x < 8 → a x = P x) (h : post (ps_mk (fun x => decide (P x = P y)) 8) (th, K, X, Y, a, o)) :
    ∀ d j, j + d = 8 → wY_twins_8 post (nI y) th K X Y a o (d + 1) (ps_mk (fun x => decide (P x = P y)) j) (nI j) := by
  intro d
  have ey : a (nI y).toNatClampNeg = P y := by rw [nI_clamp (by omega), ha y hy]
  induction d with
  | zero =>
    intro j hj
    have e : j = 8 := by omega
    subst e
    exact pk_le 8 8 (fun _ => h) (fun z => absurd z (by omega))
  | succ d ih =>
    intro j hj
    have ec : a (nI j).toNatClampNeg = P j := by rw [nI_clamp (by omega), ha j (by omega)]
    refine pk_le 8 j (fun z => absurd z (by omega)) (fun _ => qy_var_t hy (br_f ps_01 ⟨vp_in_nI (by omega) (by omega), vp_in_nI hy (by omega), br_c (fun h1 => nm_r (e' := ps_mk (fun x => decide (P x = P y)) (j + 1)) ?_ (nm_r (nI_1 j) (ih (j + 1) (by omega)))) (fun h0 => nm_r (nI_1 j) ?_)⟩))
    · rw [ec, ey] at h1
      exact ps_mkt (f := fun x => decide (P x = P y)) (decide_eq_true h1)
    · rw [ec, ey] at h0
      rw [ps_mkf (f := fun x => decide (P x = P y)) (decide_eq_false h0)]
      exact ih (j + 1) (by omega)
theorem qx_r31 {post : Int32 → SX → Prop} {J : Int32 → Int32 → Prop} {g : Int32} {i : Nat} (ha : ∀ x, x < 8 → a x = P x) (h : J (ps_rs P g 8) (nI (i + 1))) :
    ∀ d j, j + d = 8 → wX_reach_31 post J (nI i) pr kn K X Y a f l (d + 1) (ps_rs P g j) (nI j) := by
  intro d
  induction d with
  | zero =>
    intro j hj
    have e : j = 8 := by omega
    subst e
    exact pk_le 8 8 (fun _ => nm_r (nI_1 i) h) (fun z => absurd z (by omega))
  | succ d ih =>
    intro j hj
    have ec : a (nI j).toNatClampNeg = P j := by rw [nI_clamp (by omega), ha j (by omega)]
    refine pk_le 8 j (fun z => absurd z (by omega)) (fun _ => qx_in j (by omega) (fun h0 => br_t rfl (nm_r (e' := ps_rs P g (j + 1)) ?_ (nm_r (nI_1 j) (ih (j + 1) (by omega))))) (fun h1 => br_f ps_01 ⟨vp_in_nI (by omega) (by omega), nm_r (e' := ps_rs P g (j + 1)) ?_ (nm_r (nI_1 j) (ih (j + 1) (by omega)))⟩))
    · rw [ps_or0]; exact ps_rs_f h0
    · rw [ec]; exact ps_rs_t h1
theorem qx_r22 {post : Int32 → SX → Prop} {g : Int32} (ha : ∀ x, x < 8 → a x = P x) (h : post (ps_rr P g 8) (pr, kn, K, X, Y, a, f, l)) :
    ∀ d j, j + d = 8 → wX_reach_22 post pr kn K X Y a f l (d + 1) (ps_rr P g j) (nI j) := by
  intro d
  induction d with
  | zero =>
    intro j hj
    have e : j = 8 := by omega
    subst e
    exact pk_le 8 8 (fun _ => h) (fun z => absurd z (by omega))
  | succ d ih =>
    intro j hj
    exact pk_le 8 j (fun z => absurd z (by omega)) (fun _ => ⟨9, qx_r31 (g := ps_rr P g j) ha (ih (j + 1) (by omega)) 8 0 rfl⟩)
theorem qx_reach {post : Int32 → SX → Prop} {x : Nat} {p : Nat → Int32} (hx : x < 8) (ok : ps_Ok kd xd yd) (hS : kn ≠ 0 → ps_Sol pr kd xd yd p)
    (kk : ∀ kn' p' f' l', kn' ≠ 0 → ps_Sol pr kd xd yd p' → post (ps_rr (ps_P pr kd xd yd) (ps_P pr kd xd yd x) 8) (pr, kn', ps_A kd, ps_A xd, ps_A yd, p', f', l')) :
    wpX_reach post (pr, kn, ps_A kd, ps_A xd, ps_A yd, p, f, l) (nI x) := by
  unfold wpX_reach
  dsimp only
  refine qx_var_t hx (br_f ps_01 (qx_solve ok hS (fun kn' p' f' l' hn hp => ⟨vp_in_nI hx (by omega), nm_r (e' := ps_P pr kd xd yd x) ?_ ⟨9, qx_r22 hp (kk kn' p' f' l' hn hp) 8 0 rfl⟩⟩)))
  rw [nI_clamp (by omega)]
  exact hp x hx
theorem qy_r18 {post : Int32 → Prop} {J : Int32 → Int32 → Prop} {g : Int32} {i : Nat} (ha : ∀ x, x < 8 → a x = P x) (h : J (ps_rs P g 8) (nI (i + 1))) :
    ∀ d j, j + d = 8 → wY_reached_18 post J (nI i) th K X Y a o (d + 1) (ps_rs P g j) (nI j) := by
  intro d
  induction d with
  | zero =>
    intro j hj
    have e : j = 8 := by omega
    subst e
    exact pk_le 8 8 (fun _ => nm_r (nI_1 i) h) (fun z => absurd z (by omega))
  | succ d ih =>
    intro j hj
    have ec : a (nI j).toNatClampNeg = P j := by rw [nI_clamp (by omega), ha j (by omega)]
    refine pk_le 8 j (fun z => absurd z (by omega)) (fun _ => ps_br1 (by omega) (fun h1 => ⟨vp_in_nI (by omega) (by omega), nm_r (e' := ps_rs P g (j + 1)) ?_ (nm_r (nI_1 j) (ih (j + 1) (by omega)))⟩) (fun h0 => nm_r (nI_1 j) ?_))
    · rw [ec]; exact ps_rs_t h1
    · rw [ps_rs_f h0]; exact ih (j + 1) (by omega)
theorem qy_r9 {post : Int32 → Prop} {g : Int32} (ha : ∀ x, x < 8 → a x = P x) (h : post (ps_rr P g 8)) :
    ∀ d j, j + d = 8 → wY_reached_9 post th K X Y a o (d + 1) (ps_rr P g j) (nI j) := by
  intro d
  induction d with
  | zero =>
    intro j hj
    have e : j = 8 := by omega
    subst e
    exact pk_le 8 8 (fun _ => h) (fun z => absurd z (by omega))
  | succ d ih =>
    intro j hj
    exact pk_le 8 j (fun z => absurd z (by omega)) (fun _ => ⟨9, qy_r18 (g := ps_rr P g j) ha (ih (j + 1) (by omega)) 8 0 rfl⟩)
theorem qy_reached {post : Int32 → Prop} {x : Nat} (hx : x < 8) (ha : ∀ x, x < 8 → a x = P x) (h : post (ps_rr P (P x) 8)) : wpY_reached post (th, K, X, Y, a, o) (nI x) := by
  unfold wpY_reached
  dsimp only
  refine ⟨vp_in_nI hx (by omega), nm_r (e' := P x) ?_ ⟨9, qy_r9 ha h 8 0 rfl⟩⟩
  rw [nI_clamp (by omega)]
  exact ha x hx
theorem qx_cyc {post : Int32 → SX → Prop} (ok : ps_Ok kd xd yd)
    (kk : ∀ kn' p' f' l', (kn' ≠ 0 → ps_Sol pr kd xd yd p') → post (ps_mk (fun x => bt (ps_rr (ps_P pr kd xd yd) (ps_P pr kd xd yd x) 8) x) 8) (pr, kn', ps_A kd, ps_A xd, ps_A yd, p', f', l')) :
    ∀ d j kn p f l, j + d = 8 → (kn ≠ 0 → ps_Sol pr kd xd yd p) →
      wX_cyclic_4 post (d + 1) (ps_mk (fun x => bt (ps_rr (ps_P pr kd xd yd) (ps_P pr kd xd yd x) 8) x) j) (nI j) pr kn (ps_A kd) (ps_A xd) (ps_A yd) p f l := by
  intro d
  induction d with
  | zero =>
    intro j kn p f l hj hS
    have e : j = 8 := by omega
    subst e
    exact pk_le 8 8 (fun _ => kk kn p f l hS) (fun z => absurd z (by omega))
  | succ d ih =>
    intro j kn p f l hj hS
    refine pk_le 8 j (fun z => absurd z (by omega)) (fun _ => qx_reach (by omega) ok hS (fun kn' p' f' l' hn hp => qx_in j (by omega) (fun h0 => br_t rfl (nm_r (e' := ps_mk (fun x => bt (ps_rr (ps_P pr kd xd yd) (ps_P pr kd xd yd x) 8) x) (j + 1)) ?_ (nm_r (nI_1 j) (ih (j + 1) kn' p' f' l' (by omega) (fun _ => hp))))) (fun h1 => br_f ps_01 (nm_r (e' := ps_mk (fun x => bt (ps_rr (ps_P pr kd xd yd) (ps_P pr kd xd yd x) 8) x) (j + 1)) ?_ (nm_r (nI_1 j) (ih (j + 1) kn' p' f' l' (by omega) (fun _ => hp)))))))
    · rw [ps_or0]
      exact ps_mkf (f := fun x => bt (ps_rr (ps_P pr kd xd yd) (ps_P pr kd xd yd x) 8) x) h0
    · exact ps_mkt (f := fun x => bt (ps_rr (ps_P pr kd xd yd) (ps_P pr kd xd yd x) 8) x) h1
theorem qy_cyc {post : Int32 → SY → Prop} (ha : ∀ x, x < 8 → a x = P x) (h : post (ps_mk (fun x => bt (ps_rr P (P x) 8) x) 8) (th, K, X, Y, a, o)) :
    ∀ d j, j + d = 8 → wY_cyclic_8 post th K X Y a o (d + 1) (ps_mk (fun x => bt (ps_rr P (P x) 8) x) j) (nI j) := by
  intro d
  induction d with
  | zero =>
    intro j hj
    have e : j = 8 := by omega
    subst e
    exact pk_le 8 8 (fun _ => h) (fun z => absurd z (by omega))
  | succ d ih =>
    intro j hj
    refine pk_le 8 j (fun z => absurd z (by omega)) (fun _ => qy_reached (by omega) ha (ps_br1 (by omega) (fun h1 => nm_r (e' := ps_mk (fun x => bt (ps_rr P (P x) 8) x) (j + 1)) ?_ (nm_r (nI_1 j) (ih (j + 1) (by omega)))) (fun h0 => nm_r (nI_1 j) ?_)))
    · exact ps_mkt (f := fun x => bt (ps_rr P (P x) 8) x) h1
    · rw [ps_mkf (f := fun x => bt (ps_rr P (P x) 8) x) h0]
      exact ih (j + 1) (by omega)
/-! totals -/
theorem qx_t16 {post : Int32 → SX → Prop} {J : Int32 → Int32 → Prop} {i : Nat} (hi : i < 8) (h : J (nI (ps_cn (fun c => bt (a (c / 8)) (c % 8)) (8 * (i + 1)))) (nI (i + 1))) :
    ∀ d j, j + d = 8 → wX_total_16 post J (nI i) pr kn K X Y a f l (d + 1) (nI (ps_cn (fun c => bt (a (c / 8)) (c % 8)) (8 * i + j))) (nI j) := by
  intro d
  have ec : (nI i).toNatClampNeg = i := nI_clamp (by omega)
  induction d with
  | zero =>
    intro j hj
    have e : j = 8 := by omega
    subst e
    rw [show 8 * (i + 1) = 8 * i + 8 by omega] at h
    exact pk_le 8 8 (fun _ => nm_r (nI_1 i) h) (fun z => absurd z (by omega))
  | succ d ih =>
    intro j hj
    refine pk_le 8 j (fun z => absurd z (by omega)) (fun _ => ⟨vp_in_nI hi (by omega), nm_r (e' := nI (ps_cn (fun c => bt (a (c / 8)) (c % 8)) (8 * i + (j + 1)))) ?_ (nm_r (nI_1 j) (ih (j + 1) (by omega)))⟩)
    have h1 := ps_tot (a := a) (n := 8 * i + j)
    rw [(ps_dm (x := i) (z := j) (by omega)).1, (ps_dm (x := i) (z := j) (by omega)).2] at h1
    rw [ec]
    exact h1
theorem qx_t8 {post : Int32 → SX → Prop} (h : post (nI (ps_cs a)) (pr, kn, K, X, Y, a, f, l)) :
    ∀ d j, j + d = 8 → wX_total_8 post pr kn K X Y a f l (d + 1) (nI (ps_cn (fun c => bt (a (c / 8)) (c % 8)) (8 * j))) (nI j) := by
  intro d
  induction d with
  | zero =>
    intro j hj
    have e : j = 8 := by omega
    subst e
    exact pk_le 8 8 (fun _ => h) (fun z => absurd z (by omega))
  | succ d ih =>
    intro j hj
    exact pk_le 8 j (fun z => absurd z (by omega)) (fun _ => ⟨9, qx_t16 (by omega) (ih (j + 1) (by omega)) 8 0 rfl⟩)
theorem qx_total {post : Int32 → SX → Prop} {p : Nat → Int32} (ok : ps_Ok kd xd yd) (hS : kn ≠ 0 → ps_Sol pr kd xd yd p)
    (kk : ∀ kn' p' f' l', kn' ≠ 0 → ps_Sol pr kd xd yd p' → post (nI (ps_cs (ps_P pr kd xd yd))) (pr, kn', ps_A kd, ps_A xd, ps_A yd, p', f', l')) :
    wpX_total post (pr, kn, ps_A kd, ps_A xd, ps_A yd, p, f, l) := by
  unfold wpX_total
  dsimp only
  refine qx_solve ok hS (fun kn' p' f' l' hn hp => ⟨9, qx_t8 ?_ 8 0 rfl⟩)
  rw [ps_cs_c hp]
  exact kk kn' p' f' l' hn hp
theorem qy_t8 {post : Int32 → SY → Prop} (h : post (nI (ps_cs a)) (th, K, X, Y, a, o)) :
    ∀ d j, j + d = 64 → wY_total_8 post th K X Y a o (d + 1) (nI (ps_cn (fun c => bt (a (c / 8)) (c % 8)) j)) (nI j) := by
  intro d
  induction d with
  | zero =>
    intro j hj
    have e : j = 64 := by omega
    subst e
    exact pk_le 64 64 (fun _ => h) (fun z => absurd z (by omega))
  | succ d ih =>
    intro j hj
    have h8 : ¬ (8 : Int32) = 0 := by decide
    have hd : nI j / 8 = nI (j / 8) := pk_div (d := 8) (by omega) (by omega) (by omega)
    have hr : nI j - nI j / 8 * 8 = nI (j % 8) := pk_rem (d := 8) (by omega) (by omega) (by omega)
    refine pk_le 64 j (fun z => absurd z (by omega)) (fun _ => ⟨h8, ?_, h8, nm_r (e' := nI (ps_cn (fun c => bt (a (c / 8)) (c % 8)) (j + 1))) ?_ (nm_r (nI_1 j) (ih (j + 1) (by omega)))⟩)
    · rw [hd]
      exact vp_in_nI (by omega) (by omega)
    · rw [hr, hd, nI_clamp (by omega)]
      exact ps_tot
theorem qy_total {post : Int32 → SY → Prop} {s : Nat → Int32} (ok : ps_Ok kd xd yd) (hT : ps_T pr th)
    (kk : ∀ s', ps_Sol pr kd xd yd s' → post (nI (ps_cs (ps_P pr kd xd yd))) (th, ps_A kd, ps_A xd, ps_A yd, s', o)) :
    wpY_total post (th, ps_A kd, ps_A xd, ps_A yd, s, o) := by
  unfold wpY_total
  dsimp only
  refine qy_work ok hT (fun s' hs => ⟨65, qy_t8 ?_ 64 0 rfl⟩)
  rw [ps_cs_c hs]
  exact kk s' hs
end
end
section
/-! ===== flows and redundant ===== -/
section
variable {pr kn : Int32} {kd xd yd : Nat → Nat} {p f l th s o : Nat → Int32}
theorem qx_f33 {post : Int32 → Prop} {J : Int32 → Int32 → Prop} {v g : Int32} {i : Nat} (ok : ps_Ok kd xd yd) (h : J (ps_fs pr kd yd xd g 12) (nI (i + 1))) :
    ∀ d j, j + d = 12 → wX_flows_33 post J v (nI i) pr kn (ps_A kd) (ps_A xd) (ps_A yd) p f l (d + 1) (ps_fs pr kd yd xd g j) (nI j) := by
  intro d
  induction d with
  | zero =>
    intro j hj
    have e : j = 12 := by omega
    subst e
    exact pk_le 12 12 (fun _ => nm_r (nI_1 i) h) (fun z => absurd z (by omega))
  | succ d ih =>
    intro j hj
    have oo := ok j
    have hi : vp_in (nI j) 13 := vp_in_nI (by omega) (by omega)
    have hj' : j < 2 ^ 31 := by omega
    have N : ¬ (bt pr j = true ∧ kd j = 1 ∧ bt (ps_fs pr kd yd xd g j) (yd j) = true) → wX_flows_78 post J (wX_flows_33 post J v (nI i) pr kn (ps_A kd) (ps_A xd) (ps_A yd) p f l (d + 1)) v (ps_fs pr kd yd xd g j) (nI i) (nI j) pr kn (ps_A kd) (ps_A xd) (ps_A yd) p f l := by
      intro hn
      unfold wX_flows_78 wX_flows_79
      refine br_t rfl (nm_r (e' := ps_fs pr kd yd xd g (j + 1)) ?_ (nm_r (nI_1 j) (ih (j + 1) (by omega))))
      rw [ps_or0]
      exact ps_fs_f hn
    have T : (bt pr j = true ∧ kd j = 1 ∧ bt (ps_fs pr kd yd xd g j) (yd j) = true) → wX_flows_79 post J (wX_flows_33 post J v (nI i) pr kn (ps_A kd) (ps_A xd) (ps_A yd) p f l (d + 1)) v (ps_fs pr kd yd xd g j) (nI i) (nI j) 1 pr kn (ps_A kd) (ps_A xd) (ps_A yd) p f l := by
      intro hy
      unfold wX_flows_79
      refine br_f ps_01 ⟨hi, nm_r (e' := ps_fs pr kd yd xd g (j + 1)) ?_ (nm_r (nI_1 j) (ih (j + 1) (by omega)))⟩
      rw [ps_A_at xd hj']
      exact ps_fs_t hy
    exact pk_le 12 j (fun z => absurd z (by omega)) (fun _ => qx_has (by omega) (fun h0 => br_t rfl (N (fun z => nomatch (h0.symm.trans z.1)))) (fun h1 => br_f ps_01 ⟨hi, pk_eq (kd j) 1 (fun e => ⟨hi, qx_in (yd j) (by omega) (fun b0 => br_t rfl (N (fun z => nomatch (b0.symm.trans z.2.2)))) (fun b1 => br_f ps_01 (T ⟨h1, e, b1⟩)) (ps_A_at yd hj')⟩) (fun e => N (fun z => e z.2.1)) (ps_A_at kd hj')⟩))
theorem qx_f23 {post : Int32 → Prop} {x : Nat} {g : Int32} (ok : ps_Ok kd xd yd) (hx : x < 8) (h0 : bt (ps_fr pr kd yd xd g 8) x = false → post 0) (h1 : bt (ps_fr pr kd yd xd g 8) x = true → post 1) :
    ∀ d j, j + d = 8 → wX_flows_23 post (nI x) pr kn (ps_A kd) (ps_A xd) (ps_A yd) p f l (d + 1) (ps_fr pr kd yd xd g j) (nI j) := by
  intro d
  induction d with
  | zero =>
    intro j hj
    have e : j = 8 := by omega
    subst e
    exact pk_le 8 8 (fun _ => qx_in x (by omega) (fun b0 => ⟨rfl, h0 b0⟩) (fun b1 => ⟨rfl, h1 b1⟩)) (fun z => absurd z (by omega))
  | succ d ih =>
    intro j hj
    exact pk_le 8 j (fun z => absurd z (by omega)) (fun _ => ⟨13, qx_f33 (g := ps_fr pr kd yd xd g j) ok (ih (j + 1) (by omega)) 12 0 rfl⟩)
theorem qy_f29 {post : Int32 → Prop} {J : Int32 → Int32 → Prop} {v g : Int32} {i : Nat} (ok : ps_Ok kd xd yd) (hT : ps_T pr th) (h : J (ps_fs pr kd xd yd g 12) (nI (i + 1))) :
    ∀ d j, j + d = 12 → wY_flows_29 post J v (nI i) th (ps_A kd) (ps_A xd) (ps_A yd) s o (d + 1) (ps_fs pr kd xd yd g j) (nI j) := by
  intro d
  induction d with
  | zero =>
    intro j hj
    have e : j = 12 := by omega
    subst e
    exact pk_le 12 12 (fun _ => nm_r (nI_1 i) h) (fun z => absurd z (by omega))
  | succ d ih =>
    intro j hj
    have oo := ok j
    have hi : vp_in (nI j) 13 := vp_in_nI (by omega) (by omega)
    have hj' : j < 2 ^ 31 := by omega
    have N : ¬ (bt pr j = true ∧ kd j = 1 ∧ bt (ps_fs pr kd xd yd g j) (xd j) = true) → wY_flows_76 post J (wY_flows_29 post J v (nI i) th (ps_A kd) (ps_A xd) (ps_A yd) s o (d + 1)) v (ps_fs pr kd xd yd g j) (nI i) (nI j) th (ps_A kd) (ps_A xd) (ps_A yd) s o := by
      intro hn
      unfold wY_flows_76 wY_flows_77
      refine br_t rfl (nm_r (nI_1 j) ?_)
      rw [ps_fs_f hn]
      exact ih (j + 1) (by omega)
    have T : (bt pr j = true ∧ kd j = 1 ∧ bt (ps_fs pr kd xd yd g j) (xd j) = true) → wY_flows_77 post J (wY_flows_29 post J v (nI i) th (ps_A kd) (ps_A xd) (ps_A yd) s o (d + 1)) v (ps_fs pr kd xd yd g j) (nI i) (nI j) 1 th (ps_A kd) (ps_A xd) (ps_A yd) s o := by
      intro hy
      unfold wY_flows_77
      refine br_f ps_01 ⟨hi, nm_r (e' := ps_fs pr kd xd yd g (j + 1)) ?_ (nm_r (nI_1 j) (ih (j + 1) (by omega)))⟩
      rw [ps_A_at yd hj']
      exact ps_fs_t hy
    refine pk_le 12 j (fun z => absurd z (by omega)) (fun _ => ⟨hi, ?_⟩)
    cases hb : bt pr j with
    | false => exact br_t (ps_T_0 hT (by omega) hb) (N (fun z => nomatch (hb.symm.trans z.1)))
    | true =>
      refine br_f (ps_T_1 hT (by omega) hb) ⟨hi, pk_eq (kd j) 1 (fun e => ⟨hi, ?_⟩) (fun e => N (fun z => e z.2.1)) (ps_A_at kd hj')⟩
      rw [ps_A_at xd hj']
      exact ps_br1 (by omega) (fun b1 => T ⟨hb, e, b1⟩) (fun b0 => N (fun z => nomatch (b0.symm.trans z.2.2)))
theorem qy_f19 {post : Int32 → Prop} {v g : Int32} (ok : ps_Ok kd xd yd) (hT : ps_T pr th) (hf : (v < 0 ∨ nI 8 ≤ v) → post 0) (h0 : ∀ y, y < 8 → v = nI y → bt (ps_fr pr kd xd yd g 8) y = false → post 0) (h1 : ∀ y, y < 8 → v = nI y → bt (ps_fr pr kd xd yd g 8) y = true → post 1) :
    ∀ d j, j + d = 8 → wY_flows_19 post v th (ps_A kd) (ps_A xd) (ps_A yd) s o (d + 1) (ps_fr pr kd xd yd g j) (nI j) := by
  intro d
  induction d with
  | zero =>
    intro j hj
    have e : j = 8 := by omega
    subst e
    refine pk_le 8 8 (fun _ => ?_) (fun z => absurd z (by omega))
    rcases ps_vc v with hv | ⟨y, hy, ev⟩
    · exact qy_var_f hv (br_t rfl (hf hv))
    · have a0 := h0 y hy ev
      have a1 := h1 y hy ev
      subst ev
      exact qy_var_t hy (br_f ps_01 (ps_br1 (by omega) a1 a0))
  | succ d ih =>
    intro j hj
    exact pk_le 8 j (fun z => absurd z (by omega)) (fun _ => ⟨13, qy_f29 (g := ps_fr pr kd xd yd g j) ok hT (ih (j + 1) (by omega)) 12 0 rfl⟩)
/-! redundant, Y -/
theorem qy_73 {post : Int32 → SY → Prop} {K X Y P P' : Nat → Int32} (ho : ∀ x, x < 8 → o x = P x) (hs : ∀ x, x < 8 → s x = P' x)
    (h0 : ¬ (∀ x, x < 8 → P x = P' x) → post 0 (th, K, X, Y, s, o)) (h1 : (∀ x, x < 8 → P x = P' x) → post 1 (th, K, X, Y, s, o)) :
    ∀ d j r, j + d = 8 → ((r = 0 ∧ ¬ (∀ x, x < 8 → P x = P' x)) ∨ (r = 1 ∧ ∀ x, x < j → P x = P' x)) → wY_redundant_73 post th K X Y s o (d + 1) r (nI j) := by
  intro d
  induction d with
  | zero =>
    intro j r hj R
    have e : j = 8 := by omega
    subst e
    refine pk_le 8 8 (fun _ => ?_) (fun z => absurd z (by omega))
    rcases R with ⟨e, h⟩ | ⟨e, h⟩
    · subst e; exact ⟨rfl, h0 h⟩
    · subst e; exact ⟨rfl, h1 h⟩
  | succ d ih =>
    intro j r hj R
    have hi : vp_in (nI j) 8 := vp_in_nI (by omega) (by omega)
    have ec : (nI j).toNatClampNeg = j := nI_clamp (by omega)
    refine pk_le 8 j (fun z => absurd z (by omega)) (fun _ => br_c (fun e => nm_r (nI_1 j) (ih (j + 1) 0 (by omega) (Or.inl ⟨rfl, ?_⟩))) (fun e => ⟨hi, hi, br_c (fun hz => nm_r (nI_1 j) (ih (j + 1) 1 (by omega) (Or.inr ⟨rfl, ?_⟩))) (fun hz => nm_r (nI_1 j) (ih (j + 1) 0 (by omega) (Or.inl ⟨rfl, ?_⟩)))⟩))
    · rcases R with ⟨_, h⟩ | ⟨er, _⟩
      · exact h
      · exact absurd (er.symm.trans e) ps_01
    · rcases R with ⟨er, _⟩ | ⟨_, h⟩
      · exact absurd er e
      · intro x hx
        by_cases ex : x = j
        · subst ex
          rw [ec, ho x (by omega), hs x (by omega)] at hz
          exact hz
        · exact h x (by omega)
    · intro h
      rw [ec, ho j (by omega), hs j (by omega)] at hz
      exact hz (h j (by omega))
theorem qy_27 {post : Int32 → SY → Prop} {pr' : Int32} {k : Nat} {P : Nat → Int32} (hk : k < 13) (ok : ps_Ok kd xd yd) (hT : ps_T pr' (upd th k 0)) (hs : ∀ x, x < 8 → s x = P x)
    (h0 : ¬ (∀ x, x < 8 → P x = ps_P pr' kd xd yd x) → ∀ s' o', post 0 (upd (upd th k 0) k 1, ps_A kd, ps_A xd, ps_A yd, s', o'))
    (h1 : (∀ x, x < 8 → P x = ps_P pr' kd xd yd x) → ∀ s' o', post 1 (upd (upd th k 0) k 1, ps_A kd, ps_A xd, ps_A yd, s', o')) :
    ∀ d j o, j + d = 8 → (∀ x, x < j → o x = P x) → wY_redundant_27 post (nI k) (d + 1) (nI j) th (ps_A kd) (ps_A xd) (ps_A yd) s o := by
  intro d
  have hi : vp_in (nI k) 13 := vp_in_nI hk (by omega)
  have ec : (nI k).toNatClampNeg = k := nI_clamp (by omega)
  induction d with
  | zero =>
    intro j o hj R
    have e : j = 8 := by omega
    subst e
    exact pk_le 8 8 (fun _ => ⟨hi, nm_r (e' := upd th k 0) (by rw [ec]; rfl) (qy_work ok hT (fun s' hs' => ⟨hi, nm_r (e' := upd (upd th k 0) k 1) (by rw [ec]; rfl) ⟨9, qy_73 R hs' (fun z => h0 z s' o) (fun z => h1 z s' o) 8 0 1 rfl (Or.inr ⟨rfl, fun x hx => absurd hx (Nat.not_lt_zero x)⟩)⟩⟩))⟩) (fun z => absurd z (by omega))
  | succ d ih =>
    intro j o hj R
    have hij : vp_in (nI j) 8 := vp_in_nI (by omega) (by omega)
    have ecj : (nI j).toNatClampNeg = j := nI_clamp (by omega)
    refine pk_le 8 j (fun z => absurd z (by omega)) (fun _ => ⟨hij, hij, nm_e (nm_r (nI_1 j) (ih (j + 1) _ (by omega) ?_))⟩)
    intro x hx
    rw [ecj]
    by_cases ex : x = j
    · subst ex
      rw [pk_us]
      exact hs x (by omega)
    · rw [pk_un ex]
      exact R x (by omega)
end
end
section
/-! ===== the methods, each side, each case, with a general post ===== -/
theorem ps_vx {v : Int32} {y : Nat} (hv : v < 0 ∨ nI 8 ≤ v) (hy : y < 8) (e : v = nI y) : False := by
  subst e
  rcases hv with h | h
  · exact nI_pos (by omega) h
  · exact nI_ge hy (by omega) h
section
variable {pr kn : Int32} {kd xd yd : Nat → Nat} {p f l th s o : Nat → Int32} {v1 v2 v3 : Int32}
/-! add -/
theorem qx_add0 {post : Int32 → SX → Prop} (g : ¬ ps_o3 v1 v2 v3) (h : post (-1) (pr, kn, ps_A kd, ps_A xd, ps_A yd, p, f, l)) : wpX_add post (pr, kn, ps_A kd, ps_A xd, ps_A yd, p, f, l) v1 v2 v3 := by
  unfold wpX_add
  dsimp only
  exact qx_ok (fun z => absurd z g) (fun _ => br_t rfl h)
theorem qx_add1 {post : Int32 → SX → Prop} (g : ps_o3 v1 v2 v3) (ht : ∀ i, i < 12 → bt pr i = true) (h : post (-2) (pr, kn, ps_A kd, ps_A xd, ps_A yd, p, f, l)) : wpX_add post (pr, kn, ps_A kd, ps_A xd, ps_A yd, p, f, l) v1 v2 v3 := by
  unfold wpX_add
  dsimp only
  exact qx_ok (fun _ => br_f ps_01 ⟨13, qx_add_n ht h 12 0 rfl⟩) (fun z => absurd g z)
theorem qx_add2 {post : Int32 → SX → Prop} {a b c j : Nat} (ha : a < 4) (hb : b < 8) (hc : c < 8) (hj : j < 12) (hf : bt pr j = false) (ht : ∀ i, i < j → bt pr i = true)
    (h : post (nI j) (pr ||| (1 : Int32) <<< (nI j &&& 31), 0, ps_A (ps_u kd j a), ps_A (ps_u xd j b), ps_A (ps_u yd j c), p, f, l)) : wpX_add post (pr, kn, ps_A kd, ps_A xd, ps_A yd, p, f, l) (nI a) (nI b) (nI c) := by
  unfold wpX_add
  dsimp only
  exact qx_ok (fun _ => br_f ps_01 ⟨j + 1, qx_add_j hj hf ht (by omega) hb hc h j 0 (Nat.zero_add j)⟩) (fun z => absurd ⟨a, b, c, ha, hb, hc, rfl, rfl, rfl⟩ z)
theorem qy_add0 {post : Int32 → SY → Prop} (g : ¬ ps_o3 v1 v2 v3) (h : post (-1) (th, ps_A kd, ps_A xd, ps_A yd, s, o)) : wpY_add post (th, ps_A kd, ps_A xd, ps_A yd, s, o) v1 v2 v3 := by
  unfold wpY_add
  dsimp only
  exact qy_ok (fun z => absurd z g) (fun _ => br_t rfl h)
theorem qy_add1 {post : Int32 → SY → Prop} (hT : ps_T pr th) (g : ps_o3 v1 v2 v3) (ht : ∀ i, i < 12 → bt pr i = true) (h : post (-2) (th, ps_A kd, ps_A xd, ps_A yd, s, o)) : wpY_add post (th, ps_A kd, ps_A xd, ps_A yd, s, o) v1 v2 v3 := by
  unfold wpY_add
  dsimp only
  exact qy_ok (fun _ => br_f ps_01 ⟨13, qy_add_n hT ht h 12 0 rfl⟩) (fun z => absurd g z)
theorem qy_add2 {post : Int32 → SY → Prop} {a b c j : Nat} (hT : ps_T pr th) (ha : a < 4) (hb : b < 8) (hc : c < 8) (hj : j < 12) (hf : bt pr j = false) (ht : ∀ i, i < j → bt pr i = true)
    (h : post (nI j) (upd th j 1, ps_A (ps_u kd j a), ps_A (ps_u xd j b), ps_A (ps_u yd j c), s, o)) : wpY_add post (th, ps_A kd, ps_A xd, ps_A yd, s, o) (nI a) (nI b) (nI c) := by
  unfold wpY_add
  dsimp only
  exact qy_ok (fun _ => br_f ps_01 ⟨j + 1, qy_add_j hT hj hf ht h j 0 (Nat.zero_add j)⟩) (fun z => absurd ⟨a, b, c, ha, hb, hc, rfl, rfl, rfl⟩ z)
/-! remove -/
theorem qx_rem0 {post : Int32 → SX → Prop} (hv : v1 < 0 ∨ nI 12 ≤ v1) (h : post 0 (pr, kn, ps_A kd, ps_A xd, ps_A yd, p, f, l)) : wpX_remove post (pr, kn, ps_A kd, ps_A xd, ps_A yd, p, f, l) v1 := by
  unfold wpX_remove
  dsimp only
  exact qx_has_f hv (br_t rfl h)
theorem qx_rem1 {post : Int32 → SX → Prop} {k : Nat} (hk : k < 12) (hb : bt pr k = false) (h : post 0 (pr, kn, ps_A kd, ps_A xd, ps_A yd, p, f, l)) : wpX_remove post (pr, kn, ps_A kd, ps_A xd, ps_A yd, p, f, l) (nI k) := by
  unfold wpX_remove
  dsimp only
  exact qx_has hk (fun _ => br_t rfl h) (fun h1 => nomatch (hb.symm.trans h1))
theorem qx_rem2 {post : Int32 → SX → Prop} {k : Nat} (hk : k < 12) (hb : bt pr k = true) (h : post 1 (pr &&& (((1 : Int32) <<< (nI k &&& 31)) ^^^ (-1)), 0, ps_A kd, ps_A xd, ps_A yd, p, f, l)) : wpX_remove post (pr, kn, ps_A kd, ps_A xd, ps_A yd, p, f, l) (nI k) := by
  unfold wpX_remove
  dsimp only
  exact qx_has hk (fun h0 => nomatch (h0.symm.trans hb)) (fun _ => br_f ps_01 (nm_e h))
theorem qy_rem0 {post : Int32 → SY → Prop} (hv : v1 < 0 ∨ nI 12 ≤ v1) (h : post 0 (th, ps_A kd, ps_A xd, ps_A yd, s, o)) : wpY_remove post (th, ps_A kd, ps_A xd, ps_A yd, s, o) v1 := by
  unfold wpY_remove
  dsimp only
  exact br_c (fun _ => h) (fun hn => br_c (fun _ => h) (fun h11 => absurd (ps_12l (hv.resolve_left hn) h11) id))
theorem qy_rem1 {post : Int32 → SY → Prop} {k : Nat} (hT : ps_T pr th) (hk : k < 12) (hb : bt pr k = false) (h : post 0 (th, ps_A kd, ps_A xd, ps_A yd, s, o)) : wpY_remove post (th, ps_A kd, ps_A xd, ps_A yd, s, o) (nI k) := by
  unfold wpY_remove
  dsimp only
  exact br_f (nI_pos (by omega)) (pk_lt 11 k (fun z => absurd z (by omega)) (fun _ => ⟨vp_in_nI (by omega) (by omega), br_t (ps_T_0 hT (by omega) hb) h⟩))
theorem qy_rem2 {post : Int32 → SY → Prop} {k : Nat} (hT : ps_T pr th) (hk : k < 12) (hb : bt pr k = true) (h : post 1 (upd th k 0, ps_A kd, ps_A xd, ps_A yd, s, o)) : wpY_remove post (th, ps_A kd, ps_A xd, ps_A yd, s, o) (nI k) := by
  have ec : (nI k).toNatClampNeg = k := nI_clamp (by omega)
  have hi : vp_in (nI k) 13 := vp_in_nI (by omega) (by omega)
  unfold wpY_remove
  dsimp only
  exact br_f (nI_pos (by omega)) (pk_lt 11 k (fun z => absurd z (by omega)) (fun _ => ⟨hi, br_f (ps_T_1 hT (by omega) hb) ⟨hi, nm_r (e' := upd th k 0) (by rw [ec]; rfl) h⟩⟩))
/-! answers on one variable: out of range -/
theorem qx_pt0 {post : Int32 → SX → Prop} (hv : v1 < 0 ∨ nI 8 ≤ v1) (h : post 0 (pr, kn, ps_A kd, ps_A xd, ps_A yd, p, f, l)) : wpX_pointsTo post (pr, kn, ps_A kd, ps_A xd, ps_A yd, p, f, l) v1 := by
  unfold wpX_pointsTo
  dsimp only
  exact qx_var_f hv (br_t rfl h)
theorem qx_pb0 {post : Int32 → SX → Prop} (hv : v1 < 0 ∨ nI 8 ≤ v1) (h : post 0 (pr, kn, ps_A kd, ps_A xd, ps_A yd, p, f, l)) : wpX_pointedBy post (pr, kn, ps_A kd, ps_A xd, ps_A yd, p, f, l) v1 := by
  unfold wpX_pointedBy
  dsimp only
  exact qx_var_f hv (br_t rfl h)
theorem qx_re0 {post : Int32 → SX → Prop} (hv : v1 < 0 ∨ nI 8 ≤ v1) (h : post 0 (pr, kn, ps_A kd, ps_A xd, ps_A yd, p, f, l)) : wpX_reach post (pr, kn, ps_A kd, ps_A xd, ps_A yd, p, f, l) v1 := by
  unfold wpX_reach
  dsimp only
  exact qx_var_f hv (br_t rfl h)
theorem qx_tw0 {post : Int32 → SX → Prop} (hv : v1 < 0 ∨ nI 8 ≤ v1) (h : post 0 (pr, kn, ps_A kd, ps_A xd, ps_A yd, p, f, l)) : wpX_twins post (pr, kn, ps_A kd, ps_A xd, ps_A yd, p, f, l) v1 := by
  unfold wpX_twins
  dsimp only
  exact qx_var_f hv (br_t rfl h)
theorem qy_pt0 {post : Int32 → SY → Prop} (ok : ps_Ok kd xd yd) (hT : ps_T pr th) (hv : v1 < 0 ∨ nI 8 ≤ v1) (h : ∀ s', post 0 (th, ps_A kd, ps_A xd, ps_A yd, s', o)) : wpY_pointsTo post (th, ps_A kd, ps_A xd, ps_A yd, s, o) v1 := by
  unfold wpY_pointsTo
  dsimp only
  exact qy_work ok hT (fun s' _ => qy_var_f hv (br_t rfl (h s')))
theorem qy_pb0 {post : Int32 → SY → Prop} (ok : ps_Ok kd xd yd) (hT : ps_T pr th) (hv : v1 < 0 ∨ nI 8 ≤ v1) (h : ∀ s', post 0 (th, ps_A kd, ps_A xd, ps_A yd, s', o)) : wpY_pointedBy post (th, ps_A kd, ps_A xd, ps_A yd, s, o) v1 := by
  unfold wpY_pointedBy
  dsimp only
  exact qy_work ok hT (fun s' _ => ⟨1, pk_le 8 0 (fun z => absurd z (by omega)) (fun _ => qy_var_f hv (br_t rfl (h s')))⟩)
theorem qy_re0 {post : Int32 → SY → Prop} (ok : ps_Ok kd xd yd) (hT : ps_T pr th) (hv : v1 < 0 ∨ nI 8 ≤ v1) (h : ∀ s', post 0 (th, ps_A kd, ps_A xd, ps_A yd, s', o)) : wpY_reach post (th, ps_A kd, ps_A xd, ps_A yd, s, o) v1 := by
  unfold wpY_reach
  dsimp only
  exact qy_work ok hT (fun s' _ => qy_var_f hv (br_t rfl (h s')))
theorem qy_tw0 {post : Int32 → SY → Prop} (ok : ps_Ok kd xd yd) (hT : ps_T pr th) (hv : v1 < 0 ∨ nI 8 ≤ v1) (h : ∀ s', post 0 (th, ps_A kd, ps_A xd, ps_A yd, s', o)) : wpY_twins post (th, ps_A kd, ps_A xd, ps_A yd, s, o) v1 := by
  unfold wpY_twins
  dsimp only
  exact qy_work ok hT (fun s' _ => ⟨1, pk_le 8 0 (fun z => absurd z (by omega)) (fun _ => qy_var_f hv (br_t rfl (h s')))⟩)
/-! answers on one variable: within -/
theorem qx_pt1 {post : Int32 → SX → Prop} {x : Nat} (hx : x < 8) (ok : ps_Ok kd xd yd) (hS : kn ≠ 0 → ps_Sol pr kd xd yd p)
    (kk : ∀ kn' p' f' l', ps_Sol pr kd xd yd p' → post (ps_P pr kd xd yd x) (pr, kn', ps_A kd, ps_A xd, ps_A yd, p', f', l')) : wpX_pointsTo post (pr, kn, ps_A kd, ps_A xd, ps_A yd, p, f, l) (nI x) := by
  unfold wpX_pointsTo
  dsimp only
  refine qx_var_t hx (br_f ps_01 (qx_solve ok hS (fun kn' p' f' l' hn hp => ⟨vp_in_nI hx (by omega), ?_⟩)))
  dsimp only
  rw [nI_clamp (by omega), hp x hx]
  exact kk kn' p' f' l' hp
theorem qy_pt1 {post : Int32 → SY → Prop} {x : Nat} (hx : x < 8) (ok : ps_Ok kd xd yd) (hT : ps_T pr th)
    (kk : ∀ s', post (ps_P pr kd xd yd x) (th, ps_A kd, ps_A xd, ps_A yd, s', o)) : wpY_pointsTo post (th, ps_A kd, ps_A xd, ps_A yd, s, o) (nI x) := by
  unfold wpY_pointsTo
  dsimp only
  refine qy_work ok hT (fun s' hs => qy_var_t hx (br_f ps_01 ⟨vp_in_nI hx (by omega), ?_⟩))
  dsimp only
  rw [nI_clamp (by omega), hs x hx]
  exact kk s'
theorem qx_pb1 {post : Int32 → SX → Prop} {y : Nat} (hy : y < 8) (ok : ps_Ok kd xd yd) (hS : kn ≠ 0 → ps_Sol pr kd xd yd p)
    (kk : ∀ kn' p' f' l', ps_Sol pr kd xd yd p' → post (ps_mk (fun x => bt (ps_P pr kd xd yd x) y) 8) (pr, kn', ps_A kd, ps_A xd, ps_A yd, p', f', l')) : wpX_pointedBy post (pr, kn, ps_A kd, ps_A xd, ps_A yd, p, f, l) (nI y) := by
  unfold wpX_pointedBy
  dsimp only
  exact qx_var_t hy (br_f ps_01 (qx_solve ok hS (fun kn' p' f' l' hn hp => ⟨9, qx_pby hy hp (kk kn' p' f' l' hp) 8 0 rfl⟩)))
theorem qy_pb1 {post : Int32 → SY → Prop} {y : Nat} (hy : y < 8) (ok : ps_Ok kd xd yd) (hT : ps_T pr th)
    (kk : ∀ s', post (ps_mk (fun x => bt (ps_P pr kd xd yd x) y) 8) (th, ps_A kd, ps_A xd, ps_A yd, s', o)) : wpY_pointedBy post (th, ps_A kd, ps_A xd, ps_A yd, s, o) (nI y) := by
  unfold wpY_pointedBy
  dsimp only
  exact qy_work ok hT (fun s' hs => ⟨9, qy_pby hy hs (kk s') 8 0 rfl⟩)
theorem qx_tw1 {post : Int32 → SX → Prop} {y : Nat} (hy : y < 8) (ok : ps_Ok kd xd yd) (hS : kn ≠ 0 → ps_Sol pr kd xd yd p)
    (kk : ∀ kn' p' f' l', ps_Sol pr kd xd yd p' → post (ps_mk (fun x => decide (ps_P pr kd xd yd x = ps_P pr kd xd yd y)) 8) (pr, kn', ps_A kd, ps_A xd, ps_A yd, p', f', l')) : wpX_twins post (pr, kn, ps_A kd, ps_A xd, ps_A yd, p, f, l) (nI y) := by
  unfold wpX_twins
  dsimp only
  exact qx_var_t hy (br_f ps_01 (qx_solve ok hS (fun kn' p' f' l' hn hp => ⟨9, qx_twn hy hp (kk kn' p' f' l' hp) 8 0 rfl⟩)))
theorem qy_tw1 {post : Int32 → SY → Prop} {y : Nat} (hy : y < 8) (ok : ps_Ok kd xd yd) (hT : ps_T pr th)
    (kk : ∀ s', post (ps_mk (fun x => decide (ps_P pr kd xd yd x = ps_P pr kd xd yd y)) 8) (th, ps_A kd, ps_A xd, ps_A yd, s', o)) : wpY_twins post (th, ps_A kd, ps_A xd, ps_A yd, s, o) (nI y) := by
  unfold wpY_twins
  dsimp only
  exact qy_work ok hT (fun s' hs => ⟨9, qy_twn hy hs (kk s') 8 0 rfl⟩)
theorem qy_re1 {post : Int32 → SY → Prop} {x : Nat} (hx : x < 8) (ok : ps_Ok kd xd yd) (hT : ps_T pr th)
    (kk : ∀ s', post (ps_rr (ps_P pr kd xd yd) (ps_P pr kd xd yd x) 8) (th, ps_A kd, ps_A xd, ps_A yd, s', o)) : wpY_reach post (th, ps_A kd, ps_A xd, ps_A yd, s, o) (nI x) := by
  unfold wpY_reach
  dsimp only
  exact qy_work ok hT (fun s' hs => qy_var_t hx (br_f ps_01 (qy_reached hx hs (kk s'))))
theorem qx_cy {post : Int32 → SX → Prop} (ok : ps_Ok kd xd yd) (hS : kn ≠ 0 → ps_Sol pr kd xd yd p)
    (kk : ∀ kn' p' f' l', (kn' ≠ 0 → ps_Sol pr kd xd yd p') → post (ps_mk (fun x => bt (ps_rr (ps_P pr kd xd yd) (ps_P pr kd xd yd x) 8) x) 8) (pr, kn', ps_A kd, ps_A xd, ps_A yd, p', f', l')) : wpX_cyclic post (pr, kn, ps_A kd, ps_A xd, ps_A yd, p, f, l) :=
  ⟨9, qx_cyc ok kk 8 0 kn p f l rfl hS⟩
theorem qy_cy {post : Int32 → SY → Prop} (ok : ps_Ok kd xd yd) (hT : ps_T pr th)
    (kk : ∀ s', post (ps_mk (fun x => bt (ps_rr (ps_P pr kd xd yd) (ps_P pr kd xd yd x) 8) x) 8) (th, ps_A kd, ps_A xd, ps_A yd, s', o)) : wpY_cyclic post (th, ps_A kd, ps_A xd, ps_A yd, s, o) := by
  unfold wpY_cyclic
  dsimp only
  exact qy_work ok hT (fun s' hs => ⟨9, qy_cyc hs (kk s') 8 0 rfl⟩)
end
end
section
/-! ===== alias, flows, redundant, gain ===== -/
section
variable {pr kn : Int32} {kd xd yd : Nat → Nat} {p f l th s o : Nat → Int32} {v1 v2 v3 : Int32}
theorem qx_al0 {post : Int32 → SX → Prop} (hv : v1 < 0 ∨ nI 8 ≤ v1) (h : post 0 (pr, kn, ps_A kd, ps_A xd, ps_A yd, p, f, l)) : wpX_alias post (pr, kn, ps_A kd, ps_A xd, ps_A yd, p, f, l) v1 v2 := by
  unfold wpX_alias
  dsimp only
  exact qx_var_f hv (br_t rfl h)
theorem qx_al1 {post : Int32 → SX → Prop} {x : Nat} (hx : x < 8) (hv : v2 < 0 ∨ nI 8 ≤ v2) (h : post 0 (pr, kn, ps_A kd, ps_A xd, ps_A yd, p, f, l)) : wpX_alias post (pr, kn, ps_A kd, ps_A xd, ps_A yd, p, f, l) (nI x) v2 := by
  unfold wpX_alias
  dsimp only
  exact qx_var_t hx (br_f ps_01 (qx_var_f hv (br_t rfl h)))
theorem qx_al2 {post : Int32 → SX → Prop} {x y : Nat} (hx : x < 8) (hy : y < 8) (ok : ps_Ok kd xd yd) (hS : kn ≠ 0 → ps_Sol pr kd xd yd p) (h0 : x = y → post 0 (pr, kn, ps_A kd, ps_A xd, ps_A yd, p, f, l))
    (h1 : x ≠ y → ps_P pr kd xd yd x &&& ps_P pr kd xd yd y = 0 → ∀ kn' p' f' l', ps_Sol pr kd xd yd p' → post 0 (pr, kn', ps_A kd, ps_A xd, ps_A yd, p', f', l'))
    (h2 : x ≠ y → ¬ ps_P pr kd xd yd x &&& ps_P pr kd xd yd y = 0 → ∀ kn' p' f' l', ps_Sol pr kd xd yd p' → post 1 (pr, kn', ps_A kd, ps_A xd, ps_A yd, p', f', l')) : wpX_alias post (pr, kn, ps_A kd, ps_A xd, ps_A yd, p, f, l) (nI x) (nI y) := by
  unfold wpX_alias
  dsimp only
  refine qx_var_t hx (br_f ps_01 (qx_var_t hy (br_f ps_01 (pk_eq x y h0 (fun e => qx_solve ok hS (fun kn' p' f' l' hn hp => ⟨vp_in_nI hx (by omega), vp_in_nI hy (by omega), ?_⟩))))))
  dsimp only
  rw [nI_clamp (by omega : x < 2 ^ 31), nI_clamp (by omega : y < 2 ^ 31), hp x hx, hp y hy]
  exact br_c (fun z => h1 e z kn' p' f' l' hp) (fun z => h2 e z kn' p' f' l' hp)
theorem qy_al0 {post : Int32 → SY → Prop} (ok : ps_Ok kd xd yd) (hT : ps_T pr th) (hv : v1 < 0 ∨ nI 8 ≤ v1) (h : ∀ s', post 0 (th, ps_A kd, ps_A xd, ps_A yd, s', o)) : wpY_alias post (th, ps_A kd, ps_A xd, ps_A yd, s, o) v1 v2 := by
  unfold wpY_alias
  dsimp only
  exact qy_work ok hT (fun s' _ => qy_var_f hv (br_t rfl (h s')))
theorem qy_al1 {post : Int32 → SY → Prop} {x : Nat} (ok : ps_Ok kd xd yd) (hT : ps_T pr th) (hx : x < 8) (hv : v2 < 0 ∨ nI 8 ≤ v2) (h : ∀ s', post 0 (th, ps_A kd, ps_A xd, ps_A yd, s', o)) : wpY_alias post (th, ps_A kd, ps_A xd, ps_A yd, s, o) (nI x) v2 := by
  unfold wpY_alias
  dsimp only
  exact qy_work ok hT (fun s' _ => qy_var_t hx (br_f ps_01 (qy_var_f hv (br_t rfl (h s')))))
theorem qy_al2 {post : Int32 → SY → Prop} {x y : Nat} (hx : x < 8) (hy : y < 8) (ok : ps_Ok kd xd yd) (hT : ps_T pr th) (h0 : x = y → ∀ s', post 0 (th, ps_A kd, ps_A xd, ps_A yd, s', o))
    (h1 : x ≠ y → ps_P pr kd xd yd x &&& ps_P pr kd xd yd y = 0 → ∀ s', post 0 (th, ps_A kd, ps_A xd, ps_A yd, s', o))
    (h2 : x ≠ y → ¬ ps_P pr kd xd yd x &&& ps_P pr kd xd yd y = 0 → ∀ s', post 1 (th, ps_A kd, ps_A xd, ps_A yd, s', o)) : wpY_alias post (th, ps_A kd, ps_A xd, ps_A yd, s, o) (nI x) (nI y) := by
  unfold wpY_alias
  dsimp only
  refine qy_work ok hT (fun s' hs => qy_var_t hx (br_f ps_01 (qy_var_t hy (br_f ps_01 (pk_eq x y (fun e => h0 e s') (fun e => ⟨vp_in_nI hx (by omega), vp_in_nI hy (by omega), ?_⟩))))))
  dsimp only
  rw [nI_clamp (by omega : x < 2 ^ 31), nI_clamp (by omega : y < 2 ^ 31), hs x hx, hs y hy]
  exact br_c (fun z => h1 e z s') (fun z => h2 e z s')
/-! flows -/
theorem qx_fl0 {post : Int32 → Prop} (hv : v1 < 0 ∨ nI 8 ≤ v1) (h : post 0) : wpX_flows post (pr, kn, ps_A kd, ps_A xd, ps_A yd, p, f, l) v1 v2 := by
  unfold wpX_flows
  dsimp only
  exact qx_var_f hv (br_t rfl h)
theorem qx_fl1 {post : Int32 → Prop} {x : Nat} (hx : x < 8) (hv : v2 < 0 ∨ nI 8 ≤ v2) (h : post 0) : wpX_flows post (pr, kn, ps_A kd, ps_A xd, ps_A yd, p, f, l) (nI x) v2 := by
  unfold wpX_flows
  dsimp only
  exact qx_var_t hx (br_f ps_01 (qx_var_f hv (br_t rfl h)))
theorem qx_fl2 {post : Int32 → Prop} {x y : Nat} (hx : x < 8) (hy : y < 8) (ok : ps_Ok kd xd yd) (h0 : bt (ps_fr pr kd yd xd ((1 : Int32) <<< (nI y &&& 31)) 8) x = false → post 0) (h1 : bt (ps_fr pr kd yd xd ((1 : Int32) <<< (nI y &&& 31)) 8) x = true → post 1) :
    wpX_flows post (pr, kn, ps_A kd, ps_A xd, ps_A yd, p, f, l) (nI x) (nI y) := by
  unfold wpX_flows
  dsimp only
  exact qx_var_t hx (br_f ps_01 (qx_var_t hy (br_f ps_01 (nm_e ⟨9, qx_f23 (g := (1 : Int32) <<< (nI y &&& 31)) ok hx h0 h1 8 0 rfl⟩))))
theorem qy_fl0 {post : Int32 → Prop} (ok : ps_Ok kd xd yd) (hT : ps_T pr th) (hv : v1 < 0 ∨ nI 8 ≤ v1) (h : post 0) : wpY_flows post (th, ps_A kd, ps_A xd, ps_A yd, s, o) v1 v2 := by
  unfold wpY_flows
  dsimp only
  refine qy_var_f hv (br_t rfl ⟨9, qy_f19 (g := 0) ok hT (fun _ => h) (fun _ _ _ _ => h) (fun y _ _ b => ?_) 8 0 rfl⟩)
  rw [ps_fr_0 ok, b_0] at b
  exact nomatch b
theorem qy_fl1 {post : Int32 → Prop} {x : Nat} (hx : x < 8) (ok : ps_Ok kd xd yd) (hT : ps_T pr th) (hv : v2 < 0 ∨ nI 8 ≤ v2) (h : post 0) : wpY_flows post (th, ps_A kd, ps_A xd, ps_A yd, s, o) (nI x) v2 := by
  unfold wpY_flows
  dsimp only
  exact qy_var_t hx (br_f ps_01 (nm_e ⟨9, qy_f19 (g := (1 : Int32) <<< (nI x &&& 31)) ok hT (fun _ => h) (fun y hy e _ => h) (fun y hy e _ => absurd (ps_vx hv hy e) id) 8 0 rfl⟩))
theorem qy_fl2 {post : Int32 → Prop} {x y : Nat} (hx : x < 8) (hy : y < 8) (ok : ps_Ok kd xd yd) (hT : ps_T pr th) (h0 : bt (ps_fr pr kd xd yd ((1 : Int32) <<< (nI x &&& 31)) 8) y = false → post 0) (h1 : bt (ps_fr pr kd xd yd ((1 : Int32) <<< (nI x &&& 31)) 8) y = true → post 1) :
    wpY_flows post (th, ps_A kd, ps_A xd, ps_A yd, s, o) (nI x) (nI y) := by
  unfold wpY_flows
  dsimp only
  refine qy_var_t hx (br_f ps_01 (nm_e ⟨9, qy_f19 (g := (1 : Int32) <<< (nI x &&& 31)) ok hT (fun hv => absurd (ps_vx hv hy rfl) id) (fun y' hy' e b => ?_) (fun y' hy' e b => ?_) 8 0 rfl⟩))
  · rw [← (nI_eq (by omega) (by omega)).mp e] at b
    exact h0 b
  · rw [← (nI_eq (by omega) (by omega)).mp e] at b
    exact h1 b
/-! redundant -/
theorem ps_back {k : Nat} (hk : k < 32) (hb : bt pr k = true) : (pr &&& (((1 : Int32) <<< (nI k &&& 31)) ^^^ (-1))) ||| (1 : Int32) <<< (nI k &&& 31) = pr := by
  apply b_ext
  intro i _
  rw [ps_set_b _ hk, ps_clr_b pr hk]
  by_cases e : i = k
  · subst e
    rw [hb, decide_eq_true (rfl : i = i)]; rfl
  · rw [decide_eq_false e, Bool.not_false, Bool.and_true, Bool.or_false]
theorem ps_back2 {k : Nat} (hk : k < 32) (hb : bt pr k = false) : (pr ||| (1 : Int32) <<< (nI k &&& 31)) &&& (((1 : Int32) <<< (nI k &&& 31)) ^^^ (-1)) = pr := by
  apply b_ext
  intro i _
  rw [ps_clr_b _ hk, ps_set_b pr hk]
  by_cases e : i = k
  · subst e
    rw [hb, decide_eq_true (rfl : i = i)]; rfl
  · rw [decide_eq_false e, Bool.not_false, Bool.and_true, Bool.or_false]
theorem qx_rd0 {post : Int32 → SX → Prop} (hv : v1 < 0 ∨ nI 12 ≤ v1) (h : post 0 (pr, kn, ps_A kd, ps_A xd, ps_A yd, p, f, l)) : wpX_redundant post (pr, kn, ps_A kd, ps_A xd, ps_A yd, p, f, l) v1 := by
  unfold wpX_redundant
  dsimp only
  exact qx_has_f hv (br_t rfl h)
theorem qx_rd1 {post : Int32 → SX → Prop} {k : Nat} (hk : k < 12) (hb : bt pr k = false) (h : post 0 (pr, kn, ps_A kd, ps_A xd, ps_A yd, p, f, l)) : wpX_redundant post (pr, kn, ps_A kd, ps_A xd, ps_A yd, p, f, l) (nI k) := by
  unfold wpX_redundant
  dsimp only
  exact qx_has hk (fun _ => br_t rfl h) (fun h1 => nomatch (hb.symm.trans h1))
theorem qx_rd2 {post : Int32 → SX → Prop} {k : Nat} (hk : k < 12) (hb : bt pr k = true) (ok : ps_Ok kd xd yd) (hS : kn ≠ 0 → ps_Sol pr kd xd yd p)
    (h1 : ps_cs (ps_P pr kd xd yd) = ps_cs (ps_P (pr &&& (((1 : Int32) <<< (nI k &&& 31)) ^^^ (-1))) kd xd yd) → ∀ p' f' l', post 1 (pr, 0, ps_A kd, ps_A xd, ps_A yd, p', f', l'))
    (h0 : ps_cs (ps_P pr kd xd yd) ≠ ps_cs (ps_P (pr &&& (((1 : Int32) <<< (nI k &&& 31)) ^^^ (-1))) kd xd yd) → ∀ p' f' l', post 0 (pr, 0, ps_A kd, ps_A xd, ps_A yd, p', f', l')) : wpX_redundant post (pr, kn, ps_A kd, ps_A xd, ps_A yd, p, f, l) (nI k) := by
  have b1 : ps_cs (ps_P pr kd xd yd) ≤ 64 := ps_c2_le _
  have b2 : ps_cs (ps_P (pr &&& (((1 : Int32) <<< (nI k &&& 31)) ^^^ (-1))) kd xd yd) ≤ 64 := ps_c2_le _
  unfold wpX_redundant
  dsimp only
  refine qx_has hk (fun z => nomatch (z.symm.trans hb)) (fun _ => br_f ps_01 (qx_total ok hS (fun kn1 p1 f1 l1 _ _ => nm_e (qx_total ok (fun z => absurd rfl z) (fun kn2 p2 f2 l2 _ _ => nm_r (ps_back (by omega) hb) ?_)))))
  exact pk_eq _ _ (fun e => h1 e p2 f2 l2) (fun e => h0 e p2 f2 l2)
theorem qy_rd0 {post : Int32 → SY → Prop} (hv : v1 < 0 ∨ nI 12 ≤ v1) (h : post 0 (th, ps_A kd, ps_A xd, ps_A yd, s, o)) : wpY_redundant post (th, ps_A kd, ps_A xd, ps_A yd, s, o) v1 := by
  unfold wpY_redundant
  dsimp only
  exact br_c (fun _ => h) (fun hn => br_c (fun _ => h) (fun h11 => absurd (ps_12l (hv.resolve_left hn) h11) id))
theorem qy_rd1 {post : Int32 → SY → Prop} {k : Nat} (hT : ps_T pr th) (hk : k < 12) (hb : bt pr k = false) (h : post 0 (th, ps_A kd, ps_A xd, ps_A yd, s, o)) : wpY_redundant post (th, ps_A kd, ps_A xd, ps_A yd, s, o) (nI k) := by
  unfold wpY_redundant
  dsimp only
  exact br_f (nI_pos (by omega)) (pk_lt 11 k (fun z => absurd z (by omega)) (fun _ => ⟨vp_in_nI (by omega) (by omega), br_t (ps_T_0 hT (by omega) hb) h⟩))
theorem qy_rd2 {post : Int32 → SY → Prop} {k : Nat} (hT : ps_T pr th) (hk : k < 12) (hb : bt pr k = true) (ok : ps_Ok kd xd yd)
    (h0 : ¬ (∀ x, x < 8 → ps_P pr kd xd yd x = ps_P (pr &&& (((1 : Int32) <<< (nI k &&& 31)) ^^^ (-1))) kd xd yd x) → ∀ s' o', post 0 (upd (upd th k 0) k 1, ps_A kd, ps_A xd, ps_A yd, s', o'))
    (h1 : (∀ x, x < 8 → ps_P pr kd xd yd x = ps_P (pr &&& (((1 : Int32) <<< (nI k &&& 31)) ^^^ (-1))) kd xd yd x) → ∀ s' o', post 1 (upd (upd th k 0) k 1, ps_A kd, ps_A xd, ps_A yd, s', o')) : wpY_redundant post (th, ps_A kd, ps_A xd, ps_A yd, s, o) (nI k) := by
  unfold wpY_redundant
  dsimp only
  exact br_f (nI_pos (by omega)) (pk_lt 11 k (fun z => absurd z (by omega)) (fun _ => ⟨vp_in_nI (by omega) (by omega), br_f (ps_T_1 hT (by omega) hb) (qy_work ok hT (fun s' hs' => ⟨9, qy_27 (by omega) ok (ps_T_clr hT (by omega)) hs' h0 h1 8 0 o rfl (fun x hx => absurd hx (Nat.not_lt_zero x))⟩))⟩))
/-! gain -/
theorem ps_4097 : (-4097 : Int32) = ((1 : Int32) <<< (nI 12 &&& 31)) ^^^ (-1) := by decide
theorem qx_ga0 {post : Int32 → SX → Prop} (g : ¬ ps_o3 v1 v2 v3) (h : post (-1) (pr, kn, ps_A kd, ps_A xd, ps_A yd, p, f, l)) : wpX_gain post (pr, kn, ps_A kd, ps_A xd, ps_A yd, p, f, l) v1 v2 v3 := by
  unfold wpX_gain
  dsimp only
  exact qx_ok (fun z => absurd z g) (fun _ => br_t rfl h)
theorem qx_ga1 {post : Int32 → SX → Prop} {a b c : Nat} (ha : a < 4) (hb : b < 8) (hc : c < 8) (ok : ps_Ok kd xd yd) (hS : kn ≠ 0 → ps_Sol pr kd xd yd p) (h12 : bt pr 12 = false)
    (h : ∀ p' f' l', post (nI (ps_cs (ps_P (pr ||| (1 : Int32) <<< (nI 12 &&& 31)) (ps_u kd 12 a) (ps_u xd 12 b) (ps_u yd 12 c))) - nI (ps_cs (ps_P pr kd xd yd))) (pr, 0, ps_A (ps_u kd 12 a), ps_A (ps_u xd 12 b), ps_A (ps_u yd 12 c), p', f', l')) :
    wpX_gain post (pr, kn, ps_A kd, ps_A xd, ps_A yd, p, f, l) (nI a) (nI b) (nI c) := by
  unfold wpX_gain
  dsimp only
  refine qx_ok (fun _ => br_f ps_01 (qx_total ok hS (fun kn1 p1 f1 l1 _ _ => qx_write 12 (by omega) rfl (by omega) hb hc (qx_total (ps_Ok_u ok 12 ha hb hc) (fun z => absurd rfl z) (fun kn2 p2 f2 l2 _ _ => nm_r (e' := pr) ?_ (h p2 f2 l2)))))) (fun z => absurd ⟨a, b, c, ha, hb, hc, rfl, rfl, rfl⟩ z)
  rw [ps_4097]
  exact ps_back2 (by omega) h12
theorem qy_ga0 {post : Int32 → SY → Prop} (g : ¬ ps_o3 v1 v2 v3) (h : post (-1) (th, ps_A kd, ps_A xd, ps_A yd, s, o)) : wpY_gain post (th, ps_A kd, ps_A xd, ps_A yd, s, o) v1 v2 v3 := by
  unfold wpY_gain
  dsimp only
  exact qy_ok (fun z => absurd z g) (fun _ => br_t rfl h)
theorem qy_ga1 {post : Int32 → SY → Prop} {a b c : Nat} (ha : a < 4) (hb : b < 8) (hc : c < 8) (ok : ps_Ok kd xd yd) (hT : ps_T pr th)
    (h : ∀ s', post (nI (ps_cs (ps_P (pr ||| (1 : Int32) <<< (nI 12 &&& 31)) (ps_u kd 12 a) (ps_u xd 12 b) (ps_u yd 12 c))) - nI (ps_cs (ps_P pr kd xd yd))) (upd (upd th 12 1) 12 0, ps_A (ps_u kd 12 a), ps_A (ps_u xd 12 b), ps_A (ps_u yd 12 c), s', o)) :
    wpY_gain post (th, ps_A kd, ps_A xd, ps_A yd, s, o) (nI a) (nI b) (nI c) := by
  unfold wpY_gain
  dsimp only
  exact qy_ok (fun _ => br_f ps_01 (qy_total ok hT (fun s1 _ => qy_hold 12 (by omega) rfl (qy_total (ps_Ok_u ok 12 ha hb hc) (ps_T_set hT (by omega)) (fun s2 _ => nm_r (e' := upd (upd th 12 1) 12 0) rfl (h s2)))))) (fun z => absurd ⟨a, b, c, ha, hb, hc, rfl, rfl, rfl⟩ z)
end
end
section
/-- both sides keep the same statements; Y's flags are X's bits; what X holds as known is the least set -/
def i_Rel (_ : Nat) (u : SX) (v : SY) : Prop := ∃ (pr kn : Int32) (kd xd yd : Nat → Nat) (p f l th s o : Nat → Int32),
  u = (pr, kn, ps_A kd, ps_A xd, ps_A yd, p, f, l) ∧ v = (th, ps_A kd, ps_A xd, ps_A yd, s, o) ∧
  ps_Ok kd xd yd ∧ (∀ k, 12 ≤ k → bt pr k = false) ∧ ps_T pr th ∧ (kn ≠ 0 → ps_Sol pr kd xd yd p)
theorem i_up {k : Nat} {u : SX} {v : SY} (h : i_Rel k u v) : i_Rel (k + 4) u v := h
theorem ps_mkR {k : Nat} {pr kn : Int32} {kd xd yd : Nat → Nat} {p f l th s o : Nat → Int32} (ok : ps_Ok kd xd yd) (hb : ∀ k, 12 ≤ k → bt pr k = false) (hT : ps_T pr th) (hS : kn ≠ 0 → ps_Sol pr kd xd yd p) :
    i_Rel k (pr, kn, ps_A kd, ps_A xd, ps_A yd, p, f, l) (th, ps_A kd, ps_A xd, ps_A yd, s, o) := ⟨pr, kn, kd, xd, yd, p, f, l, th, s, o, rfl, rfl, ok, hb, hT, hS⟩
theorem i_vc0 : wpX_init (fun u => wpY_init (fun v => i_Rel 0 u v)) := by
  refine ps_mkR (k := 0) (kd := fun _ => 0) (xd := fun _ => 0) (yd := fun _ => 0) (fun k => ⟨(by decide : 0 < 4), (by decide : 0 < 8), (by decide : 0 < 8)⟩) (fun k _ => b_0 k) ?_ (fun z => absurd rfl z)
  intro k _
  rw [b_0]
  rfl
theorem i_vc_add {k : Nat} {u : SX} {v : SY} (I : i_Rel k u v) (hk : k + 4 ≤ 2048) (v1 : Int32) (v2 : Int32) (v3 : Int32) : wpX_add (fun r u' => wpY_add (fun r' v' => r' = r ∧ i_Rel (k + 4) u' v') v v1 v2 v3) u v1 v2 v3 := by
  obtain ⟨pr, kn, kd, xd, yd, p, f, l, th, s, o, rfl, rfl, ok, hb, hT, hS⟩ := I
  by_cases g : ps_o3 v1 v2 v3
  · rcases ps_ff pr 12 with ht | ⟨j, hj, hf, ht⟩
    · exact qx_add1 g ht (qy_add1 hT g ht ⟨rfl, ps_mkR ok hb hT hS⟩)
    · obtain ⟨a, b, c, ha, hb', hc, rfl, rfl, rfl⟩ := g
      refine qx_add2 ha hb' hc hj hf ht (qy_add2 hT ha hb' hc hj hf ht ⟨rfl, ps_mkR (ps_Ok_u ok j ha hb' hc) ?_ (ps_T_set hT (by omega)) (fun z => absurd rfl z)⟩)
      intro i hi
      rw [ps_set_b pr (by omega), hb i hi, decide_eq_false (by omega)]
      rfl
  · exact qx_add0 g (qy_add0 g ⟨rfl, ps_mkR ok hb hT hS⟩)
theorem i_vc_remove {k : Nat} {u : SX} {v : SY} (I : i_Rel k u v) (hk : k + 4 ≤ 2048) (v1 : Int32) : wpX_remove (fun r u' => wpY_remove (fun r' v' => r' = r ∧ i_Rel (k + 4) u' v') v v1) u v1 := by
  obtain ⟨pr, kn, kd, xd, yd, p, f, l, th, s, o, rfl, rfl, ok, hb, hT, hS⟩ := I
  rcases ps_kc v1 with hv | ⟨j, hj, rfl⟩
  · exact qx_rem0 hv (qy_rem0 hv ⟨rfl, ps_mkR ok hb hT hS⟩)
  · cases hp : bt pr j with
    | false => exact qx_rem1 hj hp (qy_rem1 hT hj hp ⟨rfl, ps_mkR ok hb hT hS⟩)
    | true =>
      refine qx_rem2 hj hp (qy_rem2 hT hj hp ⟨rfl, ps_mkR ok ?_ (ps_T_clr hT (by omega)) (fun z => absurd rfl z)⟩)
      intro i hi
      rw [ps_clr_b pr (by omega), hb i hi]
      rfl
theorem qy_st {pr : Int32} {K X Y th s o : Nat → Int32} {post : Int32 → Prop} (hT : ps_T pr th) (h : post (ps_mk (bt pr) 12)) : wpY_statements post (th, K, X, Y, s, o) := ⟨13, qy_stm hT h 12 0 rfl⟩
theorem i_vc_statements {k : Nat} {u : SX} {v : SY} (I : i_Rel k u v) (hk : k + 4 ≤ 2048) : wpX_statements (fun r => wpY_statements (fun r' => r' = r ∧ i_Rel (k + 4) u v) v) u := by
  obtain ⟨pr, kn, kd, xd, yd, p, f, l, th, s, o, rfl, rfl, ok, hb, hT, hS⟩ := I
  have e : ps_mk (bt pr) 12 = pr := by
    apply b_ext
    intro i _
    rw [ps_mk_b _ 12 (by omega)]
    rcases Nat.lt_or_ge i 12 with h | h
    · rw [decide_eq_true h, Bool.true_and]
    · rw [hb i h, Bool.and_false]
  have h : wpY_statements (fun r' => r' = pr ∧ i_Rel (k + 4) (pr, kn, ps_A kd, ps_A xd, ps_A yd, p, f, l) (th, ps_A kd, ps_A xd, ps_A yd, s, o)) (th, ps_A kd, ps_A xd, ps_A yd, s, o) := qy_st hT ⟨e, ps_mkR ok hb hT hS⟩
  exact h
theorem i_vc_pointsTo {k : Nat} {u : SX} {v : SY} (I : i_Rel k u v) (hk : k + 4 ≤ 2048) (v1 : Int32) : wpX_pointsTo (fun r u' => wpY_pointsTo (fun r' v' => r' = r ∧ i_Rel (k + 4) u' v') v v1) u v1 := by
  obtain ⟨pr, kn, kd, xd, yd, p, f, l, th, s, o, rfl, rfl, ok, hb, hT, hS⟩ := I
  rcases ps_vc v1 with hv | ⟨j, hj, rfl⟩
  · exact qx_pt0 hv (qy_pt0 ok hT hv (fun _ => ⟨rfl, ps_mkR ok hb hT hS⟩))
  · exact qx_pt1 hj ok hS (fun _ _ _ _ hp => qy_pt1 hj ok hT (fun _ => ⟨rfl, ps_mkR ok hb hT (fun _ => hp)⟩))
theorem i_vc_pointedBy {k : Nat} {u : SX} {v : SY} (I : i_Rel k u v) (hk : k + 4 ≤ 2048) (v1 : Int32) : wpX_pointedBy (fun r u' => wpY_pointedBy (fun r' v' => r' = r ∧ i_Rel (k + 4) u' v') v v1) u v1 := by
  obtain ⟨pr, kn, kd, xd, yd, p, f, l, th, s, o, rfl, rfl, ok, hb, hT, hS⟩ := I
  rcases ps_vc v1 with hv | ⟨j, hj, rfl⟩
  · exact qx_pb0 hv (qy_pb0 ok hT hv (fun _ => ⟨rfl, ps_mkR ok hb hT hS⟩))
  · exact qx_pb1 hj ok hS (fun _ _ _ _ hp => qy_pb1 hj ok hT (fun _ => ⟨rfl, ps_mkR ok hb hT (fun _ => hp)⟩))
theorem i_vc_alias {k : Nat} {u : SX} {v : SY} (I : i_Rel k u v) (hk : k + 4 ≤ 2048) (v1 : Int32) (v2 : Int32) : wpX_alias (fun r u' => wpY_alias (fun r' v' => r' = r ∧ i_Rel (k + 4) u' v') v v1 v2) u v1 v2 := by
  obtain ⟨pr, kn, kd, xd, yd, p, f, l, th, s, o, rfl, rfl, ok, hb, hT, hS⟩ := I
  rcases ps_vc v1 with hv | ⟨x, hx, rfl⟩
  · exact qx_al0 hv (qy_al0 ok hT hv (fun _ => ⟨rfl, ps_mkR ok hb hT hS⟩))
  · rcases ps_vc v2 with hv | ⟨y, hy, rfl⟩
    · exact qx_al1 hx hv (qy_al1 ok hT hx hv (fun _ => ⟨rfl, ps_mkR ok hb hT hS⟩))
    · refine qx_al2 hx hy ok hS (fun e => ?_) (fun e z _ _ _ _ hp => ?_) (fun e z _ _ _ _ hp => ?_)
      · exact qy_al2 hx hy ok hT (fun _ _ => ⟨rfl, ps_mkR ok hb hT hS⟩) (fun n => absurd e n) (fun n => absurd e n)
      · exact qy_al2 hx hy ok hT (fun n => absurd n e) (fun _ _ _ => ⟨rfl, ps_mkR ok hb hT (fun _ => hp)⟩) (fun _ n => absurd z n)
      · exact qy_al2 hx hy ok hT (fun n => absurd n e) (fun _ n => absurd n z) (fun _ _ _ => ⟨rfl, ps_mkR ok hb hT (fun _ => hp)⟩)
theorem i_vc_reach {k : Nat} {u : SX} {v : SY} (I : i_Rel k u v) (hk : k + 4 ≤ 2048) (v1 : Int32) : wpX_reach (fun r u' => wpY_reach (fun r' v' => r' = r ∧ i_Rel (k + 4) u' v') v v1) u v1 := by
  obtain ⟨pr, kn, kd, xd, yd, p, f, l, th, s, o, rfl, rfl, ok, hb, hT, hS⟩ := I
  rcases ps_vc v1 with hv | ⟨j, hj, rfl⟩
  · exact qx_re0 hv (qy_re0 ok hT hv (fun _ => ⟨rfl, ps_mkR ok hb hT hS⟩))
  · exact qx_reach hj ok hS (fun _ _ _ _ _ hp => qy_re1 hj ok hT (fun _ => ⟨rfl, ps_mkR ok hb hT (fun _ => hp)⟩))
theorem i_vc_flows {k : Nat} {u : SX} {v : SY} (I : i_Rel k u v) (hk : k + 4 ≤ 2048) (v1 : Int32) (v2 : Int32) : wpX_flows (fun r => wpY_flows (fun r' => r' = r ∧ i_Rel (k + 4) u v) v v1 v2) u v1 v2 := by
  obtain ⟨pr, kn, kd, xd, yd, p, f, l, th, s, o, rfl, rfl, ok, hb, hT, hS⟩ := I
  have R : i_Rel (k + 4) (pr, kn, ps_A kd, ps_A xd, ps_A yd, p, f, l) (th, ps_A kd, ps_A xd, ps_A yd, s, o) := ps_mkR ok hb hT hS
  rcases ps_vc v1 with hv | ⟨x, hx, rfl⟩
  · exact qx_fl0 hv (qy_fl0 ok hT hv ⟨rfl, R⟩)
  · rcases ps_vc v2 with hv | ⟨y, hy, rfl⟩
    · exact qx_fl1 hx hv (qy_fl1 hx ok hT hv ⟨rfl, R⟩)
    · have e := ps_flow (pr := pr) ok hx hy
      refine qx_fl2 hx hy ok (fun b => qy_fl2 hx hy ok hT (fun _ => ⟨rfl, R⟩) (fun b' => ?_)) (fun b => qy_fl2 hx hy ok hT (fun b' => ?_) (fun _ => ⟨rfl, R⟩))
      · rw [e] at b; exact nomatch (b.symm.trans b')
      · rw [e] at b; exact nomatch (b.symm.trans b')
theorem i_vc_total {k : Nat} {u : SX} {v : SY} (I : i_Rel k u v) (hk : k + 4 ≤ 2048) : wpX_total (fun r u' => wpY_total (fun r' v' => r' = r ∧ i_Rel (k + 4) u' v') v) u := by
  obtain ⟨pr, kn, kd, xd, yd, p, f, l, th, s, o, rfl, rfl, ok, hb, hT, hS⟩ := I
  exact qx_total ok hS (fun _ _ _ _ _ hp => qy_total ok hT (fun _ _ => ⟨rfl, ps_mkR ok hb hT (fun _ => hp)⟩))
theorem i_vc_redundant {k : Nat} {u : SX} {v : SY} (I : i_Rel k u v) (hk : k + 4 ≤ 2048) (v1 : Int32) : wpX_redundant (fun r u' => wpY_redundant (fun r' v' => r' = r ∧ i_Rel (k + 4) u' v') v v1) u v1 := by
  obtain ⟨pr, kn, kd, xd, yd, p, f, l, th, s, o, rfl, rfl, ok, hb, hT, hS⟩ := I
  rcases ps_kc v1 with hv | ⟨j, hj, rfl⟩
  · exact qx_rd0 hv (qy_rd0 hv ⟨rfl, ps_mkR ok hb hT hS⟩)
  · cases hp : bt pr j with
    | false => exact qx_rd1 hj hp (qy_rd1 hT hj hp ⟨rfl, ps_mkR ok hb hT hS⟩)
    | true =>
      have hT' : ps_T pr (upd (upd th j 0) j 1) := by
        have h := ps_T_set (ps_T_clr hT (k := j) (by omega)) (k := j) (by omega)
        rw [ps_back (by omega) hp] at h
        exact h
      have hr := ps_red (pr := pr) (pr' := pr &&& (((1 : Int32) <<< (nI j &&& 31)) ^^^ (-1))) ok (fun i _ hi => by
        rw [ps_clr_b pr (by omega), Bool.and_eq_true] at hi
        exact hi.1)
      refine qx_rd2 hj hp ok hS (fun e _ _ _ => qy_rd2 hT hj hp ok (fun n => absurd (hr.mp e) n) (fun _ _ _ => ⟨rfl, ps_mkR ok hb hT' (fun z => absurd rfl z)⟩)) (fun e _ _ _ => qy_rd2 hT hj hp ok (fun _ _ _ => ⟨rfl, ps_mkR ok hb hT' (fun z => absurd rfl z)⟩) (fun n => absurd (hr.mpr n) e))
theorem i_vc_gain {k : Nat} {u : SX} {v : SY} (I : i_Rel k u v) (hk : k + 4 ≤ 2048) (v1 : Int32) (v2 : Int32) (v3 : Int32) : wpX_gain (fun r u' => wpY_gain (fun r' v' => r' = r ∧ i_Rel (k + 4) u' v') v v1 v2 v3) u v1 v2 v3 := by
  obtain ⟨pr, kn, kd, xd, yd, p, f, l, th, s, o, rfl, rfl, ok, hb, hT, hS⟩ := I
  by_cases g : ps_o3 v1 v2 v3
  · obtain ⟨a, b, c, ha, hb', hc, rfl, rfl, rfl⟩ := g
    have h12 := hb 12 (by omega)
    have hT' : ps_T pr (upd (upd th 12 1) 12 0) := by
      have h := ps_T_clr (ps_T_set hT (k := 12) (by omega)) (k := 12) (by omega)
      rw [ps_back2 (by omega) h12] at h
      exact h
    exact qx_ga1 ha hb' hc ok hS h12 (fun _ _ _ => qy_ga1 ha hb' hc ok hT (fun _ => ⟨rfl, ps_mkR (ps_Ok_u ok 12 ha hb' hc) hb hT' (fun z => absurd rfl z)⟩))
  · exact qx_ga0 g (qy_ga0 g ⟨rfl, ps_mkR ok hb hT hS⟩)
theorem i_vc_cyclic {k : Nat} {u : SX} {v : SY} (I : i_Rel k u v) (hk : k + 4 ≤ 2048) : wpX_cyclic (fun r u' => wpY_cyclic (fun r' v' => r' = r ∧ i_Rel (k + 4) u' v') v) u := by
  obtain ⟨pr, kn, kd, xd, yd, p, f, l, th, s, o, rfl, rfl, ok, hb, hT, hS⟩ := I
  exact qx_cy ok hS (fun _ _ _ _ hp => qy_cy ok hT (fun _ => ⟨rfl, ps_mkR ok hb hT hp⟩))
theorem i_vc_twins {k : Nat} {u : SX} {v : SY} (I : i_Rel k u v) (hk : k + 4 ≤ 2048) (v1 : Int32) : wpX_twins (fun r u' => wpY_twins (fun r' v' => r' = r ∧ i_Rel (k + 4) u' v') v v1) u v1 := by
  obtain ⟨pr, kn, kd, xd, yd, p, f, l, th, s, o, rfl, rfl, ok, hb, hT, hS⟩ := I
  rcases ps_vc v1 with hv | ⟨j, hj, rfl⟩
  · exact qx_tw0 hv (qy_tw0 ok hT hv (fun _ => ⟨rfl, ps_mkR ok hb hT hS⟩))
  · exact qx_tw1 hj ok hS (fun _ _ _ _ hp => qy_tw1 hj ok hT (fun _ => ⟨rfl, ps_mkR ok hb hT (fun _ => hp)⟩))
end
