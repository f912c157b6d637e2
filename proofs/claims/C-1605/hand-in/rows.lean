section
/-! ===== Int32 by its bits: bt x i ===== -/
def bt (x : Int32) (i : Nat) : Bool := x.toBitVec.getLsbD i
theorem b_ext {x y : Int32} (h : ∀ i, i < 32 → bt x i = bt y i) : x = y := Int32.toBitVec_inj.mp (BitVec.eq_of_getLsbD_eq (fun i hi => h i hi))
theorem b_or (x y : Int32) (i : Nat) : bt (x ||| y) i = (bt x i || bt y i) := by unfold bt; rw [Int32.toBitVec_or, BitVec.getLsbD_or]
theorem b_and (x y : Int32) (i : Nat) : bt (x &&& y) i = (bt x i && bt y i) := by unfold bt; rw [Int32.toBitVec_and, BitVec.getLsbD_and]
theorem b_xor (x y : Int32) (i : Nat) : bt (x ^^^ y) i = (bt x i ^^ bt y i) := by unfold bt; rw [Int32.toBitVec_xor, BitVec.getLsbD_xor]
theorem b_big {x : Int32} {i : Nat} (h : 32 ≤ i) : bt x i = false := BitVec.getLsbD_of_ge _ _ h
theorem b_255 (i : Nat) : bt 255 i = decide (i < 8) := by
  rcases Nat.lt_or_ge i 32 with h | h
  · exact (by decide +kernel : ∀ i, i < 32 → bt 255 i = decide (i < 8)) i h
  · rw [b_big h, decide_eq_false (by omega)]
theorem b_65535 (i : Nat) : bt 65535 i = decide (i < 16) := by
  rcases Nat.lt_or_ge i 32 with h | h
  · exact (by decide +kernel : ∀ i, i < 32 → bt 65535 i = decide (i < 16)) i h
  · rw [b_big h, decide_eq_false (by omega)]
theorem b_m1 : ∀ i, i < 32 → bt (-1) i = true := by decide +kernel
theorem b_0 (i : Nat) : bt 0 i = false := BitVec.getLsbD_zero
theorem s_l : ∀ n, n < 32 → ((nI n &&& 31).toBitVec.smod 32).toNat = n := by decide +kernel
theorem s_u : ∀ n, n < 32 → (((nI n).toUInt32 &&& Int32.toUInt32 31).toBitVec % 32).toNat = n := by decide +kernel
theorem b_shl (n : Nat) (hn : n < 32) (x : Int32) {i : Nat} (hi : i < 32) : bt (x <<< (nI n &&& 31)) i = (decide (n ≤ i) && bt x (i - n)) := by
  unfold bt
  rw [Int32.toBitVec_shiftLeft]
  show (x.toBitVec <<< ((nI n &&& 31).toBitVec.smod 32).toNat).getLsbD i = _
  rw [s_l n hn, BitVec.getLsbD_shiftLeft]
  rcases Nat.lt_or_ge i n with h | h
  · simp [h, Nat.not_le.mpr h]
  · simp [hi, h, Nat.not_lt.mpr h]
theorem b_ushr (n : Nat) (hn : n < 32) (x : Int32) (i : Nat) : bt ((x.toUInt32 >>> ((nI n).toUInt32 &&& Int32.toUInt32 31)).toInt32) i = bt x (n + i) := by
  show (x.toUInt32 >>> ((nI n).toUInt32 &&& Int32.toUInt32 31)).toBitVec.getLsbD i = x.toUInt32.toBitVec.getLsbD (n + i)
  rw [UInt32.toBitVec_shiftRight]
  show (x.toUInt32.toBitVec >>> (((nI n).toUInt32 &&& Int32.toUInt32 31).toBitVec % 32).toNat).getLsbD i = _
  rw [s_u n hn, BitVec.getLsbD_ushiftRight]
theorem b_sshr (n : Nat) (hn : n < 32) (x : Int32) {i : Nat} (hi : i < 32) : bt (x >>> (nI n &&& 31)) i = if n + i < 32 then bt x (n + i) else bt x 31 := by
  unfold bt
  rw [Int32.toBitVec_shiftRight]
  show (x.toBitVec.sshiftRight ((nI n &&& 31).toBitVec.smod 32).toNat).getLsbD i = _
  rw [s_l n hn, BitVec.getLsbD_sshiftRight, BitVec.msb_eq_getLsbD_last]
  simp [hi]
theorem ts_nf {x : Bool} (h : ¬ x = false) : x = true := by cases x <;> first | rfl | exact absurd rfl h
theorem ts_nt {x : Bool} (h : ¬ x = true) : x = false := by cases x <;> first | rfl | exact absurd rfl h
theorem pk_us {f : Nat → Int32} {k : Nat} {x : Int32} : upd f k x k = x := if_pos rfl
theorem pk_un {f : Nat → Int32} {k j : Nat} {x : Int32} (h : j ≠ k) : upd f k x j = f j := if_neg h
theorem pk_uLs {f : Nat → Int64} {k : Nat} {x : Int64} : vp_updL f k x k = x := if_pos rfl
theorem pk_uLn {f : Nat → Int64} {k j : Nat} {x : Int64} (h : j ≠ k) : vp_updL f k x j = f j := if_neg h
theorem pk_sub {a b : Nat} (h : b ≤ a) : nI a - nI b = nI (a - b) := by
  obtain ⟨c, rfl⟩ : ∃ c, a = c + b := ⟨a - b, by omega⟩
  rw [← nI_add, Int32.add_sub_cancel, Nat.add_sub_cancel]
theorem pk_m1 (n : Nat) : nI (n + 1) + (-1) = nI n := by
  rw [← nI_1, Int32.add_assoc, show (1 : Int32) + (-1) = 0 from rfl, Int32.add_zero]
theorem pk_mul (a b : Nat) : nI a * nI b = nI (a * b) := (Int32.ofNat_mul a b).symm
theorem pk_div {a d : Nat} (ha : a < 2 ^ 31) (h0 : 0 < d) (hd : d < 2 ^ 31) : nI a / nI d = nI (a / d) := by
  apply Int32.toInt_inj.mp
  rw [lg_idiv_nonneg (by rw [nI_toInt ha]; omega) (by rw [nI_toInt hd]; omega), nI_toInt ha, nI_toInt hd, nI_toInt (Nat.lt_of_le_of_lt (Nat.div_le_self a d) ha)]
  first | rfl | exact (Int.natCast_ediv _ _).symm
theorem pk_rem {a d : Nat} (ha : a < 2 ^ 31) (h0 : 0 < d) (hd : d < 2 ^ 31) : nI a - nI a / nI d * nI d = nI (a % d) := by
  rw [pk_div ha h0 hd, pk_mul, pk_sub (Nat.div_mul_le_self a d)]
  exact congrArg nI (by have := Nat.div_add_mod' a d; omega)
theorem pk_sub_toInt {a b : Nat} (ha : a < 2 ^ 30) (hb : b < 2 ^ 30) : (nI a - nI b).toInt = (a : Int) - b := by
  rw [Int32.toInt_sub, nI_toInt (by omega), nI_toInt (by omega)]
  exact Int.bmod_eq_of_le (by omega) (by omega)
theorem pk_sneg {a b : Nat} (hb : b < 2 ^ 30) (h : a < b) : nI a - nI b < 0 := by
  rw [Int32.lt_iff_toInt_lt, pk_sub_toInt (by omega) hb, show (0 : Int32).toInt = 0 from by decide]
  omega
theorem pk_ix (x : Int32) {n : Nat} (hn : n < 2 ^ 31) : x < 0 ∨ nI n ≤ x ∨ ∃ j : Nat, j < n ∧ x = nI j := by
  by_cases h : x < 0
  · exact Or.inl h
  · obtain ⟨j, hj, rfl⟩ := nI_of h
    by_cases h2 : j < n
    · exact Or.inr (Or.inr ⟨j, h2, rfl⟩)
    · exact Or.inr (Or.inl (nI_le (by omega) hj))
theorem pk_le {x y : Int32} {A B : Prop} (a b : Nat) (f : a ≤ b → A) (g : b < a → B) (hx : x = nI a := by rfl) (hy : y = nI b := by rfl) (ha : a < 2 ^ 31 := by omega) (hb : b < 2 ^ 31 := by omega) : (x ≤ y → A) ∧ (¬ x ≤ y → B) := by
  subst hx hy
  rw [nI_leI ha hb]
  exact ⟨f, fun z => g (by omega)⟩
theorem pk_lt {x y : Int32} {A B : Prop} (a b : Nat) (f : a < b → A) (g : b ≤ a → B) (hx : x = nI a := by rfl) (hy : y = nI b := by rfl) (ha : a < 2 ^ 31 := by omega) (hb : b < 2 ^ 31 := by omega) : (x < y → A) ∧ (¬ x < y → B) := by
  subst hx hy
  rw [nI_ltI ha hb]
  exact ⟨f, fun z => g (by omega)⟩
theorem pk_eq {x y : Int32} {A B : Prop} (a b : Nat) (f : a = b → A) (g : a ≠ b → B) (hx : x = nI a := by rfl) (hy : y = nI b := by rfl) (ha : a < 2 ^ 31 := by omega) (hb : b < 2 ^ 31 := by omega) : (x = y → A) ∧ (¬ x = y → B) := by
  subst hx hy
  rw [nI_eq ha hb]
  exact ⟨f, g⟩
theorem pk_in {x : Int32} (n N : Nat) (h : n < N) (hx : x = nI n := by rfl) (hN : N < 2 ^ 31 := by omega) : vp_in x N := by
  subst hx
  exact vp_in_nI h hN
theorem pk_cl {x : Int32} (n : Nat) (hx : x = nI n := by rfl) (h : n < 2 ^ 31 := by omega) : x.toNatClampNeg = n := by
  subst hx
  exact nI_clamp h
theorem pk_tn {n : Nat} (h : n < 2 ^ 32) : (nI n).toBitVec.toNat = n := Nat.mod_eq_of_lt h
theorem pk_and (x : Int32) {m : Int32} (k : Nat) (hm : m.toBitVec.toNat = 2 ^ k - 1) : x &&& m = nI (x.toBitVec.toNat % 2 ^ k) := by
  apply Int32.toBitVec_inj.mp
  apply BitVec.eq_of_toNat_eq
  rw [Int32.toBitVec_and, BitVec.toNat_and, hm, Nat.and_two_pow_sub_one_eq_mod]
  show _ = (BitVec.ofNat 32 _).toNat
  rw [BitVec.toNat_ofNat]
  exact (Nat.mod_eq_of_lt (Nat.lt_of_le_of_lt (Nat.mod_le _ _) x.toBitVec.isLt)).symm
theorem pk_andN {n : Nat} (h : n < 2 ^ 32) {m : Int32} (k : Nat) (hm : m.toBitVec.toNat = 2 ^ k - 1) : nI n &&& m = nI (n % 2 ^ k) := by
  rw [pk_and _ k hm, pk_tn h]
theorem pk_andE (x : Int32) {m : Int32} (k : Nat) (hm : m.toBitVec.toNat = 2 ^ k - 1) : ∃ j : Nat, j < 2 ^ k ∧ x &&& m = nI j := ⟨_, Nat.mod_lt _ (Nat.two_pow_pos k), pk_and x k hm⟩
theorem pk_andIn (x : Int32) {m : Int32} (k : Nat) (hm : m.toBitVec.toNat = 2 ^ k - 1) (hk : k ≤ 30) : vp_in (x &&& m) (2 ^ k) := by
  obtain ⟨j, hj, e⟩ := pk_andE x k hm
  rw [e]
  exact vp_in_nI hj (Nat.lt_of_le_of_lt (Nat.pow_le_pow_right (by decide) hk) (by decide))
end
section
/-! bits of one mask, sums, counts -/
theorem zb_one (i : Nat) : bt 1 i = decide (i = 0) := by
  rcases Nat.lt_or_ge i 32 with h | h
  · exact (by decide +kernel : ∀ i, i < 32 → bt 1 i = decide (i = 0)) i h
  · rw [b_big h, decide_eq_false (by omega)]
theorem zb_1 {k : Nat} (hk : k < 32) (i : Nat) : bt ((1 : Int32) <<< (nI k &&& 31)) i = decide (i = k) := by
  rcases Nat.lt_or_ge i 32 with h | h
  · rw [b_shl k hk 1 h, zb_one]
    by_cases e : i = k
    · subst e; simp
    · rcases Nat.lt_or_ge i k with h1 | h1
      · rw [decide_eq_false (by omega : ¬ k ≤ i), decide_eq_false e]; rfl
      · rw [decide_eq_false (by omega : ¬ i - k = 0), decide_eq_false e, Bool.and_false]
  · rw [b_big h, decide_eq_false (by omega)]
theorem zb_a1 (y : Int32) : y &&& 1 = if bt y 0 = true then 1 else 0 := by
  apply b_ext
  intro i _
  rw [b_and, zb_one]
  by_cases h : bt y 0 = true
  · rw [if_pos h, zb_one]
    by_cases e : i = 0
    · subst e; rw [h]; rfl
    · rw [decide_eq_false e, Bool.and_false]
  · rw [if_neg h, b_0]
    by_cases e : i = 0
    · subst e; rw [ts_nt h]; rfl
    · rw [decide_eq_false e, Bool.and_false]
theorem zb_s0 {k : Nat} (hk : k < 32) (x : Int32) : bt (x >>> (nI k &&& 31)) 0 = bt x k := by
  rw [b_sshr k hk x (by decide), if_pos (by omega)]; rfl
theorem zb_t {k : Nat} (hk : k < 32) {x : Int32} : ((x >>> (nI k &&& 31)) &&& 1) = 1 ↔ bt x k = true := by
  rw [zb_a1, zb_s0 hk]
  by_cases h : bt x k = true
  · rw [if_pos h]; exact ⟨fun _ => h, fun _ => rfl⟩
  · rw [if_neg h]; exact ⟨fun z => absurd z (by decide), fun z => absurd z h⟩
theorem zb_f {k : Nat} (hk : k < 32) {x : Int32} : ((x >>> (nI k &&& 31)) &&& 1) = 0 ↔ bt x k = false := by
  rw [zb_a1, zb_s0 hk]
  by_cases h : bt x k = true
  · rw [if_pos h, h]; exact ⟨fun z => absurd z (by decide), fun z => absurd z (by decide)⟩
  · rw [if_neg h, ts_nt h]; exact ⟨fun _ => rfl, fun _ => rfl⟩
theorem zb_v {k : Nat} (hk : k < 32) (x : Int32) : ((x >>> (nI k &&& 31)) &&& 1) = nI (bt x k).toNat := by
  rw [zb_a1, zb_s0 hk]
  cases bt x k <;> rfl
theorem zb_an (x y : Int32) (i : Nat) : bt (x &&& (y ^^^ (-1))) i = (bt x i && !bt y i) := by
  rw [b_and, b_xor]
  rcases Nat.lt_or_ge i 32 with h | h
  · rw [b_m1 i h, Bool.xor_true]
  · rw [b_big h, b_big h]; rfl
theorem zb_z {x : Int32} : x = 0 ↔ ∀ i, bt x i = false :=
  ⟨fun e i => by rw [e, b_0], fun h => b_ext fun i _ => by rw [h, b_0]⟩
/-- no bit at 8 or above -/
def z8 (x : Int32) : Prop := ∀ s, 8 ≤ s → bt x s = false
theorem z8_0 : z8 0 := fun s _ => b_0 s
theorem z8_or {x y : Int32} (hx : z8 x) (hy : z8 y) : z8 (x ||| y) := fun s h => by rw [b_or, hx s h, hy s h]; rfl
theorem z8_and {x : Int32} (y : Int32) (hx : z8 x) : z8 (x &&& y) := fun s h => by rw [b_and, hx s h]; rfl
theorem z8_and' (x : Int32) {y : Int32} (hy : z8 y) : z8 (x &&& y) := fun s h => by rw [b_and, hy s h, Bool.and_false]
theorem z8_1 {k : Nat} (hk : k < 8) : z8 ((1 : Int32) <<< (nI k &&& 31)) := fun s h => by
  rw [zb_1 (by omega), decide_eq_false (by omega)]
theorem z8_lt {x : Int32} (h : z8 x) {s : Nat} (hs : bt x s = true) : s < 8 := by
  rcases Nat.lt_or_ge s 8 with z | z
  · exact z
  · rw [h s z] at hs; exact absurd hs (by decide)
theorem z8_ext {x y : Int32} (hx : z8 x) (hy : z8 y) (h : ∀ s, s < 8 → (bt x s = true ↔ bt y s = true)) : x = y :=
  b_ext fun i _ => by
    rcases Nat.lt_or_ge i 8 with z | z
    · exact Bool.eq_iff_iff.mpr (h i z)
    · rw [hx i z, hy i z]
/-- sums -/
def zs (f : Nat → Nat) : Nat → Nat
  | 0 => 0
  | n + 1 => zs f n + f n
theorem zs_le {f g : Nat → Nat} : ∀ {n : Nat}, (∀ i, i < n → f i ≤ g i) → zs f n ≤ zs g n
  | 0, _ => Nat.le_refl _
  | n + 1, h => Nat.add_le_add (zs_le fun i hi => h i (by omega)) (h n (by omega))
theorem zs_lt {f g : Nat → Nat} {a : Nat} (ha : f a < g a) : ∀ {n : Nat}, (∀ i, i < n → f i ≤ g i) → a < n → zs f n < zs g n
  | 0, _, h => absurd h (by omega)
  | n + 1, h, hn => by
    simp only [zs]
    rcases Nat.lt_or_ge a n with z | z
    · have := zs_lt ha (n := n) (fun i hi => h i (by omega)) z
      have := h n (by omega)
      omega
    · have e : a = n := by omega
      subst e
      have := zs_le (n := a) (fun i hi => h i (by omega))
      omega
theorem zs_eq {f g : Nat → Nat} {n : Nat} (h : ∀ i, i < n → f i = g i) : zs f n = zs g n :=
  Nat.le_antisymm (zs_le fun i hi => Nat.le_of_eq (h i hi)) (zs_le fun i hi => Nat.le_of_eq (h i hi).symm)
theorem zs_pt {f g : Nat → Nat} {n : Nat} (h : ∀ i, i < n → f i ≤ g i) (e : zs f n = zs g n) : ∀ i, i < n → f i = g i := by
  intro i hi
  rcases Nat.lt_or_ge (f i) (g i) with z | z
  · have := zs_lt z h hi; omega
  · exact Nat.le_antisymm (h i hi) z
theorem zs_bd {f : Nat → Nat} {c : Nat} : ∀ {n : Nat}, (∀ i, i < n → f i ≤ c) → zs f n ≤ n * c
  | 0, _ => by simp [zs]
  | n + 1, h => by
    have a := zs_bd (f := f) (c := c) (n := n) (fun i hi => h i (by omega))
    have b := h n (by omega)
    simp only [zs, Nat.add_mul, Nat.one_mul]
    omega
/-- how many of the eight sites stand in a mask -/
def zc (x : Int32) : Nat := zs (fun i => (bt x i).toNat) 8
theorem zc_bool {a b : Bool} (h : a = true → b = true) : a.toNat ≤ b.toNat := by
  cases a <;> cases b <;> simp_all
theorem zc_le8 (x : Int32) : zc x ≤ 8 := by
  have := zs_bd (f := fun i => (bt x i).toNat) (c := 1) (n := 8) (fun i _ => by cases bt x i <;> decide)
  unfold zc; omega
theorem zc_le {x y : Int32} (h : ∀ s, s < 8 → bt x s = true → bt y s = true) : zc x ≤ zc y :=
  zs_le fun i hi => zc_bool (h i hi)
theorem zc_lt {x y : Int32} {s : Nat} (hs : s < 8) (hx : bt x s = false) (hy : bt y s = true) (h : ∀ s, s < 8 → bt x s = true → bt y s = true) : zc x < zc y :=
  zs_lt (a := s) (by rw [hx, hy]; decide) (fun i hi => zc_bool (h i hi)) hs
theorem zc_eq {x y : Int32} (h : ∀ s, s < 8 → bt x s = true → bt y s = true) (e : zc x = zc y) : ∀ s, s < 8 → bt x s = bt y s := by
  intro s hs
  have := zs_pt (fun i hi => zc_bool (h i hi)) e s hs
  generalize bt x s = a at this
  generalize bt y s = b at this
  cases a <;> cases b <;> simp_all
/-- index of an entry -/
def zl (a : Nat → Int32) (j : Nat) : Nat := (a j).toNatClampNeg
theorem zl_u {a : Nat → Int32} {k j x : Nat} (hx : x < 2 ^ 31) : zl (upd a k (nI x)) j = if j = k then x else zl a j := by
  unfold zl upd
  by_cases h : j = k
  · rw [if_pos h, if_pos h, nI_clamp hx]
  · rw [if_neg h, if_neg h]
theorem zq_len {q : List Nat} {N : Nat} (h : q.Nodup) (hb : ∀ x, x ∈ q → x < N) : q.length ≤ N := by
  have := List.Nodup.length_le_of_subset (l₂ := List.range N) h (fun x hx => List.mem_range.mpr (hb x hx))
  rwa [List.length_range] at this
end
section
/-! the solver's mathematics: A (sites put in), K (edges), T (edges that a site at a node brings) -/
def zSol (A K : Nat → Nat → Prop) (T : Nat → Nat → Nat → Nat → Prop) (σ : Nat → Nat → Prop) : Prop :=
  (∀ n s, A n s → σ n s) ∧ (∀ a b, K a b → ∀ s, σ a s → σ b s) ∧ (∀ n s a b, T n s a b → σ n s → ∀ t, σ a t → σ b t)
def zB (A K : Nat → Nat → Prop) (T : Nat → Nat → Nat → Nat → Prop) : Prop :=
  (∀ n s, A n s → n < 28) ∧ (∀ a b, K a b → a < 28 ∧ b < 28) ∧ (∀ n s a b, T n s a b → n < 28 ∧ a < 28 ∧ b < 28)
def zE (le go : Nat → Int32) (a b : Nat) : Prop := zl le a = zl le b ∨ ∃ c, c < 28 ∧ bt (go (zl le a)) c = true ∧ zl le c = zl le b
def zW (le si fr : Nat → Int32) : Prop :=
  (∀ j, j < 28 → zl le j < 28 ∧ le j = nI (zl le j) ∧ zl le (zl le j) = zl le j) ∧ (∀ j, j < 28 → z8 (si j)) ∧
  (∀ j, j < 28 → ∀ s, bt (fr j) s = true → bt (si j) s = true)
def zS (Sol : (Nat → Nat → Prop) → Prop) (le si go : Nat → Int32) : Prop :=
  ∀ σ, Sol σ → (∀ j, j < 28 → ∀ s, bt (si j) s = true → σ j s) ∧ (∀ a b, a < 28 → b < 28 → bt (go a) b = true → ∀ s, σ a s → σ b s) ∧
    (∀ j, j < 28 → ∀ s, σ j s ↔ σ (zl le j) s)
def zC (A K : Nat → Nat → Prop) (T X : Nat → Nat → Nat → Nat → Prop) (X5 : Nat → Nat → Nat → Prop) (le si fr go qd : Nat → Int32) : Prop :=
  (∀ n s, A n s → bt (si (zl le n)) s = true) ∧ (∀ a b, K a b → zE le go a b) ∧
  (∀ n s a b, T n s a b → bt (si (zl le n)) s = true → bt (fr (zl le n)) s = true ∨ X n s a b ∨ zE le go a b) ∧
  (∀ a b s, a < 28 → b < 28 → zl le a = a → bt (go a) b = true → bt (si a) s = true → bt (fr a) s = true ∨ X5 a b s ∨ bt (si (zl le b)) s = true) ∧
  (∀ a s, a < 28 → zl le a = a → bt (fr a) s = true → qd a = 1)
def zQ (h t : Int32) (qd qu : Nat → Int32) (q : List Nat) : Prop :=
  q.Nodup ∧ (∀ x, x ∈ q → x < 28) ∧ ∃ hd, hd < 32 ∧ h = nI hd ∧ t = nI ((hd + q.length) % 32) ∧
    (∀ i x, q[i]? = some x → qu ((hd + i) % 32) = nI x) ∧ (∀ j, j < 28 → qd j = if j ∈ q then 1 else 0)
def zF (le si : Nat → Int32) (q : List Nat) : Nat :=
  zs (fun j => 8 - zc (si j)) 28 + zs (fun j => if zl le j = j then 1 else 0) 28 + q.length
def zI (So : (Nat → Nat → Prop) → Prop) (A K : Nat → Nat → Prop) (T X : Nat → Nat → Nat → Nat → Prop) (X5 : Nat → Nat → Nat → Prop) (B : Nat) (h t : Int32) (le si fr go qd qu : Nat → Int32) : Prop :=
  zW le si fr ∧ zS So le si go ∧ zC A K T X X5 le si fr go qd ∧ ∃ q, zQ h t qd qu q ∧ zF le si q ≤ B
def zn4 (_ _ _ _ : Nat) : Prop := False
def zn3 (_ _ _ : Nat) : Prop := False
theorem zu_or {f : Nat → Int32} {m j s : Nat} {x : Int32} : bt (upd f m (f m ||| x) j) s = true ↔ bt (f j) s = true ∨ (j = m ∧ bt x s = true) := by
  unfold upd
  by_cases h : j = m
  · subst h
    rw [if_pos rfl, b_or, Bool.or_eq_true]
    exact ⟨fun z => z.elim Or.inl (fun y => Or.inr ⟨rfl, y⟩), fun z => z.elim Or.inl (fun y => Or.inr y.2)⟩
  · rw [if_neg h]
    exact ⟨Or.inl, fun z => z.elim id (fun y => absurd y.1 h)⟩
theorem zE_go {le go go' : Nat → Int32} {a b : Nat} (hm : ∀ j c, bt (go j) c = true → bt (go' j) c = true) (h : zE le go a b) : zE le go' a b := by
  rcases h with h | ⟨c, hc, h1, h2⟩
  · exact Or.inl h
  · exact Or.inr ⟨c, hc, hm _ _ h1, h2⟩
section
variable {So : (Nat → Nat → Prop) → Prop} {A K : Nat → Nat → Prop} {T X X' : Nat → Nat → Nat → Nat → Prop} {X5 X5' : Nat → Nat → Nat → Prop} {B : Nat} {h t : Int32} {le si fr go qd qu qd' qu' : Nat → Int32}
theorem zC_wk (hC : zC A K T X X5 le si fr go qd)
    (h1 : ∀ n s a b, T n s a b → bt (si (zl le n)) s = true → X n s a b → bt (fr (zl le n)) s = true ∨ X' n s a b ∨ zE le go a b)
    (h2 : ∀ a b s, a < 28 → b < 28 → zl le a = a → bt (go a) b = true → bt (si a) s = true → X5 a b s → bt (fr a) s = true ∨ X5' a b s ∨ bt (si (zl le b)) s = true) :
    zC A K T X' X5' le si fr go qd := by
  obtain ⟨c1, c2, c3, c4, c5⟩ := hC
  refine ⟨c1, c2, fun n s a b hT hs => ?_, fun a b s ha hb hl hg hs => ?_, c5⟩
  · rcases c3 n s a b hT hs with z | z | z
    · exact Or.inl z
    · exact h1 n s a b hT hs z
    · exact Or.inr (Or.inr z)
  · rcases c4 a b s ha hb hl hg hs with z | z | z
    · exact Or.inl z
    · exact h2 a b s ha hb hl hg hs z
    · exact Or.inr (Or.inr z)
theorem zI_wk (hI : zI So A K T X X5 B h t le si fr go qd qu)
    (h1 : ∀ n s a b, T n s a b → bt (si (zl le n)) s = true → X n s a b → bt (fr (zl le n)) s = true ∨ X' n s a b ∨ zE le go a b)
    (h2 : ∀ a b s, a < 28 → b < 28 → zl le a = a → bt (go a) b = true → bt (si a) s = true → X5 a b s → bt (fr a) s = true ∨ X5' a b s ∨ bt (si (zl le b)) s = true) :
    zI So A K T X' X5' B h t le si fr go qd qu := ⟨hI.1, hI.2.1, zC_wk hI.2.2.1 h1 h2, hI.2.2.2⟩
/-- new sites at a leader -/
theorem zp_add (hW : zW le si fr) (hS : zS So le si go) (hC : zC A K T X X5 le si fr go qd) {m : Nat} {more : Int32} (hm8 : z8 more)
    (hsnd : ∀ σ, So σ → ∀ s, bt more s = true → σ m s) (hq : qd' m = 1) (hqm : ∀ j, j < 28 → qd j = 1 → qd' j = 1) :
    zW le (upd si m (si m ||| more)) (upd fr m (fr m ||| more)) ∧ zS So le (upd si m (si m ||| more)) go ∧
    zC A K T X X5 le (upd si m (si m ||| more)) (upd fr m (fr m ||| more)) go qd' := by
  obtain ⟨w1, w2, w3⟩ := hW
  obtain ⟨c1, c2, c3, c4, c5⟩ := hC
  refine ⟨⟨w1, fun j hj => ?_, fun j hj s => ?_⟩, fun σ hσ => ?_, fun n s hA => ?_, c2, fun n s a b hT => ?_, fun a b s ha hb hl hg => ?_, fun a s ha hl => ?_⟩
  · unfold upd
    by_cases e : j = m
    · rw [if_pos e]; subst e; exact z8_or (w2 j hj) hm8
    · rw [if_neg e]; exact w2 j hj
  · rw [zu_or, zu_or]
    rintro (z | z)
    · exact Or.inl (w3 j hj s z)
    · exact Or.inr z
  · obtain ⟨s1, s2, s3⟩ := hS σ hσ
    refine ⟨fun j hj s => ?_, s2, s3⟩
    rw [zu_or]
    rintro (z | ⟨rfl, z⟩)
    · exact s1 j hj s z
    · exact hsnd σ hσ s z
  · rw [zu_or]; exact Or.inl (c1 n s hA)
  · rw [zu_or, zu_or]
    rintro (z | z)
    · rcases c3 n s a b hT z with y | y | y
      · exact Or.inl (Or.inl y)
      · exact Or.inr (Or.inl y)
      · exact Or.inr (Or.inr y)
    · exact Or.inl (Or.inr z)
  · rw [zu_or, zu_or, zu_or]
    rintro (z | z)
    · rcases c4 a b s ha hb hl hg z with y | y | y
      · exact Or.inl (Or.inl y)
      · exact Or.inr (Or.inl y)
      · exact Or.inr (Or.inr (Or.inl y))
    · exact Or.inl (Or.inr z)
  · rw [zu_or]
    rintro (z | ⟨rfl, _⟩)
    · exact hqm a ha (c5 a s ha hl z)
    · exact hq
theorem zF_add {q q' : List Nat} {m : Nat} {more : Int32} (hm : m < 28) (hm8 : z8 more) {s : Nat} (h1 : bt more s = true) (h2 : bt (si m) s = false) (hl : q'.length ≤ q.length + 1) :
    zF le (upd si m (si m ||| more)) q' ≤ zF le si q := by
  have key : zs (fun j => 8 - zc (upd si m (si m ||| more) j)) 28 < zs (fun j => 8 - zc (si j)) 28 := by
    have hle : ∀ j, zc (si j) ≤ zc (upd si m (si m ||| more) j) := fun j => zc_le fun s _ hs => zu_or.mpr (Or.inl hs)
    refine zs_lt (a := m) ?_ (fun j _ => ?_) hm
    · have a := zc_lt (x := si m) (y := upd si m (si m ||| more) m) (z8_lt hm8 h1) h2 (zu_or.mpr (Or.inr ⟨rfl, h1⟩)) (fun s _ hs => zu_or.mpr (Or.inl hs))
      have b := zc_le8 (upd si m (si m ||| more) m)
      show 8 - zc (upd si m (si m ||| more) m) < 8 - zc (si m)
      omega
    · have := hle j
      show 8 - zc (upd si m (si m ||| more) j) ≤ 8 - zc (si j)
      omega
  unfold zF
  omega
/-- a new edge between leaders -/
theorem zp_edge (hW : zW le si fr) (hS : zS So le si go) (hC : zC A K T X X5 le si fr go qd) {a b : Nat} (hb : b < 28)
    (hsnd : ∀ σ, So σ → ∀ s, σ a s → σ b s) :
    zS So le si (upd go a (go a ||| ((1 : Int32) <<< (nI b &&& 31)))) ∧
    zC A K T X (fun a' b' s => X5 a' b' s ∨ (a' = a ∧ b' = b ∧ bt (si a) s = true)) le si fr (upd go a (go a ||| ((1 : Int32) <<< (nI b &&& 31)))) qd := by
  have hg : ∀ j c, bt (upd go a (go a ||| ((1 : Int32) <<< (nI b &&& 31))) j) c = true ↔ bt (go j) c = true ∨ (j = a ∧ c = b) := by
    intro j c
    rw [zu_or, zb_1 (by omega), decide_eq_true_eq]
  have hE : ∀ x y, zE le go x y → zE le (upd go a (go a ||| ((1 : Int32) <<< (nI b &&& 31)))) x y := fun x y => zE_go fun j c hc => (hg j c).mpr (Or.inl hc)
  obtain ⟨c1, c2, c3, c4, c5⟩ := hC
  refine ⟨fun σ hσ => ?_, c1, fun x y hK => hE _ _ (c2 x y hK), fun n s x y hT hs => ?_, fun x y s hx hy hl hg' hs => ?_, c5⟩
  · obtain ⟨s1, s2, s3⟩ := hS σ hσ
    refine ⟨s1, fun x y hx hy hg' => ?_, s3⟩
    rcases (hg x y).mp hg' with z | ⟨rfl, rfl⟩
    · exact s2 x y hx hy z
    · exact hsnd σ hσ
  · rcases c3 n s x y hT hs with z | z | z
    · exact Or.inl z
    · exact Or.inr (Or.inl z)
    · exact Or.inr (Or.inr (hE _ _ z))
  · rcases (hg x y).mp hg' with z | ⟨rfl, rfl⟩
    · rcases c4 x y s hx hy hl z hs with z | z | z
      · exact Or.inl z
      · exact Or.inr (Or.inl (Or.inl z))
      · exact Or.inr (Or.inr z)
    · exact Or.inr (Or.inl (Or.inr ⟨rfl, rfl, hs⟩))
end
/-- the leaders behind a join, up to row i -/
def zj (le : Nat → Int32) (n k i : Nat) : Nat → Int32 := fun j => if j < i ∧ le j = nI k then nI n else le j
theorem zj_0 {le : Nat → Int32} {n k : Nat} : zj le n k 0 = le := by
  funext j; unfold zj; rw [if_neg (by omega)]
theorem zj_y {le : Nat → Int32} {n k i : Nat} (h : le i = nI k) : upd (zj le n k i) i (nI n) = zj le n k (i + 1) := by
  funext j; unfold upd zj
  by_cases e : j = i
  · rw [if_pos e, if_pos ⟨by omega, by rw [e]; exact h⟩]
  · rw [if_neg e]
    by_cases e2 : j < i ∧ le j = nI k
    · rw [if_pos e2, if_pos ⟨by omega, e2.2⟩]
    · rw [if_neg e2, if_neg (fun z => e2 ⟨by omega, z.2⟩)]
theorem zj_n {le : Nat → Int32} {n k i : Nat} (h : ¬ le i = nI k) : zj le n k i = zj le n k (i + 1) := by
  funext j; unfold zj
  by_cases e2 : j < i ∧ le j = nI k
  · rw [if_pos e2, if_pos ⟨by omega, e2.2⟩]
  · rw [if_neg e2, if_neg]
    rintro ⟨a, b⟩
    by_cases e : j = i
    · rw [e] at b; exact h b
    · exact e2 ⟨by omega, b⟩
theorem zj_i {le : Nat → Int32} {n k i : Nat} : zj le n k i i = le i := by
  unfold zj; rw [if_neg (by omega)]
section
variable {So : (Nat → Nat → Prop) → Prop} {A K : Nat → Nat → Prop} {T X : Nat → Nat → Nat → Nat → Prop} {X5 : Nat → Nat → Nat → Prop} {le si fr go qd qd' : Nat → Int32}
theorem zj_l (hW : zW le si fr) {n k : Nat} (hn : n < 28) (hk : k < 28) {j : Nat} (hj : j < 28) : zl (zj le n k 28) j = if zl le j = k then n else zl le j := by
  have w := hW.1 j hj
  show (if j < 28 ∧ le j = nI k then nI n else le j).toNatClampNeg = _
  by_cases e : zl le j = k
  · rw [if_pos e, if_pos ⟨hj, by rw [w.2.1, e]⟩, nI_clamp (by omega)]
  · rw [if_neg e, if_neg]
    · rfl
    · rintro ⟨_, b⟩
      exact e (by unfold zl; rw [b, nI_clamp (by omega)])
theorem zp_join (hB : zB A K T) (hW : zW le si fr) (hS : zS So le si go) (hC : zC A K T X X5 le si fr go qd) {n k : Nat} (hn : n < 28) (hk : k < 28)
    (hln : zl le n = n) (hlk : zl le k = k) (hnk : n ≠ k) (heq : ∀ σ, So σ → ∀ s, σ n s ↔ σ k s)
    (hq : qd' n = 1) (hqm : ∀ j, j < 28 → qd j = 1 → qd' j = 1) :
    zW (zj le n k 28) (upd si n (si n ||| si k)) (upd fr n (upd si n (si n ||| si k) n)) ∧ zS So (zj le n k 28) (upd si n (si n ||| si k)) (upd go n (go n ||| go k)) ∧
    zC A K T X X5 (zj le n k 28) (upd si n (si n ||| si k)) (upd fr n (upd si n (si n ||| si k) n)) (upd go n (go n ||| go k)) qd' := by
  have hl : ∀ j, j < 28 → zl (zj le n k 28) j = if zl le j = k then n else zl le j := fun j hj => zj_l hW hn hk hj
  have hfr : ∀ j, j ≠ n → upd fr n (upd si n (si n ||| si k) n) j = fr j := fun j hj => if_neg hj
  have hfn : upd fr n (upd si n (si n ||| si k) n) n = upd si n (si n ||| si k) n := if_pos rfl
  have hsi : ∀ j, j ≠ n → upd si n (si n ||| si k) j = si j := fun j hj => if_neg hj
  have hgo : ∀ j, j ≠ n → upd go n (go n ||| go k) j = go j := fun j hj => if_neg hj
  have hmono : ∀ j s, j < 28 → bt (si (zl le j)) s = true → bt (upd si n (si n ||| si k) (zl (zj le n k 28) j)) s = true := by
    intro j s hj hs
    rw [hl j hj, zu_or]
    by_cases e : zl le j = k
    · rw [if_pos e]; rw [e] at hs; exact Or.inr ⟨rfl, hs⟩
    · rw [if_neg e]; exact Or.inl hs
  have hEm : ∀ a b, a < 28 → b < 28 → zE le go a b → zE (zj le n k 28) (upd go n (go n ||| go k)) a b := by
    intro a b ha hb hE
    rcases hE with e | ⟨c, hc, h1, h2⟩
    · exact Or.inl (by rw [hl a ha, hl b hb, e])
    · refine Or.inr ⟨c, hc, ?_, by rw [hl c hc, hl b hb, h2]⟩
      rw [hl a ha, zu_or]
      by_cases e : zl le a = k
      · rw [if_pos e]; rw [e] at h1; exact Or.inr ⟨rfl, h1⟩
      · rw [if_neg e]; exact Or.inl h1
  obtain ⟨w1, w2, w3⟩ := hW
  obtain ⟨c1, c2, c3, c4, c5⟩ := hC
  obtain ⟨b1, b2, b3⟩ := hB
  refine ⟨⟨fun j hj => ?_, fun j hj => ?_, fun j hj s => ?_⟩, fun σ hσ => ?_, fun m s hA => hmono m s (b1 m s hA) (c1 m s hA), fun a b hK => hEm a b (b2 a b hK).1 (b2 a b hK).2 (c2 a b hK), fun m s a b hT hs => ?_, fun a b s ha hb hla hg hs => ?_, fun a s ha hla hs => ?_⟩
  · obtain ⟨x1, x2, x3⟩ := w1 j hj
    refine ⟨?_, ?_, ?_⟩
    · rw [hl j hj]; by_cases e : zl le j = k
      · rw [if_pos e]; exact hn
      · rw [if_neg e]; exact x1
    · rw [hl j hj]
      show (if j < 28 ∧ le j = nI k then nI n else le j) = _
      by_cases e : zl le j = k
      · rw [if_pos e, if_pos ⟨hj, by rw [x2, e]⟩]
      · rw [if_neg e, if_neg]
        · exact x2
        · rintro ⟨_, z⟩; exact e (by unfold zl; rw [z, nI_clamp (by omega)])
    · rw [hl j hj]; by_cases e : zl le j = k
      · rw [if_pos e, hl n hn, hln, if_neg hnk]
      · rw [if_neg e, hl _ x1, x3, if_neg e]
  · by_cases e : j = n
    · subst e
      show z8 (upd si j (si j ||| si k) j)
      rw [show upd si j (si j ||| si k) j = si j ||| si k from if_pos rfl]
      exact z8_or (w2 j hj) (w2 k hk)
    · rw [hsi j e]; exact w2 j hj
  · by_cases e : j = n
    · subst e; rw [hfn]; exact id
    · rw [hfr j e, hsi j e]; exact w3 j hj s
  · obtain ⟨s1, s2, s3⟩ := hS σ hσ
    have hnkσ := heq σ hσ
    refine ⟨fun j hj s => ?_, fun a b ha hb => ?_, fun j hj s => ?_⟩
    · rw [zu_or]
      rintro (z | ⟨rfl, z⟩)
      · exact s1 j hj s z
      · exact (hnkσ s).mpr (s1 k hk s z)
    · rw [zu_or]
      rintro (z | ⟨rfl, z⟩) s hs
      · exact s2 a b ha hb z s hs
      · exact s2 k b hk hb z s ((hnkσ s).mp hs)
    · rw [hl j hj]
      by_cases e : zl le j = k
      · rw [if_pos e, s3 j hj s, e]; exact (hnkσ s).symm
      · rw [if_neg e]; exact s3 j hj s
  · obtain ⟨hm, ha, hb⟩ := b3 m s a b hT
    by_cases e : zl (zj le n k 28) m = n
    · rw [e] at hs ⊢
      rw [hfn]
      exact Or.inl hs
    · have e2 : zl (zj le n k 28) m = zl le m := by
        rw [hl m hm] at e ⊢
        by_cases e3 : zl le m = k
        · rw [if_pos e3] at e; exact absurd rfl e
        · rw [if_neg e3]
      rw [hsi _ e, e2] at hs
      rw [hfr _ e, e2]
      rcases c3 m s a b hT hs with z | z | z
      · exact Or.inl z
      · exact Or.inr (Or.inl z)
      · exact Or.inr (Or.inr (hEm a b ha hb z))
  · by_cases e : a = n
    · subst e
      rw [hfn]; exact Or.inl hs
    · have e2 : zl le a = a := by
        rw [hl a ha] at hla
        by_cases e3 : zl le a = k
        · rw [if_pos e3] at hla; exact absurd hla.symm e
        · rw [if_neg e3] at hla; exact hla
      rw [hgo a e] at hg
      rw [hsi a e] at hs
      rw [hfr a e]
      rcases c4 a b s ha hb e2 hg hs with z | z | z
      · exact Or.inl z
      · exact Or.inr (Or.inl z)
      · exact Or.inr (Or.inr (hmono b s hb z))
  · by_cases e : a = n
    · rw [e]; exact hq
    · have e2 : zl le a = a := by
        rw [hl a ha] at hla
        by_cases e3 : zl le a = k
        · rw [if_pos e3] at hla; exact absurd hla.symm e
        · rw [if_neg e3] at hla; exact hla
      rw [hfr a e] at hs
      exact hqm a ha (c5 a s ha e2 hs)
theorem zF_join (hW : zW le si fr) {q q' : List Nat} {n k : Nat} (hn : n < 28) (hk : k < 28) (hln : zl le n = n) (hlk : zl le k = k) (hnk : n ≠ k) (hq : q'.length ≤ q.length + 1) :
    zF (zj le n k 28) (upd si n (si n ||| si k)) q' ≤ zF le si q := by
  have hl : ∀ j, j < 28 → zl (zj le n k 28) j = if zl le j = k then n else zl le j := fun j hj => zj_l hW hn hk hj
  have h1 : zs (fun j => 8 - zc (upd si n (si n ||| si k) j)) 28 ≤ zs (fun j => 8 - zc (si j)) 28 := by
    refine zs_le fun j _ => ?_
    have := zc_le (x := si j) (y := upd si n (si n ||| si k) j) (fun s _ hs => zu_or.mpr (Or.inl hs))
    show 8 - zc (upd si n (si n ||| si k) j) ≤ 8 - zc (si j)
    omega
  have h2 : zs (fun j => if zl (zj le n k 28) j = j then 1 else 0) 28 < zs (fun j => if zl le j = j then 1 else 0) 28 := by
    refine zs_lt (a := k) ?_ (fun j hj => ?_) hk
    · show (if zl (zj le n k 28) k = k then 1 else 0) < (if zl le k = k then 1 else 0)
      rw [hl k hk, if_pos hlk, if_neg hnk, if_pos hlk]; omega
    · show (if zl (zj le n k 28) j = j then 1 else 0) ≤ (if zl le j = j then 1 else 0)
      rw [hl j hj]
      by_cases e : zl le j = k
      · rw [if_pos e]
        by_cases e2 : n = j
        · subst e2; rw [hln] at e; exact absurd e hnk
        · rw [if_neg e2]; omega
      · rw [if_neg e]; exact Nat.le_refl _
  unfold zF
  omega
/-- at rest: the least solution -/
theorem zp_end (hB : zB A K T) (hW : zW le si fr) (hS : zS (zSol A K T) le si go) (hC : zC A K T zn4 zn3 le si fr go qd) (hq : ∀ j, j < 28 → qd j = 0) :
    zSol A K T (fun j s => bt (si (zl le j)) s = true) ∧ ∀ σ, zSol A K T σ → ∀ j, j < 28 → ∀ s, bt (si (zl le j)) s = true → σ j s := by
  obtain ⟨w1, w2, w3⟩ := hW
  obtain ⟨c1, c2, c3, c4, c5⟩ := hC
  obtain ⟨b1, b2, b3⟩ := hB
  have hf : ∀ a s, a < 28 → zl le a = a → ¬ bt (fr a) s = true := by
    intro a s ha hl hs
    have := c5 a s ha hl hs
    rw [hq a ha] at this
    exact absurd this (by decide)
  have hE : ∀ a b, a < 28 → zE le go a b → ∀ t, bt (si (zl le a)) t = true → bt (si (zl le b)) t = true := by
    intro a b ha hE t ht
    obtain ⟨x1, x2, x3⟩ := w1 a ha
    rcases hE with e | ⟨c, hc, h1, h2⟩
    · rw [← e]; exact ht
    · rw [← h2]
      rcases c4 _ c t x1 hc x3 h1 ht with z | z | z
      · exact absurd z (hf _ _ x1 x3)
      · exact z.elim
      · exact z
  refine ⟨⟨c1, fun a b hK s hs => hE a b (b2 a b hK).1 (c2 a b hK) s hs, fun n s a b hT hs t ht => ?_⟩, fun σ hσ j hj s hs => ?_⟩
  · obtain ⟨hn, ha, hb⟩ := b3 n s a b hT
    rcases c3 n s a b hT hs with z | z | z
    · exact absurd z (hf _ _ (w1 n hn).1 (w1 n hn).2.2)
    · exact z.elim
    · exact hE a b ha z t ht
  · obtain ⟨s1, s2, s3⟩ := hS σ hσ
    exact (s3 j hj s).mpr (s1 _ (w1 j hj).1 s hs)
end
end
section
/-! X: enqueue, addSites, addEdge, edgesFromFields, edgesToFields -/
theorem zn_fld (i f : Nat) : (12 + (2 * nI i)) + nI f = nI (12 + 2 * i + f) := by
  rw [show (12 : Int32) = nI 12 from rfl, show (2 : Int32) = nI 2 from rfl, pk_mul, nI_add, nI_add]
theorem zq_put {h : Int32} {qd qu : Nat → Int32} {q : List Nat} {n hd : Nat} (hn : n < 28) (hm : n ∉ q) (q1 : q.Nodup) (q2 : ∀ x, x ∈ q → x < 28) (hhd : hd < 32) (eh : h = nI hd)
    (q3 : ∀ i x, q[i]? = some x → qu ((hd + i) % 32) = nI x) (q4 : ∀ j, j < 28 → qd j = if j ∈ q then 1 else 0) :
    zQ h (nI ((hd + (q ++ [n]).length) % 32)) (upd qd n 1) (upd qu ((hd + q.length) % 32) (nI n)) (q ++ [n]) := by
  have hlen := zq_len q1 q2
  refine ⟨?_, ?_, hd, hhd, eh, rfl, ?_, ?_⟩
  · rw [List.nodup_append]
    refine ⟨q1, by simp, fun a ha b hb => ?_⟩
    rw [List.mem_singleton] at hb
    rintro rfl
    rw [hb] at ha
    exact hm ha
  · intro x hx
    rw [List.mem_append, List.mem_singleton] at hx
    rcases hx with hx | rfl
    · exact q2 x hx
    · exact hn
  · intro i x hx
    rcases Nat.lt_or_ge i q.length with z | z
    · rw [List.getElem?_append_left z] at hx
      rw [pk_un (by omega)]
      exact q3 i x hx
    · rw [List.getElem?_append_right z] at hx
      have hi : i - q.length = 0 := by
        rcases Nat.eq_zero_or_pos (i - q.length) with y | y
        · exact y
        · rw [List.getElem?_eq_none (by simp; omega)] at hx
          exact absurd hx (by simp)
      rw [hi] at hx
      have e : n = x := by simpa using hx
      have e2 : i = q.length := by omega
      rw [e2, e]
      exact pk_us
  · intro j hj
    by_cases e : j = n
    · subst e
      rw [pk_us, if_pos (by simp)]
    · rw [pk_un e, q4 j hj]
      by_cases e2 : j ∈ q
      · rw [if_pos e2, if_pos (by simp [e2])]
      · rw [if_neg e2, if_neg (by simp [e2, e])]
section
variable {h t f_loads f_stores f_onceSet f_regions f_accesses f_walked f_finishedCount : Int32} {le si fr go qd qu a_loadTo a_loadFrom a_loadField a_storeTo a_storeField a_storeFrom a_regionThread a_regionLock a_regionAround a_accessPlace a_accessVar a_accessField a_accessWrites a_steps a_finished a_leftOrder a_stack a_nextSite : Nat → Int32}
theorem zx_enq {post : SX → Prop} {n : Nat} {q : List Nat} (hn : n < 28) (hQ : zQ h t qd qu q)
    (H : ∀ t' qd' qu' q', zQ h t' qd' qu' q' → q'.length ≤ q.length + 1 → qd' n = 1 → (∀ j, j < 28 → qd j = 1 → qd' j = 1) → post (h, t', f_loads, f_stores, f_onceSet, f_regions, f_accesses, f_walked, f_finishedCount, le, si, fr, go, qd', qu', a_loadTo, a_loadFrom, a_loadField, a_storeTo, a_storeField, a_storeFrom, a_regionThread, a_regionLock, a_regionAround, a_accessPlace, a_accessVar, a_accessField, a_accessWrites, a_steps, a_finished, a_leftOrder, a_stack, a_nextSite)) :
    wpX_enqueue post (h, t, f_loads, f_stores, f_onceSet, f_regions, f_accesses, f_walked, f_finishedCount, le, si, fr, go, qd, qu, a_loadTo, a_loadFrom, a_loadField, a_storeTo, a_storeField, a_storeFrom, a_regionThread, a_regionLock, a_regionAround, a_accessPlace, a_accessVar, a_accessField, a_accessWrites, a_steps, a_finished, a_leftOrder, a_stack, a_nextSite) (nI n) := by
  have hc : (nI n).toNatClampNeg = n := nI_clamp (by omega)
  have hin : vp_in (nI n) 28 := vp_in_nI hn (by decide)
  obtain ⟨q1, q2, hd, hhd, eh, et, q3, q4⟩ := hQ
  have hlen := zq_len q1 q2
  unfold wpX_enqueue
  refine And.intro hin ?_
  rw [hc]
  by_cases hm : n ∈ q
  · have e1 : qd n = 1 := by rw [q4 n hn, if_pos hm]
    refine br_f (by rw [e1]; decide) ?_
    exact H t qd qu q ⟨q1, q2, hd, hhd, eh, et, q3, q4⟩ (by omega) e1 (fun j _ hj => hj)
  · have e1 : qd n = 0 := by rw [q4 n hn, if_neg hm]
    have ht : (hd + q.length) % 32 < 32 := Nat.mod_lt _ (by decide)
    subst et
    refine br_t e1 (And.intro hin (nm_e (And.intro (vp_in_nI ht (by decide)) ?_)))
    rw [nI_clamp (by omega : (hd + q.length) % 32 < 2 ^ 31)]
    refine nm_e (nm_r (e' := nI ((hd + (q ++ [n]).length) % 32)) ?_ ?_)
    · rw [nI_1, pk_andN (by omega) 5 (by decide), List.length_append]
      exact congrArg nI (by simp only [List.length_singleton]; omega)
    · refine H _ _ _ (q ++ [n]) (zq_put hn hm q1 q2 hhd eh q3 q4) (by simp) (if_pos rfl) (fun j hj hj1 => ?_)
      show upd qd n 1 j = 1
      by_cases e : j = n
      · rw [e]; exact pk_us
      · rw [pk_un e]; exact hj1
variable {So : (Nat → Nat → Prop) → Prop} {A K : Nat → Nat → Prop} {T X : Nat → Nat → Nat → Nat → Prop} {X5 : Nat → Nat → Nat → Prop} {B : Nat}
theorem zx_add {post : SX → Prop} {n : Nat} {set : Int32} (hn : n < 28) (hI : zI So A K T X X5 B h t le si fr go qd qu) (h8 : z8 set)
    (hsnd : ∀ σ, So σ → ∀ s, bt set s = true → σ n s)
    (H : ∀ t' si' fr' qd' qu', zI So A K T X X5 B h t' le si' fr' go qd' qu' → (∀ j s, bt (si j) s = true → bt (si' j) s = true) → (∀ s, bt set s = true → bt (si' (zl le n)) s = true) →
      post (h, t', f_loads, f_stores, f_onceSet, f_regions, f_accesses, f_walked, f_finishedCount, le, si', fr', go, qd', qu', a_loadTo, a_loadFrom, a_loadField, a_storeTo, a_storeField, a_storeFrom, a_regionThread, a_regionLock, a_regionAround, a_accessPlace, a_accessVar, a_accessField, a_accessWrites, a_steps, a_finished, a_leftOrder, a_stack, a_nextSite)) :
    wpX_addSites post (h, t, f_loads, f_stores, f_onceSet, f_regions, f_accesses, f_walked, f_finishedCount, le, si, fr, go, qd, qu, a_loadTo, a_loadFrom, a_loadField, a_storeTo, a_storeField, a_storeFrom, a_regionThread, a_regionLock, a_regionAround, a_accessPlace, a_accessVar, a_accessField, a_accessWrites, a_steps, a_finished, a_leftOrder, a_stack, a_nextSite) (nI n) set := by
  have hI0 := hI
  obtain ⟨hW, hS, hC, q, hQ, hF⟩ := hI
  obtain ⟨l1, l2, l3⟩ := hW.1 n hn
  have hsnd' : ∀ σ, So σ → ∀ s, bt set s = true → σ (zl le n) s := fun σ hσ s hs => ((hS σ hσ).2.2 n hn s).mp (hsnd σ hσ s hs)
  have hin : vp_in (nI (zl le n)) 28 := vp_in_nI l1 (by decide)
  unfold wpX_addSites
  refine And.intro (vp_in_nI hn (by decide)) ?_
  rw [nI_clamp (by omega : n < 2 ^ 31)]
  refine nm_r l2 (And.intro hin ?_)
  rw [nI_clamp (by omega : zl le n < 2 ^ 31)]
  refine nm_e (br_c (fun e => ?_) (fun e => ?_))
  · refine H t si fr qd qu hI0 (fun _ _ hs => hs) (fun s hs => ?_)
    have := zb_z.mp e s
    rw [zb_an, hs] at this
    simpa using this
  · have hex : ∃ s, bt (set &&& (si (zl le n) ^^^ (-1))) s = true := by
      apply Classical.byContradiction
      intro z
      exact e (zb_z.mpr fun i => ts_nt fun y => z ⟨i, y⟩)
    obtain ⟨s0, hs0⟩ := hex
    have hs1 := hs0
    rw [zb_an, Bool.and_eq_true, Bool.not_eq_true'] at hs1
    have hm8 : z8 (set &&& (si (zl le n) ^^^ (-1))) := z8_and _ h8
    refine And.intro hin (And.intro hin (nm_e (And.intro hin (And.intro hin (nm_e ?_)))))
    refine zx_enq l1 hQ (fun t' qd' qu' q' hQ' hlen hq hmono => ?_)
    obtain ⟨p1, p2, p3⟩ := zp_add hW hS hC hm8 (fun σ hσ s hs => hsnd' σ hσ s (by rw [zb_an, Bool.and_eq_true] at hs; exact hs.1)) hq hmono
    refine H t' _ _ qd' qu' ⟨p1, p2, p3, q', hQ', Nat.le_trans (zF_add l1 hm8 hs0 hs1.2 hlen) hF⟩ (fun j s hs => zu_or.mpr (Or.inl hs)) (fun s hs => ?_)
    rw [zu_or]
    cases hb : bt (si (zl le n)) s
    · exact Or.inr ⟨rfl, by rw [zb_an, hs, hb]; rfl⟩
    · exact Or.inl rfl
theorem zx_edge {post : SX → Prop} {a b : Nat} (ha : a < 28) (hb : b < 28) (hI : zI So A K T X X5 B h t le si fr go qd qu)
    (hsnd : ∀ σ, So σ → ∀ s, σ a s → σ b s)
    (H : ∀ t' si' fr' go' qd' qu', zI So A K T X X5 B h t' le si' fr' go' qd' qu' → (∀ j s, bt (si j) s = true → bt (si' j) s = true) → (∀ j s, bt (go j) s = true → bt (go' j) s = true) →
      zE le go' a b → post (h, t', f_loads, f_stores, f_onceSet, f_regions, f_accesses, f_walked, f_finishedCount, le, si', fr', go', qd', qu', a_loadTo, a_loadFrom, a_loadField, a_storeTo, a_storeField, a_storeFrom, a_regionThread, a_regionLock, a_regionAround, a_accessPlace, a_accessVar, a_accessField, a_accessWrites, a_steps, a_finished, a_leftOrder, a_stack, a_nextSite)) :
    wpX_addEdge post (h, t, f_loads, f_stores, f_onceSet, f_regions, f_accesses, f_walked, f_finishedCount, le, si, fr, go, qd, qu, a_loadTo, a_loadFrom, a_loadField, a_storeTo, a_storeField, a_storeFrom, a_regionThread, a_regionLock, a_regionAround, a_accessPlace, a_accessVar, a_accessField, a_accessWrites, a_steps, a_finished, a_leftOrder, a_stack, a_nextSite) (nI a) (nI b) := by
  have hI0 := hI
  obtain ⟨hW, hS, hC, q, hQ, hF⟩ := hI
  obtain ⟨l1, l2, l3⟩ := hW.1 a ha
  obtain ⟨m1, m2, m3⟩ := hW.1 b hb
  have hin : vp_in (nI (zl le a)) 28 := vp_in_nI l1 (by decide)
  unfold wpX_addEdge
  refine And.intro (vp_in_nI ha (by decide)) ?_
  rw [nI_clamp (by omega : a < 2 ^ 31)]
  refine nm_r l2 (And.intro (vp_in_nI hb (by decide)) ?_)
  rw [nI_clamp (by omega : b < 2 ^ 31)]
  refine nm_r m2 (br_c (fun e => ?_) (fun e => And.intro hin ?_))
  · rw [nI_eq (by omega) (by omega)] at e
    exact H t si fr go qd qu hI0 (fun _ _ z => z) (fun _ _ z => z) (Or.inl e)
  · rw [nI_clamp (by omega : zl le a < 2 ^ 31)]
    refine br_c (fun e2 => ?_) (fun e2 => And.intro hin (And.intro hin (nm_e (And.intro hin ?_))))
    · exact H t si fr go qd qu hI0 (fun _ _ z => z) (fun _ _ z => z) (Or.inr ⟨zl le b, m1, (zb_t (by omega)).mp e2, m3⟩)
    · have hs2 : ∀ σ, So σ → ∀ s, σ (zl le a) s → σ (zl le b) s := fun σ hσ s hs => ((hS σ hσ).2.2 b hb s).mp (hsnd σ hσ s (((hS σ hσ).2.2 a ha s).mpr hs))
      obtain ⟨p1, p2⟩ := zp_edge (b := zl le b) hW hS hC m1 hs2
      have hg : ∀ j c, bt (go j) c = true → bt (upd go (zl le a) (go (zl le a) ||| ((1 : Int32) <<< (nI (zl le b) &&& 31))) j) c = true := fun j c hc => zu_or.mpr (Or.inl hc)
      refine zx_add m1 ⟨hW, p1, p2, q, hQ, hF⟩ (hW.2.1 _ l1) (fun σ hσ s hs => hs2 σ hσ s ((hS σ hσ).1 _ l1 s hs)) (fun t' si' fr' qd' qu' hI' hmo hset => ?_)
      refine H t' si' fr' _ qd' qu' (zI_wk hI' (fun n s x y _ _ z => Or.inr (Or.inl z)) (fun x y s _ _ _ _ _ z => ?_)) hmo hg (Or.inr ⟨zl le b, m1, zu_or.mpr (Or.inr ⟨rfl, by rw [zb_1 (by omega)]; exact decide_eq_true rfl⟩), m3⟩)
      rcases z with z | ⟨rfl, rfl, z⟩
      · exact Or.inr (Or.inl z)
      · exact Or.inr (Or.inr (hset s z))
theorem zx_eff {post : SX → Prop} {set : Int32} {f to : Nat} (hf : f < 2) (hto : to < 28)
    (hsnd : ∀ s, s < 8 → bt set s = true → ∀ σ, So σ → ∀ t, σ (12 + 2 * s + f) t → σ to t) :
    ∀ (d i n : Nat) (t : Int32) (si fr go qd qu : Nat → Int32), i + d = 8 → d < n → zI So A K T X X5 B h t le si fr go qd qu → (∀ s, s < i → bt set s = true → zE le go (12 + 2 * s + f) to) →
    (∀ t' si' fr' go' qd' qu', zI So A K T X X5 B h t' le si' fr' go' qd' qu' → (∀ j s, bt (si j) s = true → bt (si' j) s = true) → (∀ j s, bt (go j) s = true → bt (go' j) s = true) →
      (∀ s, s < 8 → bt set s = true → zE le go' (12 + 2 * s + f) to) → post (h, t', f_loads, f_stores, f_onceSet, f_regions, f_accesses, f_walked, f_finishedCount, le, si', fr', go', qd', qu', a_loadTo, a_loadFrom, a_loadField, a_storeTo, a_storeField, a_storeFrom, a_regionThread, a_regionLock, a_regionAround, a_accessPlace, a_accessVar, a_accessField, a_accessWrites, a_steps, a_finished, a_leftOrder, a_stack, a_nextSite)) →
    wX_edgesFromFields_3 post set (nI f) (nI to) n (nI i) h t f_loads f_stores f_onceSet f_regions f_accesses f_walked f_finishedCount le si fr go qd qu a_loadTo a_loadFrom a_loadField a_storeTo a_storeField a_storeFrom a_regionThread a_regionLock a_regionAround a_accessPlace a_accessVar a_accessField a_accessWrites a_steps a_finished a_leftOrder a_stack a_nextSite := by
  intro d
  induction d with
  | zero =>
    intro i n t si fr go qd qu hi hn hI hE H
    obtain ⟨n, rfl⟩ : ∃ m, n = m + 1 := ⟨n - 1, by omega⟩
    have e : i = 8 := by omega
    subst e
    exact br_t (nI_le (a := 8) (b := 8) (by decide) (by decide)) (H t si fr go qd qu hI (fun _ _ z => z) (fun _ _ z => z) hE)
  | succ d ih =>
    intro i n t si fr go qd qu hi hn hI hE H
    obtain ⟨n, rfl⟩ : ∃ m, n = m + 1 := ⟨n - 1, by omega⟩
    refine br_f (nI_ge (b := 8) (by omega) (by decide)) (br_c (fun hb => ?_) (fun hb => ?_))
    · have hb' := (zb_t (by omega)).mp hb
      unfold wpX_fieldNode
      rw [zn_fld]
      refine zx_edge (by omega) hto hI (hsnd i (by omega) hb') (fun t' si' fr' go' qd' qu' hI' m1 m2 hE' => ?_)
      refine nm_r (nI_1 i) ?_
      refine ih (i + 1) n t' si' fr' go' qd' qu' (by omega) (by omega) hI' (fun s hs hbs => ?_) (fun t2 si2 fr2 go2 qd2 qu2 hI2 k1 k2 hE2 => H t2 si2 fr2 go2 qd2 qu2 hI2 (fun j s z => k1 j s (m1 j s z)) (fun j s z => k2 j s (m2 j s z)) hE2)
      by_cases e : s = i
      · rw [e]; exact hE'
      · exact zE_go m2 (hE s (by omega) hbs)
    · have hb' : ¬ bt set i = true := fun z => hb ((zb_t (by omega)).mpr z)
      refine nm_r (nI_1 i) ?_
      refine ih (i + 1) n t si fr go qd qu (by omega) (by omega) hI (fun s hs hbs => ?_) H
      by_cases e : s = i
      · rw [e] at hbs; exact absurd hbs hb'
      · exact hE s (by omega) hbs
theorem zx_etf {post : SX → Prop} {set : Int32} {f to : Nat} (hf : f < 2) (hto : to < 28)
    (hsnd : ∀ s, s < 8 → bt set s = true → ∀ σ, So σ → ∀ t, σ to t → σ (12 + 2 * s + f) t) :
    ∀ (d i n : Nat) (t : Int32) (si fr go qd qu : Nat → Int32), i + d = 8 → d < n → zI So A K T X X5 B h t le si fr go qd qu → (∀ s, s < i → bt set s = true → zE le go to (12 + 2 * s + f)) →
    (∀ t' si' fr' go' qd' qu', zI So A K T X X5 B h t' le si' fr' go' qd' qu' → (∀ j s, bt (si j) s = true → bt (si' j) s = true) → (∀ j s, bt (go j) s = true → bt (go' j) s = true) →
      (∀ s, s < 8 → bt set s = true → zE le go' to (12 + 2 * s + f)) → post (h, t', f_loads, f_stores, f_onceSet, f_regions, f_accesses, f_walked, f_finishedCount, le, si', fr', go', qd', qu', a_loadTo, a_loadFrom, a_loadField, a_storeTo, a_storeField, a_storeFrom, a_regionThread, a_regionLock, a_regionAround, a_accessPlace, a_accessVar, a_accessField, a_accessWrites, a_steps, a_finished, a_leftOrder, a_stack, a_nextSite)) →
    wX_edgesToFields_3 post set (nI f) (nI to) n (nI i) h t f_loads f_stores f_onceSet f_regions f_accesses f_walked f_finishedCount le si fr go qd qu a_loadTo a_loadFrom a_loadField a_storeTo a_storeField a_storeFrom a_regionThread a_regionLock a_regionAround a_accessPlace a_accessVar a_accessField a_accessWrites a_steps a_finished a_leftOrder a_stack a_nextSite := by
  intro d
  induction d with
  | zero =>
    intro i n t si fr go qd qu hi hn hI hE H
    obtain ⟨n, rfl⟩ : ∃ m, n = m + 1 := ⟨n - 1, by omega⟩
    have e : i = 8 := by omega
    subst e
    exact br_t (nI_le (a := 8) (b := 8) (by decide) (by decide)) (H t si fr go qd qu hI (fun _ _ z => z) (fun _ _ z => z) hE)
  | succ d ih =>
    intro i n t si fr go qd qu hi hn hI hE H
    obtain ⟨n, rfl⟩ : ∃ m, n = m + 1 := ⟨n - 1, by omega⟩
    refine br_f (nI_ge (b := 8) (by omega) (by decide)) (br_c (fun hb => ?_) (fun hb => ?_))
    · have hb' := (zb_t (by omega)).mp hb
      unfold wpX_fieldNode
      rw [zn_fld]
      refine zx_edge hto (by omega) hI (hsnd i (by omega) hb') (fun t' si' fr' go' qd' qu' hI' m1 m2 hE' => ?_)
      refine nm_r (nI_1 i) ?_
      refine ih (i + 1) n t' si' fr' go' qd' qu' (by omega) (by omega) hI' (fun s hs hbs => ?_) (fun t2 si2 fr2 go2 qd2 qu2 hI2 k1 k2 hE2 => H t2 si2 fr2 go2 qd2 qu2 hI2 (fun j s z => k1 j s (m1 j s z)) (fun j s z => k2 j s (m2 j s z)) hE2)
      by_cases e : s = i
      · rw [e]; exact hE'
      · exact zE_go m2 (hE s (by omega) hbs)
    · have hb' : ¬ bt set i = true := fun z => hb ((zb_t (by omega)).mpr z)
      refine nm_r (nI_1 i) ?_
      refine ih (i + 1) n t si fr go qd qu (by omega) (by omega) hI (fun s hs hbs => ?_) H
      by_cases e : s = i
      · rw [e] at hbs; exact absurd hbs hb'
      · exact hE s (by omega) hbs
end
end
section
/-! X: leadersOf, reach, join, tryCircle -/
section
variable {h t f_loads f_stores f_onceSet f_regions f_accesses f_walked f_finishedCount : Int32} {le si fr go qd qu a_loadTo a_loadFrom a_loadField a_storeTo a_storeField a_storeFrom a_regionThread a_regionLock a_regionAround a_accessPlace a_accessVar a_accessField a_accessWrites a_steps a_finished a_leftOrder a_stack a_nextSite : Nat → Int32} {Q : Nat → Prop}
theorem zx_ldo {post : Int32 → Prop} {nodes : Int32} (hl : ∀ j, j < 28 → zl le j < 28 ∧ le j = nI (zl le j)) (hc : ∀ c, c < 28 → bt nodes c = true → Q (zl le c))
    (H : ∀ r, (∀ j, bt r j = true → j < 28 ∧ Q j) → post r) :
    ∀ (d i n : Nat) (x2 : Int32), i + d = 28 → d < n → (∀ j, bt x2 j = true → j < 28 ∧ Q j) → wX_leadersOf_4 post nodes h t f_loads f_stores f_onceSet f_regions f_accesses f_walked f_finishedCount le si fr go qd qu a_loadTo a_loadFrom a_loadField a_storeTo a_storeField a_storeFrom a_regionThread a_regionLock a_regionAround a_accessPlace a_accessVar a_accessField a_accessWrites a_steps a_finished a_leftOrder a_stack a_nextSite n x2 (nI i) := by
  intro d
  induction d with
  | zero =>
    intro i n x2 hi hn hx
    obtain ⟨n, rfl⟩ : ∃ m, n = m + 1 := ⟨n - 1, by omega⟩
    have e : i = 28 := by omega
    subst e
    exact br_t (nI_le (a := 28) (b := 28) (by decide) (by decide)) (H x2 hx)
  | succ d ih =>
    intro i n x2 hi hn hx
    obtain ⟨n, rfl⟩ : ∃ m, n = m + 1 := ⟨n - 1, by omega⟩
    refine br_f (nI_ge (b := 28) (by omega) (by decide)) (br_c (fun hb => ?_) (fun hb => ?_))
    · have hb' := (zb_t (by omega)).mp hb
      obtain ⟨l1, l2⟩ := hl i (by omega)
      refine And.intro (vp_in_nI (by omega) (by decide)) ?_
      rw [nI_clamp (by omega : i < 2 ^ 31), l2]
      refine nm_e (nm_r (nI_1 i) (ih (i + 1) n _ (by omega) (by omega) (fun j hj => ?_)))
      rw [b_or, Bool.or_eq_true, zb_1 (by omega), decide_eq_true_eq] at hj
      rcases hj with hj | rfl
      · exact hx j hj
      · exact ⟨l1, hc i (by omega) hb'⟩
    · exact nm_r (nI_1 i) (ih (i + 1) n x2 (by omega) (by omega) hx)
theorem zx_r26 {post : Int32 → Prop} {J9 : Int32 → Int32 → Int32 → Prop} {x3 : Int32} {i4 : Nat} (hl : ∀ j, j < 28 → zl le j < 28 ∧ le j = nI (zl le j))
    (hQ : ∀ a, a < 28 → Q a → ∀ c, c < 28 → bt (go a) c = true → Q (zl le c)) (h3 : ∀ j, bt x3 j = true → j < 28 ∧ Q j)
    (H : ∀ r, (∀ j, bt r j = true → j < 28 ∧ Q j) → J9 r x3 (nI (i4 + 1))) :
    ∀ (d i n : Nat) (x2 : Int32), i + d = 28 → d < n → (∀ j, bt x2 j = true → j < 28 ∧ Q j) → wX_reach_26 post J9 x3 (nI i4) h t f_loads f_stores f_onceSet f_regions f_accesses f_walked f_finishedCount le si fr go qd qu a_loadTo a_loadFrom a_loadField a_storeTo a_storeField a_storeFrom a_regionThread a_regionLock a_regionAround a_accessPlace a_accessVar a_accessField a_accessWrites a_steps a_finished a_leftOrder a_stack a_nextSite n x2 (nI i) := by
  intro d
  induction d with
  | zero =>
    intro i n x2 hi hn hx
    obtain ⟨n, rfl⟩ : ∃ m, n = m + 1 := ⟨n - 1, by omega⟩
    have e : i = 28 := by omega
    subst e
    exact br_t (nI_le (a := 28) (b := 28) (by decide) (by decide)) (nm_r (nI_1 i4) (H x2 hx))
  | succ d ih =>
    intro i n x2 hi hn hx
    obtain ⟨n, rfl⟩ : ∃ m, n = m + 1 := ⟨n - 1, by omega⟩
    refine br_f (nI_ge (b := 28) (by omega) (by decide)) (br_c (fun hb => ?_) (fun hb => ?_))
    · have hb' := (zb_t (by omega)).mp hb
      refine And.intro (vp_in_nI (by omega) (by decide)) ?_
      rw [nI_clamp (by omega : i < 2 ^ 31)]
      unfold wpX_leadersOf
      refine ⟨29, zx_ldo (Q := Q) hl (fun c hc hg => hQ i (by omega) (h3 i hb').2 c hc hg) (fun r hr => ?_) 28 0 29 0 (by omega) (by omega) (fun j hj => by rw [b_0] at hj; exact absurd hj (by decide))⟩
      refine nm_e (nm_r (nI_1 i) (ih (i + 1) n _ (by omega) (by omega) (fun j hj => ?_)))
      rw [b_or, Bool.or_eq_true] at hj
      rcases hj with hj | hj
      · exact hx j hj
      · exact hr j hj
    · exact nm_r (nI_1 i) (ih (i + 1) n x2 (by omega) (by omega) hx)
theorem zx_r9 {post : Int32 → Prop} (hl : ∀ j, j < 28 → zl le j < 28 ∧ le j = nI (zl le j))
    (hQ : ∀ a, a < 28 → Q a → ∀ c, c < 28 → bt (go a) c = true → Q (zl le c)) (H : ∀ r, (∀ j, bt r j = true → j < 28 ∧ Q j) → post r) :
    ∀ (d i n : Nat) (x2 x3 : Int32), i + d = 28 → d < n → (∀ j, bt x2 j = true → j < 28 ∧ Q j) → wX_reach_9 post h t f_loads f_stores f_onceSet f_regions f_accesses f_walked f_finishedCount le si fr go qd qu a_loadTo a_loadFrom a_loadField a_storeTo a_storeField a_storeFrom a_regionThread a_regionLock a_regionAround a_accessPlace a_accessVar a_accessField a_accessWrites a_steps a_finished a_leftOrder a_stack a_nextSite n x2 x3 (nI i) := by
  intro d
  induction d with
  | zero =>
    intro i n x2 x3 hi hn hx
    obtain ⟨n, rfl⟩ : ∃ m, n = m + 1 := ⟨n - 1, by omega⟩
    have e : i = 28 := by omega
    subst e
    exact br_t (nI_le (a := 28) (b := 28) (by decide) (by decide)) (H x2 hx)
  | succ d ih =>
    intro i n x2 x3 hi hn hx
    obtain ⟨n, rfl⟩ : ∃ m, n = m + 1 := ⟨n - 1, by omega⟩
    refine br_f (nI_ge (b := 28) (by omega) (by decide)) (br_c (fun _ => H x2 hx) (fun _ => ?_))
    exact ⟨29, zx_r26 hl hQ hx (fun r hr => ih (i + 1) n r x2 (by omega) (by omega) hr) 28 0 29 x2 (by omega) (by omega) hx⟩
theorem zx_reach {post : Int32 → Prop} {m : Nat} (hm : m < 28) (hl : ∀ j, j < 28 → zl le j < 28 ∧ le j = nI (zl le j)) (hQ0 : Q m)
    (hQ : ∀ a, a < 28 → Q a → ∀ c, c < 28 → bt (go a) c = true → Q (zl le c)) (H : ∀ r, (∀ j, bt r j = true → j < 28 ∧ Q j) → post r) :
    wpX_reach post (h, t, f_loads, f_stores, f_onceSet, f_regions, f_accesses, f_walked, f_finishedCount, le, si, fr, go, qd, qu, a_loadTo, a_loadFrom, a_loadField, a_storeTo, a_storeField, a_storeFrom, a_regionThread, a_regionLock, a_regionAround, a_accessPlace, a_accessVar, a_accessField, a_accessWrites, a_steps, a_finished, a_leftOrder, a_stack, a_nextSite) (nI m) := by
  unfold wpX_reach
  refine nm_e ⟨29, zx_r9 hl hQ H 28 0 29 _ 0 (by omega) (by omega) (fun j hj => ?_)⟩
  rw [zb_1 (by omega), decide_eq_true_eq] at hj
  subst hj
  exact ⟨hm, hQ0⟩
end
section
variable {h t f_loads f_stores f_onceSet f_regions f_accesses f_walked f_finishedCount : Int32} {le si fr go qd qu a_loadTo a_loadFrom a_loadField a_storeTo a_storeField a_storeFrom a_regionThread a_regionLock a_regionAround a_accessPlace a_accessVar a_accessField a_accessWrites a_steps a_finished a_leftOrder a_stack a_nextSite : Nat → Int32} {So : (Nat → Nat → Prop) → Prop} {A K : Nat → Nat → Prop} {T X : Nat → Nat → Nat → Nat → Prop} {X5 : Nat → Nat → Nat → Prop} {B : Nat}
theorem zx_j2 {post : SX → Prop} {n k : Nat} (hn : n < 28) (hk : k < 28) {q : List Nat} (hQ : zQ h t qd qu q)
    (H : ∀ t' qd' qu' q', zQ h t' qd' qu' q' → q'.length ≤ q.length + 1 → qd' n = 1 → (∀ j, j < 28 → qd j = 1 → qd' j = 1) →
      post (h, t', f_loads, f_stores, f_onceSet, f_regions, f_accesses, f_walked, f_finishedCount, zj le n k 28, upd si n (si n ||| si k), upd fr n (upd si n (si n ||| si k) n), upd go n (go n ||| go k), qd', qu', a_loadTo, a_loadFrom, a_loadField, a_storeTo, a_storeField, a_storeFrom, a_regionThread, a_regionLock, a_regionAround, a_accessPlace, a_accessVar, a_accessField, a_accessWrites, a_steps, a_finished, a_leftOrder, a_stack, a_nextSite)) :
    ∀ (d i m : Nat), i + d = 28 → d < m → wX_join_2 post (nI n) (nI k) h t f_loads f_stores f_onceSet f_regions f_accesses f_walked f_finishedCount m (nI i) (zj le n k i) si fr go qd qu a_loadTo a_loadFrom a_loadField a_storeTo a_storeField a_storeFrom a_regionThread a_regionLock a_regionAround a_accessPlace a_accessVar a_accessField a_accessWrites a_steps a_finished a_leftOrder a_stack a_nextSite := by
  have hcn : (nI n).toNatClampNeg = n := nI_clamp (by omega)
  have hck : (nI k).toNatClampNeg = k := nI_clamp (by omega)
  have hin : vp_in (nI n) 28 := vp_in_nI hn (by decide)
  have hik : vp_in (nI k) 28 := vp_in_nI hk (by decide)
  intro d
  induction d with
  | zero =>
    intro i m hi hm
    obtain ⟨m, rfl⟩ : ∃ p, m = p + 1 := ⟨m - 1, by omega⟩
    have e : i = 28 := by omega
    subst e
    refine br_t (nI_le (a := 28) (b := 28) (by decide) (by decide)) ?_
    rw [hcn, hck]
    refine And.intro hin (And.intro hik (And.intro hin (nm_e ?_)))
    refine And.intro hin (And.intro hik (And.intro hin (nm_e ?_)))
    refine And.intro hin (And.intro hin (nm_e ?_))
    exact zx_enq hn hQ H
  | succ d ih =>
    intro i m hi hm
    obtain ⟨m, rfl⟩ : ∃ p, m = p + 1 := ⟨m - 1, by omega⟩
    have hc : (nI i).toNatClampNeg = i := nI_clamp (by omega)
    have hii : vp_in (nI i) 28 := vp_in_nI (by omega) (by decide)
    refine br_f (nI_ge (b := 28) (by omega) (by decide)) (And.intro hii ?_)
    rw [hc, zj_i]
    refine br_c (fun e => And.intro hii ?_) (fun e => ?_)
    · rw [zj_y e]
      exact nm_e (nm_r (nI_1 i) (ih (i + 1) m (by omega) (by omega)))
    · rw [zj_n e]
      exact nm_r (nI_1 i) (ih (i + 1) m (by omega) (by omega))
theorem zx_join {post : SX → Prop} (hB : zB A K T) {n k : Nat} (hn : n < 28) (hk : k < 28) (hI : zI So A K T X X5 B h t le si fr go qd qu)
    (hln : zl le n = n) (hlk : zl le k = k) (hnk : n ≠ k) (heq : ∀ σ, So σ → ∀ s, σ n s ↔ σ k s)
    (H : ∀ t' le' si' fr' go' qd' qu', zI So A K T X X5 B h t' le' si' fr' go' qd' qu' → zl le' n = n → post (h, t', f_loads, f_stores, f_onceSet, f_regions, f_accesses, f_walked, f_finishedCount, le', si', fr', go', qd', qu', a_loadTo, a_loadFrom, a_loadField, a_storeTo, a_storeField, a_storeFrom, a_regionThread, a_regionLock, a_regionAround, a_accessPlace, a_accessVar, a_accessField, a_accessWrites, a_steps, a_finished, a_leftOrder, a_stack, a_nextSite)) :
    wpX_join post (h, t, f_loads, f_stores, f_onceSet, f_regions, f_accesses, f_walked, f_finishedCount, le, si, fr, go, qd, qu, a_loadTo, a_loadFrom, a_loadField, a_storeTo, a_storeField, a_storeFrom, a_regionThread, a_regionLock, a_regionAround, a_accessPlace, a_accessVar, a_accessField, a_accessWrites, a_steps, a_finished, a_leftOrder, a_stack, a_nextSite) (nI n) (nI k) := by
  obtain ⟨hW, hS, hC, q, hQ, hF⟩ := hI
  unfold wpX_join
  refine ⟨29, ?_⟩
  have key : wX_join_2 post (nI n) (nI k) h t f_loads f_stores f_onceSet f_regions f_accesses f_walked f_finishedCount 29 (nI 0) (zj le n k 0) si fr go qd qu a_loadTo a_loadFrom a_loadField a_storeTo a_storeField a_storeFrom a_regionThread a_regionLock a_regionAround a_accessPlace a_accessVar a_accessField a_accessWrites a_steps a_finished a_leftOrder a_stack a_nextSite := by
    refine zx_j2 hn hk hQ (fun t' qd' qu' q' hQ' hlen hq hmono => ?_) 28 0 29 (by omega) (by omega)
    obtain ⟨p1, p2, p3⟩ := zp_join hB hW hS hC hn hk hln hlk hnk heq hq hmono
    exact H _ _ _ _ _ _ _ ⟨p1, p2, p3, q', hQ', Nat.le_trans (zF_join hW hn hk hln hlk hnk hlen) hF⟩ (by rw [zj_l hW hn hk hn, hln, if_neg hnk])
  rw [zj_0] at key
  exact key
theorem zx_t34 {post : SX → Prop} (hB : zB A K T) {n : Nat} {ahead : Int32} (hn : n < 28) (hah : ∀ j, bt ahead j = true → j < 28 ∧ ∀ σ, So σ → ∀ s, σ n s → σ j s)
    (H : ∀ t' le' si' fr' go' qd' qu', zI So A K T X X5 B h t' le' si' fr' go' qd' qu' → zl le' n = n → post (h, t', f_loads, f_stores, f_onceSet, f_regions, f_accesses, f_walked, f_finishedCount, le', si', fr', go', qd', qu', a_loadTo, a_loadFrom, a_loadField, a_storeTo, a_storeField, a_storeFrom, a_regionThread, a_regionLock, a_regionAround, a_accessPlace, a_accessVar, a_accessField, a_accessWrites, a_steps, a_finished, a_leftOrder, a_stack, a_nextSite)) :
    ∀ (d i m : Nat) (t : Int32) (le si fr go qd qu : Nat → Int32), i + d = 28 → d < m → zI So A K T X X5 B h t le si fr go qd qu → zl le n = n →
    wX_tryCircle_34 post (nI n) ahead m (nI i) h t f_loads f_stores f_onceSet f_regions f_accesses f_walked f_finishedCount le si fr go qd qu a_loadTo a_loadFrom a_loadField a_storeTo a_storeField a_storeFrom a_regionThread a_regionLock a_regionAround a_accessPlace a_accessVar a_accessField a_accessWrites a_steps a_finished a_leftOrder a_stack a_nextSite := by
  intro d
  induction d with
  | zero =>
    intro i m t le si fr go qd qu hi hm hI hln
    obtain ⟨m, rfl⟩ : ∃ p, m = p + 1 := ⟨m - 1, by omega⟩
    have e : i = 28 := by omega
    subst e
    exact br_t (nI_le (a := 28) (b := 28) (by decide) (by decide)) (H t le si fr go qd qu hI hln)
  | succ d ih =>
    intro i m t le si fr go qd qu hi hm hI hln
    obtain ⟨m, rfl⟩ : ∃ p, m = p + 1 := ⟨m - 1, by omega⟩
    have hc : (nI i).toNatClampNeg = i := nI_clamp (by omega)
    have hii : vp_in (nI i) 28 := vp_in_nI (by omega) (by decide)
    have hgo : wX_tryCircle_34 post (nI n) ahead m (nI (i + 1)) h t f_loads f_stores f_onceSet f_regions f_accesses f_walked f_finishedCount le si fr go qd qu a_loadTo a_loadFrom a_loadField a_storeTo a_storeField a_storeFrom a_regionThread a_regionLock a_regionAround a_accessPlace a_accessVar a_accessField a_accessWrites a_steps a_finished a_leftOrder a_stack a_nextSite := ih (i + 1) m t le si fr go qd qu (by omega) (by omega) hI hln
    refine br_f (nI_ge (b := 28) (by omega) (by decide)) (br_c (fun _ => nm_r (nI_1 i) hgo) (fun e => And.intro hii ?_))
    rw [nI_eq (by omega) (by omega)] at e
    rw [hc]
    refine br_c (fun e2 => br_c (fun e3 => ?_) (fun _ => nm_r (nI_1 i) hgo)) (fun _ => nm_r (nI_1 i) hgo)
    have e3' := (zb_t (by omega)).mp e3
    have hW := hI.1
    have hS := hI.2.1
    have hlk : zl le i = i := by unfold zl; rw [e2, hc]
    refine zx_reach (Q := fun j => ∀ σ, So σ → ∀ s, σ i s → σ j s) (by omega) (fun j hj => ⟨(hW.1 j hj).1, (hW.1 j hj).2.1⟩) (fun _ _ _ z => z)
      (fun a ha hQa c hc' hg σ hσ s hs => ((hS σ hσ).2.2 c hc' s).mp ((hS σ hσ).2.1 a c ha hc' hg s (hQa σ hσ s hs))) (fun r hr => ?_)
    refine br_c (fun e4 => ?_) (fun _ => nm_r (nI_1 i) hgo)
    have e4' := (zb_t (by omega)).mp e4
    refine zx_join hB hn (by omega) hI hln hlk (fun z => e z.symm) (fun σ hσ s => ⟨fun z => (hah i e3').2 σ hσ s z, fun z => (hr n e4').2 σ hσ s z⟩) (fun t' le' si' fr' go' qd' qu' hI' hln' => ?_)
    exact nm_r (nI_1 i) (ih (i + 1) m t' le' si' fr' go' qd' qu' (by omega) (by omega) hI' hln')
theorem zx_tc {post : SX → Prop} (hB : zB A K T) {n m : Nat} (hn : n < 28) (hm : m < 28) (hI : zI So A K T X X5 B h t le si fr go qd qu) (hln : zl le n = n)
    (hnm : ∀ σ, So σ → ∀ s, σ n s → σ m s)
    (H : ∀ t' le' si' fr' go' qd' qu', zI So A K T X X5 B h t' le' si' fr' go' qd' qu' → zl le' n = n → post (h, t', f_loads, f_stores, f_onceSet, f_regions, f_accesses, f_walked, f_finishedCount, le', si', fr', go', qd', qu', a_loadTo, a_loadFrom, a_loadField, a_storeTo, a_storeField, a_storeFrom, a_regionThread, a_regionLock, a_regionAround, a_accessPlace, a_accessVar, a_accessField, a_accessWrites, a_steps, a_finished, a_leftOrder, a_stack, a_nextSite)) :
    wpX_tryCircle post (h, t, f_loads, f_stores, f_onceSet, f_regions, f_accesses, f_walked, f_finishedCount, le, si, fr, go, qd, qu, a_loadTo, a_loadFrom, a_loadField, a_storeTo, a_storeField, a_storeFrom, a_regionThread, a_regionLock, a_regionAround, a_accessPlace, a_accessVar, a_accessField, a_accessWrites, a_steps, a_finished, a_leftOrder, a_stack, a_nextSite) (nI n) (nI m) := by
  have hc : (nI n).toNatClampNeg = n := nI_clamp (by omega)
  have hW := hI.1
  have hS := hI.2.1
  have hH := H t le si fr go qd qu hI hln
  unfold wpX_tryCircle
  refine br_c (fun _ => hH) (fun _ => And.intro (vp_in_nI hn (by decide)) ?_)
  rw [hc]
  refine br_c (fun _ => ?_) (fun _ => hH)
  refine zx_reach (Q := fun j => ∀ σ, So σ → ∀ s, σ n s → σ j s) hm (fun j hj => ⟨(hW.1 j hj).1, (hW.1 j hj).2.1⟩) hnm
    (fun a ha hQa c hc' hg σ hσ s hs => ((hS σ hσ).2.2 c hc' s).mp ((hS σ hσ).2.1 a c ha hc' hg s (hQa σ hσ s hs))) (fun r hr => ?_)
  exact br_c (fun _ => hH) (fun _ => ⟨29, zx_t34 hB hn hr H 28 0 29 t le si fr go qd qu (by omega) (by omega) hI hln⟩)
end
end
section
/-! X: pass, solve -/
def zTL (lv lw lf : Nat → Int32) (i n s a b : Nat) : Prop := n = zl lw i ∧ s < 8 ∧ a = 12 + 2 * s + zl lf i ∧ b = zl lv i
def zTS (sv sw sf : Nat → Int32) (i n s a b : Nat) : Prop := n = zl sv i ∧ s < 8 ∧ a = zl sw i ∧ b = 12 + 2 * s + zl sf i
def zT (nl : Nat) (lv lw lf : Nat → Int32) (ns : Nat) (sv sw sf : Nat → Int32) (n s a b : Nat) : Prop :=
  (∃ i, i < nl ∧ zTL lv lw lf i n s a b) ∨ (∃ i, i < ns ∧ zTS sv sw sf i n s a b)
/-- entries below m stand for numbers below N -/
def zV (a : Nat → Int32) (m N : Nat) : Prop := ∀ i, i < m → zl a i < N ∧ a i = nI (zl a i)
section
variable {f_onceSet f_regions f_accesses f_walked f_finishedCount h t : Int32} {le si fr go qd qu lv lw lf sv sw sf a_regionThread a_regionLock a_regionAround a_accessPlace a_accessVar a_accessField a_accessWrites a_steps a_finished a_leftOrder a_stack a_nextSite : Nat → Int32} {nl ns : Nat}
variable {So : (Nat → Nat → Prop) → Prop} {A K : Nat → Nat → Prop} {T X : Nat → Nat → Nat → Nat → Prop} {X5 : Nat → Nat → Nat → Prop} {B : Nat}
theorem zx_p120 {post : SX → Prop} (hB : zB A K T) {n : Nat} {set tg : Int32} (hn : n < 28) (h8 : z8 set)
    (hsnd : ∀ σ, So σ → ∀ s, bt set s = true → σ n s) (htg : ∀ b, b < 28 → bt tg b = true → ∀ σ, So σ → ∀ s, σ n s → σ b s)
    (H : ∀ t' le' si' fr' go' qd' qu', zI So A K T zn4 zn3 B h t' le' si' fr' go' qd' qu' → post (h, t', nI nl, nI ns, f_onceSet, f_regions, f_accesses, f_walked, f_finishedCount, le', si', fr', go', qd', qu', lv, lw, lf, sv, sf, sw, a_regionThread, a_regionLock, a_regionAround, a_accessPlace, a_accessVar, a_accessField, a_accessWrites, a_steps, a_finished, a_leftOrder, a_stack, a_nextSite)) :
    ∀ (d i m : Nat) (t : Int32) (le si fr go qd qu : Nat → Int32), i + d = 28 → d < m →
    zI So A K T zn4 (fun a b s => a = n ∧ bt set s = true ∧ i ≤ b ∧ bt tg b = true) B h t le si fr go qd qu → zl le n = n →
    wX_pass_120 post (nI n) set tg m (nI i) h t (nI nl) (nI ns) f_onceSet f_regions f_accesses f_walked f_finishedCount le si fr go qd qu lv lw lf sv sf sw a_regionThread a_regionLock a_regionAround a_accessPlace a_accessVar a_accessField a_accessWrites a_steps a_finished a_leftOrder a_stack a_nextSite := by
  have hcn : (nI n).toNatClampNeg = n := nI_clamp (by omega)
  intro d
  induction d with
  | zero =>
    intro i m t le si fr go qd qu hi hm hI hln
    obtain ⟨m, rfl⟩ : ∃ p, m = p + 1 := ⟨m - 1, by omega⟩
    have e : i = 28 := by omega
    subst e
    refine br_t (nI_le (a := 28) (b := 28) (by decide) (by decide)) (H t le si fr go qd qu ?_)
    exact zI_wk hI (fun _ _ _ _ _ _ z => z.elim) (fun a b s _ hb _ _ _ z => absurd z.2.2.1 (by omega))
  | succ d ih =>
    intro i m t le si fr go qd qu hi hm hI hln
    obtain ⟨m, rfl⟩ : ∃ p, m = p + 1 := ⟨m - 1, by omega⟩
    have hc : (nI i).toNatClampNeg = i := nI_clamp (by omega)
    have hii : vp_in (nI i) 28 := vp_in_nI (by omega) (by decide)
    obtain ⟨l1, l2, l3⟩ := hI.1.1 i (by omega)
    refine br_f (nI_ge (b := 28) (by omega) (by decide)) (br_c (fun hb => And.intro hii ?_) (fun hb => ?_))
    · have hb' := (zb_t (by omega)).mp hb
      rw [hc]
      refine And.intro (by rw [l2]; exact vp_in_nI l1 (by decide)) (nm_e ?_)
      refine zx_add (by omega) hI h8 (fun σ hσ s hs => htg i (by omega) hb' σ hσ s (hsnd σ hσ s hs)) (fun t' si' fr' qd' qu' hI' hmo hset => ?_)
      have hI2 : zI So A K T zn4 (fun a b s => a = n ∧ bt set s = true ∧ i + 1 ≤ b ∧ bt tg b = true) B h t' le si' fr' go qd' qu' := by
        refine zI_wk hI' (fun _ _ _ _ _ _ z => z.elim) (fun a b s _ hb _ _ _ z => ?_)
        obtain ⟨z1, z2, z3, z4⟩ := z
        by_cases e : b = i
        · rw [e]; exact Or.inr (Or.inr (hset s z2))
        · exact Or.inr (Or.inl ⟨z1, z2, by omega, z4⟩)
      refine And.intro (vp_in_nI hn (by decide)) (br_c (fun _ => And.intro hii ?_) (fun _ => nm_r (nI_1 i) (ih (i + 1) m t' le si' fr' go qd' qu' (by omega) (by omega) hI2 hln)))
      show wpX_tryCircle _ _ _ (le i)
      rw [l2]
      refine zx_tc hB hn l1 hI2 hln (fun σ hσ s hs => ((hI.2.1 σ hσ).2.2 i (by omega) s).mp (htg i (by omega) hb' σ hσ s hs)) (fun t2 le2 si2 fr2 go2 qd2 qu2 hI3 hln2 => ?_)
      exact nm_r (nI_1 i) (ih (i + 1) m t2 le2 si2 fr2 go2 qd2 qu2 (by omega) (by omega) hI3 hln2)
    · have hb' : ¬ bt tg i = true := fun z => hb ((zb_t (by omega)).mpr z)
      refine nm_r (nI_1 i) (ih (i + 1) m t le si fr go qd qu (by omega) (by omega) ?_ hln)
      refine zI_wk hI (fun _ _ _ _ _ _ z => z.elim) (fun a b s _ _ _ _ _ z => ?_)
      obtain ⟨z1, z2, z3, z4⟩ := z
      by_cases e : b = i
      · rw [e] at z4; exact absurd z4 hb'
      · exact Or.inr (Or.inl ⟨z1, z2, by omega, z4⟩)
theorem zx_p64 {post : SX → Prop} (hTs : ∀ σ, So σ → ∀ n s a b, zT nl lv lw lf ns sv sw sf n s a b → σ n s → ∀ t, σ a t → σ b t) (hB : zB A K (zT nl lv lw lf ns sv sw sf)) {n : Nat} {set : Int32} (hn : n < 28) (h8 : z8 set) (hns : ns ≤ 20)
    (v1 : zV sv ns 12) (v2 : zV sw ns 12) (v3 : zV sf ns 2)
    (hsnd : ∀ σ, So σ → ∀ s, bt set s = true → σ n s) (hln : zl le n = n)
    (H : ∀ t' le' si' fr' go' qd' qu', zI So A K (zT nl lv lw lf ns sv sw sf) zn4 zn3 B h t' le' si' fr' go' qd' qu' → post (h, t', nI nl, nI ns, f_onceSet, f_regions, f_accesses, f_walked, f_finishedCount, le', si', fr', go', qd', qu', lv, lw, lf, sv, sf, sw, a_regionThread, a_regionLock, a_regionAround, a_accessPlace, a_accessVar, a_accessField, a_accessWrites, a_steps, a_finished, a_leftOrder, a_stack, a_nextSite)) :
    ∀ (d i m : Nat) (t : Int32) (si fr go qd qu : Nat → Int32), i + d = ns → d < m →
    zI So A K (zT nl lv lw lf ns sv sw sf) (fun n' s a b => zl le n' = n ∧ bt set s = true ∧ ∃ j, i ≤ j ∧ j < ns ∧ zTS sv sw sf j n' s a b) (fun a _ s => a = n ∧ bt set s = true) B h t le si fr go qd qu →
    wX_pass_64 post (nI n) set m (nI i) h t (nI nl) (nI ns) f_onceSet f_regions f_accesses f_walked f_finishedCount le si fr go qd qu lv lw lf sv sf sw a_regionThread a_regionLock a_regionAround a_accessPlace a_accessVar a_accessField a_accessWrites a_steps a_finished a_leftOrder a_stack a_nextSite := by
  have hcn : (nI n).toNatClampNeg = n := nI_clamp (by omega)
  intro d
  induction d with
  | zero =>
    intro i m t si fr go qd qu hi hm hI
    obtain ⟨m, rfl⟩ : ∃ p, m = p + 1 := ⟨m - 1, by omega⟩
    have e : i = ns := by omega
    subst e
    refine br_t (nI_le (Nat.le_refl i) (by omega)) (And.intro (vp_in_nI hn (by decide)) ?_)
    rw [hcn]
    refine nm_e ⟨29, zx_p120 hB hn h8 hsnd (fun b hb hg σ hσ s hs => (hI.2.1 σ hσ).2.1 n b hn hb hg s hs) H 28 0 29 t le si fr go qd qu (by omega) (by omega) ?_ hln⟩
    refine zI_wk hI (fun n' s a b _ _ z => ?_) (fun a b s _ _ _ hg _ z => ?_)
    · obtain ⟨_, _, j, z1, z2, _⟩ := z
      omega
    · obtain ⟨rfl, z2⟩ := z
      exact Or.inr (Or.inl ⟨rfl, z2, by omega, hg⟩)
  | succ d ih =>
    intro i m t si fr go qd qu hi hm hI
    obtain ⟨m, rfl⟩ : ∃ p, m = p + 1 := ⟨m - 1, by omega⟩
    have hc : (nI i).toNatClampNeg = i := nI_clamp (by omega)
    have hii : vp_in (nI i) 20 := vp_in_nI (by omega) (by decide)
    obtain ⟨a1, a2⟩ := v1 i (by omega)
    obtain ⟨b1, b2⟩ := v2 i (by omega)
    obtain ⟨c1, c2⟩ := v3 i (by omega)
    obtain ⟨l1, l2, l3⟩ := hI.1.1 (zl sv i) (by omega)
    refine br_f (nI_ge (by omega) (by omega)) (And.intro hii ?_)
    rw [hc]
    refine And.intro (by rw [a2]; exact vp_in_nI (by omega) (by decide)) (br_c (fun e => ?_) (fun e => ?_))
    · have e' : zl le (zl sv i) = n := by
        have e1 : le (zl sv i) = nI n := e
        unfold zl at e1 ⊢
        rw [e1, hcn]
      refine And.intro hii (And.intro hii ?_)
      rw [b2, c2]
      unfold wpX_edgesToFields
      refine ⟨9, zx_etf c1 (by omega) (fun s hs hbs σ hσ t' ht' => ?_) 8 0 9 t si fr go qd qu (by omega) (by omega) hI (fun s hs => absurd hs (by omega)) (fun t' si' fr' go' qd' qu' hI' m1 m2 hE => ?_)⟩
      · refine hTs σ hσ (zl sv i) s (zl sw i) _ (Or.inr ⟨i, by omega, rfl, hs, rfl, rfl⟩) ?_ t' ht'
        rw [(hI.2.1 σ hσ).2.2 _ (by omega), e']
        exact hsnd σ hσ s hbs
      · refine nm_r (nI_1 i) (ih (i + 1) m t' si' fr' go' qd' qu' (by omega) (by omega) ?_)
        refine zI_wk hI' (fun n' s a b _ _ z => ?_) (fun a b s _ _ _ _ _ z => Or.inr (Or.inl z))
        obtain ⟨z1, z2, j, z3, z4, z5⟩ := z
        by_cases ej : j = i
        · subst ej
          obtain ⟨y1, y2, rfl, rfl⟩ := z5
          exact Or.inr (Or.inr (hE s y2 z2))
        · exact Or.inr (Or.inl ⟨z1, z2, j, by omega, z4, z5⟩)
    · refine nm_r (nI_1 i) (ih (i + 1) m t si fr go qd qu (by omega) (by omega) ?_)
      refine zI_wk hI (fun n' s a b _ _ z => ?_) (fun a b s _ _ _ _ _ z => Or.inr (Or.inl z))
      obtain ⟨z1, z2, j, z3, z4, z5⟩ := z
      by_cases ej : j = i
      · subst ej
        obtain ⟨rfl, y2, _, _⟩ := z5
        refine absurd ?_ e
        show le (zl sv j) = nI n
        rw [l2, z1]
      · exact Or.inr (Or.inl ⟨z1, z2, j, by omega, z4, z5⟩)
theorem zx_p16 {post : SX → Prop} (hTs : ∀ σ, So σ → ∀ n s a b, zT nl lv lw lf ns sv sw sf n s a b → σ n s → ∀ t, σ a t → σ b t) (hB : zB A K (zT nl lv lw lf ns sv sw sf)) {n : Nat} {set : Int32} (hn : n < 28) (h8 : z8 set) (hnl : nl ≤ 20) (hns : ns ≤ 20)
    (u1 : zV lv nl 12) (u2 : zV lw nl 12) (u3 : zV lf nl 2) (v1 : zV sv ns 12) (v2 : zV sw ns 12) (v3 : zV sf ns 2)
    (hsnd : ∀ σ, So σ → ∀ s, bt set s = true → σ n s) (hln : zl le n = n)
    (H : ∀ t' le' si' fr' go' qd' qu', zI So A K (zT nl lv lw lf ns sv sw sf) zn4 zn3 B h t' le' si' fr' go' qd' qu' → post (h, t', nI nl, nI ns, f_onceSet, f_regions, f_accesses, f_walked, f_finishedCount, le', si', fr', go', qd', qu', lv, lw, lf, sv, sf, sw, a_regionThread, a_regionLock, a_regionAround, a_accessPlace, a_accessVar, a_accessField, a_accessWrites, a_steps, a_finished, a_leftOrder, a_stack, a_nextSite)) :
    ∀ (d i m : Nat) (t : Int32) (si fr go qd qu : Nat → Int32), i + d = nl → d < m →
    zI So A K (zT nl lv lw lf ns sv sw sf) (fun n' s a b => zl le n' = n ∧ bt set s = true ∧ ((∃ j, i ≤ j ∧ j < nl ∧ zTL lv lw lf j n' s a b) ∨ ∃ j, j < ns ∧ zTS sv sw sf j n' s a b)) (fun a _ s => a = n ∧ bt set s = true) B h t le si fr go qd qu →
    wX_pass_16 post (nI n) set m (nI i) h t (nI nl) (nI ns) f_onceSet f_regions f_accesses f_walked f_finishedCount le si fr go qd qu lv lw lf sv sf sw a_regionThread a_regionLock a_regionAround a_accessPlace a_accessVar a_accessField a_accessWrites a_steps a_finished a_leftOrder a_stack a_nextSite := by
  have hcn : (nI n).toNatClampNeg = n := nI_clamp (by omega)
  intro d
  induction d with
  | zero =>
    intro i m t si fr go qd qu hi hm hI
    obtain ⟨m, rfl⟩ : ∃ p, m = p + 1 := ⟨m - 1, by omega⟩
    have e : i = nl := by omega
    subst e
    refine br_t (nI_le (Nat.le_refl i) (by omega)) ⟨21, zx_p64 hTs hB hn h8 hns v1 v2 v3 hsnd hln H ns 0 21 t si fr go qd qu (by omega) (by omega) ?_⟩
    refine zI_wk hI (fun n' s a b _ _ z => ?_) (fun a b s _ _ _ hg _ z => Or.inr (Or.inl z))
    obtain ⟨z1, z2, ⟨j, z3, z4, _⟩ | ⟨j, z3, z4⟩⟩ := z
    · omega
    · exact Or.inr (Or.inl ⟨z1, z2, j, by omega, z3, z4⟩)
  | succ d ih =>
    intro i m t si fr go qd qu hi hm hI
    obtain ⟨m, rfl⟩ : ∃ p, m = p + 1 := ⟨m - 1, by omega⟩
    have hc : (nI i).toNatClampNeg = i := nI_clamp (by omega)
    have hii : vp_in (nI i) 20 := vp_in_nI (by omega) (by decide)
    obtain ⟨a1, a2⟩ := u2 i (by omega)
    obtain ⟨b1, b2⟩ := u1 i (by omega)
    obtain ⟨c1, c2⟩ := u3 i (by omega)
    obtain ⟨l1, l2, l3⟩ := hI.1.1 (zl lw i) (by omega)
    refine br_f (nI_ge (by omega) (by omega)) (And.intro hii ?_)
    rw [hc]
    refine And.intro (by rw [a2]; exact vp_in_nI (by omega) (by decide)) (br_c (fun e => ?_) (fun e => ?_))
    · have e' : zl le (zl lw i) = n := by
        have e1 : le (zl lw i) = nI n := e
        unfold zl at e1 ⊢
        rw [e1, hcn]
      refine And.intro hii (And.intro hii ?_)
      rw [b2, c2]
      unfold wpX_edgesFromFields
      refine ⟨9, zx_eff c1 (by omega) (fun s hs hbs σ hσ t' ht' => ?_) 8 0 9 t si fr go qd qu (by omega) (by omega) hI (fun s hs => absurd hs (by omega)) (fun t' si' fr' go' qd' qu' hI' m1 m2 hE => ?_)⟩
      · refine hTs σ hσ (zl lw i) s (12 + 2 * s + zl lf i) (zl lv i) (Or.inl ⟨i, by omega, rfl, hs, rfl, rfl⟩) ?_ t' ht'
        rw [(hI.2.1 σ hσ).2.2 _ (by omega), e']
        exact hsnd σ hσ s hbs
      · refine nm_r (nI_1 i) (ih (i + 1) m t' si' fr' go' qd' qu' (by omega) (by omega) ?_)
        refine zI_wk hI' (fun n' s a b _ _ z => ?_) (fun a b s _ _ _ _ _ z => Or.inr (Or.inl z))
        obtain ⟨z1, z2, ⟨j, z3, z4, z5⟩ | z3⟩ := z
        · by_cases ej : j = i
          · subst ej
            obtain ⟨y1, y2, rfl, rfl⟩ := z5
            exact Or.inr (Or.inr (hE s y2 z2))
          · exact Or.inr (Or.inl ⟨z1, z2, Or.inl ⟨j, by omega, z4, z5⟩⟩)
        · exact Or.inr (Or.inl ⟨z1, z2, Or.inr z3⟩)
    · refine nm_r (nI_1 i) (ih (i + 1) m t si fr go qd qu (by omega) (by omega) ?_)
      refine zI_wk hI (fun n' s a b _ _ z => ?_) (fun a b s _ _ _ _ _ z => Or.inr (Or.inl z))
      obtain ⟨z1, z2, ⟨j, z3, z4, z5⟩ | z3⟩ := z
      · by_cases ej : j = i
        · subst ej
          obtain ⟨rfl, y2, _, _⟩ := z5
          refine absurd ?_ e
          show le (zl lw j) = nI n
          rw [l2, z1]
        · exact Or.inr (Or.inl ⟨z1, z2, Or.inl ⟨j, by omega, z4, z5⟩⟩)
      · exact Or.inr (Or.inl ⟨z1, z2, Or.inr z3⟩)
theorem zx_pass {post : SX → Prop} (hTs : ∀ σ, So σ → ∀ n s a b, zT nl lv lw lf ns sv sw sf n s a b → σ n s → ∀ t, σ a t → σ b t) (hB : zB A K (zT nl lv lw lf ns sv sw sf)) {n : Nat} (hn : n < 28) (hnl : nl ≤ 20) (hns : ns ≤ 20)
    (u1 : zV lv nl 12) (u2 : zV lw nl 12) (u3 : zV lf nl 2) (v1 : zV sv ns 12) (v2 : zV sw ns 12) (v3 : zV sf ns 2)
    (hW : zW le si fr) (hS : zS So le si go) (hln : zl le n = n)
    (hI : zI So A K (zT nl lv lw lf ns sv sw sf) (fun n' s _ _ => zl le n' = n ∧ bt (fr n) s = true) (fun a _ s => a = n ∧ bt (fr n) s = true) B h t le si (upd fr n 0) go qd qu)
    (H : ∀ t' le' si' fr' go' qd' qu', zI So A K (zT nl lv lw lf ns sv sw sf) zn4 zn3 B h t' le' si' fr' go' qd' qu' → post (h, t', nI nl, nI ns, f_onceSet, f_regions, f_accesses, f_walked, f_finishedCount, le', si', fr', go', qd', qu', lv, lw, lf, sv, sf, sw, a_regionThread, a_regionLock, a_regionAround, a_accessPlace, a_accessVar, a_accessField, a_accessWrites, a_steps, a_finished, a_leftOrder, a_stack, a_nextSite)) :
    wpX_pass post (h, t, nI nl, nI ns, f_onceSet, f_regions, f_accesses, f_walked, f_finishedCount, le, si, fr, go, qd, qu, lv, lw, lf, sv, sf, sw, a_regionThread, a_regionLock, a_regionAround, a_accessPlace, a_accessVar, a_accessField, a_accessWrites, a_steps, a_finished, a_leftOrder, a_stack, a_nextSite) (nI n) := by
  have hcn : (nI n).toNatClampNeg = n := nI_clamp (by omega)
  have hin : vp_in (nI n) 28 := vp_in_nI hn (by decide)
  unfold wpX_pass
  refine And.intro hin ?_
  rw [hcn]
  refine nm_e (And.intro hin (nm_e ⟨21, ?_⟩))
  refine zx_p16 hTs hB hn (fun s hs => ?_) hnl hns u1 u2 u3 v1 v2 v3 (fun σ hσ s hs => (hS σ hσ).1 n hn s (hW.2.2 n hn s hs)) hln H nl 0 21 t si _ go qd qu (by omega) (by omega) ?_
  · cases hb : bt (fr n) s
    · rfl
    · have := hW.2.2 n hn s hb
      rw [hW.2.1 n hn s hs] at this
      exact absurd this (by decide)
  · refine zI_wk hI (fun n' s a b hT _ z => Or.inr (Or.inl ⟨z.1, z.2, ?_⟩)) (fun a b s _ _ _ _ _ z => Or.inr (Or.inl z))
    rcases hT with ⟨j, h1, h2⟩ | hT
    · exact Or.inl ⟨j, by omega, h1, h2⟩
    · exact Or.inr hT
/-- at rest -/
def zR (So : (Nat → Nat → Prop) → Prop) (A K : Nat → Nat → Prop) (T : Nat → Nat → Nat → Nat → Prop) (h t : Int32) (le si fr go qd qu : Nat → Int32) : Prop :=
  zW le si fr ∧ zS So le si go ∧ zC A K T zn4 zn3 le si fr go qd ∧ zQ h t qd qu []
theorem zR_I (hR : zR So A K T h t le si fr go qd qu) : zI So A K T zn4 zn3 300 h t le si fr go qd qu := by
  obtain ⟨r1, r2, r3, r4⟩ := hR
  refine ⟨r1, r2, r3, [], r4, ?_⟩
  have a := zs_bd (f := fun j => 8 - zc (si j)) (c := 8) (n := 28) (fun i _ => by show 8 - zc (si i) ≤ 8; omega)
  have b := zs_bd (f := fun j => if zl le j = j then 1 else 0) (c := 1) (n := 28) (fun i _ => by show (if zl le i = i then 1 else 0) ≤ 1; split <;> omega)
  unfold zF
  simp only [List.length_nil]
  omega
theorem zx_s2 {post : SX → Prop} (hTs : ∀ σ, So σ → ∀ n s a b, zT nl lv lw lf ns sv sw sf n s a b → σ n s → ∀ t, σ a t → σ b t) (hB : zB A K (zT nl lv lw lf ns sv sw sf)) (hnl : nl ≤ 20) (hns : ns ≤ 20)
    (u1 : zV lv nl 12) (u2 : zV lw nl 12) (u3 : zV lf nl 2) (v1 : zV sv ns 12) (v2 : zV sw ns 12) (v3 : zV sf ns 2)
    (H : ∀ h' t' le' si' fr' go' qd' qu', zR So A K (zT nl lv lw lf ns sv sw sf) h' t' le' si' fr' go' qd' qu' → post (h', t', nI nl, nI ns, f_onceSet, f_regions, f_accesses, f_walked, f_finishedCount, le', si', fr', go', qd', qu', lv, lw, lf, sv, sf, sw, a_regionThread, a_regionLock, a_regionAround, a_accessPlace, a_accessVar, a_accessField, a_accessWrites, a_steps, a_finished, a_leftOrder, a_stack, a_nextSite)) :
    ∀ (B i m : Nat) (h t : Int32) (le si fr go qd qu : Nat → Int32), i + B ≤ 599 → B < m → zI So A K (zT nl lv lw lf ns sv sw sf) zn4 zn3 B h t le si fr go qd qu →
    wX_solve_2 post m (nI i) h t (nI nl) (nI ns) f_onceSet f_regions f_accesses f_walked f_finishedCount le si fr go qd qu lv lw lf sv sf sw a_regionThread a_regionLock a_regionAround a_accessPlace a_accessVar a_accessField a_accessWrites a_steps a_finished a_leftOrder a_stack a_nextSite := by
  intro B
  induction B with
  | zero =>
    intro i m h t le si fr go qd qu hi hm hI
    obtain ⟨m, rfl⟩ : ∃ p, m = p + 1 := ⟨m - 1, by omega⟩
    obtain ⟨hW, hS, hC, q, hQ, hF⟩ := hI
    have hq : q = [] := by
      unfold zF at hF
      exact List.length_eq_zero_iff.mp (by omega)
    subst hq
    have e : h = t := by
      obtain ⟨_, _, hd, hhd, rfl, rfl, _, _⟩ := hQ
      exact congrArg nI (by simp only [List.length_nil]; omega)
    exact br_f (nI_ge (b := 600) (by omega) (by decide)) (br_t e (H h t le si fr go qd qu ⟨hW, hS, hC, hQ⟩))
  | succ B ih =>
    intro i m h t le si fr go qd qu hi hm hI
    obtain ⟨m, rfl⟩ : ∃ p, m = p + 1 := ⟨m - 1, by omega⟩
    obtain ⟨hW, hS, hC, q, hQ, hF⟩ := hI
    refine br_f (nI_ge (b := 600) (by omega) (by decide)) ?_
    cases q with
    | nil =>
      have e : h = t := by
        obtain ⟨_, _, hd, hhd, rfl, rfl, _, _⟩ := hQ
        exact congrArg nI (by simp only [List.length_nil]; omega)
      exact br_t e (H h t le si fr go qd qu ⟨hW, hS, hC, hQ⟩)
    | cons n q =>
      obtain ⟨q1, q2, hd, hhd, eh, et, q3, q4⟩ := hQ
      have hlen := zq_len q1 q2
      rw [List.length_cons] at hlen
      have hn : n < 28 := q2 n (by simp)
      have hcn : (nI n).toNatClampNeg = n := nI_clamp (by omega)
      have hin : vp_in (nI n) 28 := vp_in_nI hn (by decide)
      have hqn : qu hd = nI n := by
        have := q3 0 n (by simp)
        rwa [Nat.add_zero, Nat.mod_eq_of_lt hhd] at this
      obtain ⟨q5, q6⟩ := List.nodup_cons.mp q1
      have hne : ¬ h = t := by
        rw [eh, et, nI_eq (by omega) (by omega), List.length_cons]
        omega
      have hQ' : zQ (nI ((hd + 1) % 32)) t (upd qd n 0) qu q := by
        refine ⟨q6, fun x hx => q2 x (by simp [hx]), (hd + 1) % 32, Nat.mod_lt _ (by decide), rfl, ?_, fun i' x hx => ?_, fun j hj => ?_⟩
        · rw [et, List.length_cons]; exact congrArg nI (by omega)
        · have := q3 (i' + 1) x (by simpa using hx)
          rw [← this]
          exact congrArg qu (by omega)
        · by_cases e : j = n
          · rw [e, pk_us, if_neg q5]
          · rw [pk_un e, q4 j hj]
            by_cases e2 : j ∈ q
            · rw [if_pos e2, if_pos (by simp [e2])]
            · rw [if_neg e2, if_neg (by simp [e2, e])]
      have hF' : zF le si q ≤ B := by
        unfold zF at hF ⊢
        rw [List.length_cons] at hF
        omega
      have heh : (h + 1) &&& 31 = nI ((hd + 1) % 32) := by
        rw [eh, nI_1, pk_andN (by omega) 5 (by decide)]
      have hcl : h.toNatClampNeg = hd := by rw [eh]; exact nI_clamp (by omega)
      refine br_f hne (And.intro (by rw [eh]; exact vp_in_nI hhd (by decide)) ?_)
      rw [hcl]
      refine nm_r hqn (nm_r heh (And.intro hin ?_))
      rw [hcn]
      refine nm_r (e' := upd qd n 0) rfl (And.intro hin (br_c (fun e => ?_) (fun e => ?_)))
      · have hln : zl le n = n := by unfold zl; rw [e, hcn]
        refine zx_pass (B := B) hTs hB hn hnl hns u1 u2 u3 v1 v2 v3 hW hS hln ?_ (fun t' le' si' fr' go' qd' qu' hI' => nm_r (nI_1 i) (ih (i + 1) m _ t' le' si' fr' go' qd' qu' (by omega) (by omega) hI'))
        have hf : ∀ a s, a ≠ n → bt (upd fr n 0 a) s = bt (fr a) s := fun a s ha => by rw [pk_un ha]
        obtain ⟨w1, w2, w3⟩ := hW
        obtain ⟨c1, c2, c3, c4, c5⟩ := hC
        refine ⟨⟨w1, w2, fun j hj s hs => ?_⟩, hS, ⟨c1, c2, fun n' s a b hT hs => ?_, fun a b s ha hb hl hg hs => ?_, fun a s ha hl hs => ?_⟩, q, hQ', hF'⟩
        · by_cases ej : j = n
          · rw [ej, pk_us, b_0] at hs; exact absurd hs (by decide)
          · rw [hf j s ej] at hs; exact w3 j hj s hs
        · rcases c3 n' s a b hT hs with z | z | z
          · by_cases ej : zl le n' = n
            · rw [ej] at z; exact Or.inr (Or.inl ⟨ej, z⟩)
            · rw [hf _ s ej]; exact Or.inl z
          · exact z.elim
          · exact Or.inr (Or.inr z)
        · rcases c4 a b s ha hb hl hg hs with z | z | z
          · by_cases ej : a = n
            · rw [ej] at z; exact Or.inr (Or.inl ⟨ej, z⟩)
            · rw [hf _ s ej]; exact Or.inl z
          · exact z.elim
          · exact Or.inr (Or.inr z)
        · by_cases ej : a = n
          · rw [ej, pk_us, b_0] at hs; exact absurd hs (by decide)
          · rw [hf a s ej] at hs
            rw [pk_un ej]; exact c5 a s ha hl hs
      · refine nm_r (nI_1 i) (ih (i + 1) m _ t le si fr go _ qu (by omega) (by omega) ⟨hW, hS, ?_, q, hQ', hF'⟩)
        obtain ⟨c1, c2, c3, c4, c5⟩ := hC
        refine ⟨c1, c2, c3, c4, fun a s ha hl hs => ?_⟩
        have ej : a ≠ n := by
          rintro rfl
          refine e ?_
          rw [(hW.1 a ha).2.1, hl]
        rw [pk_un ej]; exact c5 a s ha hl hs
theorem zx_solve {post : SX → Prop} (hTs : ∀ σ, So σ → ∀ n s a b, zT nl lv lw lf ns sv sw sf n s a b → σ n s → ∀ t, σ a t → σ b t) (hB : zB A K (zT nl lv lw lf ns sv sw sf)) (hnl : nl ≤ 20) (hns : ns ≤ 20)
    (u1 : zV lv nl 12) (u2 : zV lw nl 12) (u3 : zV lf nl 2) (v1 : zV sv ns 12) (v2 : zV sw ns 12) (v3 : zV sf ns 2)
    (hI : zI So A K (zT nl lv lw lf ns sv sw sf) zn4 zn3 300 h t le si fr go qd qu)
    (H : ∀ h' t' le' si' fr' go' qd' qu', zR So A K (zT nl lv lw lf ns sv sw sf) h' t' le' si' fr' go' qd' qu' → post (h', t', nI nl, nI ns, f_onceSet, f_regions, f_accesses, f_walked, f_finishedCount, le', si', fr', go', qd', qu', lv, lw, lf, sv, sf, sw, a_regionThread, a_regionLock, a_regionAround, a_accessPlace, a_accessVar, a_accessField, a_accessWrites, a_steps, a_finished, a_leftOrder, a_stack, a_nextSite)) :
    wpX_solve post (h, t, nI nl, nI ns, f_onceSet, f_regions, f_accesses, f_walked, f_finishedCount, le, si, fr, go, qd, qu, lv, lw, lf, sv, sf, sw, a_regionThread, a_regionLock, a_regionAround, a_accessPlace, a_accessVar, a_accessField, a_accessWrites, a_steps, a_finished, a_leftOrder, a_stack, a_nextSite) := by
  unfold wpX_solve
  exact ⟨301, zx_s2 hTs hB hnl hns u1 u2 u3 v1 v2 v3 H 300 0 301 h t le si fr go qd qu (by omega) (by omega) hI⟩
end
end
section
/-! X: bits. Y: size, total, sweep, workOut -/
theorem zx_bits {post : Int32 → Prop} {x : Int32} (H : post (nI (zc x))) : wpX_bits post x := by
  have key : ∀ (d i n : Nat), i + d = 8 → d < n → wX_bits_4 post x n (nI (zs (fun i => (bt x i).toNat) i)) (nI i) := by
    intro d
    induction d with
    | zero =>
      intro i n hi hn
      obtain ⟨n, rfl⟩ : ∃ m, n = m + 1 := ⟨n - 1, by omega⟩
      have e : i = 8 := by omega
      subst e
      exact br_t (nI_le (a := 8) (b := 8) (by decide) (by decide)) H
    | succ d ih =>
      intro i n hi hn
      obtain ⟨n, rfl⟩ : ∃ m, n = m + 1 := ⟨n - 1, by omega⟩
      refine br_f (nI_ge (b := 8) (by omega) (by decide)) (nm_r (e' := nI (zs (fun i => (bt x i).toNat) (i + 1))) ?_ (nm_r (nI_1 i) (ih (i + 1) n (by omega) (by omega))))
      rw [zb_v (by omega), nI_add]; rfl
  exact ⟨9, key 8 0 9 (by omega) (by omega)⟩
/-- a continuation over the reference's twenty arrays -/
abbrev zTY : Type := (Nat → Int32) → (Nat → Int32) → (Nat → Int32) → (Nat → Int32) → (Nat → Int32) → (Nat → Int32) → (Nat → Int32) → (Nat → Int32) → (Nat → Int32) → (Nat → Int32) → (Nat → Int32) → (Nat → Int32) → (Nat → Int32) → (Nat → Int32) → (Nat → Int32) → (Nat → Int32) → (Nat → Int32) → (Nat → Int32) → (Nat → Int32) → (Nat → Int32) → Prop
def zg (p hh : Nat → Int32) : Nat → Int32 := fun j => if j < 12 then p j else hh (j - 12)
theorem zg_p {p hh : Nat → Int32} {v : Nat} (hv : v < 12) : zg p hh v = p v := if_pos hv
theorem zg_h {p hh : Nat → Int32} (i : Nat) : zg p hh (12 + i) = hh i := by
  show (if 12 + i < 12 then p (12 + i) else hh (12 + i - 12)) = hh i
  rw [if_neg (by omega)]
  exact congrArg hh (by omega)
theorem zg_up {p hh : Nat → Int32} {v : Nat} {x : Int32} (hv : v < 12) : zg (upd p v x) hh = upd (zg p hh) v x := by
  funext j
  unfold zg upd
  by_cases e : j = v
  · subst e; rw [if_pos hv, if_pos rfl, if_pos rfl]
  · rw [if_neg e, if_neg e]
theorem zg_uh {p hh : Nat → Int32} (i : Nat) {x : Int32} : zg p (upd hh i x) = upd (zg p hh) (12 + i) x := by
  funext j
  unfold zg upd
  by_cases e : j = 12 + i
  · subst e; rw [if_neg (by omega), if_pos (by omega), if_pos rfl]
  · rw [if_neg e]
    by_cases e2 : j < 12
    · rw [if_pos e2]; exact (if_pos e2).symm
    · rw [if_neg e2, if_neg (by omega)]; exact (if_neg e2).symm
def zle (g g' : Nat → Int32) : Prop := ∀ j s, bt (g j) s = true → bt (g' j) s = true
theorem zle_r (g : Nat → Int32) : zle g g := fun _ _ z => z
theorem zle_t {a b c : Nat → Int32} (h1 : zle a b) (h2 : zle b c) : zle a c := fun j s z => h2 j s (h1 j s z)
def zY (A K : Nat → Nat → Prop) (T : Nat → Nat → Nat → Nat → Prop) (g : Nat → Int32) : Prop :=
  (∀ j, j < 28 → z8 (g j)) ∧ (∀ σ, zSol A K T σ → ∀ j, j < 28 → ∀ s, bt (g j) s = true → σ j s)
def zStep (A K : Nat → Nat → Prop) (T : Nat → Nat → Nat → Nat → Prop) (g g' : Nat → Int32) : Prop :=
  (∀ n s, A n s → bt (g' n) s = true) ∧ (∀ a b, K a b → ∀ s, bt (g a) s = true → bt (g' b) s = true) ∧
  (∀ n s a b, T n s a b → bt (g n) s = true → ∀ t, bt (g a) t = true → bt (g' b) t = true)
def zA (al : Nat → Int32) (n s : Nat) : Prop := n < 12 ∧ s < 8 ∧ bt (al n) s = true
def zK (co : Nat → Int32) (a b : Nat) : Prop := a < 12 ∧ b < 12 ∧ bt (co b) a = true
theorem zY_or {A K : Nat → Nat → Prop} {T : Nat → Nat → Nat → Nat → Prop} {g : Nat → Int32} {a : Nat} {x : Int32} (hY : zY A K T g) (h8 : z8 x)
    (hs : ∀ σ, zSol A K T σ → ∀ s, bt x s = true → σ a s) : zY A K T (upd g a (g a ||| x)) := by
  refine ⟨fun j hj => ?_, fun σ hσ j hj s => ?_⟩
  · by_cases e : j = a
    · rw [e] at hj ⊢; rw [pk_us]; exact z8_or (hY.1 a hj) h8
    · rw [pk_un e]; exact hY.1 j hj
  · rw [zu_or]
    rintro (z | ⟨rfl, z⟩)
    · exact hY.2 σ hσ j hj s z
    · exact hs σ hσ s z
theorem zle_or (g : Nat → Int32) (a : Nat) (x : Int32) : zle g (upd g a (g a ||| x)) := fun _ _ z => zu_or.mpr (Or.inl z)
theorem zn_h2 (i f : Nat) : (nI i * 2) + nI f = nI (2 * i + f) := by
  rw [show (2 : Int32) = nI 2 from rfl, pk_mul, nI_add, Nat.mul_comm]
section
variable {f_regions f_accesses f_known : Int32} {al co lv lw lf sv sw sf a_single a_threadOf a_locked a_outer a_placeOf a_accessV a_accessF a_writes p hh a_steps a_reach g0 : Nat → Int32} {nl ns : Nat}
theorem zy_size {f_loads f_stores : Int32} {post : Int32 → Prop} {x : Int32} (H : post (nI (zc x))) : wpY_size post (f_loads, f_stores, f_regions, f_accesses, f_known, al, co, lv, lw, lf, sv, sw, sf, a_single, a_threadOf, a_locked, a_outer, a_placeOf, a_accessV, a_accessF, a_writes, p, hh, a_steps, a_reach) x := by
  have key : ∀ (d i n : Nat), i + d = 8 → d < n → wY_size_4 post x f_loads f_stores f_regions f_accesses f_known al co lv lw lf sv sw sf a_single a_threadOf a_locked a_outer a_placeOf a_accessV a_accessF a_writes p hh a_steps a_reach n (nI (zs (fun i => (bt x i).toNat) i)) (nI i) := by
    intro d
    induction d with
    | zero =>
      intro i n hi hn
      obtain ⟨n, rfl⟩ : ∃ m, n = m + 1 := ⟨n - 1, by omega⟩
      have e : i = 8 := by omega
      subst e
      exact br_t (nI_le (a := 8) (b := 8) (by decide) (by decide)) H
    | succ d ih =>
      intro i n hi hn
      obtain ⟨n, rfl⟩ : ∃ m, n = m + 1 := ⟨n - 1, by omega⟩
      refine br_f (nI_ge (b := 8) (by omega) (by decide)) (nm_r (e' := nI (zs (fun i => (bt x i).toNat) (i + 1))) ?_ (nm_r (nI_1 i) (ih (i + 1) n (by omega) (by omega))))
      rw [zb_v (by omega), nI_add]; rfl
  exact ⟨9, key 8 0 9 (by omega) (by omega)⟩
theorem zy_total {post : Int32 → Prop} (H : post (nI (zs (fun j => zc (zg p hh j)) 28))) : wpY_total post (nI nl, nI ns, f_regions, f_accesses, f_known, al, co, lv, lw, lf, sv, sw, sf, a_single, a_threadOf, a_locked, a_outer, a_placeOf, a_accessV, a_accessF, a_writes, p, hh, a_steps, a_reach) := by
  have k33 : ∀ (d i n : Nat), i + d = 16 → d < n → wY_total_33 post (nI nl) (nI ns) f_regions f_accesses f_known al co lv lw lf sv sw sf a_single a_threadOf a_locked a_outer a_placeOf a_accessV a_accessF a_writes p hh a_steps a_reach n (nI (zs (fun j => zc (zg p hh j)) (12 + i))) (nI i) := by
    intro d
    induction d with
    | zero =>
      intro i n hi hn
      obtain ⟨n, rfl⟩ : ∃ m, n = m + 1 := ⟨n - 1, by omega⟩
      have e : i = 16 := by omega
      subst e
      exact br_t (nI_le (a := 16) (b := 16) (by decide) (by decide)) H
    | succ d ih =>
      intro i n hi hn
      obtain ⟨n, rfl⟩ : ∃ m, n = m + 1 := ⟨n - 1, by omega⟩
      refine br_f (nI_ge (b := 16) (by omega) (by decide)) (And.intro (vp_in_nI (by omega) (by decide)) ?_)
      rw [nI_clamp (by omega : i < 2 ^ 31)]
      refine zy_size (nm_r (e' := nI (zs (fun j => zc (zg p hh j)) (12 + (i + 1)))) ?_ (nm_r (nI_1 i) (ih (i + 1) n (by omega) (by omega))))
      rw [nI_add]
      show nI (_ + zc (hh i)) = nI (zs (fun j => zc (zg p hh j)) (12 + i) + zc (zg p hh (12 + i)))
      rw [zg_h]
  have k4 : ∀ (d i n : Nat), i + d = 12 → d < n → wY_total_4 post (nI nl) (nI ns) f_regions f_accesses f_known al co lv lw lf sv sw sf a_single a_threadOf a_locked a_outer a_placeOf a_accessV a_accessF a_writes p hh a_steps a_reach n (nI (zs (fun j => zc (zg p hh j)) i)) (nI i) := by
    intro d
    induction d with
    | zero =>
      intro i n hi hn
      obtain ⟨n, rfl⟩ : ∃ m, n = m + 1 := ⟨n - 1, by omega⟩
      have e : i = 12 := by omega
      subst e
      exact br_t (nI_le (a := 12) (b := 12) (by decide) (by decide)) ⟨17, k33 16 0 17 (by omega) (by omega)⟩
    | succ d ih =>
      intro i n hi hn
      obtain ⟨n, rfl⟩ : ∃ m, n = m + 1 := ⟨n - 1, by omega⟩
      refine br_f (nI_ge (b := 12) (by omega) (by decide)) (And.intro (vp_in_nI (by omega) (by decide)) ?_)
      rw [nI_clamp (by omega : i < 2 ^ 31)]
      refine zy_size (nm_r (e' := nI (zs (fun j => zc (zg p hh j)) (i + 1))) ?_ (nm_r (nI_1 i) (ih (i + 1) n (by omega) (by omega))))
      rw [nI_add]
      show nI (_ + zc (p i)) = nI (zs (fun j => zc (zg p hh j)) i + zc (zg p hh i))
      rw [zg_p (by omega)]
  exact ⟨13, k4 12 0 13 (by omega) (by omega)⟩
variable {A : Nat → Nat → Prop} {T : Nat → Nat → Nat → Nat → Prop}
theorem zy_29 {post : SY → Prop} {J2 : Int32 → zTY} {v : Nat} (hv : v < 12) :
    ∀ (d i m : Nat) (p : Nat → Int32), i + d = 12 → d < m → zY A (zK co) T (zg p hh) → zle g0 (zg p hh) → (∀ w, w < i → bt (co v) w = true → ∀ s, bt (g0 w) s = true → bt (zg p hh v) s = true) →
    (∀ p', zY A (zK co) T (zg p' hh) → zle (zg p hh) (zg p' hh) → (∀ w, w < 12 → bt (co v) w = true → ∀ s, bt (g0 w) s = true → bt (zg p' hh v) s = true) → J2 (nI (v + 1)) al co lv lw lf sv sw sf a_single a_threadOf a_locked a_outer a_placeOf a_accessV a_accessF a_writes p' hh a_steps a_reach) →
    wY_sweep_29 post J2 (nI v) (nI nl) (nI ns) f_regions f_accesses f_known m (nI i) al co lv lw lf sv sw sf a_single a_threadOf a_locked a_outer a_placeOf a_accessV a_accessF a_writes p hh a_steps a_reach := by
  have hcv : (nI v).toNatClampNeg = v := nI_clamp (by omega)
  have hiv : vp_in (nI v) 12 := vp_in_nI hv (by decide)
  intro d
  induction d with
  | zero =>
    intro i m p hi hm hY h0 hD H
    obtain ⟨m, rfl⟩ : ∃ k, m = k + 1 := ⟨m - 1, by omega⟩
    have e : i = 12 := by omega
    subst e
    exact br_t (nI_le (a := 12) (b := 12) (by decide) (by decide)) (nm_r (nI_1 v) (H p hY (zle_r _) hD))
  | succ d ih =>
    intro i m p hi hm hY h0 hD H
    obtain ⟨m, rfl⟩ : ∃ k, m = k + 1 := ⟨m - 1, by omega⟩
    have hc : (nI i).toNatClampNeg = i := nI_clamp (by omega)
    refine br_f (nI_ge (b := 12) (by omega) (by decide)) (And.intro hiv ?_)
    rw [hcv]
    refine br_c (fun hb => ?_) (fun hb => ?_)
    · have hb' := (zb_t (by omega)).mp hb
      refine And.intro hiv (And.intro (vp_in_nI (by omega) (by decide)) (And.intro hiv ?_))
      rw [hc]
      have eg : zg (upd p v (p v ||| p i)) hh = upd (zg p hh) v (zg p hh v ||| zg p hh i) := by
        rw [zg_up hv, zg_p hv, zg_p (by omega : i < 12)]
      have hle : zle (zg p hh) (zg (upd p v (p v ||| p i)) hh) := by rw [eg]; exact zle_or _ _ _
      refine nm_e (nm_r (nI_1 i) (ih (i + 1) m _ (by omega) (by omega) ?_ (zle_t h0 hle) (fun w hw hbw s hs => ?_) (fun p' hY' hle' hD' => H p' hY' (zle_t hle hle') hD')))
      · rw [eg]
        exact zY_or hY (hY.1 i (by omega)) (fun σ hσ s hs => hσ.2.1 i v ⟨by omega, hv, hb'⟩ s (hY.2 σ hσ i (by omega) s hs))
      · by_cases e : w = i
        · rw [eg, zu_or]; rw [e] at hs; exact Or.inr ⟨rfl, h0 i s hs⟩
        · exact hle _ _ (hD w (by omega) hbw s hs)
    · refine nm_r (nI_1 i) (ih (i + 1) m p (by omega) (by omega) hY h0 (fun w hw hbw s hs => ?_) H)
      by_cases e : w = i
      · rw [e] at hbw; exact absurd ((zb_t (by omega)).mpr hbw) hb
      · exact hD w (by omega) hbw s hs
theorem zy_92 {post : SY → Prop} {J2 : Int32 → zTY} {K : Nat → Nat → Prop} {k : Nat} (hk : k < nl) (hnl : nl ≤ 20)
    (u1 : zV lv nl 12) (u2 : zV lw nl 12) (u3 : zV lf nl 2) :
    ∀ (d i m : Nat) (p : Nat → Int32), i + d = 8 → d < m → zY A K (zT nl lv lw lf ns sv sw sf) (zg p hh) → zle g0 (zg p hh) →
    (∀ s, s < i → bt (g0 (zl lw k)) s = true → ∀ t, bt (g0 (12 + 2 * s + zl lf k)) t = true → bt (zg p hh (zl lv k)) t = true) →
    (∀ p', zY A K (zT nl lv lw lf ns sv sw sf) (zg p' hh) → zle (zg p hh) (zg p' hh) → (∀ s, s < 8 → bt (g0 (zl lw k)) s = true → ∀ t, bt (g0 (12 + 2 * s + zl lf k)) t = true → bt (zg p' hh (zl lv k)) t = true) → J2 (nI (k + 1)) al co lv lw lf sv sw sf a_single a_threadOf a_locked a_outer a_placeOf a_accessV a_accessF a_writes p' hh a_steps a_reach) →
    wY_sweep_92 post J2 (nI k) (nI nl) (nI ns) f_regions f_accesses f_known m (nI i) al co lv lw lf sv sw sf a_single a_threadOf a_locked a_outer a_placeOf a_accessV a_accessF a_writes p hh a_steps a_reach := by
  obtain ⟨b1, b2⟩ := u1 k hk
  obtain ⟨a1, a2⟩ := u2 k hk
  obtain ⟨c1, c2⟩ := u3 k hk
  have hck : (nI k).toNatClampNeg = k := nI_clamp (by omega)
  have hik : vp_in (nI k) 20 := vp_in_nI (by omega) (by decide)
  have ha : vp_in (lw k) 12 := by rw [a2]; exact vp_in_nI a1 (by decide)
  have hb : vp_in (lv k) 12 := by rw [b2]; exact vp_in_nI b1 (by decide)
  intro d
  induction d with
  | zero =>
    intro i m p hi hm hY h0 hD H
    obtain ⟨m, rfl⟩ : ∃ k, m = k + 1 := ⟨m - 1, by omega⟩
    have e : i = 8 := by omega
    subst e
    exact br_t (nI_le (a := 8) (b := 8) (by decide) (by decide)) (nm_r (nI_1 k) (H p hY (zle_r _) hD))
  | succ d ih =>
    intro i m p hi hm hY h0 hD H
    obtain ⟨m, rfl⟩ : ∃ k, m = k + 1 := ⟨m - 1, by omega⟩
    refine br_f (nI_ge (b := 8) (by omega) (by decide)) (And.intro hik ?_)
    rw [hck]
    refine And.intro ha (br_c (fun hbb => ?_) (fun hbb => ?_))
    · have hb' : bt (p (zl lw k)) i = true := (zb_t (by omega)).mp hbb
      have ex : (nI i * 2) + lf k = nI (2 * i + zl lf k) := by rw [c2]; exact zn_h2 i _
      have ecx : (nI (2 * i + zl lf k)).toNatClampNeg = 2 * i + zl lf k := nI_clamp (by omega)
      refine And.intro hik (And.intro hik (And.intro hb (And.intro hik ?_)))
      rw [ex, ecx]
      refine And.intro (vp_in_nI (by omega) (by decide)) (And.intro hb ?_)
      have eg : zg (upd p (zl lv k) (p (zl lv k) ||| hh (2 * i + zl lf k))) hh = upd (zg p hh) (zl lv k) (zg p hh (zl lv k) ||| zg p hh (12 + (2 * i + zl lf k))) := by
        rw [zg_up b1, zg_p b1, zg_h]
      have hle : zle (zg p hh) (zg (upd p (zl lv k) (p (zl lv k) ||| hh (2 * i + zl lf k))) hh) := by rw [eg]; exact zle_or _ _ _
      refine nm_e (nm_r (nI_1 i) (ih (i + 1) m _ (by omega) (by omega) ?_ (zle_t h0 hle) (fun s hs hbs t ht => ?_) (fun p' hY' hle' hD' => H p' hY' (zle_t hle hle') hD')))
      · show zY A K (zT nl lv lw lf ns sv sw sf) (zg (upd p (zl lv k) (p (zl lv k) ||| hh (2 * i + zl lf k))) hh)
        rw [eg]
        refine zY_or hY (hY.1 _ (by omega)) (fun σ hσ s hs => ?_)
        refine hσ.2.2 (zl lw k) i (12 + 2 * i + zl lf k) (zl lv k) (Or.inl ⟨k, hk, rfl, by omega, rfl, rfl⟩) (hY.2 σ hσ _ (by omega) i (by rw [zg_p a1]; exact hb')) s ?_
        have := hY.2 σ hσ (12 + (2 * i + zl lf k)) (by omega) s hs
        rwa [← Nat.add_assoc] at this
      · show bt (zg (upd p (zl lv k) (p (zl lv k) ||| hh (2 * i + zl lf k))) hh (zl lv k)) t = true
        by_cases e : s = i
        · rw [eg, zu_or]; rw [e] at ht
          refine Or.inr ⟨rfl, h0 _ t ?_⟩
          rwa [← Nat.add_assoc]
        · exact hle _ _ (hD s (by omega) hbs t ht)
    · refine nm_r (nI_1 i) (ih (i + 1) m p (by omega) (by omega) hY h0 (fun s hs hbs t ht => ?_) H)
      by_cases e : s = i
      · rw [e] at hbs
        have := h0 _ _ hbs
        rw [zg_p a1] at this
        exact absurd ((zb_t (by omega)).mpr this) hbb
      · exact hD s (by omega) hbs t ht
theorem zy_179 {post : SY → Prop} {J2 : Int32 → zTY} {K : Nat → Nat → Prop} {k : Nat} (hk : k < ns) (hns : ns ≤ 20)
    (v1 : zV sv ns 12) (v2 : zV sw ns 12) (v3 : zV sf ns 2) :
    ∀ (d i m : Nat) (hh : Nat → Int32), i + d = 8 → d < m → zY A K (zT nl lv lw lf ns sv sw sf) (zg p hh) → zle g0 (zg p hh) →
    (∀ s, s < i → bt (g0 (zl sv k)) s = true → ∀ t, bt (g0 (zl sw k)) t = true → bt (zg p hh (12 + 2 * s + zl sf k)) t = true) →
    (∀ hh', zY A K (zT nl lv lw lf ns sv sw sf) (zg p hh') → zle (zg p hh) (zg p hh') → (∀ s, s < 8 → bt (g0 (zl sv k)) s = true → ∀ t, bt (g0 (zl sw k)) t = true → bt (zg p hh' (12 + 2 * s + zl sf k)) t = true) → J2 (nI (k + 1)) al co lv lw lf sv sw sf a_single a_threadOf a_locked a_outer a_placeOf a_accessV a_accessF a_writes p hh' a_steps a_reach) →
    wY_sweep_179 post J2 (nI k) (nI nl) (nI ns) f_regions f_accesses f_known m (nI i) al co lv lw lf sv sw sf a_single a_threadOf a_locked a_outer a_placeOf a_accessV a_accessF a_writes p hh a_steps a_reach := by
  obtain ⟨b1, b2⟩ := v2 k hk
  obtain ⟨a1, a2⟩ := v1 k hk
  obtain ⟨c1, c2⟩ := v3 k hk
  have hck : (nI k).toNatClampNeg = k := nI_clamp (by omega)
  have hik : vp_in (nI k) 20 := vp_in_nI (by omega) (by decide)
  have ha : vp_in (sv k) 12 := by rw [a2]; exact vp_in_nI a1 (by decide)
  have hb : vp_in (sw k) 12 := by rw [b2]; exact vp_in_nI b1 (by decide)
  intro d
  induction d with
  | zero =>
    intro i m hh hi hm hY h0 hD H
    obtain ⟨m, rfl⟩ : ∃ k, m = k + 1 := ⟨m - 1, by omega⟩
    have e : i = 8 := by omega
    subst e
    exact br_t (nI_le (a := 8) (b := 8) (by decide) (by decide)) (nm_r (nI_1 k) (H hh hY (zle_r _) hD))
  | succ d ih =>
    intro i m hh hi hm hY h0 hD H
    obtain ⟨m, rfl⟩ : ∃ k, m = k + 1 := ⟨m - 1, by omega⟩
    refine br_f (nI_ge (b := 8) (by omega) (by decide)) (And.intro hik ?_)
    rw [hck]
    refine And.intro ha (br_c (fun hbb => ?_) (fun hbb => ?_))
    · have hb' : bt (p (zl sv k)) i = true := (zb_t (by omega)).mp hbb
      have ex : (nI i * 2) + sf k = nI (2 * i + zl sf k) := by rw [c2]; exact zn_h2 i _
      have ecx : (nI (2 * i + zl sf k)).toNatClampNeg = 2 * i + zl sf k := nI_clamp (by omega)
      have hix : vp_in (nI (2 * i + zl sf k)) 16 := vp_in_nI (by omega) (by decide)
      refine And.intro hik (And.intro hik ?_)
      rw [ex, ecx]
      refine And.intro hix (And.intro hik (And.intro hb (And.intro hix ?_)))
      have eg : zg p (upd hh (2 * i + zl sf k) (hh (2 * i + zl sf k) ||| p (zl sw k))) = upd (zg p hh) (12 + 2 * i + zl sf k) (zg p hh (12 + 2 * i + zl sf k) ||| zg p hh (zl sw k)) := by
        rw [zg_uh, zg_p b1, Nat.add_assoc, zg_h]
      have hle : zle (zg p hh) (zg p (upd hh (2 * i + zl sf k) (hh (2 * i + zl sf k) ||| p (zl sw k)))) := by rw [eg]; exact zle_or _ _ _
      refine nm_e (nm_r (nI_1 i) (ih (i + 1) m _ (by omega) (by omega) ?_ (zle_t h0 hle) (fun s hs hbs t ht => ?_) (fun p' hY' hle' hD' => H p' hY' (zle_t hle hle') hD')))
      · show zY A K (zT nl lv lw lf ns sv sw sf) (zg p (upd hh (2 * i + zl sf k) (hh (2 * i + zl sf k) ||| p (zl sw k))))
        rw [eg]
        refine zY_or hY (hY.1 _ (by omega)) (fun σ hσ s hs => ?_)
        exact hσ.2.2 (zl sv k) i (zl sw k) (12 + 2 * i + zl sf k) (Or.inr ⟨k, hk, rfl, by omega, rfl, rfl⟩) (hY.2 σ hσ _ (by omega) i (by rw [zg_p a1]; exact hb')) s (hY.2 σ hσ _ (by omega) s hs)
      · show bt (zg p (upd hh (2 * i + zl sf k) (hh (2 * i + zl sf k) ||| p (zl sw k))) (12 + 2 * s + zl sf k)) t = true
        by_cases e : s = i
        · rw [eg, zu_or, e]
          exact Or.inr ⟨rfl, h0 _ t ht⟩
        · exact hle _ _ (hD s (by omega) hbs t ht)
    · refine nm_r (nI_1 i) (ih (i + 1) m hh (by omega) (by omega) hY h0 (fun s hs hbs t ht => ?_) H)
      by_cases e : s = i
      · rw [e] at hbs
        have := h0 _ _ hbs
        rw [zg_p a1] at this
        exact absurd ((zb_t (by omega)).mpr this) hbb
      · exact hD s (by omega) hbs t ht
end
end
section
/-! Y: sweep's outer loops, workOut -/
section
variable {f_regions f_accesses f_known : Int32} {al co lv lw lf sv sw sf a_single a_threadOf a_locked a_outer a_placeOf a_accessV a_accessF a_writes p hh a_steps a_reach g0 : Nat → Int32} {nl ns : Nat}
theorem zy_169 {post : SY → Prop} {A K : Nat → Nat → Prop} (hns : ns ≤ 20) (v1 : zV sv ns 12) (v2 : zV sw ns 12) (v3 : zV sf ns 2) :
    ∀ (d i m : Nat) (hh : Nat → Int32), i + d = ns → d < m → zY A K (zT nl lv lw lf ns sv sw sf) (zg p hh) → zle g0 (zg p hh) →
    (∀ k, k < i → ∀ s, s < 8 → bt (g0 (zl sv k)) s = true → ∀ t, bt (g0 (zl sw k)) t = true → bt (zg p hh (12 + 2 * s + zl sf k)) t = true) →
    (∀ hh', zY A K (zT nl lv lw lf ns sv sw sf) (zg p hh') → zle (zg p hh) (zg p hh') → (∀ k, k < ns → ∀ s, s < 8 → bt (g0 (zl sv k)) s = true → ∀ t, bt (g0 (zl sw k)) t = true → bt (zg p hh' (12 + 2 * s + zl sf k)) t = true) → post (nI nl, nI ns, f_regions, f_accesses, f_known, al, co, lv, lw, lf, sv, sw, sf, a_single, a_threadOf, a_locked, a_outer, a_placeOf, a_accessV, a_accessF, a_writes, p, hh', a_steps, a_reach)) →
    wY_sweep_169 post (nI nl) (nI ns) f_regions f_accesses f_known m (nI i) al co lv lw lf sv sw sf a_single a_threadOf a_locked a_outer a_placeOf a_accessV a_accessF a_writes p hh a_steps a_reach := by
  intro d
  induction d with
  | zero =>
    intro i m hh hi hm hY h0 hD H
    obtain ⟨m, rfl⟩ : ∃ k, m = k + 1 := ⟨m - 1, by omega⟩
    have e : i = ns := by omega
    subst e
    exact br_t (nI_le (Nat.le_refl i) (by omega)) (H hh hY (zle_r _) hD)
  | succ d ih =>
    intro i m hh hi hm hY h0 hD H
    obtain ⟨m, rfl⟩ : ∃ k, m = k + 1 := ⟨m - 1, by omega⟩
    refine br_f (nI_ge (by omega) (by omega)) ⟨9, zy_179 (g0 := g0) (by omega) hns v1 v2 v3 8 0 9 hh (by omega) (by omega) hY h0 (fun s hs => absurd hs (by omega)) (fun hh' hY' hle hD' => ?_)⟩
    refine ih (i + 1) m hh' (by omega) (by omega) hY' (zle_t h0 hle) (fun k hk s hs hbs t ht => ?_) (fun h2 hY2 hle2 hD2 => H h2 hY2 (zle_t hle hle2) hD2)
    by_cases e : k = i
    · subst e; exact hD' s hs hbs t ht
    · exact hle _ _ (hD k (by omega) s hs hbs t ht)
theorem zy_82 {post : SY → Prop} {A K : Nat → Nat → Prop} (hnl : nl ≤ 20) (u1 : zV lv nl 12) (u2 : zV lw nl 12) (u3 : zV lf nl 2) (hns : ns ≤ 20) (v1 : zV sv ns 12) (v2 : zV sw ns 12) (v3 : zV sf ns 2) :
    ∀ (d i m : Nat) (p : Nat → Int32), i + d = nl → d < m → zY A K (zT nl lv lw lf ns sv sw sf) (zg p hh) → zle g0 (zg p hh) →
    (∀ k, k < i → ∀ s, s < 8 → bt (g0 (zl lw k)) s = true → ∀ t, bt (g0 (12 + 2 * s + zl lf k)) t = true → bt (zg p hh (zl lv k)) t = true) →
    (∀ p' hh', zY A K (zT nl lv lw lf ns sv sw sf) (zg p' hh') → zle (zg p hh) (zg p' hh') →
      (∀ n s a b, zT nl lv lw lf ns sv sw sf n s a b → bt (g0 n) s = true → ∀ t, bt (g0 a) t = true → bt (zg p' hh' b) t = true) → post (nI nl, nI ns, f_regions, f_accesses, f_known, al, co, lv, lw, lf, sv, sw, sf, a_single, a_threadOf, a_locked, a_outer, a_placeOf, a_accessV, a_accessF, a_writes, p', hh', a_steps, a_reach)) →
    wY_sweep_82 post (nI nl) (nI ns) f_regions f_accesses f_known m (nI i) al co lv lw lf sv sw sf a_single a_threadOf a_locked a_outer a_placeOf a_accessV a_accessF a_writes p hh a_steps a_reach := by
  intro d
  induction d with
  | zero =>
    intro i m p hi hm hY h0 hD H
    obtain ⟨m, rfl⟩ : ∃ k, m = k + 1 := ⟨m - 1, by omega⟩
    have e : i = nl := by omega
    subst e
    refine br_t (nI_le (Nat.le_refl i) (by omega)) ⟨21, zy_169 (g0 := g0) hns v1 v2 v3 ns 0 21 hh (by omega) (by omega) hY h0 (fun k hk => absurd hk (by omega)) (fun hh' hY' hle hD' => H p hh' hY' hle (fun n s a b hT hn t ht => ?_))⟩
    rcases hT with ⟨k, hk, rfl, h1, rfl, rfl⟩ | ⟨k, hk, rfl, h1, rfl, rfl⟩
    · exact hle _ _ (hD k hk s h1 hn t ht)
    · exact hD' k hk s h1 hn t ht
  | succ d ih =>
    intro i m p hi hm hY h0 hD H
    obtain ⟨m, rfl⟩ : ∃ k, m = k + 1 := ⟨m - 1, by omega⟩
    refine br_f (nI_ge (by omega) (by omega)) ⟨9, zy_92 (g0 := g0) (by omega) hnl u1 u2 u3 8 0 9 p (by omega) (by omega) hY h0 (fun s hs => absurd hs (by omega)) (fun p' hY' hle hD' => ?_)⟩
    refine ih (i + 1) m p' (by omega) (by omega) hY' (zle_t h0 hle) (fun k hk s hs hbs t ht => ?_) (fun p2 h2 hY2 hle2 hD2 => H p2 h2 hY2 (zle_t hle hle2) hD2)
    by_cases e : k = i
    · subst e; exact hD' s hs hbs t ht
    · exact hle _ _ (hD k (by omega) s hs hbs t ht)
theorem zy_2 {post : SY → Prop} (h8 : ∀ v, v < 12 → z8 (al v)) (hnl : nl ≤ 20) (u1 : zV lv nl 12) (u2 : zV lw nl 12) (u3 : zV lf nl 2) (hns : ns ≤ 20) (v1 : zV sv ns 12) (v2 : zV sw ns 12) (v3 : zV sf ns 2) :
    ∀ (d i m : Nat) (p : Nat → Int32), i + d = 12 → d < m → zY (zA al) (zK co) (zT nl lv lw lf ns sv sw sf) (zg p hh) → zle g0 (zg p hh) →
    (∀ v, v < i → (∀ s, bt (al v) s = true → bt (zg p hh v) s = true) ∧ ∀ w, w < 12 → bt (co v) w = true → ∀ s, bt (g0 w) s = true → bt (zg p hh v) s = true) →
    (∀ p' hh', zY (zA al) (zK co) (zT nl lv lw lf ns sv sw sf) (zg p' hh') → zle (zg p hh) (zg p' hh') → zStep (zA al) (zK co) (zT nl lv lw lf ns sv sw sf) g0 (zg p' hh') → post (nI nl, nI ns, f_regions, f_accesses, f_known, al, co, lv, lw, lf, sv, sw, sf, a_single, a_threadOf, a_locked, a_outer, a_placeOf, a_accessV, a_accessF, a_writes, p', hh', a_steps, a_reach)) →
    wY_sweep_2 post (nI nl) (nI ns) f_regions f_accesses f_known m (nI i) al co lv lw lf sv sw sf a_single a_threadOf a_locked a_outer a_placeOf a_accessV a_accessF a_writes p hh a_steps a_reach := by
  intro d
  induction d with
  | zero =>
    intro i m p hi hm hY h0 hD H
    obtain ⟨m, rfl⟩ : ∃ k, m = k + 1 := ⟨m - 1, by omega⟩
    have e : i = 12 := by omega
    subst e
    refine br_t (nI_le (a := 12) (b := 12) (by decide) (by decide)) ⟨21, zy_82 (g0 := g0) hnl u1 u2 u3 hns v1 v2 v3 nl 0 21 p (by omega) (by omega) hY h0 (fun k hk => absurd hk (by omega)) (fun p' hh' hY' hle hD' => ?_)⟩
    refine H p' hh' hY' hle ⟨fun n s hA => hle _ _ ((hD n hA.1).1 s hA.2.2), fun a b hK s hs => hle _ _ ((hD b hK.2.1).2 a hK.1 hK.2.2 s hs), hD'⟩
  | succ d ih =>
    intro i m p hi hm hY h0 hD H
    obtain ⟨m, rfl⟩ : ∃ k, m = k + 1 := ⟨m - 1, by omega⟩
    have hc : (nI i).toNatClampNeg = i := nI_clamp (by omega)
    have hi' : vp_in (nI i) 12 := vp_in_nI (by omega) (by decide)
    refine br_f (nI_ge (b := 12) (by omega) (by decide)) (And.intro hi' (And.intro hi' (And.intro hi' ?_)))
    rw [hc]
    have eg : zg (upd p i (p i ||| al i)) hh = upd (zg p hh) i (zg p hh i ||| al i) := by
      rw [zg_up (by omega), zg_p (by omega : i < 12)]
    have hle : zle (zg p hh) (zg (upd p i (p i ||| al i)) hh) := by rw [eg]; exact zle_or _ _ _
    have hY1 : zY (zA al) (zK co) (zT nl lv lw lf ns sv sw sf) (zg (upd p i (p i ||| al i)) hh) := by
      rw [eg]; exact zY_or hY (h8 i (by omega)) (fun σ hσ s hs => hσ.1 i s ⟨by omega, z8_lt (h8 i (by omega)) hs, hs⟩)
    refine nm_e ⟨13, zy_29 (g0 := g0) (by omega) 12 0 13 _ (by omega) (by omega) hY1 (zle_t h0 hle) (fun w hw => absurd hw (by omega)) (fun p' hY' hle' hD' => ?_)⟩
    refine ih (i + 1) m p' (by omega) (by omega) hY' (zle_t h0 (zle_t hle hle')) (fun v hv => ?_) (fun p2 h2 hY2 hle2 hD2 => H p2 h2 hY2 (zle_t hle (zle_t hle' hle2)) hD2)
    by_cases e : v = i
    · subst e
      refine ⟨fun s hs => hle' _ _ ?_, hD'⟩
      rw [eg, zu_or]; exact Or.inr ⟨rfl, hs⟩
    · exact ⟨fun s hs => hle' _ _ (hle _ _ ((hD v (by omega)).1 s hs)), fun w hw hbw s hs => hle' _ _ (hle _ _ ((hD v (by omega)).2 w hw hbw s hs))⟩
theorem zy_sweep {post : SY → Prop} (h8 : ∀ v, v < 12 → z8 (al v)) (hnl : nl ≤ 20) (u1 : zV lv nl 12) (u2 : zV lw nl 12) (u3 : zV lf nl 2) (hns : ns ≤ 20) (v1 : zV sv ns 12) (v2 : zV sw ns 12) (v3 : zV sf ns 2)
    (hY : zY (zA al) (zK co) (zT nl lv lw lf ns sv sw sf) (zg p hh))
    (H : ∀ p' hh', zY (zA al) (zK co) (zT nl lv lw lf ns sv sw sf) (zg p' hh') → zle (zg p hh) (zg p' hh') → zStep (zA al) (zK co) (zT nl lv lw lf ns sv sw sf) (zg p hh) (zg p' hh') → post (nI nl, nI ns, f_regions, f_accesses, f_known, al, co, lv, lw, lf, sv, sw, sf, a_single, a_threadOf, a_locked, a_outer, a_placeOf, a_accessV, a_accessF, a_writes, p', hh', a_steps, a_reach)) :
    wpY_sweep post (nI nl, nI ns, f_regions, f_accesses, f_known, al, co, lv, lw, lf, sv, sw, sf, a_single, a_threadOf, a_locked, a_outer, a_placeOf, a_accessV, a_accessF, a_writes, p, hh, a_steps, a_reach) := by
  unfold wpY_sweep
  exact ⟨13, zy_2 (g0 := zg p hh) h8 hnl u1 u2 u3 hns v1 v2 v3 12 0 13 p (by omega) (by omega) hY (zle_r _) (fun v hv => absurd hv (by omega)) H⟩
end
def zt (g : Nat → Int32) : Nat := zs (fun j => zc (g j)) 28
theorem zt_le (g : Nat → Int32) : zt g ≤ 224 := by
  have := zs_bd (f := fun j => zc (g j)) (c := 8) (n := 28) (fun i _ => zc_le8 (g i))
  unfold zt; omega
theorem zt_mono {g g' : Nat → Int32} (h : zle g g') : zt g ≤ zt g' := zs_le fun i _ => zc_le fun s _ hs => h i s hs
/-- an idle step: a solution -/
theorem zp_idle {A K : Nat → Nat → Prop} {T : Nat → Nat → Nat → Nat → Prop} {g g' : Nat → Int32} (hB : zB A K T) (h8 : ∀ j, j < 28 → z8 (g' j)) (hle : zle g g') (hS : zStep A K T g g') (e : zt g' = zt g) :
    zSol A K T (fun j s => bt (g' j) s = true) := by
  have he : ∀ j, j < 28 → ∀ s, bt (g' j) s = true → bt (g j) s = true := by
    intro j hj s hs
    have h1 := zs_pt (f := fun j => zc (g j)) (g := fun j => zc (g' j)) (n := 28) (fun i _ => zc_le fun s _ hs => hle i s hs) e.symm j hj
    have h2 := zc_eq (fun s _ hs => hle j s hs) h1 s (z8_lt (h8 j hj) hs)
    rw [h2]; exact hs
  obtain ⟨s1, s2, s3⟩ := hS
  obtain ⟨b1, b2, b3⟩ := hB
  exact ⟨s1, fun a b hK s hs => s2 a b hK s (he a (b2 a b hK).1 s hs), fun n s a b hT hn t ht => s3 n s a b hT (he n (b3 n s a b hT).1 s hn) t (he a (b3 n s a b hT).2.1 t ht)⟩
/-- the least solution as a vector of masks -/
def zLfp (A K : Nat → Nat → Prop) (T : Nat → Nat → Nat → Nat → Prop) (P : Nat → Int32) : Prop :=
  (∀ j, j < 28 → z8 (P j)) ∧ zSol A K T (fun j s => bt (P j) s = true) ∧ ∀ σ, zSol A K T σ → ∀ j, j < 28 → ∀ s, bt (P j) s = true → σ j s
theorem zLfp_u {A K : Nat → Nat → Prop} {T : Nat → Nat → Nat → Nat → Prop} {P P' : Nat → Int32} (h : zLfp A K T P) (h' : zLfp A K T P') : ∀ j, j < 28 → P j = P' j := fun j hj =>
  z8_ext (h.1 j hj) (h'.1 j hj) fun s _ => ⟨fun z => h.2.2 _ h'.2.1 j hj s z, fun z => h'.2.2 _ h.2.1 j hj s z⟩
def zz (a : Nat → Int32) (i : Nat) : Nat → Int32 := fun j => if j < i then 0 else a j
theorem zz_0 (a : Nat → Int32) : zz a 0 = a := by funext j; unfold zz; rw [if_neg (by omega)]
theorem zz_s (a : Nat → Int32) (i : Nat) : upd (zz a i) i 0 = zz a (i + 1) := by
  funext j; unfold upd zz
  by_cases e : j = i
  · rw [if_pos e, if_pos (by omega)]
  · rw [if_neg e]
    by_cases e2 : j < i
    · rw [if_pos e2, if_pos (by omega)]
    · rw [if_neg e2, if_neg (by omega)]
theorem zz_l {a : Nat → Int32} {i j : Nat} (h : j < i) : zz a i j = 0 := if_pos h
section
variable {f_regions f_accesses f_known : Int32} {al co lv lw lf sv sw sf a_single a_threadOf a_locked a_outer a_placeOf a_accessV a_accessF a_writes p hh a_steps a_reach : Nat → Int32} {nl ns : Nat}
theorem zy_61 {post : SY → Prop} (hB : zB (zA al) (zK co) (zT nl lv lw lf ns sv sw sf)) (h8 : ∀ v, v < 12 → z8 (al v)) (hnl : nl ≤ 20) (u1 : zV lv nl 12) (u2 : zV lw nl 12) (u3 : zV lf nl 2) (hns : ns ≤ 20) (v1 : zV sv ns 12) (v2 : zV sw ns 12) (v3 : zV sf ns 2)
    (H : ∀ p' hh', zLfp (zA al) (zK co) (zT nl lv lw lf ns sv sw sf) (zg p' hh') → post (nI nl, nI ns, f_regions, f_accesses, f_known, al, co, lv, lw, lf, sv, sw, sf, a_single, a_threadOf, a_locked, a_outer, a_placeOf, a_accessV, a_accessF, a_writes, p', hh', a_steps, a_reach)) :
    ∀ (d k m bf : Nat) (p hh : Nat → Int32), 225 ≤ bf + d → d < m → k ≤ bf + 1 → bf ≤ zt (zg p hh) → zY (zA al) (zK co) (zT nl lv lw lf ns sv sw sf) (zg p hh) →
    (zt (zg p hh) = bf → zSol (zA al) (zK co) (zT nl lv lw lf ns sv sw sf) (fun j s => bt (zg p hh j) s = true)) →
    wY_workOut_61 post m (nI bf) (nI (zt (zg p hh))) (nI k) (nI nl) (nI ns) f_regions f_accesses f_known al co lv lw lf sv sw sf a_single a_threadOf a_locked a_outer a_placeOf a_accessV a_accessF a_writes p hh a_steps a_reach := by
  intro d
  induction d with
  | zero =>
    intro k m bf p hh hd hm hk hbf hY hS
    have := zt_le (zg p hh)
    omega
  | succ d ih =>
    intro k m bf p hh hd hm hk hbf hY hS
    obtain ⟨m, rfl⟩ : ∃ k, m = k + 1 := ⟨m - 1, by omega⟩
    have hle := zt_le (zg p hh)
    refine br_f (nI_ge (b := 226) (by omega) (by decide)) (br_c (fun e => ?_) (fun e => ?_))
    · rw [nI_eq (by omega) (by omega)] at e
      exact H p hh ⟨hY.1, hS e, hY.2⟩
    · rw [nI_eq (by omega) (by omega)] at e
      refine zy_sweep h8 hnl u1 u2 u3 hns v1 v2 v3 hY (fun p' hh' hY' hle' hSt => ?_)
      refine zy_total (nm_r (nI_1 k) (ih (k + 1) m (zt (zg p hh)) p' hh' (by omega) (by omega) (by omega) (zt_mono hle') hY' (fun e2 => zp_idle hB hY'.1 hle' hSt e2)))
theorem zy_36 {post : SY → Prop} (hB : zB (zA al) (zK co) (zT nl lv lw lf ns sv sw sf)) (h8 : ∀ v, v < 12 → z8 (al v)) (hnl : nl ≤ 20) (u1 : zV lv nl 12) (u2 : zV lw nl 12) (u3 : zV lf nl 2) (hns : ns ≤ 20) (v1 : zV sv ns 12) (v2 : zV sw ns 12) (v3 : zV sf ns 2)
    (hp : ∀ v, v < 12 → p v = 0)
    (H : ∀ p' hh', zLfp (zA al) (zK co) (zT nl lv lw lf ns sv sw sf) (zg p' hh') → post (nI nl, nI ns, f_regions, f_accesses, f_known, al, co, lv, lw, lf, sv, sw, sf, a_single, a_threadOf, a_locked, a_outer, a_placeOf, a_accessV, a_accessF, a_writes, p', hh', a_steps, a_reach)) :
    ∀ (d i m : Nat), i + d = 16 → d < m → wY_workOut_36 post (nI nl) (nI ns) f_regions f_accesses f_known m (nI i) al co lv lw lf sv sw sf a_single a_threadOf a_locked a_outer a_placeOf a_accessV a_accessF a_writes p (zz hh i) a_steps a_reach := by
  intro d
  induction d with
  | zero =>
    intro i m hi hm
    obtain ⟨m, rfl⟩ : ∃ k, m = k + 1 := ⟨m - 1, by omega⟩
    have e : i = 16 := by omega
    subst e
    have hz : ∀ j, j < 28 → zg p (zz hh 16) j = 0 := by
      intro j hj
      rcases Nat.lt_or_ge j 12 with z | z
      · rw [zg_p z]; exact hp j z
      · obtain ⟨c, rfl⟩ : ∃ c, j = 12 + c := ⟨j - 12, by omega⟩
        rw [zg_h]; exact zz_l (by omega)
    have hY : zY (zA al) (zK co) (zT nl lv lw lf ns sv sw sf) (zg p (zz hh 16)) := by
      refine ⟨fun j hj => ?_, fun σ hσ j hj s hs => ?_⟩
      · rw [hz j hj]; exact z8_0
      · rw [hz j hj, b_0] at hs; exact absurd hs (by decide)
    refine br_t (nI_le (a := 16) (b := 16) (by decide) (by decide)) ⟨227, ?_⟩
    refine br_f (by decide) (br_f (by decide) ?_)
    refine zy_sweep h8 hnl u1 u2 u3 hns v1 v2 v3 hY (fun p' hh' hY' hle' hSt => ?_)
    refine zy_total (nm_e ?_)
    refine zy_61 hB h8 hnl u1 u2 u3 hns v1 v2 v3 H 225 1 226 0 p' hh' (by omega) (by omega) (by omega) (by omega) hY' (fun e2 => zp_idle hB hY'.1 hle' hSt ?_)
    have h0 : zt (zg p (zz hh 16)) = 0 := by
      unfold zt
      rw [zs_eq (g := fun _ => 0) (fun i hi => by show zc (zg p (zz hh 16) i) = 0; rw [hz i hi]; decide)]
      decide
    rw [h0]; exact e2
  | succ d ih =>
    intro i m hi hm
    obtain ⟨m, rfl⟩ : ∃ k, m = k + 1 := ⟨m - 1, by omega⟩
    refine br_f (nI_ge (b := 16) (by omega) (by decide)) (And.intro (vp_in_nI (by omega) (by decide)) ?_)
    rw [nI_clamp (by omega : i < 2 ^ 31), zz_s]
    exact nm_e (nm_r (nI_1 i) (ih (i + 1) m (by omega) (by omega)))
theorem zy_15 {post : SY → Prop} (hB : zB (zA al) (zK co) (zT nl lv lw lf ns sv sw sf)) (h8 : ∀ v, v < 12 → z8 (al v)) (hnl : nl ≤ 20) (u1 : zV lv nl 12) (u2 : zV lw nl 12) (u3 : zV lf nl 2) (hns : ns ≤ 20) (v1 : zV sv ns 12) (v2 : zV sw ns 12) (v3 : zV sf ns 2)
    (H : ∀ p' hh', zLfp (zA al) (zK co) (zT nl lv lw lf ns sv sw sf) (zg p' hh') → post (nI nl, nI ns, f_regions, f_accesses, f_known, al, co, lv, lw, lf, sv, sw, sf, a_single, a_threadOf, a_locked, a_outer, a_placeOf, a_accessV, a_accessF, a_writes, p', hh', a_steps, a_reach)) :
    ∀ (d i m : Nat), i + d = 12 → d < m → wY_workOut_15 post (nI nl) (nI ns) f_regions f_accesses f_known m (nI i) al co lv lw lf sv sw sf a_single a_threadOf a_locked a_outer a_placeOf a_accessV a_accessF a_writes (zz p i) hh a_steps a_reach := by
  intro d
  induction d with
  | zero =>
    intro i m hi hm
    obtain ⟨m, rfl⟩ : ∃ k, m = k + 1 := ⟨m - 1, by omega⟩
    have e : i = 12 := by omega
    subst e
    refine br_t (nI_le (a := 12) (b := 12) (by decide) (by decide)) ⟨17, ?_⟩
    have key := zy_36 (p := zz p 12) (hh := hh) hB h8 hnl u1 u2 u3 hns v1 v2 v3 (fun v hv => zz_l hv) H 16 0 17 (by omega) (by omega)
    rw [zz_0] at key
    exact key
  | succ d ih =>
    intro i m hi hm
    obtain ⟨m, rfl⟩ : ∃ k, m = k + 1 := ⟨m - 1, by omega⟩
    refine br_f (nI_ge (b := 12) (by omega) (by decide)) (And.intro (vp_in_nI (by omega) (by decide)) ?_)
    rw [nI_clamp (by omega : i < 2 ^ 31), zz_s]
    exact nm_e (nm_r (nI_1 i) (ih (i + 1) m (by omega) (by omega)))
theorem zy_workOut {post : SY → Prop} (hB : zB (zA al) (zK co) (zT nl lv lw lf ns sv sw sf)) (h8 : ∀ v, v < 12 → z8 (al v)) (hnl : nl ≤ 20) (u1 : zV lv nl 12) (u2 : zV lw nl 12) (u3 : zV lf nl 2) (hns : ns ≤ 20) (v1 : zV sv ns 12) (v2 : zV sw ns 12) (v3 : zV sf ns 2)
    {P : Nat → Int32} (hP : zLfp (zA al) (zK co) (zT nl lv lw lf ns sv sw sf) P)
    (hk : f_known = 0 ∨ (f_known = 1 ∧ (∀ v, v < 12 → p v = P v) ∧ ∀ i, i < 16 → hh i = P (12 + i)))
    (H : ∀ p' hh', (∀ v, v < 12 → p' v = P v) → (∀ i, i < 16 → hh' i = P (12 + i)) → post (nI nl, nI ns, f_regions, f_accesses, 1, al, co, lv, lw, lf, sv, sw, sf, a_single, a_threadOf, a_locked, a_outer, a_placeOf, a_accessV, a_accessF, a_writes, p', hh', a_steps, a_reach)) :
    wpY_workOut post (nI nl, nI ns, f_regions, f_accesses, f_known, al, co, lv, lw, lf, sv, sw, sf, a_single, a_threadOf, a_locked, a_outer, a_placeOf, a_accessV, a_accessF, a_writes, p, hh, a_steps, a_reach) := by
  unfold wpY_workOut
  rcases hk with e | ⟨e, k1, k2⟩
  · refine br_t e ⟨13, ?_⟩
    have key := zy_15 (post := post) (f_regions := f_regions) (f_accesses := f_accesses) (f_known := 1) (a_single := a_single) (a_threadOf := a_threadOf) (a_locked := a_locked) (a_outer := a_outer) (a_placeOf := a_placeOf) (a_accessV := a_accessV) (a_accessF := a_accessF) (a_writes := a_writes) (p := p) (hh := hh) (a_steps := a_steps) (a_reach := a_reach)
      hB h8 hnl u1 u2 u3 hns v1 v2 v3 (fun p' hh' hL => H p' hh' (fun v hv => ?_) (fun i hi => ?_)) 12 0 13 (by omega) (by omega)
    · rw [zz_0] at key
      exact key
    · rw [← zLfp_u hL hP v (by omega), zg_p hv]
    · rw [← zLfp_u hL hP (12 + i) (by omega), zg_h]
  · refine br_f (by rw [e]; decide) ?_
    subst e
    exact H p hh k1 k2
end
end
section
/-! the relation -/
/-- statements: bounds and validity -/
def zD (nl ns : Nat) (lv lw lf sv sw sf al : Nat → Int32) : Prop :=
  nl ≤ 20 ∧ ns ≤ 20 ∧ zV lv nl 12 ∧ zV lw nl 12 ∧ zV lf nl 2 ∧ zV sv ns 12 ∧ zV sw ns 12 ∧ zV sf ns 2 ∧ ∀ v, v < 12 → z8 (al v)
/-- regions and accesses -/
def zG (nr na : Nat) (rt rl ra ap av : Nat → Int32) : Prop :=
  nr ≤ 12 ∧ na ≤ 16 ∧ zV rt nr 4 ∧ zV rl nr 12 ∧ (∀ r, r < nr → ra r = -1 ∨ ∃ a, a < r ∧ ra r = nI a) ∧ zV ap na (4 + nr) ∧ zV av na 12
def zO (oc : Int32) (sg : Nat → Int32) : Prop := ∀ s, s < 8 → sg s = if bt oc s = true then 1 else 0
/-- what the reference knows -/
def zKn (kn : Int32) (p hh P : Nat → Int32) : Prop := kn = 0 ∨ (kn = 1 ∧ (∀ v, v < 12 → p v = P v) ∧ ∀ i, i < 16 → hh i = P (12 + i))
def zP (le si : Nat → Int32) : Nat → Int32 := fun j => si (zl le j)
def zSo (nl ns : Nat) (lv lw lf sv sw sf al co : Nat → Int32) : (Nat → Nat → Prop) → Prop := zSol (zA al) (zK co) (zT nl lv lw lf ns sv sw sf)
def zRR (nl ns : Nat) (lv lw lf sv sw sf al co : Nat → Int32) (h t : Int32) (le si fr go qd qu : Nat → Int32) : Prop :=
  zR (zSo nl ns lv lw lf sv sw sf al co) (zA al) (zK co) (zT nl lv lw lf ns sv sw sf) h t le si fr go qd qu
def zFx (nl ns nr na : Nat) (h t oc kn : Int32) (le si fr go qd qu lv lw lf sv sw sf rt rl ra ap av al co sg p hh : Nat → Int32) : Prop :=
  zD nl ns lv lw lf sv sw sf al ∧ zG nr na rt rl ra ap av ∧ zO oc sg ∧ zKn kn p hh (zP le si) ∧ zRR nl ns lv lw lf sv sw sf al co h t le si fr go qd qu
/-- the relation at the head of a turn whose first cell is k -/
def i_Rel (_ : Nat) (u : SX) (v : SY) : Prop :=
  ∃ (nl ns nr na : Nat) (h t oc kn wk fc : Int32) (le si fr go qd qu lv lw lf sv sw sf rt rl ra ap av af aw al co sg p hh xs xf xo xk xn ys yr : Nat → Int32),
    u = (h, t, nI nl, nI ns, oc, nI nr, nI na, wk, fc, le, si, fr, go, qd, qu, lv, lw, lf, sv, sf, sw, rt, rl, ra, ap, av, af, aw, xs, xf, xo, xk, xn) ∧ v = (nI nl, nI ns, nI nr, nI na, kn, al, co, lv, lw, lf, sv, sw, sf, sg, rt, rl, ra, ap, av, af, aw, p, hh, ys, yr) ∧ zFx nl ns nr na h t oc kn le si fr go qd qu lv lw lf sv sw sf rt rl ra ap av al co sg p hh
theorem i_up {k : Nat} {u : SX} {v : SY} (h : i_Rel k u v) : i_Rel (k + 5) u v := h
theorem zz_el {k : Nat} {u : SX} {v : SY} {C : SX → SY → Prop}
    (H : ∀ (nl ns nr na : Nat) (h t oc kn wk fc : Int32) (le si fr go qd qu lv lw lf sv sw sf rt rl ra ap av af aw al co sg p hh xs xf xo xk xn ys yr : Nat → Int32),
      zFx nl ns nr na h t oc kn le si fr go qd qu lv lw lf sv sw sf rt rl ra ap av al co sg p hh → C (h, t, nI nl, nI ns, oc, nI nr, nI na, wk, fc, le, si, fr, go, qd, qu, lv, lw, lf, sv, sf, sw, rt, rl, ra, ap, av, af, aw, xs, xf, xo, xk, xn) (nI nl, nI ns, nI nr, nI na, kn, al, co, lv, lw, lf, sv, sw, sf, sg, rt, rl, ra, ap, av, af, aw, p, hh, ys, yr)) (I : i_Rel k u v) : C u v :=
  I.elim fun nl I => I.elim fun ns I => I.elim fun nr I => I.elim fun na I => I.elim fun h I => I.elim fun t I => I.elim fun oc I => I.elim fun kn I => I.elim fun wk I => I.elim fun fc I =>
  I.elim fun le I => I.elim fun si I => I.elim fun fr I => I.elim fun go I => I.elim fun qd I => I.elim fun qu I => I.elim fun lv I => I.elim fun lw I => I.elim fun lf I => I.elim fun sv I => I.elim fun sw I => I.elim fun sf I =>
  I.elim fun rt I => I.elim fun rl I => I.elim fun ra I => I.elim fun ap I => I.elim fun av I => I.elim fun af I => I.elim fun aw I => I.elim fun al I => I.elim fun co I => I.elim fun sg I => I.elim fun p I => I.elim fun hh I =>
  I.elim fun xs I => I.elim fun xf I => I.elim fun xo I => I.elim fun xk I => I.elim fun xn I => I.elim fun ys I => I.elim fun yr I =>
  Eq.mpr (congrArg (fun z => C z v) I.1) (Eq.mpr (congrArg (fun z => C (h, t, nI nl, nI ns, oc, nI nr, nI na, wk, fc, le, si, fr, go, qd, qu, lv, lw, lf, sv, sf, sw, rt, rl, ra, ap, av, af, aw, xs, xf, xo, xk, xn) z) I.2.1)
    (H nl ns nr na h t oc kn wk fc le si fr go qd qu lv lw lf sv sw sf rt rl ra ap av af aw al co sg p hh xs xf xo xk xn ys yr I.2.2))
section
variable {nl ns nr na k : Nat} {h t oc kn wk fc : Int32} {le si fr go qd qu lv lw lf sv sw sf rt rl ra ap av af aw al co sg p hh xs xf xo xk xn ys yr : Nat → Int32}
theorem zz_in (hf : zFx nl ns nr na h t oc kn le si fr go qd qu lv lw lf sv sw sf rt rl ra ap av al co sg p hh) : i_Rel k (h, t, nI nl, nI ns, oc, nI nr, nI na, wk, fc, le, si, fr, go, qd, qu, lv, lw, lf, sv, sf, sw, rt, rl, ra, ap, av, af, aw, xs, xf, xo, xk, xn) (nI nl, nI ns, nI nr, nI na, kn, al, co, lv, lw, lf, sv, sw, sf, sg, rt, rl, ra, ap, av, af, aw, p, hh, ys, yr) :=
  ⟨nl, ns, nr, na, h, t, oc, kn, wk, fc, le, si, fr, go, qd, qu, lv, lw, lf, sv, sw, sf, rt, rl, ra, ap, av, af, aw, al, co, sg, p, hh, xs, xf, xo, xk, xn, ys, yr, rfl, rfl, hf⟩
theorem zD_B (hD : zD nl ns lv lw lf sv sw sf al) : zB (zA al) (zK co) (zT nl lv lw lf ns sv sw sf) := by
  obtain ⟨d1, d2, d3, d4, d5, d6, d7, d8, d9⟩ := hD
  refine ⟨fun n s hA => by have := hA.1; omega, fun a b hK => ⟨by have := hK.1; omega, by have := hK.2.1; omega⟩, fun n s a b hT => ?_⟩
  rcases hT with ⟨i, hi, rfl, hs, rfl, rfl⟩ | ⟨i, hi, rfl, hs, rfl, rfl⟩
  · have := (d3 i hi).1; have := (d4 i hi).1; have := (d5 i hi).1
    exact ⟨by omega, by omega, by omega⟩
  · have := (d6 i hi).1; have := (d7 i hi).1; have := (d8 i hi).1
    exact ⟨by omega, by omega, by omega⟩
theorem zRR_L (hD : zD nl ns lv lw lf sv sw sf al) (hR : zRR nl ns lv lw lf sv sw sf al co h t le si fr go qd qu) :
    zLfp (zA al) (zK co) (zT nl lv lw lf ns sv sw sf) (zP le si) := by
  obtain ⟨r1, r2, r3, r4⟩ := hR
  have hq : ∀ j, j < 28 → qd j = 0 := by
    obtain ⟨_, _, hd, _, _, _, _, q4⟩ := r4
    intro j hj
    rw [q4 j hj, if_neg (by simp)]
  obtain ⟨e1, e2⟩ := zp_end (zD_B hD) r1 r2 r3 hq
  exact ⟨fun j hj => r1.2.1 _ (r1.1 j hj).1, e1, e2⟩
/-- workOut against what X holds -/
theorem zy_wo {post : SY → Prop} (hD : zD nl ns lv lw lf sv sw sf al) (hR : zRR nl ns lv lw lf sv sw sf al co h t le si fr go qd qu) (hk : zKn kn p hh (zP le si))
    (H : ∀ p' hh', (∀ v, v < 12 → p' v = zP le si v) → (∀ i, i < 16 → hh' i = zP le si (12 + i)) → post (nI nl, nI ns, nI nr, nI na, 1, al, co, lv, lw, lf, sv, sw, sf, sg, rt, rl, ra, ap, av, af, aw, p', hh', ys, yr)) :
    wpY_workOut post (nI nl, nI ns, nI nr, nI na, kn, al, co, lv, lw, lf, sv, sw, sf, sg, rt, rl, ra, ap, av, af, aw, p, hh, ys, yr) := by
  obtain ⟨d1, d2, d3, d4, d5, d6, d7, d8, d9⟩ := id hD
  exact zy_workOut (zD_B hD) d9 d1 d3 d4 d5 d2 d6 d7 d8 (zRR_L hD hR) hk H
/-- solve, for the statements -/
theorem zx_so {post : SX → Prop} (hD : zD nl ns lv lw lf sv sw sf al)
    (hI : zI (zSo nl ns lv lw lf sv sw sf al co) (zA al) (zK co) (zT nl lv lw lf ns sv sw sf) zn4 zn3 300 h t le si fr go qd qu)
    (H : ∀ h' t' le' si' fr' go' qd' qu', zRR nl ns lv lw lf sv sw sf al co h' t' le' si' fr' go' qd' qu' → post (h', t', nI nl, nI ns, oc, nI nr, nI na, wk, fc, le', si', fr', go', qd', qu', lv, lw, lf, sv, sf, sw, rt, rl, ra, ap, av, af, aw, xs, xf, xo, xk, xn)) :
    wpX_solve post (h, t, nI nl, nI ns, oc, nI nr, nI na, wk, fc, le, si, fr, go, qd, qu, lv, lw, lf, sv, sf, sw, rt, rl, ra, ap, av, af, aw, xs, xf, xo, xk, xn) := by
  obtain ⟨d1, d2, d3, d4, d5, d6, d7, d8, d9⟩ := id hD
  exact zx_solve (fun σ hσ => hσ.2.2) (zD_B hD) d1 d2 d3 d4 d5 d6 d7 d8 hI H
end
/-! checks of numbers -/
theorem zx_bv1 {post : Int32 → Prop} {j : Nat} (hj : j < 12) (H : post 0) : wpX_badVariable post (nI j) := br_f (nI_pos (by omega)) (br_t (nI_lt (b := 12) hj (by decide)) H)
theorem zx_bv0 {post : Int32 → Prop} {v : Int32} (hv : v < 0 ∨ nI 12 ≤ v) (H : post 1) : wpX_badVariable post v :=
  br_c (fun _ => H) (fun z => br_f (hv.elim (fun y => absurd y z) (fun y => Int32.not_lt.mpr y)) H)
theorem zx_bs1 {post : Int32 → Prop} {j : Nat} (hj : j < 8) (H : post 0) : wpX_badSite post (nI j) := br_f (nI_pos (by omega)) (br_t (nI_lt (b := 8) hj (by decide)) H)
theorem zx_bs0 {post : Int32 → Prop} {v : Int32} (hv : v < 0 ∨ nI 8 ≤ v) (H : post 1) : wpX_badSite post v :=
  br_c (fun _ => H) (fun z => br_f (hv.elim (fun y => absurd y z) (fun y => Int32.not_lt.mpr y)) H)
theorem zx_bf1 {post : Int32 → Prop} {j : Nat} (hj : j < 2) (H : post 0) : wpX_badField post (nI j) := br_f (nI_pos (by omega)) (br_t (nI_le (b := 1) (by omega) (by decide)) H)
theorem zn_nle {v : Int32} {n : Nat} (hn : n < 2 ^ 30) (h : nI (n + 1) ≤ v) : ¬ v ≤ nI n := by
  intro z
  have := Int32.le_trans h z
  exact nI_ge (a := n) (b := n + 1) (by omega) (by omega) this
theorem zx_bf0 {post : Int32 → Prop} {v : Int32} (hv : v < 0 ∨ nI 2 ≤ v) (H : post 1) : wpX_badField post v :=
  br_c (fun _ => H) (fun z => br_f (hv.elim (fun y => absurd y z) (fun y => zn_nle (n := 1) (by decide) y)) H)
section
variable {f1 f2 f3 f4 kn : Int32} {al co lv lw lf sv sw sf sg rt rl ra ap av af aw p hh ys yr : Nat → Int32}
theorem zy_bv1 {post : Int32 → Prop} {j : Nat} (hj : j < 12) (H : post 0) : wpY_badV post (f1, f2, f3, f4, kn, al, co, lv, lw, lf, sv, sw, sf, sg, rt, rl, ra, ap, av, af, aw, p, hh, ys, yr) (nI j) := by
  unfold wpY_badV
  exact br_f (nI_pos (by omega)) (br_t (nI_le (b := 11) (by omega) (by decide)) H)
theorem zy_bv0 {post : Int32 → Prop} {v : Int32} (hv : v < 0 ∨ nI 12 ≤ v) (H : post 1) : wpY_badV post (f1, f2, f3, f4, kn, al, co, lv, lw, lf, sv, sw, sf, sg, rt, rl, ra, ap, av, af, aw, p, hh, ys, yr) v := by
  unfold wpY_badV
  exact br_c (fun _ => H) (fun z => br_f (hv.elim (fun y => absurd y z) (fun y => zn_nle (n := 11) (by decide) y)) H)
theorem zy_bf1 {post : Int32 → Prop} {j : Nat} (hj : j < 2) (H : post 0) : wpY_badF post (f1, f2, f3, f4, kn, al, co, lv, lw, lf, sv, sw, sf, sg, rt, rl, ra, ap, av, af, aw, p, hh, ys, yr) (nI j) := by
  unfold wpY_badF
  exact br_f (nI_pos (by omega)) (br_t (nI_le (b := 1) (by omega) (by decide)) H)
theorem zy_bf0 {post : Int32 → Prop} {v : Int32} (hv : v < 0 ∨ nI 2 ≤ v) (H : post 1) : wpY_badF post (f1, f2, f3, f4, kn, al, co, lv, lw, lf, sv, sw, sf, sg, rt, rl, ra, ap, av, af, aw, p, hh, ys, yr) v := by
  unfold wpY_badF
  exact br_c (fun _ => H) (fun z => br_f (hv.elim (fun y => absurd y z) (fun y => zn_nle (n := 1) (by decide) y)) H)
end
end
section
/-! alloc, copy, load, store -/
section
variable {nl ns nr na k : Nat} {h t oc kn wk fc : Int32} {le si fr go qd qu lv lw lf sv sw sf rt rl ra ap av af aw al co sg p hh xs xf xo xk xn ys yr : Nat → Int32}
theorem zA_u {v s : Nat} (hv : v < 12) (hs : s < 8) {n r : Nat} : zA (upd al v (al v ||| ((1 : Int32) <<< (nI s &&& 31)))) n r ↔ zA al n r ∨ (n = v ∧ r = s) := by
  unfold zA
  rw [zu_or, zb_1 (by omega), decide_eq_true_eq]
  constructor
  · rintro ⟨a, b, c | c⟩
    · exact Or.inl ⟨a, b, c⟩
    · exact Or.inr c
  · rintro (⟨a, b, c⟩ | ⟨rfl, rfl⟩)
    · exact ⟨a, b, Or.inl c⟩
    · exact ⟨hv, hs, Or.inr ⟨rfl, rfl⟩⟩
theorem zK_u {v w : Nat} (hv : v < 12) (hw : w < 12) {a b : Nat} : zK (upd co v (co v ||| ((1 : Int32) <<< (nI w &&& 31)))) a b ↔ zK co a b ∨ (a = w ∧ b = v) := by
  unfold zK
  rw [zu_or, zb_1 (by omega), decide_eq_true_eq]
  constructor
  · rintro ⟨x, y, c | c⟩
    · exact Or.inl ⟨x, y, c⟩
    · exact Or.inr ⟨c.2, c.1⟩
  · rintro (⟨x, y, c⟩ | ⟨rfl, rfl⟩)
    · exact ⟨x, y, Or.inl c⟩
    · exact ⟨hw, hv, Or.inr ⟨rfl, rfl⟩⟩
theorem zS_wk {S1 S2 : (Nat → Nat → Prop) → Prop} (hS : zS S1 le si go) (hw : ∀ σ, S2 σ → S1 σ) : zS S2 le si go := fun σ hσ => hS σ (hw σ hσ)
theorem zD_al {v : Nat} {x : Int32} (hD : zD nl ns lv lw lf sv sw sf al) (hx : z8 x) : zD nl ns lv lw lf sv sw sf (upd al v (al v ||| x)) := by
  obtain ⟨d1, d2, d3, d4, d5, d6, d7, d8, d9⟩ := hD
  refine ⟨d1, d2, d3, d4, d5, d6, d7, d8, fun j hj => ?_⟩
  by_cases e : j = v
  · rw [e] at hj ⊢; rw [pk_us]; exact z8_or (d9 v hj) hx
  · rw [pk_un e]; exact d9 j hj
/-- the end of alloc, copy, load on both sides -/
theorem zx_bl {post : Int32 → Prop} {j : Nat} (hj : j < 28) (hW : zW le si fr) (H : post (nI (zc (zP le si j)))) :
    vp_in (nI j) 28 ∧ (vp_in (le (nI j).toNatClampNeg) 28 ∧ wpX_bits post (si (le (nI j).toNatClampNeg).toNatClampNeg)) := by
  obtain ⟨l1, l2, l3⟩ := hW.1 j hj
  rw [nI_clamp (by omega : j < 2 ^ 31)]
  refine ⟨vp_in_nI hj (by decide), by rw [l2]; exact vp_in_nI l1 (by decide), zx_bits H⟩
end
theorem i_vc_alloc {k : Nat} {u : SX} {v : SY} (I : i_Rel k u v) (hk : k + 5 ≤ 2560) (v1 : Int32) (v2 : Int32) : wpX_alloc (fun r u' => wpY_alloc (fun r' v' => r' = r ∧ i_Rel (k + 5) u' v') v v1 v2) u v1 v2 := by
  refine zz_el (C := fun u v => wpX_alloc (fun r u' => wpY_alloc (fun r' v' => r' = r ∧ i_Rel (k + 5) u' v') v v1 v2) u v1 v2) ?_ I
  clear I u v
  intro nl ns nr na h t oc kn wk fc le si fr go qd qu lv lw lf sv sw sf rt rl ra ap av af aw al co sg p hh xs xf xo xk xn ys yr hf
  unfold wpX_alloc
  rcases pk_ix v1 (n := 12) (by decide) with b1 | b1 | ⟨v, hv, rfl⟩
  · exact zx_bv0 (Or.inl b1) (br_f (by decide) (by unfold wpY_alloc; exact zy_bv0 (Or.inl b1) (br_f (by decide) ⟨rfl, zz_in hf⟩)))
  · exact zx_bv0 (Or.inr b1) (br_f (by decide) (by unfold wpY_alloc; exact zy_bv0 (Or.inr b1) (br_f (by decide) ⟨rfl, zz_in hf⟩)))
  · refine zx_bv1 hv (br_t rfl ?_)
    rcases pk_ix v2 (n := 8) (by decide) with b2 | b2 | ⟨s, hs, rfl⟩
    · refine zx_bs0 (Or.inl b2) (br_f (by decide) ?_)
      unfold wpY_alloc
      exact zy_bv1 hv (br_t rfl (br_t b2 ⟨rfl, zz_in hf⟩))
    · refine zx_bs0 (Or.inr b2) (br_f (by decide) ?_)
      unfold wpY_alloc
      exact zy_bv1 hv (br_t rfl (br_c (fun _ => ⟨rfl, zz_in hf⟩) (fun _ => br_f (zn_nle (n := 7) (by decide) b2) ⟨rfl, zz_in hf⟩)))
    · refine zx_bs1 hs (br_t rfl ?_)
      obtain ⟨hD, hG, hO, hK, hR⟩ := hf
      have hD' := zD_al (v := v) (x := (1 : Int32) <<< (nI s &&& 31)) hD (z8_1 hs)
      obtain ⟨iW, iS, iC, iQ⟩ := zR_I hR
      have hw : ∀ σ, zSo nl ns lv lw lf sv sw sf (upd al v (al v ||| ((1 : Int32) <<< (nI s &&& 31)))) co σ → zSo nl ns lv lw lf sv sw sf al co σ :=
        fun σ hσ => ⟨fun n r hA => hσ.1 n r ((zA_u hv hs).mpr (Or.inl hA)), hσ.2⟩
      refine zx_add (by omega) (So := zSo nl ns lv lw lf sv sw sf (upd al v (al v ||| ((1 : Int32) <<< (nI s &&& 31)))) co) ⟨iW, zS_wk iS hw, iC, iQ⟩ (z8_1 hs) (fun σ hσ r hr => ?_) (fun t' si' fr' qd' qu' hI' hmo hset => ?_)
      · rw [zb_1 (by omega), decide_eq_true_eq] at hr
        exact hσ.1 v r ((zA_u hv hs).mpr (Or.inr ⟨rfl, hr⟩))
      · obtain ⟨jW, jS, jC, jQ⟩ := hI'
        refine zx_so hD' ⟨jW, jS, ⟨fun n r hA => ?_, jC.2⟩, jQ⟩ (fun h2 t2 le2 si2 fr2 go2 qd2 qu2 hR2 => ?_)
        · rcases (zA_u hv hs).mp hA with z | ⟨rfl, rfl⟩
          · exact jC.1 n r z
          · exact hset r (by rw [zb_1 (by omega)]; exact decide_eq_true rfl)
        · refine zx_bl (by omega) hR2.1 ?_
          have hcv : (nI v).toNatClampNeg = v := nI_clamp (by omega)
          have hiv : vp_in (nI v) 12 := vp_in_nI hv (by decide)
          unfold wpY_alloc
          refine zy_bv1 hv (br_t rfl (br_f (nI_pos (by omega)) (br_t (nI_le (b := 7) (by omega) (by decide)) (And.intro hiv (And.intro hiv ?_)))))
          rw [hcv]
          refine nm_e (zy_wo hD' hR2 (Or.inl rfl) (fun p' hh' e1 e2 => And.intro hiv ?_))
          refine zy_size ?_
          refine ⟨congrArg (fun z => nI (zc z)) (by show p' v = _; exact e1 v hv), zz_in ⟨hD', hG, hO, Or.inr ⟨rfl, e1, e2⟩, hR2⟩⟩
theorem i_vc_copy {k : Nat} {u : SX} {v : SY} (I : i_Rel k u v) (hk : k + 5 ≤ 2560) (v1 : Int32) (v2 : Int32) : wpX_copy (fun r u' => wpY_copy (fun r' v' => r' = r ∧ i_Rel (k + 5) u' v') v v1 v2) u v1 v2 := by
  refine zz_el (C := fun u v => wpX_copy (fun r u' => wpY_copy (fun r' v' => r' = r ∧ i_Rel (k + 5) u' v') v v1 v2) u v1 v2) ?_ I
  clear I u v
  intro nl ns nr na h t oc kn wk fc le si fr go qd qu lv lw lf sv sw sf rt rl ra ap av af aw al co sg p hh xs xf xo xk xn ys yr hf
  unfold wpX_copy
  rcases pk_ix v1 (n := 12) (by decide) with b1 | b1 | ⟨v, hv, rfl⟩
  · exact zx_bv0 (Or.inl b1) (br_f (by decide) (by unfold wpY_copy; exact zy_bv0 (Or.inl b1) (br_f (by decide) ⟨rfl, zz_in hf⟩)))
  · exact zx_bv0 (Or.inr b1) (br_f (by decide) (by unfold wpY_copy; exact zy_bv0 (Or.inr b1) (br_f (by decide) ⟨rfl, zz_in hf⟩)))
  · refine zx_bv1 hv (br_t rfl ?_)
    rcases pk_ix v2 (n := 12) (by decide) with b2 | b2 | ⟨w, hw, rfl⟩
    · refine zx_bv0 (Or.inl b2) (br_f (by decide) ?_)
      unfold wpY_copy
      exact zy_bv1 hv (br_t rfl (zy_bv0 (Or.inl b2) (br_f (by decide) ⟨rfl, zz_in hf⟩)))
    · refine zx_bv0 (Or.inr b2) (br_f (by decide) ?_)
      unfold wpY_copy
      exact zy_bv1 hv (br_t rfl (zy_bv0 (Or.inr b2) (br_f (by decide) ⟨rfl, zz_in hf⟩)))
    · refine zx_bv1 hw (br_t rfl ?_)
      obtain ⟨hD, hG, hO, hK, hR⟩ := hf
      obtain ⟨iW, iS, iC, iQ⟩ := zR_I hR
      have hwk : ∀ σ, zSo nl ns lv lw lf sv sw sf al (upd co v (co v ||| ((1 : Int32) <<< (nI w &&& 31)))) σ → zSo nl ns lv lw lf sv sw sf al co σ :=
        fun σ hσ => ⟨hσ.1, fun a b hK => hσ.2.1 a b ((zK_u hv hw).mpr (Or.inl hK)), hσ.2.2⟩
      refine zx_edge (by omega) (by omega) (So := zSo nl ns lv lw lf sv sw sf al (upd co v (co v ||| ((1 : Int32) <<< (nI w &&& 31))))) ⟨iW, zS_wk iS hwk, iC, iQ⟩ (fun σ hσ r hr => ?_) (fun t' si' fr' go' qd' qu' hI' hmo hmg hE => ?_)
      · exact hσ.2.1 w v ((zK_u hv hw).mpr (Or.inr ⟨rfl, rfl⟩)) r hr
      · obtain ⟨jW, jS, jC, jQ⟩ := hI'
        refine zx_so hD ⟨jW, jS, ⟨jC.1, fun a b hK => ?_, jC.2.2⟩, jQ⟩ (fun h2 t2 le2 si2 fr2 go2 qd2 qu2 hR2 => ?_)
        · rcases (zK_u hv hw).mp hK with z | ⟨rfl, rfl⟩
          · exact jC.2.1 a b z
          · exact hE
        · refine zx_bl (by omega) hR2.1 ?_
          have hcv : (nI v).toNatClampNeg = v := nI_clamp (by omega)
          have hiv : vp_in (nI v) 12 := vp_in_nI hv (by decide)
          unfold wpY_copy
          refine zy_bv1 hv (br_t rfl (zy_bv1 hw (br_t rfl (And.intro hiv (And.intro hiv ?_)))))
          rw [hcv]
          refine nm_e (zy_wo hD hR2 (Or.inl rfl) (fun p' hh' e1 e2 => And.intro hiv ?_))
          refine zy_size ?_
          refine ⟨congrArg (fun z => nI (zc z)) (by show p' v = _; exact e1 v hv), zz_in ⟨hD, hG, hO, Or.inr ⟨rfl, e1, e2⟩, hR2⟩⟩
end
section
/-! load, store -/
theorem zn_ix (x : Int32) {n : Nat} (hn : n < 2 ^ 31) : (x < 0 ∨ nI n ≤ x) ∨ ∃ j : Nat, j < n ∧ x = nI j := by
  rcases pk_ix x hn with a | a | a
  · exact Or.inl (Or.inl a)
  · exact Or.inl (Or.inr a)
  · exact Or.inr a
theorem zV_u {a : Nat → Int32} {m N x : Nat} (hV : zV a m N) (hx : x < N) (hN : N < 2 ^ 31) : zV (upd a m (nI x)) (m + 1) N := by
  intro i hi
  rw [zl_u (by omega)]
  by_cases e : i = m
  · rw [if_pos e, e, pk_us]; exact ⟨hx, rfl⟩
  · rw [if_neg e, pk_un e]; exact hV i (by omega)
section
variable {nl ns nr na k : Nat} {h t oc kn wk fc : Int32} {le si fr go qd qu lv lw lf sv sw sf rt rl ra ap av af aw al co sg p hh xs xf xo xk xn ys yr : Nat → Int32}
theorem zT_l {v w f : Nat} (hv : v < 12) (hw : w < 12) (hf : f < 2) {n s a b : Nat} :
    zT (nl + 1) (upd lv nl (nI v)) (upd lw nl (nI w)) (upd lf nl (nI f)) ns sv sw sf n s a b ↔ zT nl lv lw lf ns sv sw sf n s a b ∨ (n = w ∧ s < 8 ∧ a = 12 + 2 * s + f ∧ b = v) := by
  have e1 : ∀ i, zl (upd lv nl (nI v)) i = if i = nl then v else zl lv i := fun i => zl_u (by omega)
  have e2 : ∀ i, zl (upd lw nl (nI w)) i = if i = nl then w else zl lw i := fun i => zl_u (by omega)
  have e3 : ∀ i, zl (upd lf nl (nI f)) i = if i = nl then f else zl lf i := fun i => zl_u (by omega)
  unfold zT zTL
  constructor
  · rintro (⟨i, hi, h1, h2, h3, h4⟩ | z)
    · rw [e1] at h4; rw [e2] at h1; rw [e3] at h3
      by_cases e : i = nl
      · rw [if_pos e] at h1 h3 h4; exact Or.inr ⟨h1, h2, h3, h4⟩
      · rw [if_neg e] at h1 h3 h4; exact Or.inl (Or.inl ⟨i, by omega, h1, h2, h3, h4⟩)
    · exact Or.inl (Or.inr z)
  · rintro ((⟨i, hi, h1, h2, h3, h4⟩ | z) | ⟨h1, h2, h3, h4⟩)
    · refine Or.inl ⟨i, by omega, ?_⟩
      have e : i ≠ nl := by omega
      rw [e1, e2, e3, if_neg e, if_neg e, if_neg e]
      exact ⟨h1, h2, h3, h4⟩
    · exact Or.inr z
    · refine Or.inl ⟨nl, by omega, ?_⟩
      rw [e1, e2, e3, if_pos rfl, if_pos rfl, if_pos rfl]
      exact ⟨h1, h2, h3, h4⟩
theorem zT_s {v w f : Nat} (hv : v < 12) (hw : w < 12) (hf : f < 2) {n s a b : Nat} :
    zT nl lv lw lf (ns + 1) (upd sv ns (nI v)) (upd sw ns (nI w)) (upd sf ns (nI f)) n s a b ↔ zT nl lv lw lf ns sv sw sf n s a b ∨ (n = v ∧ s < 8 ∧ a = w ∧ b = 12 + 2 * s + f) := by
  have e1 : ∀ i, zl (upd sv ns (nI v)) i = if i = ns then v else zl sv i := fun i => zl_u (by omega)
  have e2 : ∀ i, zl (upd sw ns (nI w)) i = if i = ns then w else zl sw i := fun i => zl_u (by omega)
  have e3 : ∀ i, zl (upd sf ns (nI f)) i = if i = ns then f else zl sf i := fun i => zl_u (by omega)
  unfold zT zTS
  constructor
  · rintro (z | ⟨i, hi, h1, h2, h3, h4⟩)
    · exact Or.inl (Or.inl z)
    · rw [e1] at h1; rw [e2] at h3; rw [e3] at h4
      by_cases e : i = ns
      · rw [if_pos e] at h1 h3 h4; exact Or.inr ⟨h1, h2, h3, h4⟩
      · rw [if_neg e] at h1 h3 h4; exact Or.inl (Or.inr ⟨i, by omega, h1, h2, h3, h4⟩)
  · rintro ((z | ⟨i, hi, h1, h2, h3, h4⟩) | ⟨h1, h2, h3, h4⟩)
    · exact Or.inl z
    · refine Or.inr ⟨i, by omega, ?_⟩
      have e : i ≠ ns := by omega
      rw [e1, e2, e3, if_neg e, if_neg e, if_neg e]
      exact ⟨h1, h2, h3, h4⟩
    · refine Or.inr ⟨ns, by omega, ?_⟩
      rw [e1, e2, e3, if_pos rfl, if_pos rfl, if_pos rfl]
      exact ⟨h1, h2, h3, h4⟩
/-- the invariant with one more conditional edge, its old sites excepted -/
theorem zI_T {T T' D : Nat → Nat → Nat → Nat → Prop} {w : Nat} {So S2 : (Nat → Nat → Prop) → Prop} {A K : Nat → Nat → Prop} (hI : zI So A K T zn4 zn3 300 h t le si fr go qd qu) (hw : ∀ σ, S2 σ → So σ)
    (hT : ∀ n s a b, T' n s a b → T n s a b ∨ (n = w ∧ D n s a b)) :
    zI S2 A K T' (fun n s a b => bt (si (zl le w)) s = true ∧ D n s a b) zn3 300 h t le si fr go qd qu := by
  obtain ⟨iW, iS, iC, iQ⟩ := hI
  refine ⟨iW, zS_wk iS hw, ⟨iC.1, iC.2.1, fun n s a b hTT hs => ?_, iC.2.2.2⟩, iQ⟩
  rcases hT n s a b hTT with z | ⟨rfl, z⟩
  · rcases iC.2.2.1 n s a b z hs with y | y | y
    · exact Or.inl y
    · exact y.elim
    · exact Or.inr (Or.inr y)
  · exact Or.inr (Or.inl ⟨hs, z⟩)
end
theorem i_vc_load {k : Nat} {u : SX} {v : SY} (I : i_Rel k u v) (hk : k + 5 ≤ 2560) (v1 : Int32) (v2 : Int32) (v3 : Int32) : wpX_load (fun r u' => wpY_load (fun r' v' => r' = r ∧ i_Rel (k + 5) u' v') v v1 v2 v3) u v1 v2 v3 := by
  refine zz_el (C := fun u v => wpX_load (fun r u' => wpY_load (fun r' v' => r' = r ∧ i_Rel (k + 5) u' v') v v1 v2 v3) u v1 v2 v3) ?_ I
  clear I u v
  intro nl ns nr na h t oc kn wk fc le si fr go qd qu lv lw lf sv sw sf rt rl ra ap av af aw al co sg p hh xs xf xo xk xn ys yr hf
  unfold wpX_load
  rcases zn_ix v1 (n := 12) (by decide) with b1 | ⟨v, hv, rfl⟩
  · exact zx_bv0 b1 (br_f (by decide) (by unfold wpY_load; exact zy_bv0 b1 (br_f (by decide) ⟨rfl, zz_in hf⟩)))
  refine zx_bv1 hv (br_t rfl ?_)
  rcases zn_ix v2 (n := 12) (by decide) with b2 | ⟨w, hw, rfl⟩
  · exact zx_bv0 b2 (br_f (by decide) (by unfold wpY_load; exact zy_bv1 hv (br_t rfl (zy_bv0 b2 (br_f (by decide) ⟨rfl, zz_in hf⟩)))))
  refine zx_bv1 hw (br_t rfl ?_)
  rcases zn_ix v3 (n := 2) (by decide) with b3 | ⟨f, hff, rfl⟩
  · exact zx_bf0 b3 (br_f (by decide) (by unfold wpY_load; exact zy_bv1 hv (br_t rfl (zy_bv1 hw (br_t rfl (zy_bf0 b3 (br_f (by decide) ⟨rfl, zz_in hf⟩)))))))
  refine zx_bf1 hff (br_t rfl ?_)
  have hnl : nl ≤ 20 := hf.1.1
  rcases Nat.lt_or_ge nl 20 with hl | hl
  · have hcl : (nI nl).toNatClampNeg = nl := nI_clamp (by omega)
    have hcw : (nI w).toNatClampNeg = w := nI_clamp (by omega)
    have hil : vp_in (nI nl) 20 := vp_in_nI hl (by decide)
    refine br_t (nI_lt (b := 20) hl (by decide)) (And.intro hil ?_)
    rw [hcl]
    refine nm_e (And.intro hil (nm_e (And.intro hil (nm_e (nm_r (nI_1 nl) (And.intro (vp_in_nI (by omega) (by decide)) ?_))))))
    rw [hcw]
    obtain ⟨hD, hG, hO, hK, hR⟩ := hf
    obtain ⟨l1, l2, l3⟩ := hR.1.1 w (by omega)
    refine And.intro (by rw [l2]; exact vp_in_nI l1 (by decide)) ?_
    have hD' : zD (nl + 1) ns (upd lv nl (nI v)) (upd lw nl (nI w)) (upd lf nl (nI f)) sv sw sf al := by
      obtain ⟨d1, d2, d3, d4, d5, d6, d7, d8, d9⟩ := hD
      exact ⟨hl, d2, zV_u d3 hv (by decide), zV_u d4 hw (by decide), zV_u d5 hff (by decide), d6, d7, d8, d9⟩
    have hwk : ∀ σ, zSo (nl + 1) ns (upd lv nl (nI v)) (upd lw nl (nI w)) (upd lf nl (nI f)) sv sw sf al co σ → zSo nl ns lv lw lf sv sw sf al co σ :=
      fun σ hσ => ⟨hσ.1, hσ.2.1, fun n s a b hT => hσ.2.2 n s a b ((zT_l hv hw hff).mpr (Or.inl hT))⟩
    have hI := zI_T (D := fun n s a b => s < 8 ∧ a = 12 + 2 * s + f ∧ b = v) (w := w) (zR_I hR) hwk (T' := zT (nl + 1) (upd lv nl (nI v)) (upd lw nl (nI w)) (upd lf nl (nI f)) ns sv sw sf) (fun n s a b hT => (zT_l hv hw hff).mp hT)
    unfold wpX_edgesFromFields
    refine ⟨9, zx_eff (set := si (zl le w)) hff (by omega) (fun s hs hbs σ hσ t' ht' => ?_) 8 0 9 t si fr go qd qu (by omega) (by omega) hI (fun s hs => absurd hs (by omega)) (fun t' si' fr' go' qd' qu' hI' m1 m2 hE => ?_)⟩
    · exact hσ.2.2 w s (12 + 2 * s + f) v ((zT_l hv hw hff).mpr (Or.inr ⟨rfl, hs, rfl, rfl⟩)) (((hR.2.1 σ (hwk σ hσ)).2.2 w (by omega) s).mpr ((hR.2.1 σ (hwk σ hσ)).1 _ l1 s hbs)) t' ht'
    · have hI2 := zI_wk (X' := zn4) (X5' := zn3) hI' (fun n s a b _ _ z => by
        obtain ⟨z1, z2, rfl, rfl⟩ := z
        exact Or.inr (Or.inr (hE s z2 z1))) (fun a b s _ _ _ _ _ z => z.elim)
      refine zx_so hD' hI2 (fun h2 t2 le2 si2 fr2 go2 qd2 qu2 hR2 => ?_)
      refine zx_bl (by omega) hR2.1 ?_
      unfold wpY_load
      refine zy_bv1 hv (br_t rfl (zy_bv1 hw (br_t rfl (zy_bf1 hff (br_t rfl (br_f (fun z => by rw [show (20 : Int32) = nI 20 from rfl, nI_eq (by omega) (by omega)] at z; omega) (And.intro hil ?_)))))))
      rw [hcl]
      refine nm_e (And.intro hil (nm_e (And.intro hil (nm_e (nm_r (nI_1 nl) ?_)))))
      refine zy_wo hD' hR2 (Or.inl rfl) (fun p' hh' e1 e2 => And.intro (vp_in_nI hv (by decide)) ?_)
      have hcv : (nI v).toNatClampNeg = v := nI_clamp (by omega)
      rw [hcv]
      refine zy_size ?_
      exact ⟨congrArg (fun z => nI (zc z)) (e1 v hv), zz_in ⟨hD', hG, hO, Or.inr ⟨rfl, e1, e2⟩, hR2⟩⟩
  · have e20 : nl = 20 := by omega
    subst e20
    refine br_f (nI_nlt (b := 20) (Nat.le_refl _) (by decide)) ?_
    unfold wpY_load
    exact zy_bv1 hv (br_t rfl (zy_bv1 hw (br_t rfl (zy_bf1 hff (br_t rfl (br_t rfl ⟨rfl, zz_in hf⟩))))))
theorem i_vc_store {k : Nat} {u : SX} {v : SY} (I : i_Rel k u v) (hk : k + 5 ≤ 2560) (v1 : Int32) (v2 : Int32) (v3 : Int32) : wpX_store (fun r u' => wpY_store (fun r' v' => r' = r ∧ i_Rel (k + 5) u' v') v v1 v2 v3) u v1 v2 v3 := by
  refine zz_el (C := fun u v => wpX_store (fun r u' => wpY_store (fun r' v' => r' = r ∧ i_Rel (k + 5) u' v') v v1 v2 v3) u v1 v2 v3) ?_ I
  clear I u v
  intro nl ns nr na h t oc kn wk fc le si fr go qd qu lv lw lf sv sw sf rt rl ra ap av af aw al co sg p hh xs xf xo xk xn ys yr hf
  unfold wpX_store
  rcases zn_ix v1 (n := 12) (by decide) with b1 | ⟨v, hv, rfl⟩
  · exact zx_bv0 b1 (br_f (by decide) (by unfold wpY_store; exact zy_bv0 b1 (br_f (by decide) ⟨rfl, zz_in hf⟩)))
  refine zx_bv1 hv (br_t rfl ?_)
  rcases zn_ix v3 (n := 12) (by decide) with b2 | ⟨w, hw, rfl⟩
  · exact zx_bv0 b2 (br_f (by decide) (by unfold wpY_store; exact zy_bv1 hv (br_t rfl (zy_bv0 b2 (br_f (by decide) ⟨rfl, zz_in hf⟩)))))
  refine zx_bv1 hw (br_t rfl ?_)
  rcases zn_ix v2 (n := 2) (by decide) with b3 | ⟨f, hff, rfl⟩
  · exact zx_bf0 b3 (br_f (by decide) (by unfold wpY_store; exact zy_bv1 hv (br_t rfl (zy_bv1 hw (br_t rfl (zy_bf0 b3 (br_f (by decide) ⟨rfl, zz_in hf⟩)))))))
  refine zx_bf1 hff (br_t rfl ?_)
  have hns : ns ≤ 20 := hf.1.2.1
  rcases Nat.lt_or_ge ns 20 with hl | hl
  · have hcl : (nI ns).toNatClampNeg = ns := nI_clamp (by omega)
    have hcv : (nI v).toNatClampNeg = v := nI_clamp (by omega)
    have hil : vp_in (nI ns) 20 := vp_in_nI hl (by decide)
    refine br_t (nI_lt (b := 20) hl (by decide)) (And.intro hil ?_)
    rw [hcl]
    refine nm_e (And.intro hil (nm_e (And.intro hil (nm_e (nm_r (nI_1 ns) (And.intro (vp_in_nI (by omega) (by decide)) ?_))))))
    rw [hcv]
    obtain ⟨hD, hG, hO, hK, hR⟩ := hf
    obtain ⟨l1, l2, l3⟩ := hR.1.1 v (by omega)
    refine And.intro (by rw [l2]; exact vp_in_nI l1 (by decide)) ?_
    have hD' : zD nl (ns + 1) lv lw lf (upd sv ns (nI v)) (upd sw ns (nI w)) (upd sf ns (nI f)) al := by
      obtain ⟨d1, d2, d3, d4, d5, d6, d7, d8, d9⟩ := hD
      exact ⟨d1, hl, d3, d4, d5, zV_u d6 hv (by decide), zV_u d7 hw (by decide), zV_u d8 hff (by decide), d9⟩
    have hwk : ∀ σ, zSo nl (ns + 1) lv lw lf (upd sv ns (nI v)) (upd sw ns (nI w)) (upd sf ns (nI f)) al co σ → zSo nl ns lv lw lf sv sw sf al co σ :=
      fun σ hσ => ⟨hσ.1, hσ.2.1, fun n s a b hT => hσ.2.2 n s a b ((zT_s hv hw hff).mpr (Or.inl hT))⟩
    have hI := zI_T (D := fun n s a b => s < 8 ∧ a = w ∧ b = 12 + 2 * s + f) (w := v) (zR_I hR) hwk (T' := zT nl lv lw lf (ns + 1) (upd sv ns (nI v)) (upd sw ns (nI w)) (upd sf ns (nI f))) (fun n s a b hT => (zT_s hv hw hff).mp hT)
    unfold wpX_edgesToFields
    refine ⟨9, zx_etf (set := si (zl le v)) hff (by omega) (fun s hs hbs σ hσ t' ht' => ?_) 8 0 9 t si fr go qd qu (by omega) (by omega) hI (fun s hs => absurd hs (by omega)) (fun t' si' fr' go' qd' qu' hI' m1 m2 hE => ?_)⟩
    · exact hσ.2.2 v s w (12 + 2 * s + f) ((zT_s hv hw hff).mpr (Or.inr ⟨rfl, hs, rfl, rfl⟩)) (((hR.2.1 σ (hwk σ hσ)).2.2 v (by omega) s).mpr ((hR.2.1 σ (hwk σ hσ)).1 _ l1 s hbs)) t' ht'
    · have hI2 := zI_wk (X' := zn4) (X5' := zn3) hI' (fun n s a b _ _ z => by
        obtain ⟨z1, z2, rfl, rfl⟩ := z
        exact Or.inr (Or.inr (hE s z2 z1))) (fun a b s _ _ _ _ _ z => z.elim)
      refine zx_so hD' hI2 (fun h2 t2 le2 si2 fr2 go2 qd2 qu2 hR2 => ?_)
      unfold wpY_store
      refine zy_bv1 hv (br_t rfl (zy_bv1 hw (br_t rfl (zy_bf1 hff (br_t rfl (br_f (fun z => by rw [show (20 : Int32) = nI 20 from rfl, nI_eq (by omega) (by omega)] at z; omega) (And.intro hil ?_)))))))
      rw [hcl]
      refine nm_e (And.intro hil (nm_e (And.intro hil (nm_e (nm_r (nI_1 ns) ?_)))))
      exact ⟨rfl, zz_in ⟨hD', hG, hO, Or.inl rfl, hR2⟩⟩
  · have e20 : ns = 20 := by omega
    subst e20
    refine br_f (nI_nlt (b := 20) (Nat.le_refl _) (by decide)) ?_
    unfold wpY_store
    exact zy_bv1 hv (br_t rfl (zy_bv1 hw (br_t rfl (zy_bf1 hff (br_t rfl (br_t rfl ⟨rfl, zz_in hf⟩))))))
end
section
/-! the constructors; once, region, access, pointsTo, holds -/
def zi (i : Nat) : Nat → Int32 := fun j => if j < i then nI j else 0
theorem zi_s (i : Nat) : upd (zi i) i (nI i) = zi (i + 1) := by
  funext j; unfold upd zi
  by_cases e : j = i
  · rw [if_pos e, if_pos (by omega), e]
  · rw [if_neg e]
    by_cases e2 : j < i
    · rw [if_pos e2, if_pos (by omega)]
    · rw [if_neg e2, if_neg (by omega)]
theorem zi_0 : zi 0 = fun _ => 0 := by funext j; unfold zi; rw [if_neg (by omega)]
theorem zi_l {j : Nat} (hj : j < 28) : zl (zi 28) j = j := by
  show (if j < 28 then nI j else 0).toNatClampNeg = j
  rw [if_pos hj, nI_clamp (by omega)]
theorem zx_init {post : SX → Prop} (H : post (0, 0, 0, 0, 0, 0, 0, 0, 0, zi 28, (fun _ => 0), (fun _ => 0), (fun _ => 0), (fun _ => 0), (fun _ => 0), (fun _ => 0), (fun _ => 0), (fun _ => 0), (fun _ => 0), (fun _ => 0), (fun _ => 0), (fun _ => 0), (fun _ => 0), (fun _ => 0), (fun _ => 0), (fun _ => 0), (fun _ => 0), (fun _ => 0), (fun _ => 0), (fun _ => 0), (fun _ => 0), (fun _ => 0), (fun _ => 0))) : wpX_init post := by
  have key : ∀ (d i m : Nat), i + d = 28 → d < m → wX_init_198 post 0 0 0 0 0 0 0 0 0 m (nI i) (zi i) (fun _ => 0) (fun _ => 0) (fun _ => 0) (fun _ => 0) (fun _ => 0) (fun _ => 0) (fun _ => 0) (fun _ => 0) (fun _ => 0) (fun _ => 0) (fun _ => 0) (fun _ => 0) (fun _ => 0) (fun _ => 0) (fun _ => 0) (fun _ => 0) (fun _ => 0) (fun _ => 0) (fun _ => 0) (fun _ => 0) (fun _ => 0) (fun _ => 0) (fun _ => 0) := by
    intro d
    induction d with
    | zero =>
      intro i m hi hm
      obtain ⟨m, rfl⟩ : ∃ k, m = k + 1 := ⟨m - 1, by omega⟩
      have e : i = 28 := by omega
      subst e
      exact br_t (nI_le (a := 28) (b := 28) (by decide) (by decide)) H
    | succ d ih =>
      intro i m hi hm
      obtain ⟨m, rfl⟩ : ∃ k, m = k + 1 := ⟨m - 1, by omega⟩
      refine br_f (nI_ge (b := 28) (by omega) (by decide)) (And.intro (vp_in_nI (by omega) (by decide)) ?_)
      rw [nI_clamp (by omega : i < 2 ^ 31), zi_s]
      exact nm_e (nm_r (nI_1 i) (ih (i + 1) m (by omega) (by omega)))
  have k0 := key 28 0 29 (by omega) (by omega)
  rw [zi_0] at k0
  exact ⟨29, k0⟩
theorem zf_0 : zFx 0 0 0 0 0 0 0 0 (zi 28) (fun _ => 0) (fun _ => 0) (fun _ => 0) (fun _ => 0) (fun _ => 0) (fun _ => 0) (fun _ => 0) (fun _ => 0) (fun _ => 0) (fun _ => 0) (fun _ => 0) (fun _ => 0) (fun _ => 0) (fun _ => 0) (fun _ => 0) (fun _ => 0) (fun _ => 0) (fun _ => 0) (fun _ => 0) (fun _ => 0) (fun _ => 0) := by
  have hv : ∀ (a : Nat → Int32) N, zV a 0 N := fun a N i hi => absurd hi (by omega)
  have hb : ∀ s, ¬ bt 0 s = true := fun s z => by rw [b_0] at z; exact absurd z (by decide)
  refine ⟨⟨by omega, by omega, hv _ _, hv _ _, hv _ _, hv _ _, hv _ _, hv _ _, fun v _ => z8_0⟩, ⟨by omega, by omega, hv _ _, hv _ _, fun r hr => absurd hr (by omega), hv _ _, hv _ _⟩, fun s _ => ?_, Or.inl rfl, ?_⟩
  · rw [if_neg (hb s)]
  · refine ⟨⟨fun j hj => ?_, fun j _ => z8_0, fun j _ s hs => absurd hs (hb s)⟩, fun σ _ => ⟨fun j _ s hs => absurd hs (hb s), fun a b _ _ hs => absurd hs (hb b), fun j hj s => by rw [zi_l hj]⟩, ⟨fun n s hA => absurd hA.2.2 (hb s), fun a b hK => absurd hK.2.2 (hb a), fun n s a b hT hs => absurd hs (hb s), fun a b s _ _ _ hs => absurd hs (hb b), fun a s _ _ hs => absurd hs (hb s)⟩, ?_⟩
    · rw [zi_l hj, zi_l hj]
      exact ⟨hj, by show (if j < 28 then nI j else 0) = nI j; rw [if_pos hj], rfl⟩
    · refine ⟨List.nodup_nil, fun x hx => absurd hx (by simp), 0, by omega, rfl, rfl, fun i x hx => absurd hx (by simp), fun j _ => ?_⟩
      rw [if_neg (by simp)]
theorem i_vc0 : wpX_init (fun u => wpY_init (fun v => i_Rel 0 u v)) := zx_init (by
  unfold wpY_init
  exact zz_in (nl := 0) (ns := 0) (nr := 0) (na := 0) zf_0)
theorem i_vc_once {k : Nat} {u : SX} {v : SY} (I : i_Rel k u v) (hk : k + 5 ≤ 2560) (v1 : Int32) (v2 : Int32) : wpX_once (fun r u' => wpY_once (fun r' v' => r' = r ∧ i_Rel (k + 5) u' v') v v1 (lw_bz v2)) u v1 (lw_bz v2) := by
  refine zz_el (C := fun u v => wpX_once (fun r u' => wpY_once (fun r' v' => r' = r ∧ i_Rel (k + 5) u' v') v v1 (lw_bz v2)) u v1 (lw_bz v2)) ?_ I
  clear I u v
  intro nl ns nr na h t oc kn wk fc le si fr go qd qu lv lw lf sv sw sf rt rl ra ap av af aw al co sg p hh xs xf xo xk xn ys yr hf
  unfold wpX_once
  rcases zn_ix v1 (n := 8) (by decide) with b1 | ⟨s, hs, rfl⟩
  · refine zx_bs0 b1 (br_f (by decide) ?_)
    unfold wpY_once
    exact br_c (fun _ => ⟨rfl, zz_in hf⟩) (fun z => br_f (b1.elim (fun y => absurd y z) (fun y => zn_nle (n := 7) (by decide) y)) ⟨rfl, zz_in hf⟩)
  · refine zx_bs1 hs (br_t rfl ?_)
    have hc : (nI s).toNatClampNeg = s := nI_clamp (by omega)
    have hi : vp_in (nI s) 8 := vp_in_nI hs (by decide)
    obtain ⟨hD, hG, hO, hK, hR⟩ := hf
    have eO : (oc >>> (nI s &&& 31)) &&& 1 = sg s := by
      rw [zb_v (by omega), hO s hs]
      cases bt oc s <;> rfl
    have hb1 : ∀ r, bt (oc &&& (((1 : Int32) <<< (nI s &&& 31)) ^^^ (-1))) r = (bt oc r && !decide (r = s)) := fun r => by rw [zb_an, zb_1 (by omega)]
    have hsg : sg s = 0 ∨ sg s = 1 := by
      rw [hO s hs]
      cases bt oc s
      · exact Or.inl rfl
      · exact Or.inr rfl
    refine nm_r eO (nm_e ?_)
    rcases lw_bz_01 v2 with e | e
    · rw [e]
      refine br_t rfl ?_
      have hO' : zO (oc &&& (((1 : Int32) <<< (nI s &&& 31)) ^^^ (-1))) (upd sg s 0) := by
        intro r hr
        rw [hb1]
        by_cases er : r = s
        · rw [er, pk_us, decide_eq_true (rfl : s = s)]; simp
        · rw [pk_un er, hO r hr, decide_eq_false er]; simp
      unfold wpY_once
      refine br_f (nI_pos (by omega)) (br_t (nI_le (b := 7) (by omega) (by decide)) (And.intro hi ?_))
      rw [hc]
      rcases hsg with e0 | e0
      · rw [e0]
        refine br_t rfl (And.intro hi ?_)
        rw [hc]
        exact nm_e ⟨rfl, zz_in ⟨hD, hG, hO', hK, hR⟩⟩
      · rw [e0]
        refine br_f (by decide) (And.intro hi ?_)
        rw [hc]
        exact nm_e ⟨rfl, zz_in ⟨hD, hG, hO', hK, hR⟩⟩
    · rw [e]
      refine br_f (by decide) (nm_e ?_)
      have hO' : zO ((oc &&& (((1 : Int32) <<< (nI s &&& 31)) ^^^ (-1))) ||| ((1 : Int32) <<< (nI s &&& 31))) (upd sg s 1) := by
        intro r hr
        rw [b_or, hb1, zb_1 (by omega)]
        by_cases er : r = s
        · rw [er, pk_us, decide_eq_true (rfl : s = s)]; simp
        · rw [pk_un er, hO r hr, decide_eq_false er]; simp
      unfold wpY_once
      refine br_f (nI_pos (by omega)) (br_t (nI_le (b := 7) (by omega) (by decide)) (And.intro hi ?_))
      rw [hc]
      rcases hsg with e0 | e0
      · rw [e0]
        refine br_t rfl (And.intro hi ?_)
        rw [hc]
        exact nm_e ⟨rfl, zz_in ⟨hD, hG, hO', hK, hR⟩⟩
      · rw [e0]
        refine br_f (by decide) (And.intro hi ?_)
        rw [hc]
        exact nm_e ⟨rfl, zz_in ⟨hD, hG, hO', hK, hR⟩⟩
theorem zG_r {nr na th v : Nat} {rt rl ra ap av : Nat → Int32} {x : Int32} (hG : zG nr na rt rl ra ap av) (hr : nr < 12) (hth : th < 4) (hv : v < 12) (hx : x = -1 ∨ ∃ a, a < nr ∧ x = nI a) :
    zG (nr + 1) na (upd rt nr (nI th)) (upd rl nr (nI v)) (upd ra nr x) ap av := by
  obtain ⟨g1, g2, g3, g4, g5, g6, g7⟩ := hG
  refine ⟨hr, g2, zV_u g3 hth (by decide), zV_u g4 hv (by decide), fun r hr' => ?_, fun i hi => ⟨by have := (g6 i hi).1; omega, (g6 i hi).2⟩, g7⟩
  by_cases e : r = nr
  · rw [e, pk_us]; exact hx
  · rw [pk_un e]; exact g5 r (by omega)
section
variable {nl ns nr na k : Nat} {h t oc kn wk fc : Int32} {le si fr go qd qu lv lw lf sv sw sf rt rl ra ap av af aw al co sg p hh xs xf xo xk xn ys yr : Nat → Int32}
theorem zr_49 {th v : Nat} {x : Int32} (hth : th < 4) (hv : v < 12) (hx : x = -1 ∨ ∃ a, a < nr ∧ x = nI a) {Z : (Int32 → SY → Prop) → Prop}
    (hf : zFx nl ns nr na h t oc kn le si fr go qd qu lv lw lf sv sw sf rt rl ra ap av al co sg p hh)
    (hZ : ∀ post, wY_region_48 post (nI th) (nI v) x (nI nl) (nI ns) (nI nr) (nI na) kn al co lv lw lf sv sw sf sg rt rl ra ap av af aw p hh ys yr → Z post) :
    wX_region_49 (fun r u' => Z (fun r' v' => r' = r ∧ i_Rel (k + 5) u' v')) (nI th) (nI v) x h t (nI nl) (nI ns) oc (nI nr) (nI na) wk fc le si fr go qd qu lv lw lf sv sf sw rt rl ra ap av af aw xs xf xo xk xn := by
  have hnr : nr ≤ 12 := hf.2.1.1
  unfold wX_region_49
  rcases Nat.lt_or_ge nr 12 with hr | hr
  · have hc : (nI nr).toNatClampNeg = nr := nI_clamp (by omega)
    have hi : vp_in (nI nr) 12 := vp_in_nI hr (by decide)
    refine br_t (nI_lt (b := 12) hr (by decide)) (And.intro hi ?_)
    rw [hc]
    refine nm_e (And.intro hi (nm_e (And.intro hi (nm_e (nm_r (nI_1 nr) (hZ _ ?_))))))
    unfold wY_region_48
    refine br_f (fun z => by rw [show (12 : Int32) = nI 12 from rfl, nI_eq (by omega) (by omega)] at z; omega) (And.intro hi ?_)
    rw [hc]
    obtain ⟨hD, hG, hO, hK, hR⟩ := hf
    refine nm_e (And.intro hi (nm_e (And.intro hi (nm_e (nm_r (nI_1 nr) ?_)))))
    exact ⟨nI_pred nr, zz_in ⟨hD, zG_r hG hr hth hv hx, hO, hK, hR⟩⟩
  · have e : nr = 12 := by omega
    subst e
    refine br_f (nI_nlt (b := 12) (Nat.le_refl _) (by decide)) (hZ _ ?_)
    unfold wY_region_48
    exact br_t rfl ⟨rfl, zz_in hf⟩
end
theorem zn_m1 {x : Int32} (h1 : ¬ x < -1) (h2 : x < 0) : x = -1 := by
  apply Int32.toInt_inj.mp
  rw [Int32.lt_iff_toInt_lt] at h1 h2
  have a : (-1 : Int32).toInt = -1 := by decide
  have b : (0 : Int32).toInt = 0 := by decide
  rw [a] at h1 ⊢
  rw [b] at h2
  omega
theorem i_vc_region {k : Nat} {u : SX} {v : SY} (I : i_Rel k u v) (hk : k + 5 ≤ 2560) (v1 : Int32) (v2 : Int32) (v3 : Int32) : wpX_region (fun r u' => wpY_region (fun r' v' => r' = r ∧ i_Rel (k + 5) u' v') v v1 v2 v3) u v1 v2 v3 := by
  refine zz_el (C := fun u v => wpX_region (fun r u' => wpY_region (fun r' v' => r' = r ∧ i_Rel (k + 5) u' v') v v1 v2 v3) u v1 v2 v3) ?_ I
  clear I u v
  intro nl ns nr na h t oc kn wk fc le si fr go qd qu lv lw lf sv sw sf rt rl ra ap av af aw al co sg p hh xs xf xo xk xn ys yr hf
  have hnr : nr ≤ 12 := hf.2.1.1
  unfold wpX_region
  refine br_c (fun c1 => by unfold wpY_region; exact br_t c1 ⟨rfl, zz_in hf⟩) (fun c1 => br_c (fun c2 => by unfold wpY_region; exact br_f c1 (br_t c2 ⟨rfl, zz_in hf⟩)) (fun c2 => ?_))
  rcases zn_ix v2 (n := 12) (by decide) with b1 | ⟨v, hv, rfl⟩
  · exact zx_bv0 b1 (br_f (by decide) (by unfold wpY_region; exact br_f c1 (br_f c2 (zy_bv0 b1 (br_f (by decide) ⟨rfl, zz_in hf⟩)))))
  refine zx_bv1 hv (br_t rfl ?_)
  have hth : ∃ th, th < 4 ∧ v1 = nI th := by
    obtain ⟨j, hj, e⟩ := nI_of2 (n := 3) (show (3 : Int32).toInt = ((3 : Nat) : Int) by decide) c1 (Int32.not_lt.mp c2)
    exact ⟨j, by omega, e⟩
  obtain ⟨th, hth, rfl⟩ := hth
  refine br_c (fun c3 => by unfold wpY_region; exact br_f c1 (br_f c2 (zy_bv1 hv (br_t rfl (br_t c3 ⟨rfl, zz_in hf⟩))))) (fun c3 => br_c (fun c4 => ?_) (fun c4 => by unfold wpY_region; exact br_f c1 (br_f c2 (zy_bv1 hv (br_t rfl (br_f c3 (br_f c4 ⟨rfl, zz_in hf⟩)))))))
  refine br_c (fun c5 => ?_) (fun c5 => ?_)
  · refine zr_49 (ys := ys) (yr := yr) hth hv (Or.inl (zn_m1 c3 c5)) (Z := fun post => wpY_region post (nI nl, nI ns, nI nr, nI na, kn, al, co, lv, lw, lf, sv, sw, sf, sg, rt, rl, ra, ap, av, af, aw, p, hh, ys, yr) (nI th) (nI v) v3) hf (fun post hp => ?_)
    unfold wpY_region
    exact br_f c1 (br_f c2 (zy_bv1 hv (br_t rfl (br_f c3 (br_t c4 (br_t c5 hp))))))
  · have ha : ∃ a, a < nr ∧ v3 = nI a := by
      obtain ⟨j, hj, rfl⟩ := nI_of c5
      rw [nI_ltI hj (by omega)] at c4
      exact ⟨j, c4, rfl⟩
    obtain ⟨a, ha, rfl⟩ := ha
    have hia : vp_in (nI a) 12 := vp_in_nI (by omega) (by decide)
    refine And.intro hia (br_c (fun c6 => ?_) (fun c6 => ?_))
    · refine zr_49 (ys := ys) (yr := yr) hth hv (Or.inr ⟨a, ha, rfl⟩) (Z := fun post => wpY_region post (nI nl, nI ns, nI nr, nI na, kn, al, co, lv, lw, lf, sv, sw, sf, sg, rt, rl, ra, ap, av, af, aw, p, hh, ys, yr) (nI th) (nI v) (nI a)) hf (fun post hp => ?_)
      unfold wpY_region
      exact br_f c1 (br_f c2 (zy_bv1 hv (br_t rfl (br_f c3 (br_t c4 (br_f c5 (And.intro hia (br_t c6 hp))))))))
    · unfold wpY_region
      exact br_f c1 (br_f c2 (zy_bv1 hv (br_t rfl (br_f c3 (br_t c4 (br_f c5 (And.intro hia (br_f c6 ⟨rfl, zz_in hf⟩))))))))
section
variable {nl ns nr na k : Nat} {h t oc kn wk fc : Int32} {le si fr go qd qu lv lw lf sv sw sf rt rl ra ap av af aw al co sg p hh xs xf xo xk xn ys yr : Nat → Int32}
theorem zn_4 (n : Nat) : (4 : Int32) + nI n = nI (4 + n) := by rw [show (4 : Int32) = nI 4 from rfl, nI_add]
theorem zx_bp1 {post : Int32 → Prop} {j : Nat} (hr : nr ≤ 12) (hj : j < 4 + nr) (H : post 0) : wpX_badPlace post (h, t, nI nl, nI ns, oc, nI nr, nI na, wk, fc, le, si, fr, go, qd, qu, lv, lw, lf, sv, sf, sw, rt, rl, ra, ap, av, af, aw, xs, xf, xo, xk, xn) (nI j) := by
  unfold wpX_badPlace
  refine br_f (nI_pos (by omega)) (br_t ?_ H)
  rw [zn_4]; exact nI_lt hj (by omega)
theorem zx_bp0 {post : Int32 → Prop} {v : Int32} (hv : v < 0 ∨ nI (4 + nr) ≤ v) (H : post 1) : wpX_badPlace post (h, t, nI nl, nI ns, oc, nI nr, nI na, wk, fc, le, si, fr, go, qd, qu, lv, lw, lf, sv, sf, sw, rt, rl, ra, ap, av, af, aw, xs, xf, xo, xk, xn) v := by
  unfold wpX_badPlace
  refine br_c (fun _ => H) (fun z => br_f ?_ H)
  rw [zn_4]
  exact hv.elim (fun y => absurd y z) (fun y => Int32.not_lt.mpr y)
theorem zy_bp1 {post : Int32 → Prop} {j : Nat} (hr : nr ≤ 12) (hj : j < 4 + nr) (H : post 0) : wpY_badPlace post (nI nl, nI ns, nI nr, nI na, kn, al, co, lv, lw, lf, sv, sw, sf, sg, rt, rl, ra, ap, av, af, aw, p, hh, ys, yr) (nI j) := by
  unfold wpY_badPlace
  refine br_f (nI_pos (by omega)) (br_t ?_ H)
  rw [zn_4]; exact nI_lt hj (by omega)
theorem zy_bp0 {post : Int32 → Prop} {v : Int32} (hv : v < 0 ∨ nI (4 + nr) ≤ v) (H : post 1) : wpY_badPlace post (nI nl, nI ns, nI nr, nI na, kn, al, co, lv, lw, lf, sv, sw, sf, sg, rt, rl, ra, ap, av, af, aw, p, hh, ys, yr) v := by
  unfold wpY_badPlace
  refine br_c (fun _ => H) (fun z => br_f ?_ H)
  rw [zn_4]
  exact hv.elim (fun y => absurd y z) (fun y => Int32.not_lt.mpr y)
end
theorem i_vc_access {k : Nat} {u : SX} {v : SY} (I : i_Rel k u v) (hk : k + 5 ≤ 2560) (v1 : Int32) (v2 : Int32) (v3 : Int32) (v4 : Int32) : wpX_access (fun r u' => wpY_access (fun r' v' => r' = r ∧ i_Rel (k + 5) u' v') v v1 v2 v3 (lw_bz v4)) u v1 v2 v3 (lw_bz v4) := by
  refine zz_el (C := fun u v => wpX_access (fun r u' => wpY_access (fun r' v' => r' = r ∧ i_Rel (k + 5) u' v') v v1 v2 v3 (lw_bz v4)) u v1 v2 v3 (lw_bz v4)) ?_ I
  clear I u v
  intro nl ns nr na h t oc kn wk fc le si fr go qd qu lv lw lf sv sw sf rt rl ra ap av af aw al co sg p hh xs xf xo xk xn ys yr hf
  have hnr : nr ≤ 12 := hf.2.1.1
  have hna : na ≤ 16 := hf.2.1.2.1
  unfold wpX_access
  rcases zn_ix v1 (n := 4 + nr) (by omega) with b1 | ⟨pl, hpl, rfl⟩
  · exact zx_bp0 b1 (br_f (by decide) (by unfold wpY_access; exact zy_bp0 b1 (br_f (by decide) ⟨rfl, zz_in hf⟩)))
  refine zx_bp1 hnr hpl (br_t rfl ?_)
  rcases zn_ix v2 (n := 12) (by decide) with b2 | ⟨v, hv, rfl⟩
  · exact zx_bv0 b2 (br_f (by decide) (by unfold wpY_access; exact zy_bp1 hnr hpl (br_t rfl (zy_bv0 b2 (br_f (by decide) ⟨rfl, zz_in hf⟩)))))
  refine zx_bv1 hv (br_t rfl ?_)
  rcases zn_ix v3 (n := 2) (by decide) with b3 | ⟨f, hff, rfl⟩
  · exact zx_bf0 b3 (br_f (by decide) (by unfold wpY_access; exact zy_bp1 hnr hpl (br_t rfl (zy_bv1 hv (br_t rfl (zy_bf0 b3 (br_f (by decide) ⟨rfl, zz_in hf⟩)))))))
  refine zx_bf1 hff (br_t rfl ?_)
  rcases Nat.lt_or_ge na 16 with hl | hl
  · have hcl : (nI na).toNatClampNeg = na := nI_clamp (by omega)
    have hil : vp_in (nI na) 16 := vp_in_nI hl (by decide)
    refine br_t (nI_lt (b := 16) hl (by decide)) (And.intro hil ?_)
    rw [hcl]
    refine nm_e (And.intro hil (nm_e (And.intro hil (nm_e (And.intro hil (nm_e (nm_r (nI_1 na) ?_)))))))
    obtain ⟨hD, ⟨g1, g2, g3, g4, g5, g6, g7⟩, hO, hK, hR⟩ := hf
    unfold wpY_access
    refine zy_bp1 hnr hpl (br_t rfl (zy_bv1 hv (br_t rfl (zy_bf1 hff (br_t rfl (br_f (fun z => by rw [show (16 : Int32) = nI 16 from rfl, nI_eq (by omega) (by omega)] at z; omega) (And.intro hil ?_)))))))
    rw [hcl]
    refine nm_e (And.intro hil (nm_e (And.intro hil (nm_e (And.intro hil (nm_e (nm_r (nI_1 na) ?_)))))))
    exact ⟨nI_pred na, zz_in ⟨hD, ⟨g1, hl, g3, g4, g5, zV_u g6 hpl (by omega), zV_u g7 hv (by decide)⟩, hO, hK, hR⟩⟩
  · have e16 : na = 16 := by omega
    subst e16
    refine br_f (nI_nlt (b := 16) (Nat.le_refl _) (by decide)) ?_
    unfold wpY_access
    exact zy_bp1 hnr hpl (br_t rfl (zy_bv1 hv (br_t rfl (zy_bf1 hff (br_t rfl (br_t rfl ⟨rfl, zz_in hf⟩))))))
theorem i_vc_pointsTo {k : Nat} {u : SX} {v : SY} (I : i_Rel k u v) (hk : k + 5 ≤ 2560) (v1 : Int32) : wpX_pointsTo (fun r => wpY_pointsTo (fun r' v' => r' = r ∧ i_Rel (k + 5) u v') v v1) u v1 := by
  refine zz_el (C := fun u v => wpX_pointsTo (fun r => wpY_pointsTo (fun r' v' => r' = r ∧ i_Rel (k + 5) u v') v v1) u v1) ?_ I
  clear I u v
  intro nl ns nr na h t oc kn wk fc le si fr go qd qu lv lw lf sv sw sf rt rl ra ap av af aw al co sg p hh xs xf xo xk xn ys yr hf
  unfold wpX_pointsTo
  rcases zn_ix v1 (n := 12) (by decide) with b1 | ⟨v, hv, rfl⟩
  · exact zx_bv0 b1 (br_f (by decide) (by unfold wpY_pointsTo; exact zy_bv0 b1 (br_f (by decide) ⟨rfl, zz_in hf⟩)))
  · have hcv : (nI v).toNatClampNeg = v := nI_clamp (by omega)
    obtain ⟨hD, hG, hO, hK, hR⟩ := hf
    obtain ⟨l1, l2, l3⟩ := hR.1.1 v (by omega)
    refine zx_bv1 hv (br_t rfl (And.intro (vp_in_nI (by omega) (by decide)) ?_))
    rw [hcv]
    refine And.intro (by rw [l2]; exact vp_in_nI l1 (by decide)) ?_
    unfold wpY_pointsTo
    refine zy_bv1 hv (br_t rfl (zy_wo hD hR hK (fun p' hh' e1 e2 => And.intro (vp_in_nI hv (by decide)) ?_)))
    rw [hcv]
    exact ⟨e1 v hv, zz_in ⟨hD, hG, hO, Or.inr ⟨rfl, e1, e2⟩, hR⟩⟩
theorem i_vc_holds {k : Nat} {u : SX} {v : SY} (I : i_Rel k u v) (hk : k + 5 ≤ 2560) (v1 : Int32) (v2 : Int32) : wpX_holds (fun r => wpY_holds (fun r' v' => r' = r ∧ i_Rel (k + 5) u v') v v1 v2) u v1 v2 := by
  refine zz_el (C := fun u v => wpX_holds (fun r => wpY_holds (fun r' v' => r' = r ∧ i_Rel (k + 5) u v') v v1 v2) u v1 v2) ?_ I
  clear I u v
  intro nl ns nr na h t oc kn wk fc le si fr go qd qu lv lw lf sv sw sf rt rl ra ap av af aw al co sg p hh xs xf xo xk xn ys yr hf
  unfold wpX_holds
  rcases zn_ix v1 (n := 8) (by decide) with b1 | ⟨s, hs, rfl⟩
  · refine zx_bs0 b1 (br_f (by decide) ?_)
    unfold wpY_holds
    refine br_c (fun _ => ⟨rfl, zz_in hf⟩) (fun z => br_t ?_ ⟨rfl, zz_in hf⟩)
    rcases b1 with y | y
    · exact absurd y z
    · exact Int32.not_le.mp (zn_nle (n := 7) (by decide) y)
  refine zx_bs1 hs (br_t rfl ?_)
  have hs7 : ¬ (7 : Int32) < nI s := nI_nlt (a := 7) (by omega) (by decide)
  rcases zn_ix v2 (n := 2) (by decide) with b3 | ⟨f, hff, rfl⟩
  · exact zx_bf0 b3 (br_f (by decide) (by unfold wpY_holds; exact br_f (nI_pos (by omega)) (br_f hs7 (zy_bf0 b3 (br_f (by decide) ⟨rfl, zz_in hf⟩)))))
  refine zx_bf1 hff (br_t rfl ?_)
  rw [zn_fld, nI_clamp (by omega : 12 + 2 * s + f < 2 ^ 31)]
  obtain ⟨hD, hG, hO, hK, hR⟩ := hf
  obtain ⟨l1, l2, l3⟩ := hR.1.1 (12 + 2 * s + f) (by omega)
  refine And.intro (vp_in_nI (by omega) (by decide)) (And.intro (by rw [l2]; exact vp_in_nI l1 (by decide)) ?_)
  unfold wpY_holds
  refine br_f (nI_pos (by omega)) (br_f hs7 (zy_bf1 hff (br_t rfl (zy_wo hD hR hK (fun p' hh' e1 e2 => ?_)))))
  show vp_in ((nI s * 2) + nI f) 16 ∧ _
  rw [zn_h2, nI_clamp (by omega : 2 * s + f < 2 ^ 31)]
  refine And.intro (vp_in_nI (by omega) (by decide)) ⟨?_, zz_in ⟨hD, hG, hO, Or.inr ⟨rfl, e1, e2⟩, hR⟩⟩
  rw [e2 (2 * s + f) (by omega), ← Nat.add_assoc]
  rfl
end
section
/-! held, race, races -/
def zlk (oc lock : Int32) : Int32 := if lock &&& (lock - 1) = 0 then lock &&& oc else 0
def zhm (P rl ra : Nat → Int32) (oc : Int32) : Nat → Int32 → Int32 → Int32
  | 0, m, _ => m
  | d + 1, m, r => if r < 0 then m else zhm P rl ra oc d (m ||| zlk oc (P (zl rl r.toNatClampNeg))) (ra r.toNatClampNeg)
def zhv (P rl ra : Nat → Int32) (oc : Int32) (pl : Nat) : Int32 := if 4 ≤ pl then zhm P rl ra oc 12 0 (nI (pl - 4)) else 0
def zth (rt : Nat → Int32) (pl : Nat) : Int32 := if 4 ≤ pl then rt (pl - 4) else nI pl
def zcf (P rt rl ra ap av af aw : Nat → Int32) (oc : Int32) (i j : Nat) : Int32 :=
  if zth rt (zl ap i) = zth rt (zl ap j) then 0 else if ¬ af i = af j then 0 else if aw i = 0 ∧ aw j = 0 then 0 else
  if P (zl av i) &&& P (zl av j) = 0 then 0 else if zhv P rl ra oc (zl ap i) &&& zhv P rl ra oc (zl ap j) = 0 then 1 else 0
theorem zw_255 {x : Int32} (h : z8 x) : ∃ m, m < 256 ∧ x = nI m := by
  have e : x &&& 255 = x := b_ext fun i _ => by
    rw [b_and, b_255]
    rcases Nat.lt_or_ge i 8 with z | z
    · rw [decide_eq_true z, Bool.and_true]
    · rw [h i z]; rfl
  obtain ⟨j, hj, e2⟩ := pk_andE x (m := 255) 8 (by decide)
  exact ⟨j, by omega, by rw [← e2, e]⟩
theorem zw_pow : ∀ m, m < 256 → nI m &&& (nI m - 1) = 0 → nI m = 0 ∨ ∃ j, j < 8 ∧ nI m = (1 : Int32) <<< (nI j &&& 31) := by decide +kernel
theorem zw_one : ∀ j, j < 8 → ((1 : Int32) <<< (nI j &&& 31)) &&& (((1 : Int32) <<< (nI j &&& 31)) - 1) = 0 := by decide +kernel
theorem zlk_b {oc lock : Int32} (h : z8 lock) (j : Nat) : bt (zlk oc lock) j = true ↔ j < 8 ∧ lock = (1 : Int32) <<< (nI j &&& 31) ∧ bt oc j = true := by
  unfold zlk
  constructor
  · intro hb
    by_cases e : lock &&& (lock - 1) = 0
    · rw [if_pos e, b_and, Bool.and_eq_true] at hb
      obtain ⟨m, hm, rfl⟩ := zw_255 h
      rcases zw_pow m hm e with z | ⟨i, hi, z⟩
      · rw [z, b_0] at hb; exact absurd hb.1 (by decide)
      · rw [z, zb_1 (by omega), decide_eq_true_eq] at hb
        obtain ⟨rfl, h2⟩ := hb
        exact ⟨hi, z, h2⟩
    · rw [if_neg e, b_0] at hb; exact absurd hb (by decide)
  · rintro ⟨hj, rfl, h2⟩
    rw [if_pos (zw_one j hj), b_and, zb_1 (by omega), decide_eq_true (rfl : j = j), h2]
    rfl
section
variable {nl ns nr na k : Nat} {h t oc kn wk fc : Int32} {le si fr go qd qu lv lw lf sv sw sf rt rl ra ap av af aw al co sg p hh xs xf xo xk xn ys yr P : Nat → Int32}
theorem zx_h18 {post : Int32 → Prop} (hW : zW le si fr) (hnr : nr ≤ 12) (g4 : zV rl nr 12) (g5 : ∀ r, r < nr → ra r = -1 ∨ ∃ a, a < r ∧ ra r = nI a) :
    ∀ (d i n : Nat) (x2 x3 : Int32), i + d = 12 → d < n → (x3 < 0 ∨ ∃ a, a < nr ∧ x3 = nI a) → post (zhm (zP le si) rl ra oc d x2 x3) → wX_heldAt_18 post h t (nI nl) (nI ns) oc (nI nr) (nI na) wk fc le si fr go qd qu lv lw lf sv sf sw rt rl ra ap av af aw xs xf xo xk xn n x2 x3 (nI i) := by
  intro d
  induction d with
  | zero =>
    intro i n x2 x3 hi hn hx H
    obtain ⟨n, rfl⟩ : ∃ m, n = m + 1 := ⟨n - 1, by omega⟩
    have e : i = 12 := by omega
    subst e
    exact br_t (nI_le (a := 12) (b := 12) (by decide) (by decide)) H
  | succ d ih =>
    intro i n x2 x3 hi hn hx H
    obtain ⟨n, rfl⟩ : ∃ m, n = m + 1 := ⟨n - 1, by omega⟩
    refine br_f (nI_ge (b := 12) (by omega) (by decide)) ?_
    by_cases c : x3 < 0
    · refine br_t c ?_
      unfold zhm at H
      rwa [if_pos c] at H
    · refine br_f c ?_
      obtain ⟨a, ha, rfl⟩ : ∃ a, a < nr ∧ x3 = nI a := hx.elim (fun z => absurd z c) id
      have hca : (nI a).toNatClampNeg = a := nI_clamp (by omega)
      obtain ⟨b1, b2⟩ := g4 a ha
      obtain ⟨l1, l2, l3⟩ := hW.1 (zl rl a) (by omega)
      have hia : vp_in (nI a) 12 := vp_in_nI (by omega) (by decide)
      have hnx : ra a < 0 ∨ ∃ b, b < nr ∧ ra a = nI b := by
        rcases g5 a ha with z | ⟨b, hb, z⟩
        · rw [z]; exact Or.inl (by decide)
        · exact Or.inr ⟨b, by omega, z⟩
      unfold zhm at H
      rw [if_neg c, hca] at H
      refine And.intro hia ?_
      rw [hca]
      refine And.intro (by rw [b2]; exact vp_in_nI (by omega) (by decide)) (And.intro ?_ (nm_e ?_))
      · show vp_in (le (zl rl a)) 28
        rw [l2]; exact vp_in_nI l1 (by decide)
      · unfold zlk at H
        refine br_c (fun c2 => ?_) (fun c2 => ?_)
        · have c3 : zP le si (zl rl a) &&& (zP le si (zl rl a) - 1) = 0 := c2
          rw [if_pos c3] at H
          exact nm_e (And.intro hia (nm_e (nm_r (nI_1 i) (ih (i + 1) n _ _ (by omega) (by omega) hnx H))))
        · have c3 : ¬ zP le si (zl rl a) &&& (zP le si (zl rl a) - 1) = 0 := c2
          rw [if_neg c3, Int32.or_zero] at H
          exact And.intro hia (nm_e (nm_r (nI_1 i) (ih (i + 1) n _ _ (by omega) (by omega) hnx H)))
theorem zn_s4 {pl : Nat} (h : 4 ≤ pl) : nI pl - 4 = nI (pl - 4) := by rw [show (4 : Int32) = nI 4 from rfl, pk_sub h]
theorem zx_held {post : Int32 → Prop} (hW : zW le si fr) (hnr : nr ≤ 12) (g4 : zV rl nr 12) (g5 : ∀ r, r < nr → ra r = -1 ∨ ∃ a, a < r ∧ ra r = nI a) {pl : Nat} (hpl : pl < 4 + nr)
    (H : post (zhv (zP le si) rl ra oc pl)) : wpX_heldAt post (h, t, nI nl, nI ns, oc, nI nr, nI na, wk, fc, le, si, fr, go, qd, qu, lv, lw, lf, sv, sf, sw, rt, rl, ra, ap, av, af, aw, xs, xf, xo, xk, xn) (nI pl) := by
  unfold wpX_heldAt
  unfold zhv at H
  by_cases c : 4 ≤ pl
  · rw [if_pos c] at H
    refine br_t (nI_le (a := 4) c (by omega)) (nm_r (zn_s4 c) ⟨13, zx_h18 hW hnr g4 g5 12 0 13 0 _ (by omega) (by omega) (Or.inr ⟨pl - 4, by omega, rfl⟩) H⟩)
  · rw [if_neg c] at H
    exact br_f (nI_ge (b := 4) (by omega) (by decide)) ⟨13, zx_h18 hW hnr g4 g5 12 0 13 0 _ (by omega) (by omega) (Or.inl (by decide)) H⟩
theorem zy_h37 {post : Int32 → SY → Prop} {J23 : Int32 → Int32 → Int32 → Prop} (hO : zO oc sg) (hnr : nr ≤ 12) (g4 : zV rl nr 12) {a i4 : Nat} (ha : a < nr) {x0 : Int32} (h8 : z8 (p (zl rl a)))
    (H : J23 (x0 ||| zlk oc (p (zl rl a))) (ra a) (nI (i4 + 1))) :
    ∀ (d i n : Nat) (x2 : Int32), i + d = 8 → d < n → (∀ j, bt x2 j = true ↔ bt x0 j = true ∨ (j < i ∧ p (zl rl a) = (1 : Int32) <<< (nI j &&& 31) ∧ bt oc j = true)) → wY_held_37 post J23 (nI a) (nI i4) (nI nl) (nI ns) (nI nr) (nI na) kn al co lv lw lf sv sw sf sg rt rl ra ap av af aw p hh ys yr n x2 (nI i) := by
  have hca : (nI a).toNatClampNeg = a := nI_clamp (by omega)
  have hia : vp_in (nI a) 12 := vp_in_nI (by omega) (by decide)
  obtain ⟨b1, b2⟩ := g4 a ha
  intro d
  induction d with
  | zero =>
    intro i n x2 hi hn hx
    obtain ⟨n, rfl⟩ : ∃ m, n = m + 1 := ⟨n - 1, by omega⟩
    have e : i = 8 := by omega
    subst e
    refine br_t (nI_le (a := 8) (b := 8) (by decide) (by decide)) (And.intro hia ?_)
    rw [hca]
    have ex : x2 = x0 ||| zlk oc (p (zl rl a)) := b_ext fun j _ => Bool.eq_iff_iff.mpr (by rw [hx j, b_or, Bool.or_eq_true, zlk_b h8])
    rw [ex]
    exact nm_e (nm_r (nI_1 i4) H)
  | succ d ih =>
    intro i n x2 hi hn hx
    obtain ⟨n, rfl⟩ : ∃ m, n = m + 1 := ⟨n - 1, by omega⟩
    have hci : (nI i).toNatClampNeg = i := nI_clamp (by omega)
    refine br_f (nI_ge (b := 8) (by omega) (by decide)) (And.intro hia ?_)
    rw [hca]
    refine And.intro (by rw [b2]; exact vp_in_nI b1 (by decide)) (br_c (fun c => And.intro (vp_in_nI (by omega) (by decide)) ?_) (fun c => ?_))
    · have c' : p (zl rl a) = (1 : Int32) <<< (nI i &&& 31) := c
      rw [hci, hO i (by omega)]
      cases hb : bt oc i
      · refine br_t (by simp) (nm_r (nI_1 i) (ih (i + 1) n x2 (by omega) (by omega) (fun j => ?_)))
        rw [hx j]
        constructor
        · rintro (z | ⟨z1, z2, z3⟩)
          · exact Or.inl z
          · exact Or.inr ⟨by omega, z2, z3⟩
        · rintro (z | ⟨z1, z2, z3⟩)
          · exact Or.inl z
          · by_cases e : j = i
            · rw [e, hb] at z3; exact absurd z3 (by decide)
            · exact Or.inr ⟨by omega, z2, z3⟩
      · refine br_f (by simp) (nm_e (nm_r (nI_1 i) (ih (i + 1) n _ (by omega) (by omega) (fun j => ?_))))
        rw [b_or, Bool.or_eq_true, hx j, zb_1 (by omega), decide_eq_true_eq]
        constructor
        · rintro ((z | ⟨z1, z2, z3⟩) | rfl)
          · exact Or.inl z
          · exact Or.inr ⟨by omega, z2, z3⟩
          · exact Or.inr ⟨by omega, c', hb⟩
        · rintro (z | ⟨z1, z2, z3⟩)
          · exact Or.inl (Or.inl z)
          · by_cases e : j = i
            · exact Or.inr e
            · exact Or.inl (Or.inr ⟨by omega, z2, z3⟩)
    · refine nm_r (nI_1 i) (ih (i + 1) n x2 (by omega) (by omega) (fun j => ?_))
      rw [hx j]
      constructor
      · rintro (z | ⟨z1, z2, z3⟩)
        · exact Or.inl z
        · exact Or.inr ⟨by omega, z2, z3⟩
      · rintro (z | ⟨z1, z2, z3⟩)
        · exact Or.inl z
        · by_cases e : j = i
          · rw [e] at z2; exact absurd z2 c
          · exact Or.inr ⟨by omega, z2, z3⟩
theorem zy_h23 {post : Int32 → SY → Prop} (hO : zO oc sg) (hnr : nr ≤ 12) (g4 : zV rl nr 12) (g5 : ∀ r, r < nr → ra r = -1 ∨ ∃ a, a < r ∧ ra r = nI a)
    (h8 : ∀ v, v < 12 → z8 (P v)) (hp : ∀ v, v < 12 → p v = P v) :
    ∀ (d i n : Nat) (x2 x3 : Int32), i + d = 12 → d < n → (x3 < 0 ∨ ∃ a, a < nr ∧ x3 = nI a) → post (zhm P rl ra oc d x2 x3) (nI nl, nI ns, nI nr, nI na, kn, al, co, lv, lw, lf, sv, sw, sf, sg, rt, rl, ra, ap, av, af, aw, p, hh, ys, yr) → wY_held_23 post (nI nl) (nI ns) (nI nr) (nI na) kn al co lv lw lf sv sw sf sg rt rl ra ap av af aw p hh ys yr n x2 x3 (nI i) := by
  intro d
  induction d with
  | zero =>
    intro i n x2 x3 hi hn hx H
    obtain ⟨n, rfl⟩ : ∃ m, n = m + 1 := ⟨n - 1, by omega⟩
    have e : i = 12 := by omega
    subst e
    exact br_t (nI_le (a := 12) (b := 12) (by decide) (by decide)) H
  | succ d ih =>
    intro i n x2 x3 hi hn hx H
    obtain ⟨n, rfl⟩ : ∃ m, n = m + 1 := ⟨n - 1, by omega⟩
    refine br_f (nI_ge (b := 12) (by omega) (by decide)) ?_
    by_cases c : x3 < 0
    · refine br_t c ?_
      unfold zhm at H
      rwa [if_pos c] at H
    · refine br_f c ?_
      obtain ⟨a, ha, rfl⟩ : ∃ a, a < nr ∧ x3 = nI a := hx.elim (fun z => absurd z c) id
      have hca : (nI a).toNatClampNeg = a := nI_clamp (by omega)
      obtain ⟨b1, b2⟩ := g4 a ha
      have hnx : ra a < 0 ∨ ∃ b, b < nr ∧ ra a = nI b := by
        rcases g5 a ha with z | ⟨b, hb, z⟩
        · rw [z]; exact Or.inl (by decide)
        · exact Or.inr ⟨b, by omega, z⟩
      unfold zhm at H
      rw [if_neg c, hca, ← hp _ b1] at H
      refine ⟨9, zy_h37 hO hnr g4 ha (by rw [hp _ b1]; exact h8 _ b1) (ih (i + 1) n _ _ (by omega) (by omega) hnx H) 8 0 9 x2 (by omega) (by omega) (fun j => ⟨Or.inl, fun z => z.elim id (fun y => absurd y.1 (by omega))⟩)⟩
theorem zy_held {post : Int32 → SY → Prop} (hf : zFx nl ns nr na h t oc kn le si fr go qd qu lv lw lf sv sw sf rt rl ra ap av al co sg p hh) {pl : Nat} (hpl : pl < 4 + nr)
    (H : ∀ p' hh', (∀ v, v < 12 → p' v = zP le si v) → (∀ i, i < 16 → hh' i = zP le si (12 + i)) → post (zhv (zP le si) rl ra oc pl) (nI nl, nI ns, nI nr, nI na, 1, al, co, lv, lw, lf, sv, sw, sf, sg, rt, rl, ra, ap, av, af, aw, p', hh', ys, yr)) : wpY_held post (nI nl, nI ns, nI nr, nI na, kn, al, co, lv, lw, lf, sv, sw, sf, sg, rt, rl, ra, ap, av, af, aw, p, hh, ys, yr) (nI pl) := by
  obtain ⟨hD, ⟨g1, g2, g3, g4, g5, g6, g7⟩, hO, hK, hR⟩ := hf
  have hL := zRR_L hD hR
  unfold wpY_held
  refine zy_bp1 g1 hpl (br_t rfl (zy_wo hD hR hK (fun p' hh' e1 e2 => ?_)))
  have HH := H p' hh' e1 e2
  unfold zhv at HH
  by_cases c : 4 ≤ pl
  · rw [if_pos c] at HH
    exact nm_r (zn_s4 c) ⟨13, zy_h23 (P := zP le si) hO g1 g4 g5 (fun v hv => hL.1 v (by omega)) e1 12 0 13 0 _ (by omega) (by omega) (Or.inr ⟨pl - 4, by omega, rfl⟩) HH⟩
  · rw [if_neg c] at HH
    have hneg : nI pl - 4 < 0 := pk_sneg (b := 4) (by decide) (by omega)
    refine nm_e ⟨13, zy_h23 (P := zP le si) hO g1 g4 g5 (fun v hv => hL.1 v (by omega)) e1 12 0 13 0 _ (by omega) (by omega) (Or.inl hneg) ?_⟩
    unfold zhm
    rw [if_pos hneg]
    exact HH
end
theorem i_vc_held {k : Nat} {u : SX} {v : SY} (I : i_Rel k u v) (hk : k + 5 ≤ 2560) (v1 : Int32) : wpX_held (fun r => wpY_held (fun r' v' => r' = r ∧ i_Rel (k + 5) u v') v v1) u v1 := by
  refine zz_el (C := fun u v => wpX_held (fun r => wpY_held (fun r' v' => r' = r ∧ i_Rel (k + 5) u v') v v1) u v1) ?_ I
  clear I u v
  intro nl ns nr na h t oc kn wk fc le si fr go qd qu lv lw lf sv sw sf rt rl ra ap av af aw al co sg p hh xs xf xo xk xn ys yr hf
  have hnr : nr ≤ 12 := hf.2.1.1
  unfold wpX_held
  rcases zn_ix v1 (n := 4 + nr) (by omega) with b1 | ⟨pl, hpl, rfl⟩
  · exact zx_bp0 b1 (br_f (by decide) (by unfold wpY_held; exact zy_bp0 b1 (br_f (by decide) ⟨rfl, zz_in hf⟩)))
  · have hf' := hf
    obtain ⟨hD, ⟨g1, g2, g3, g4, g5, g6, g7⟩, hO, hK, hR⟩ := hf'
    refine zx_bp1 hnr hpl (br_t rfl (zx_held hR.1 g1 g4 g5 hpl ?_))
    exact zy_held hf hpl (fun p' hh' e1 e2 => ⟨rfl, zz_in ⟨hD, ⟨g1, g2, g3, g4, g5, g6, g7⟩, hO, Or.inr ⟨rfl, e1, e2⟩, hR⟩⟩)
end
section
/-! race, races -/
section
variable {nl ns nr na k : Nat} {h t oc kn wk fc : Int32} {le si fr go qd qu lv lw lf sv sw sf rt rl ra ap av af aw al co sg p hh xs xf xo xk xn ys yr : Nat → Int32}
theorem zx_th {post : Int32 → Prop} (hr : nr ≤ 12) {pl : Nat} (hpl : pl < 4 + nr) (H : post (zth rt pl)) : wpX_threadOf post (h, t, nI nl, nI ns, oc, nI nr, nI na, wk, fc, le, si, fr, go, qd, qu, lv, lw, lf, sv, sf, sw, rt, rl, ra, ap, av, af, aw, xs, xf, xo, xk, xn) (nI pl) := by
  unfold wpX_threadOf
  unfold zth at H
  by_cases c : 4 ≤ pl
  · rw [if_pos c] at H
    refine br_t (nI_le (a := 4) c (by omega)) ?_
    rw [zn_s4 c, nI_clamp (by omega : pl - 4 < 2 ^ 31)]
    exact And.intro (vp_in_nI (by omega) (by decide)) H
  · rw [if_neg c] at H
    exact br_f (nI_ge (b := 4) (by omega) (by decide)) H
theorem zy_th {post : Int32 → Prop} (hr : nr ≤ 12) {pl : Nat} (hpl : pl < 4 + nr) (H : post (zth rt pl)) : wpY_threadAt post (nI nl, nI ns, nI nr, nI na, kn, al, co, lv, lw, lf, sv, sw, sf, sg, rt, rl, ra, ap, av, af, aw, p, hh, ys, yr) (nI pl) := by
  unfold wpY_threadAt
  unfold zth at H
  by_cases c : 4 ≤ pl
  · rw [if_pos c] at H
    refine br_t (nI_le (a := 4) c (by omega)) ?_
    rw [zn_s4 c, nI_clamp (by omega : pl - 4 < 2 ^ 31)]
    exact And.intro (vp_in_nI (by omega) (by decide)) H
  · rw [if_neg c] at H
    exact br_f (nI_ge (b := 4) (by omega) (by decide)) H
theorem zx_c74 {post : Int32 → Prop} (hf : zFx nl ns nr na h t oc kn le si fr go qd qu lv lw lf sv sw sf rt rl ra ap av al co sg p hh) {i j : Nat} (hi : i < na) (hj : j < na)
    (H : post (if zP le si (zl av i) &&& zP le si (zl av j) = 0 then 0 else if zhv (zP le si) rl ra oc (zl ap i) &&& zhv (zP le si) rl ra oc (zl ap j) = 0 then 1 else 0)) :
    wX_conflict_74 post (nI i) (nI j) (nI (zl ap i)) (nI (zl ap j)) h t (nI nl) (nI ns) oc (nI nr) (nI na) wk fc le si fr go qd qu lv lw lf sv sf sw rt rl ra ap av af aw xs xf xo xk xn := by
  obtain ⟨hD, ⟨g1, g2, g3, g4, g5, g6, g7⟩, hO, hK, hR⟩ := hf
  obtain ⟨a1, a2⟩ := g7 i hi
  obtain ⟨b1, b2⟩ := g7 j hj
  obtain ⟨l1, l2, l3⟩ := hR.1.1 (zl av i) (by omega)
  obtain ⟨m1, m2, m3⟩ := hR.1.1 (zl av j) (by omega)
  have hci : (nI i).toNatClampNeg = i := nI_clamp (by omega)
  have hcj : (nI j).toNatClampNeg = j := nI_clamp (by omega)
  unfold wX_conflict_74
  rw [hci, hcj]
  refine And.intro (vp_in_nI (by omega) (by decide)) (And.intro (by rw [a2]; exact vp_in_nI (by omega) (by decide)) (And.intro ?_ (And.intro (vp_in_nI (by omega) (by decide)) (And.intro (by rw [b2]; exact vp_in_nI (by omega) (by decide)) (And.intro ?_ (br_c (fun c => ?_) (fun c => ?_)))))))
  · show vp_in (le (zl av i)) 28
    rw [l2]; exact vp_in_nI l1 (by decide)
  · show vp_in (le (zl av j)) 28
    rw [m2]; exact vp_in_nI m1 (by decide)
  · have c' : zP le si (zl av i) &&& zP le si (zl av j) = 0 := c
    rwa [if_pos c'] at H
  · have c' : ¬ zP le si (zl av i) &&& zP le si (zl av j) = 0 := c
    rw [if_neg c'] at H
    refine zx_held hR.1 g1 g4 g5 (g6 i hi).1 (zx_held hR.1 g1 g4 g5 (g6 j hj).1 (br_c (fun c2 => ?_) (fun c2 => ?_)))
    · rwa [if_pos c2] at H
    · rwa [if_neg c2] at H
theorem zx_cf {post : Int32 → Prop} (hf : zFx nl ns nr na h t oc kn le si fr go qd qu lv lw lf sv sw sf rt rl ra ap av al co sg p hh) {i j : Nat} (hi : i < na) (hj : j < na) (H : post (zcf (zP le si) rt rl ra ap av af aw oc i j)) : wpX_conflict post (h, t, nI nl, nI ns, oc, nI nr, nI na, wk, fc, le, si, fr, go, qd, qu, lv, lw, lf, sv, sf, sw, rt, rl, ra, ap, av, af, aw, xs, xf, xo, xk, xn) (nI i) (nI j) := by
  have hf' := hf
  obtain ⟨hD, ⟨g1, g2, g3, g4, g5, g6, g7⟩, hO, hK, hR⟩ := hf'
  have hci : (nI i).toNatClampNeg = i := nI_clamp (by omega)
  have hcj : (nI j).toNatClampNeg = j := nI_clamp (by omega)
  have hii : vp_in (nI i) 16 := vp_in_nI (by omega) (by decide)
  have hij : vp_in (nI j) 16 := vp_in_nI (by omega) (by decide)
  unfold zcf at H
  unfold wpX_conflict
  rw [hci, hcj]
  refine And.intro hii (nm_r (g6 i hi).2 (And.intro hij (nm_r (g6 j hj).2 (zx_th g1 (g6 i hi).1 (zx_th g1 (g6 j hj).1 (br_c (fun c => ?_) (fun c => And.intro hii (And.intro hij (br_c (fun c2 => And.intro hii (br_c (fun c3 => And.intro hij (br_c (fun c4 => ?_) (fun c4 => ?_))) (fun c3 => ?_))) (fun c2 => ?_))))))))))
  · rwa [if_pos c] at H
  · rwa [if_neg c, if_neg (fun z => z c2), if_pos ⟨c3, c4⟩] at H
  · rw [if_neg c, if_neg (fun z => z c2), if_neg (fun z => c4 z.2)] at H
    exact zx_c74 hf hi hj H
  · rw [if_neg c, if_neg (fun z => z c2), if_neg (fun z => c3 z.1)] at H
    exact zx_c74 hf hi hj H
  · rwa [if_neg c, if_pos c2] at H
theorem zy_r84 {post : Int32 → SY → Prop} (hf : zFx nl ns nr na h t oc kn le si fr go qd qu lv lw lf sv sw sf rt rl ra ap av al co sg p hh) {i j : Nat} (hi : i < na) (hj : j < na)
    (H : ∀ kn' p' hh', zKn kn' p' hh' (zP le si) → post (if zP le si (zl av i) &&& zP le si (zl av j) = 0 then 0 else if zhv (zP le si) rl ra oc (zl ap i) &&& zhv (zP le si) rl ra oc (zl ap j) = 0 then 1 else 0) (nI nl, nI ns, nI nr, nI na, kn', al, co, lv, lw, lf, sv, sw, sf, sg, rt, rl, ra, ap, av, af, aw, p', hh', ys, yr)) :
    wY_race_84 post (nI i) (nI j) (nI nl) (nI ns) (nI nr) (nI na) kn al co lv lw lf sv sw sf sg rt rl ra ap av af aw p hh ys yr := by
  obtain ⟨hD, ⟨g1, g2, g3, g4, g5, g6, g7⟩, hO, hK, hR⟩ := hf
  obtain ⟨a1, a2⟩ := g7 i hi
  obtain ⟨b1, b2⟩ := g7 j hj
  have hci : (nI i).toNatClampNeg = i := nI_clamp (by omega)
  have hcj : (nI j).toNatClampNeg = j := nI_clamp (by omega)
  have hii : vp_in (nI i) 16 := vp_in_nI (by omega) (by decide)
  have hij : vp_in (nI j) 16 := vp_in_nI (by omega) (by decide)
  unfold wY_race_84
  rw [hci, hcj]
  refine zy_wo hD hR hK (fun p' hh' e1 e2 => ?_)
  have hK' : zKn 1 p' hh' (zP le si) := Or.inr ⟨rfl, e1, e2⟩
  refine And.intro hii (And.intro (by show vp_in (av i) 12; rw [a2]; exact vp_in_nI a1 (by decide)) (And.intro hij (And.intro (by show vp_in (av j) 12; rw [b2]; exact vp_in_nI b1 (by decide)) (br_c (fun c => ?_) (fun c => And.intro hii ?_)))))
  · have c' : p' (zl av i) &&& p' (zl av j) = 0 := c
    rw [e1 _ a1, e1 _ b1] at c'
    have HH := H 1 p' hh' hK'
    rwa [if_pos c'] at HH
  · have c' : ¬ p' (zl av i) &&& p' (zl av j) = 0 := c
    rw [e1 _ a1, e1 _ b1] at c'
    rw [(g6 i hi).2]
    refine zy_held ⟨hD, ⟨g1, g2, g3, g4, g5, g6, g7⟩, hO, hK', hR⟩ (g6 i hi).1 (fun p2 hh2 k1 k2 => And.intro hij ?_)
    rw [(g6 j hj).2]
    refine zy_held ⟨hD, ⟨g1, g2, g3, g4, g5, g6, g7⟩, hO, Or.inr ⟨rfl, k1, k2⟩, hR⟩ (g6 j hj).1 (fun p3 hh3 k3 k4 => ?_)
    have HH := H 1 p3 hh3 (Or.inr ⟨rfl, k3, k4⟩)
    rw [if_neg c'] at HH
    refine br_c (fun c2 => ?_) (fun c2 => ?_)
    · rwa [if_pos c2] at HH
    · rwa [if_neg c2] at HH
theorem zy_race {post : Int32 → SY → Prop} (hf : zFx nl ns nr na h t oc kn le si fr go qd qu lv lw lf sv sw sf rt rl ra ap av al co sg p hh) {i j : Nat} (hi : i < na) (hj : j < na)
    (H : ∀ kn' p' hh', zKn kn' p' hh' (zP le si) → post (zcf (zP le si) rt rl ra ap av af aw oc i j) (nI nl, nI ns, nI nr, nI na, kn', al, co, lv, lw, lf, sv, sw, sf, sg, rt, rl, ra, ap, av, af, aw, p', hh', ys, yr)) : wpY_race post (nI nl, nI ns, nI nr, nI na, kn, al, co, lv, lw, lf, sv, sw, sf, sg, rt, rl, ra, ap, av, af, aw, p, hh, ys, yr) (nI i) (nI j) := by
  have hf' := hf
  obtain ⟨hD, ⟨g1, g2, g3, g4, g5, g6, g7⟩, hO, hK, hR⟩ := hf'
  have hci : (nI i).toNatClampNeg = i := nI_clamp (by omega)
  have hcj : (nI j).toNatClampNeg = j := nI_clamp (by omega)
  have hii : vp_in (nI i) 16 := vp_in_nI (by omega) (by decide)
  have hij : vp_in (nI j) 16 := vp_in_nI (by omega) (by decide)
  unfold zcf at H
  unfold wpY_race
  rw [hci, hcj]
  refine br_f (nI_pos (by omega)) (br_f (nI_ge hi (by omega)) (br_f (nI_pos (by omega)) (br_t (nI_lt hj (by omega)) (And.intro hii ?_))))
  rw [(g6 i hi).2, (g6 j hj).2]
  refine zy_th g1 (g6 i hi).1 (And.intro hij (zy_th g1 (g6 j hj).1 (br_c (fun c => ?_) (fun c => And.intro hii (And.intro hij (br_c (fun c2 => And.intro hii (br_c (fun c3 => And.intro hij (br_c (fun c4 => ?_) (fun c4 => ?_))) (fun c3 => ?_))) (fun c2 => ?_)))))))
  · have HH := H kn p hh hK
    rwa [if_pos c] at HH
  · have HH := H kn p hh hK
    rwa [if_neg c, if_neg (fun z => z c2), if_pos ⟨c3, c4⟩] at HH
  · refine zy_r84 hf hi hj (fun kn' p' hh' hk => ?_)
    have HH := H kn' p' hh' hk
    rwa [if_neg c, if_neg (fun z => z c2), if_neg (fun z => c4 z.2)] at HH
  · refine zy_r84 hf hi hj (fun kn' p' hh' hk => ?_)
    have HH := H kn' p' hh' hk
    rwa [if_neg c, if_neg (fun z => z c2), if_neg (fun z => c3 z.1)] at HH
  · have HH := H kn p hh hK
    rwa [if_neg c, if_pos c2] at HH
end
theorem zcf_b (P rt rl ra ap av af aw : Nat → Int32) (oc : Int32) (i j : Nat) : zcf P rt rl ra ap av af aw oc i j = 0 ∨ zcf P rt rl ra ap av af aw oc i j = 1 := by
  unfold zcf
  split
  · exact Or.inl rfl
  split
  · exact Or.inl rfl
  split
  · exact Or.inl rfl
  split
  · exact Or.inl rfl
  split
  · exact Or.inr rfl
  · exact Or.inl rfl
theorem i_vc_race {k : Nat} {u : SX} {v : SY} (I : i_Rel k u v) (hk : k + 5 ≤ 2560) (v1 : Int32) (v2 : Int32) : wpX_race (fun r => wpY_race (fun r' v' => r' = r ∧ i_Rel (k + 5) u v') v v1 v2) u v1 v2 := by
  refine zz_el (C := fun u v => wpX_race (fun r => wpY_race (fun r' v' => r' = r ∧ i_Rel (k + 5) u v') v v1 v2) u v1 v2) ?_ I
  clear I u v
  intro nl ns nr na h t oc kn wk fc le si fr go qd qu lv lw lf sv sw sf rt rl ra ap av af aw al co sg p hh xs xf xo xk xn ys yr hf
  have hna : na ≤ 16 := hf.2.1.2.1
  unfold wpX_race
  refine br_c (fun c1 => by unfold wpY_race; exact br_t c1 ⟨rfl, zz_in hf⟩) (fun c1 => br_c (fun c2 => by unfold wpY_race; exact br_f c1 (br_t c2 ⟨rfl, zz_in hf⟩)) (fun c2 => br_c (fun c3 => by unfold wpY_race; exact br_f c1 (br_f c2 (br_t c3 ⟨rfl, zz_in hf⟩))) (fun c3 => br_c (fun c4 => ?_) (fun c4 => by unfold wpY_race; exact br_f c1 (br_f c2 (br_f c3 (br_f c4 ⟨rfl, zz_in hf⟩)))))))
  obtain ⟨i, hi0, rfl⟩ := nI_of c1
  obtain ⟨j, hj0, rfl⟩ := nI_of c3
  rw [nI_leI (by omega) hi0] at c2
  rw [nI_ltI hj0 (by omega)] at c4
  refine zx_cf hf (by omega) c4 (And.intro ?_ ?_)
  · rcases zcf_b (zP le si) rt rl ra ap av af aw oc i j with e | e
    · rw [e]; exact narrow_b0
    · rw [e]; exact narrow_b1
  · exact zy_race hf (by omega) c4 (fun kn' p' hh' hk' => ⟨rfl, zz_in ⟨hf.1, hf.2.1, hf.2.2.1, hk', hf.2.2.2.2⟩⟩)
def zrI (f : Nat → Nat → Int32) (i : Nat) : Nat → Nat → Int32 → Int32
  | 0, _, c => c
  | d + 1, j, c => zrI f i d (j + 1) (if f i j = 0 then c else c + 1)
def zrO (f : Nat → Nat → Int32) : Nat → Nat → Int32 → Int32
  | 0, _, c => c
  | d + 1, i, c => zrO f d (i + 1) (zrI f i d (i + 1) c)
section
variable {nl ns nr na k : Nat} {h t oc kn wk fc : Int32} {le si fr go qd qu lv lw lf sv sw sf rt rl ra ap av af aw al co sg p hh xs xf xo xk xn ys yr : Nat → Int32}
theorem zx_r16 {post : Int32 → Prop} {J4 : Int32 → Int32 → Prop} (hf : zFx nl ns nr na h t oc kn le si fr go qd qu lv lw lf sv sw sf rt rl ra ap av al co sg p hh) {i : Nat} (hi : i < na) :
    ∀ (d j n : Nat) (c : Int32), j + d = na → d < n → J4 (zrI (zcf (zP le si) rt rl ra ap av af aw oc) i d j c) (nI (i + 1)) → wX_races_16 post J4 (nI i) h t (nI nl) (nI ns) oc (nI nr) (nI na) wk fc le si fr go qd qu lv lw lf sv sf sw rt rl ra ap av af aw xs xf xo xk xn n c (nI j) := by
  have hna : na ≤ 16 := hf.2.1.2.1
  intro d
  induction d with
  | zero =>
    intro j n c hj hn H
    obtain ⟨n, rfl⟩ : ∃ m, n = m + 1 := ⟨n - 1, by omega⟩
    exact br_t (nI_le (by omega) (by omega)) (nm_r (nI_1 i) H)
  | succ d ih =>
    intro j n c hj hn H
    obtain ⟨n, rfl⟩ : ∃ m, n = m + 1 := ⟨n - 1, by omega⟩
    unfold zrI at H
    refine br_f (nI_ge (by omega) (by omega)) (zx_cf hf hi (by omega) (br_c (fun e => ?_) (fun e => ?_)))
    · rw [if_pos e] at H
      exact nm_r (nI_1 j) (ih (j + 1) n _ (by omega) (by omega) H)
    · rw [if_neg e] at H
      exact nm_e (nm_r (nI_1 j) (ih (j + 1) n _ (by omega) (by omega) H))
theorem zx_r4 {post : Int32 → Prop} (hf : zFx nl ns nr na h t oc kn le si fr go qd qu lv lw lf sv sw sf rt rl ra ap av al co sg p hh) :
    ∀ (d i n : Nat) (c : Int32), i + d = na → d < n → post (zrO (zcf (zP le si) rt rl ra ap av af aw oc) d i c) → wX_races_4 post h t (nI nl) (nI ns) oc (nI nr) (nI na) wk fc le si fr go qd qu lv lw lf sv sf sw rt rl ra ap av af aw xs xf xo xk xn n c (nI i) := by
  have hna : na ≤ 16 := hf.2.1.2.1
  intro d
  induction d with
  | zero =>
    intro i n c hj hn H
    obtain ⟨n, rfl⟩ : ∃ m, n = m + 1 := ⟨n - 1, by omega⟩
    exact br_t (nI_le (by omega) (by omega)) H
  | succ d ih =>
    intro i n c hj hn H
    obtain ⟨n, rfl⟩ : ∃ m, n = m + 1 := ⟨n - 1, by omega⟩
    unfold zrO at H
    exact br_f (nI_ge (by omega) (by omega)) (nm_r (nI_1 i) ⟨17, zx_r16 hf (by omega) d (i + 1) 17 c (by omega) (by omega) (ih (i + 1) n _ (by omega) (by omega) H)⟩)
/-- continuations over the reference's whole state -/
abbrev zTS2 : Type := Int32 → Int32 → Int32 → Int32 → Int32 → zTY
theorem zy_r16 {post : Int32 → SY → Prop} {J4 : Int32 → Int32 → zTS2} {i : Nat} (hi : i < na) :
    ∀ (d j n : Nat) (c kn : Int32) (p hh : Nat → Int32), j + d = na → d < n → zFx nl ns nr na h t oc kn le si fr go qd qu lv lw lf sv sw sf rt rl ra ap av al co sg p hh → (∀ kn' p' hh', zKn kn' p' hh' (zP le si) → J4 (zrI (zcf (zP le si) rt rl ra ap av af aw oc) i d j c) (nI (i + 1)) (nI nl) (nI ns) (nI nr) (nI na) kn' al co lv lw lf sv sw sf sg rt rl ra ap av af aw p' hh' ys yr) →
    wY_races_16 post J4 (nI i) n c (nI j) (nI nl) (nI ns) (nI nr) (nI na) kn al co lv lw lf sv sw sf sg rt rl ra ap av af aw p hh ys yr := by
  intro d
  induction d with
  | zero =>
    intro j n c kn p hh hj hn hf H
    have hna : na ≤ 16 := hf.2.1.2.1
    obtain ⟨n, rfl⟩ : ∃ m, n = m + 1 := ⟨n - 1, by omega⟩
    exact br_t (nI_le (by omega) (by omega)) (nm_r (nI_1 i) (H kn p hh hf.2.2.2.1))
  | succ d ih =>
    intro j n c kn p hh hj hn hf H
    have hna : na ≤ 16 := hf.2.1.2.1
    obtain ⟨n, rfl⟩ : ∃ m, n = m + 1 := ⟨n - 1, by omega⟩
    unfold zrI at H
    refine br_f (nI_ge (by omega) (by omega)) (zy_race hf hi (by omega) (fun kn' p' hh' hk' => br_c (fun e => ?_) (fun e => ?_)))
    · rw [if_pos e] at H
      exact nm_r (nI_1 j) (ih (j + 1) n _ kn' p' hh' (by omega) (by omega) ⟨hf.1, hf.2.1, hf.2.2.1, hk', hf.2.2.2.2⟩ H)
    · rw [if_neg e] at H
      exact nm_e (nm_r (nI_1 j) (ih (j + 1) n _ kn' p' hh' (by omega) (by omega) ⟨hf.1, hf.2.1, hf.2.2.1, hk', hf.2.2.2.2⟩ H))
theorem zy_r4 {post : Int32 → SY → Prop} :
    ∀ (d i n : Nat) (c kn : Int32) (p hh : Nat → Int32), i + d = na → d < n → zFx nl ns nr na h t oc kn le si fr go qd qu lv lw lf sv sw sf rt rl ra ap av al co sg p hh → (∀ kn' p' hh', zKn kn' p' hh' (zP le si) → post (zrO (zcf (zP le si) rt rl ra ap av af aw oc) d i c) (nI nl, nI ns, nI nr, nI na, kn', al, co, lv, lw, lf, sv, sw, sf, sg, rt, rl, ra, ap, av, af, aw, p', hh', ys, yr)) →
    wY_races_4 post n c (nI i) (nI nl) (nI ns) (nI nr) (nI na) kn al co lv lw lf sv sw sf sg rt rl ra ap av af aw p hh ys yr := by
  intro d
  induction d with
  | zero =>
    intro i n c kn p hh hj hn hf H
    have hna : na ≤ 16 := hf.2.1.2.1
    obtain ⟨n, rfl⟩ : ∃ m, n = m + 1 := ⟨n - 1, by omega⟩
    exact br_t (nI_le (by omega) (by omega)) (H kn p hh hf.2.2.2.1)
  | succ d ih =>
    intro i n c kn p hh hj hn hf H
    have hna : na ≤ 16 := hf.2.1.2.1
    obtain ⟨n, rfl⟩ : ∃ m, n = m + 1 := ⟨n - 1, by omega⟩
    unfold zrO at H
    refine br_f (nI_ge (by omega) (by omega)) (nm_r (nI_1 i) ⟨17, zy_r16 (by omega) d (i + 1) 17 c kn p hh (by omega) (by omega) hf (fun kn' p' hh' hk' => ?_)⟩)
    exact ih (i + 1) n _ kn' p' hh' (by omega) (by omega) ⟨hf.1, hf.2.1, hf.2.2.1, hk', hf.2.2.2.2⟩ H
end
theorem i_vc_races {k : Nat} {u : SX} {v : SY} (I : i_Rel k u v) (hk : k + 5 ≤ 2560) : wpX_races (fun r => wpY_races (fun r' v' => r' = r ∧ i_Rel (k + 5) u v') v) u := by
  refine zz_el (C := fun u v => wpX_races (fun r => wpY_races (fun r' v' => r' = r ∧ i_Rel (k + 5) u v') v) u) ?_ I
  clear I u v
  intro nl ns nr na h t oc kn wk fc le si fr go qd qu lv lw lf sv sw sf rt rl ra ap av af aw al co sg p hh xs xf xo xk xn ys yr hf
  have hna : na ≤ 16 := hf.2.1.2.1
  unfold wpX_races
  refine ⟨17, zx_r4 hf na 0 17 0 (by omega) (by omega) ?_⟩
  unfold wpY_races
  exact ⟨17, zy_r4 na 0 17 0 kn p hh (by omega) (by omega) hf (fun kn' p' hh' hk' => ⟨rfl, zz_in ⟨hf.1, hf.2.1, hf.2.2.1, hk', hf.2.2.2.2⟩⟩)⟩
end
section
/-! ways in a graph; a depth first walk step by step -/
def zSt (G : Nat → Nat → Prop) (a b : Nat) : Prop := ∀ S : Nat → Prop, S a → (∀ x y, S x → G x y → S y) → S b
theorem zSt_r {G : Nat → Nat → Prop} (a : Nat) : zSt G a a := fun _ h _ => h
theorem zSt_t {G : Nat → Nat → Prop} {a b c : Nat} (h : zSt G a b) (h' : zSt G b c) : zSt G a c := fun S s hs => h' S (h S s hs) hs
theorem zSt_1 {G : Nat → Nat → Prop} {a b : Nat} (h : G a b) : zSt G a b := fun _ s hs => hs a b s h
theorem zSt_back {G : Nat → Nat → Prop} {a b : Nat} {Q : Nat → Prop} (h : zSt G a b) (hb : Q b) (hs : ∀ x y, G x y → Q y → Q x) : Q a :=
  h (fun y => Q y → Q a) id (fun x y hx hg hy => hx (hs x y hg hy)) hb
def zup (f : Nat → Nat) (k x : Nat) : Nat → Nat := fun i => if i = k then x else f i
theorem zup_s {f : Nat → Nat} {k x : Nat} : zup f k x k = x := if_pos rfl
theorem zup_n {f : Nat → Nat} {k x i : Nat} (h : i ≠ k) : zup f k x i = f i := if_neg h
theorem zl_up {a : Nat → Int32} {k x : Nat} (hx : x < 2 ^ 31) : zl (upd a k (nI x)) = zup (zl a) k x := by
  funext i
  rw [zl_u hx]
  rfl
/-- the order of leaving -/
def zOF (G : Nat → Nat → Prop) (Z : Nat → Prop) (fc : Nat) (f : Nat → Nat) : Prop :=
  ∀ j, j < fc → ∃ d, d ≤ j ∧ (∀ i, i < d → ∀ y, y < 8 → G (f i) y → Z y ∨ (∃ i', i' < d ∧ f i' = y) ∨ ∀ i', i' ≤ j → f i' ≠ y) ∧
    (∀ i, d ≤ i → i ≤ j → zSt G (f j) (f i)) ∧ ∀ i, i < d → f i ≠ f j
def zDa (e : Nat) (wk : Int32) (fc dp : Nat) (f s n : Nat → Nat) : Prop :=
  (∀ i, i < fc → f i < 8) ∧ (∀ k, k < dp → s k < 8) ∧ (∀ k, k < dp → n k ≤ 8) ∧ fc + dp + e = zc wk ∧ z8 wk
def zDb (Z Q : Nat → Prop) (W0 set wk : Int32) (fc dp : Nat) (f s : Nat → Nat) : Prop :=
  (∀ x, bt wk x = true ↔ bt W0 x = true ∨ bt set x = true) ∧ (∀ x, bt set x = true → bt W0 x = false ∧ Q x) ∧
  (∀ x, bt wk x = true → Z x ∨ (∃ i, i < fc ∧ f i = x) ∨ ∃ k, k < dp ∧ s k = x) ∧ (∀ k, k < dp → bt set (s k) = true) ∧ (∀ i, i < fc → bt wk (f i) = true)
def zDc (G : Nat → Nat → Prop) (wk : Int32) (fc dp : Nat) (f s n : Nat → Nat) : Prop :=
  (∀ i, i < fc → ∀ y, y < 8 → G (f i) y → bt wk y = true) ∧ (∀ k, k < dp → ∀ y, y < n k → G (s k) y → bt wk y = true)
def zDd (G : Nat → Nat → Prop) (Z : Nat → Prop) (fc dp : Nat) (f s dk : Nat → Nat) : Prop :=
  (∀ i k, i < fc → k < dp → f i ≠ s k) ∧ (∀ k k', k < k' → k' < dp → s k ≠ s k') ∧ (∀ k k', k < k' → k' < dp → zSt G (s k) (s k')) ∧
  (∀ k, k < dp → dk k ≤ fc ∧ (∀ i, i < dk k → ∀ y, y < 8 → G (f i) y → Z y ∨ (∃ i', i' < dk k ∧ f i' = y) ∨ ∃ k', k' < k ∧ s k' = y) ∧
    (∀ i, dk k ≤ i → i < fc → zSt G (s k) (f i))) ∧ zOF G Z fc f
def zDF (G : Nat → Nat → Prop) (Z Q : Nat → Prop) (W0 : Int32) (e : Nat) (set wk : Int32) (fc dp : Nat) (f s n : Nat → Nat) : Prop :=
  zDa e wk fc dp f s n ∧ zDb Z Q W0 set wk fc dp f s ∧ zDc G wk fc dp f s n ∧ ∃ dk, zDd G Z fc dp f s dk
def zMu (wk : Int32) (dp : Nat) (n : Nat → Nat) : Nat := 9 * (8 - zc wk) + zs (fun k => 9 - n k) dp
theorem zs_up {f g : Nat → Nat} {t : Nat} (ht : g t = f t + 1) : ∀ {n : Nat}, (∀ i, i < n → i ≠ t → g i = f i) → t < n → zs g n = zs f n + 1
  | 0, _, h => absurd h (by omega)
  | n + 1, h, hn => by
    simp only [zs]
    by_cases e : t = n
    · subst e
      rw [zs_eq (f := g) (g := f) (fun i hi => h i (by omega) (by omega)), ht]; omega
    · rw [zs_up ht (n := n) (fun i hi hne => h i (by omega) hne) (by omega), h n (by omega) (fun z => e z.symm)]; omega
theorem zb_put (x : Int32) {t : Nat} (ht : t < 32) (i : Nat) : bt (x ||| ((1 : Int32) <<< (nI t &&& 31))) i = true ↔ bt x i = true ∨ i = t := by
  rw [b_or, Bool.or_eq_true, zb_1 ht, decide_eq_true_eq]
theorem zc_put {x : Int32} {t : Nat} (ht : t < 8) (hx : bt x t = false) : zc (x ||| ((1 : Int32) <<< (nI t &&& 31))) = zc x + 1 := by
  unfold zc
  refine zs_up (t := t) ?_ (fun i _ hi => ?_) ht
  · show (bt (x ||| ((1 : Int32) <<< (nI t &&& 31))) t).toNat = (bt x t).toNat + 1
    rw [(zb_put x (by omega) t).mpr (Or.inr rfl), hx]; rfl
  · show (bt (x ||| ((1 : Int32) <<< (nI t &&& 31))) i).toNat = (bt x i).toNat
    have : bt (x ||| ((1 : Int32) <<< (nI t &&& 31))) i = bt x i := Bool.eq_iff_iff.mpr ((zb_put x (by omega) i).trans ⟨fun z => z.elim id (fun y => absurd y hi), Or.inl⟩)
    rw [this]
section
variable {G : Nat → Nat → Prop} {Z Q : Nat → Prop} {W0 set wk : Int32} {e fc m : Nat} {f s n : Nat → Nat}
/-- the top's next site is no news -/
theorem zD_adv (h : zDF G Z Q W0 e set wk fc (m + 1) f s n) (ht : n m < 8) (hg : G (s m) (n m) → bt wk (n m) = true) :
    zDF G Z Q W0 e set wk fc (m + 1) f s (zup n m (n m + 1)) := by
  obtain ⟨⟨a1, a2, a3, a4, a5⟩, hb, ⟨c1, c2⟩, hd⟩ := h
  refine ⟨⟨a1, a2, fun k hk => ?_, a4, a5⟩, hb, ⟨c1, fun k hk y hy hgy => ?_⟩, hd⟩
  · by_cases ek : k = m
    · rw [ek, zup_s]; omega
    · rw [zup_n ek]; exact a3 k hk
  · by_cases ek : k = m
    · rw [ek, zup_s] at hy
      rw [ek] at hgy
      by_cases ey : y = n m
      · rw [ey] at hgy ⊢; exact hg hgy
      · exact c2 m (by omega) y (by omega) hgy
    · rw [zup_n ek] at hy
      exact c2 k hk y hy hgy
theorem zM_adv (h : n m < 8) : zMu wk (m + 1) (zup n m (n m + 1)) + 1 = zMu wk (m + 1) n := by
  unfold zMu
  simp only [zs]
  rw [zs_eq (f := fun k => 9 - zup n m (n m + 1) k) (g := fun k => 9 - n k) (fun i hi => by show 9 - zup n m (n m + 1) i = 9 - n i; rw [zup_n (by omega)]), zup_s]
  omega
/-- the top is left -/
theorem zD_pop (h : zDF G Z Q W0 e set wk fc (m + 1) f s n) (ht : n m = 8) : zDF G Z Q W0 e set wk (fc + 1) m (zup f fc (s m)) s n := by
  obtain ⟨⟨a1, a2, a3, a4, a5⟩, ⟨b1, b2, b3, b4, b5⟩, ⟨c1, c2⟩, dk, d1, d2, d3, d4, d5⟩ := h
  have hsm := a2 m (by omega)
  have hf : ∀ i, i < fc → zup f fc (s m) i = f i := fun i hi => zup_n (by omega)
  refine ⟨⟨fun i hi => ?_, fun k hk => a2 k (by omega), fun k hk => a3 k (by omega), by omega, a5⟩, ⟨b1, b2, fun x hx => ?_, fun k hk => b4 k (by omega), fun i hi => ?_⟩, ⟨fun i hi y hy hg => ?_, fun k hk => c2 k (by omega)⟩, dk, fun i k hi hk => ?_, fun k k' hk hk' => d2 k k' hk (by omega), fun k k' hk hk' => d3 k k' hk (by omega), fun k hk => ?_, fun j hj => ?_⟩
  · by_cases ei : i = fc
    · rw [ei, zup_s]; exact hsm
    · rw [zup_n ei]; exact a1 i (by omega)
  · rcases b3 x hx with z | ⟨i, hi, z⟩ | ⟨k, hk, z⟩
    · exact Or.inl z
    · exact Or.inr (Or.inl ⟨i, by omega, by rw [hf i hi]; exact z⟩)
    · by_cases ek : k = m
      · rw [ek] at z; exact Or.inr (Or.inl ⟨fc, by omega, by rw [zup_s]; exact z⟩)
      · exact Or.inr (Or.inr ⟨k, by omega, z⟩)
  · by_cases ei : i = fc
    · rw [ei, zup_s]; exact (b1 _).mpr (Or.inr (b4 m (by omega)))
    · rw [zup_n ei]; exact b5 i (by omega)
  · by_cases ei : i = fc
    · rw [ei, zup_s] at hg; exact c2 m (by omega) y (by omega) hg
    · rw [zup_n ei] at hg; exact c1 i (by omega) y hy hg
  · by_cases ei : i = fc
    · rw [ei, zup_s]; exact fun z => d2 k m (by omega) (by omega) z.symm
    · rw [zup_n ei]; exact d1 i k (by omega) (by omega)
  · obtain ⟨x1, x2, x3⟩ := d4 k (by omega)
    refine ⟨by omega, fun i hi y hy hg => ?_, fun i hi hi' => ?_⟩
    · rw [hf i (by omega)] at hg
      rcases x2 i hi y hy hg with z | ⟨i', hi', z⟩ | z
      · exact Or.inl z
      · exact Or.inr (Or.inl ⟨i', hi', by rw [hf i' (by omega)]; exact z⟩)
      · exact Or.inr (Or.inr z)
    · by_cases ei : i = fc
      · rw [ei, zup_s]; exact d3 k m (by omega) (by omega)
      · rw [zup_n ei]; exact x3 i hi (by omega)
  · by_cases ej : j = fc
    · subst ej
      obtain ⟨x1, x2, x3⟩ := d4 m (by omega)
      refine ⟨dk m, x1, fun i hi y hy hg => ?_, fun i hi hi' => ?_, fun i hi => ?_⟩
      · rw [hf i (by omega)] at hg
        rcases x2 i hi y hy hg with z | ⟨i', hi', z⟩ | ⟨k', hk', z⟩
        · exact Or.inl z
        · exact Or.inr (Or.inl ⟨i', hi', by rw [hf i' (by omega)]; exact z⟩)
        · refine Or.inr (Or.inr fun i' hi' => ?_)
          by_cases ei : i' = j
          · rw [ei, zup_s, ← z]; exact fun w => d2 k' m hk' (by omega) w.symm
          · rw [zup_n ei, ← z]; exact d1 i' k' (by omega) (by omega)
      · rw [zup_s]
        by_cases ei : i = j
        · rw [ei, zup_s]; exact zSt_r _
        · rw [zup_n ei]; exact x3 i hi (by omega)
      · rw [zup_s, hf i (by omega)]; exact d1 i m (by omega) (by omega)
    · obtain ⟨d, x0, x1, x2, x3⟩ := d5 j (by omega)
      refine ⟨d, x0, fun i hi y hy hg => ?_, fun i hi hi' => ?_, fun i hi => ?_⟩
      · rw [hf i (by omega)] at hg
        rcases x1 i hi y hy hg with z | ⟨i', hi', z⟩ | z
        · exact Or.inl z
        · exact Or.inr (Or.inl ⟨i', hi', by rw [hf i' (by omega)]; exact z⟩)
        · exact Or.inr (Or.inr fun i' hi' => by rw [hf i' (by omega)]; exact z i' hi')
      · rw [hf j (by omega), hf i (by omega)]; exact x2 i hi hi'
      · rw [hf j (by omega), hf i (by omega)]; exact x3 i hi
theorem zM_pop (h : n m = 8) : zMu wk m n + 1 = zMu wk (m + 1) n := by
  unfold zMu
  simp only [zs]
  omega
/-- a new site on top -/
theorem zD_push (h : zDF G Z Q W0 e set wk fc (m + 1) f s n) (ht : n m < 8) (hg : G (s m) (n m)) (hw : bt wk (n m) = false)
    (hQ : ∀ x y, Q x → G x y → y < 8 → bt W0 y = false → Q y) :
    zDF G Z Q W0 e (set ||| ((1 : Int32) <<< (nI (n m) &&& 31))) (wk ||| ((1 : Int32) <<< (nI (n m) &&& 31))) fc (m + 2) f (zup s (m + 1) (n m)) (zup (zup n m (n m + 1)) (m + 1) 0) := by
  obtain ⟨⟨a1, a2, a3, a4, a5⟩, ⟨b1, b2, b3, b4, b5⟩, ⟨c1, c2⟩, dk, d1, d2, d3, d4, d5⟩ := h
  have hp : ∀ (x : Int32) i, bt (x ||| ((1 : Int32) <<< (nI (n m) &&& 31))) i = true ↔ bt x i = true ∨ i = n m := fun x i => zb_put x (by omega) i
  have hs : ∀ k, k < m + 1 → zup s (m + 1) (n m) k = s k := fun k hk => zup_n (by omega)
  have hw0 : bt W0 (n m) = false := by
    cases hb : bt W0 (n m)
    · rfl
    · rw [(b1 (n m)).mpr (Or.inl hb)] at hw; exact absurd hw (by decide)
  have hnew : ∀ k, k < m + 1 → s k ≠ n m := by
    intro k hk z
    have := (b1 _).mpr (Or.inr (b4 k hk))
    rw [z, hw] at this; exact absurd this (by decide)
  have hnewf : ∀ i, i < fc → f i ≠ n m := by
    intro i hi z
    have := b5 i hi
    rw [z, hw] at this; exact absurd this (by decide)
  refine ⟨⟨a1, fun k hk => ?_, fun k hk => ?_, ?_, z8_or a5 (z8_1 ht)⟩, ⟨fun x => ?_, fun x hx => ?_, fun x hx => ?_, fun k hk => ?_, fun i hi => ?_⟩, ⟨fun i hi y hy hgy => ?_, fun k hk y hy hgy => ?_⟩, zup dk (m + 1) fc, fun i k hi hk => ?_, fun k k' hk hk' => ?_, fun k k' hk hk' => ?_, fun k hk => ?_, d5⟩
  · by_cases ek : k = m + 1
    · rw [ek, zup_s]; exact ht
    · rw [zup_n ek]; exact a2 k (by omega)
  · by_cases ek : k = m + 1
    · rw [ek, zup_s]; omega
    · rw [zup_n ek]
      by_cases ek2 : k = m
      · rw [ek2, zup_s]; omega
      · rw [zup_n ek2]; exact a3 k (by omega)
  · rw [zc_put ht hw]; omega
  · rw [hp, hp, b1 x]
    constructor
    · rintro ((z | z) | z)
      · exact Or.inl z
      · exact Or.inr (Or.inl z)
      · exact Or.inr (Or.inr z)
    · rintro (z | z | z)
      · exact Or.inl (Or.inl z)
      · exact Or.inl (Or.inr z)
      · exact Or.inr z
  · rcases (hp set x).mp hx with z | z
    · exact b2 x z
    · rw [z]; exact ⟨hw0, hQ _ _ (b2 _ (b4 m (by omega))).2 hg ht hw0⟩
  · rcases (hp wk x).mp hx with z | z
    · rcases b3 x z with y | y | ⟨k, hk, y⟩
      · exact Or.inl y
      · exact Or.inr (Or.inl y)
      · exact Or.inr (Or.inr ⟨k, by omega, by rw [hs k hk]; exact y⟩)
    · exact Or.inr (Or.inr ⟨m + 1, by omega, by rw [zup_s]; exact z.symm⟩)
  · by_cases ek : k = m + 1
    · rw [ek, zup_s]; exact (hp _ _).mpr (Or.inr rfl)
    · rw [zup_n ek]; exact (hp _ _).mpr (Or.inl (b4 k (by omega)))
  · exact (hp _ _).mpr (Or.inl (b5 i hi))
  · exact (hp _ _).mpr (Or.inl (c1 i hi y hy hgy))
  · by_cases ek : k = m + 1
    · rw [ek, zup_s] at hy; exact absurd hy (by omega)
    · rw [zup_n ek] at hy hgy
      by_cases ek2 : k = m
      · rw [ek2, zup_s] at hy
        rw [ek2] at hgy
        by_cases ey : y = n m
        · exact (hp _ _).mpr (Or.inr ey)
        · exact (hp _ _).mpr (Or.inl (c2 m (by omega) y (by omega) hgy))
      · rw [zup_n ek2] at hy
        exact (hp _ _).mpr (Or.inl (c2 k (by omega) y hy hgy))
  · by_cases ek : k = m + 1
    · rw [ek, zup_s]; exact hnewf i hi
    · rw [zup_n ek]; exact d1 i k hi (by omega)
  · rw [hs k (by omega)]
    by_cases ek : k' = m + 1
    · rw [ek, zup_s]; exact hnew k (by omega)
    · rw [zup_n ek]; exact d2 k k' hk (by omega)
  · rw [hs k (by omega)]
    by_cases ek : k' = m + 1
    · rw [ek, zup_s]
      by_cases ek2 : k = m
      · rw [ek2]; exact zSt_1 hg
      · exact zSt_t (d3 k m (by omega) (by omega)) (zSt_1 hg)
    · rw [zup_n ek]; exact d3 k k' hk (by omega)
  · by_cases ek : k = m + 1
    · subst ek
      rw [zup_s, zup_s]
      refine ⟨Nat.le_refl _, fun i hi y hy hgy => ?_, fun i hi hi' => absurd hi' (by omega)⟩
      rcases b3 y (c1 i hi y hy hgy) with z | z | ⟨k', hk', z⟩
      · exact Or.inl z
      · exact Or.inr (Or.inl z)
      · exact Or.inr (Or.inr ⟨k', hk', by rw [hs k' hk']; exact z⟩)
    · obtain ⟨x1, x2, x3⟩ := d4 k (by omega)
      rw [zup_n ek, zup_n ek]
      refine ⟨x1, fun i hi y hy hgy => ?_, x3⟩
      rcases x2 i hi y hy hgy with z | z | ⟨k', hk', z⟩
      · exact Or.inl z
      · exact Or.inr (Or.inl z)
      · exact Or.inr (Or.inr ⟨k', hk', by rw [hs k' (by omega)]; exact z⟩)
theorem zM_push (h : n m < 8) (hw : bt wk (n m) = false) (hc : zc wk < 8) :
    zMu (wk ||| ((1 : Int32) <<< (nI (n m) &&& 31))) (m + 2) (zup (zup n m (n m + 1)) (m + 1) 0) + 1 = zMu wk (m + 1) n := by
  have e1 : zs (fun k => 9 - zup (zup n m (n m + 1)) (m + 1) 0 k) m = zs (fun k => 9 - n k) m :=
    zs_eq fun i hi => by show 9 - zup (zup n m (n m + 1)) (m + 1) 0 i = 9 - n i; rw [zup_n (by omega), zup_n (by omega)]
  unfold zMu
  rw [zc_put h hw]
  simp only [zs]
  rw [e1, zup_s, zup_n (by omega : m ≠ m + 1), zup_s]
  omega
end
end
section
/-! X: stepFrom, walk -/
def zR1 (xs : Nat → Int32) (s t : Nat) : Prop := s < 8 ∧ t < 8 ∧ ¬ xs (s * 8 + t) = 0
def zGb (xs : Nat → Int32) : Bool → Nat → Nat → Prop
  | false, s, t => zR1 xs s t
  | true, s, t => zR1 xs t s
def zfl : Bool → Int32
  | false => 0
  | true => 1
theorem zn_88 (s t : Nat) : (nI s * 8) + nI t = nI (s * 8 + t) := by rw [show (8 : Int32) = nI 8 from rfl, pk_mul, nI_add]
def zPh (G : Nat → Nat → Prop) (Z : Nat → Prop) (e : Nat) (wk : Int32) (fc : Nat) (f : Nat → Nat) : Prop :=
  (∀ i, i < fc → f i < 8) ∧ fc + e = zc wk ∧ z8 wk ∧ (∀ x, bt wk x = true → Z x ∨ ∃ i, i < fc ∧ f i = x) ∧ (∀ i, i < fc → bt wk (f i) = true) ∧
  (∀ i, i < fc → ∀ y, y < 8 → G (f i) y → bt wk y = true) ∧ zOF G Z fc f
theorem zD_start {G : Nat → Nat → Prop} {Z Q : Nat → Prop} {e fc st : Nat} {wk : Int32} {f s n : Nat → Nat} (h : zPh G Z e wk fc f) (hst : st < 8) (hw : bt wk st = false) (hQ : Q st) :
    zDF G Z Q wk e ((1 : Int32) <<< (nI st &&& 31)) (wk ||| ((1 : Int32) <<< (nI st &&& 31))) fc 1 f (zup s 0 st) (zup n 0 0) := by
  obtain ⟨p1, p2, p3, p4, p5, p6, p7⟩ := h
  have hp : ∀ i, bt (wk ||| ((1 : Int32) <<< (nI st &&& 31))) i = true ↔ bt wk i = true ∨ i = st := fun i => zb_put wk (by omega) i
  have h1 : ∀ i, bt ((1 : Int32) <<< (nI st &&& 31)) i = true ↔ i = st := fun i => by rw [zb_1 (by omega), decide_eq_true_eq]
  have hk : ∀ k, k < 1 → k = 0 := fun k hk => by omega
  refine ⟨⟨p1, fun k hk' => ?_, fun k hk' => ?_, ?_, z8_or p3 (z8_1 hst)⟩, ⟨fun x => by rw [hp, h1], fun x hx => ?_, fun x hx => ?_, fun k hk' => ?_, fun i hi => (hp _).mpr (Or.inl (p5 i hi))⟩, ⟨fun i hi y hy hg => (hp _).mpr (Or.inl (p6 i hi y hy hg)), fun k hk' y hy hg => ?_⟩, fun _ => fc, fun i k hi hk' => ?_, fun k k' a b => absurd b (by omega), fun k k' a b => absurd b (by omega), fun k hk' => ?_, p7⟩
  · rw [hk k hk', zup_s]; exact hst
  · rw [hk k hk', zup_s]; omega
  · rw [zc_put hst hw]; omega
  · rw [h1] at hx; rw [hx]; exact ⟨hw, hQ⟩
  · rcases (hp x).mp hx with z | z
    · rcases p4 x z with y | y
      · exact Or.inl y
      · exact Or.inr (Or.inl y)
    · exact Or.inr (Or.inr ⟨0, by omega, by rw [zup_s]; exact z.symm⟩)
  · rw [hk k hk', zup_s]; exact (h1 _).mpr rfl
  · rw [hk k hk', zup_s] at hy; exact absurd hy (by omega)
  · rw [hk k hk', zup_s]
    intro z
    have := p5 i hi
    rw [z, hw] at this; exact absurd this (by decide)
  · refine ⟨Nat.le_refl _, fun i hi y hy hg => ?_, fun i (hi : fc ≤ i) hi' => absurd hi' (by omega)⟩
    rcases p4 y (p6 i hi y hy hg) with z | z
    · exact Or.inl z
    · exact Or.inr (Or.inl z)
theorem zD_end {G : Nat → Nat → Prop} {Z Q : Nat → Prop} {e fc : Nat} {W0 set wk : Int32} {f s n : Nat → Nat} (h : zDF G Z Q W0 e set wk fc 0 f s n) :
    zPh G Z e wk fc f ∧ (∀ x, bt wk x = true ↔ bt W0 x = true ∨ bt set x = true) ∧ ∀ x, bt set x = true → bt W0 x = false ∧ Q x := by
  obtain ⟨⟨a1, a2, a3, a4, a5⟩, ⟨b1, b2, b3, b4, b5⟩, ⟨c1, c2⟩, dk, d1, d2, d3, d4, d5⟩ := h
  refine ⟨⟨a1, by omega, a5, fun x hx => ?_, b5, c1, d5⟩, b1, b2⟩
  rcases b3 x hx with z | z | ⟨k, hk, _⟩
  · exact Or.inl z
  · exact Or.inr z
  · exact absurd hk (by omega)
section
variable {nl ns nr na k : Nat} {h t oc kn wk fcx : Int32} {le si fr go qd qu lv lw lf sv sw sf rt rl ra ap av af aw xs xf xo xk xn : Nat → Int32} {fc : Nat}
theorem zx_sf {post : Int32 → Prop} {b : Bool} {s t' : Nat} (hs : s < 8) (ht : t' < 8) (H0 : ¬ zGb xs b s t' → post 0) (H1 : zGb xs b s t' → post 1) :
    wpX_stepFrom post (h, t, nI nl, nI ns, oc, nI nr, nI na, wk, fcx, le, si, fr, go, qd, qu, lv, lw, lf, sv, sf, sw, rt, rl, ra, ap, av, af, aw, xs, xf, xo, xk, xn) (nI s) (nI t') (zfl b) := by
  unfold wpX_stepFrom
  cases b
  · refine br_t rfl ?_
    rw [zn_88, nI_clamp (by omega : s * 8 + t' < 2 ^ 31)]
    refine And.intro (vp_in_nI (by omega) (by decide)) ?_
    unfold wX_stepFrom_29
    exact br_c (fun z => H0 (fun y => y.2.2 z)) (fun z => H1 ⟨hs, ht, z⟩)
  · refine br_f (by decide) ?_
    rw [zn_88, nI_clamp (by omega : t' * 8 + s < 2 ^ 31)]
    refine And.intro (vp_in_nI (by omega) (by decide)) ?_
    unfold wX_stepFrom_29
    exact br_c (fun z => H0 (fun y => y.2.2 z)) (fun z => H1 ⟨ht, hs, z⟩)
theorem zx_w36 {post : Int32 → SX → Prop} {b : Bool} {Z Q : Nat → Prop} {W0 : Int32} {e st : Nat} (hQ : ∀ x y, Q x → zGb xs b x y → y < 8 → bt W0 y = false → Q y)
    (H : ∀ (set wk : Int32) (fc : Nat) (xf xk xn : Nat → Int32), zDF (zGb xs b) Z Q W0 e set wk fc 0 (zl xf) (zl xk) (zl xn) → zV xf fc 8 → bt set st = true → post set (h, t, nI nl, nI ns, oc, nI nr, nI na, wk, nI fc, le, si, fr, go, qd, qu, lv, lw, lf, sv, sf, sw, rt, rl, ra, ap, av, af, aw, xs, xf, xo, xk, xn)) :
    ∀ (μ i n dp fc : Nat) (set wk : Int32) (xf xk xn : Nat → Int32), zMu wk dp (zl xn) ≤ μ → i + μ ≤ 199 → μ < n → zDF (zGb xs b) Z Q W0 e set wk fc dp (zl xf) (zl xk) (zl xn) →
    zV xf fc 8 → zV xk dp 8 → zV xn dp 9 → bt set st = true → wX_walk_36 post (zfl b) h t (nI nl) (nI ns) oc (nI nr) (nI na) n set (nI dp) (nI i) wk (nI fc) le si fr go qd qu lv lw lf sv sf sw rt rl ra ap av af aw xs xf xo xk xn := by
  intro μ
  induction μ with
  | zero =>
    intro i n dp fc set wk xf xk xn hμ hi hn hD v1 v2 v3 hst
    obtain ⟨n, rfl⟩ : ∃ m, n = m + 1 := ⟨n - 1, by omega⟩
    cases dp with
    | zero => exact br_f (nI_ge (b := 200) (by omega) (by decide)) (br_t (nI_le (b := 0) (Nat.le_refl 0) (by decide)) (H set wk fc xf xk xn hD v1 hst))
    | succ m =>
      have := (v3 m (by omega)).1
      unfold zMu at hμ
      simp only [zs] at hμ
      omega
  | succ μ ih =>
    intro i n dp fc set wk xf xk xn hμ hi hn hD v1 v2 v3 hst
    obtain ⟨n, rfl⟩ : ∃ m, n = m + 1 := ⟨n - 1, by omega⟩
    cases dp with
    | zero => exact br_f (nI_ge (b := 200) (by omega) (by decide)) (br_t (nI_le (b := 0) (Nat.le_refl 0) (by decide)) (H set wk fc xf xk xn hD v1 hst))
    | succ m =>
      have hcnt : fc + (m + 1) + e = zc wk := hD.1.2.2.2.1
      have hc8 := zc_le8 wk
      obtain ⟨s1, s2⟩ := v2 m (by omega)
      obtain ⟨n1, n2⟩ := v3 m (by omega)
      have hcm : (nI m).toNatClampNeg = m := nI_clamp (by omega)
      have him : vp_in (nI m) 9 := vp_in_nI (by omega) (by decide)
      refine br_f (nI_ge (b := 200) (by omega) (by decide)) (br_f (nI_nle (by omega) (by omega)) ?_)
      rw [nI_pred, hcm]
      refine And.intro him (nm_r s2 (And.intro him (nm_r n2 (br_c (fun c => ?_) (fun c => And.intro him ?_)))))
      · rw [show (8 : Int32) = nI 8 from rfl, nI_eq (by omega) (by omega)] at c
        refine And.intro (vp_in_nI (by omega) (by decide)) ?_
        rw [nI_clamp (by omega : fc < 2 ^ 31)]
        refine nm_e (nm_r (nI_1 fc) (nm_r (pk_m1 m) (nm_r (nI_1 i) ?_)))
        refine ih (i + 1) n m (fc + 1) set wk _ xk xn ?_ (by omega) (by omega) ?_ (zV_u v1 s1 (by decide)) (fun k hk => v2 k (by omega)) (fun k hk => v3 k (by omega)) hst
        · have := zM_pop (wk := wk) (n := zl xn) c
          omega
        · rw [zl_up (by omega)]
          exact zD_pop hD c
      · rw [show (8 : Int32) = nI 8 from rfl, nI_eq (by omega) (by omega)] at c
        have ht : zl xn m < 8 := by omega
        have hadv : (zGb xs b (zl xk m) (zl xn m) → bt wk (zl xn m) = true) → wX_walk_36 post (zfl b) h t (nI nl) (nI ns) oc (nI nr) (nI na) n set (nI (m + 1)) (nI (i + 1)) wk (nI fc) le si fr go qd qu lv lw lf sv sf sw rt rl ra ap av af aw xs xf xo xk (upd xn m (nI (zl xn m + 1))) := by
          intro hg
          refine ih (i + 1) n (m + 1) fc set wk xf xk _ ?_ (by omega) (by omega) ?_ v1 v2 ?_ hst
          · rw [zl_up (by omega)]
            have := zM_adv (wk := wk) (n := zl xn) ht
            omega
          · rw [zl_up (by omega)]
            exact zD_adv hD ht hg
          · intro k hk
            rw [zl_up (by omega)]
            by_cases ek : k = m
            · rw [ek, zup_s, pk_us]; exact ⟨by omega, rfl⟩
            · rw [zup_n ek, pk_un ek]; exact v3 k hk
        rw [nI_1]
        refine nm_e (zx_sf s1 ht (fun hg => br_t rfl (nm_r (nI_1 i) (hadv (fun z => absurd z hg)))) (fun hg => br_f (by decide) (br_c (fun c2 => ?_) (fun c2 => nm_r (nI_1 i) (hadv (fun _ => ?_))))))
        · have c2' := (zb_f (by omega)).mp c2
          have hput := zc_put ht c2'
          have h8' := zc_le8 (wk ||| ((1 : Int32) <<< (nI (zl xn m) &&& 31)))
          have hcm1 : (nI (m + 1)).toNatClampNeg = m + 1 := nI_clamp (by omega)
          have him1 : vp_in (nI (m + 1)) 9 := vp_in_nI (by omega) (by decide)
          refine nm_e (nm_e (And.intro him1 ?_))
          rw [hcm1]
          refine nm_e (And.intro him1 (nm_e (nm_r (nI_1 (m + 1)) (nm_r (nI_1 i) ?_))))
          have key := ih (i + 1) n (m + 2) fc (set ||| ((1 : Int32) <<< (nI (zl xn m) &&& 31))) (wk ||| ((1 : Int32) <<< (nI (zl xn m) &&& 31))) xf (upd xk (m + 1) (nI (zl xn m))) (upd (upd xn m (nI (zl xn m + 1))) (m + 1) (nI 0)) ?_ (by omega) (by omega) ?_ v1 ?_ ?_ ?_
          · exact key
          · rw [zl_up (by omega), zl_up (by omega)]
            have := zM_push (wk := wk) (n := zl xn) ht c2' (by omega)
            omega
          · rw [zl_up (by omega), zl_up (by omega), zl_up (by omega)]
            exact zD_push hD ht hg c2' hQ
          · exact zV_u v2 ht (by decide)
          · refine zV_u (fun k hk => ?_) (by omega) (by decide)
            rw [zl_up (by omega)]
            by_cases ek : k = m
            · rw [ek, zup_s, pk_us]; exact ⟨by omega, rfl⟩
            · rw [zup_n ek, pk_un ek]; exact v3 k hk
          · rw [zb_put _ (by omega)]; exact Or.inl hst
        · exact ts_nf (fun z => c2 ((zb_f (by omega)).mpr z))
theorem zx_walk {post : Int32 → SX → Prop} {b : Bool} {Z Q : Nat → Prop} {e st : Nat} (hst : st < 8) (hw : bt wk st = false) (hQ0 : Q st) (hQ : ∀ x y, Q x → zGb xs b x y → y < 8 → bt wk y = false → Q y)
    (hP : zPh (zGb xs b) Z e wk fc (zl xf)) (hV : zV xf fc 8)
    (H : ∀ (set wk' : Int32) (fc' : Nat) (xf' xk' xn' : Nat → Int32), zPh (zGb xs b) Z e wk' fc' (zl xf') → zV xf' fc' 8 → (∀ x, bt wk' x = true ↔ bt wk x = true ∨ bt set x = true) → (∀ x, bt set x = true → bt wk x = false ∧ Q x) → bt set st = true →
      post set (h, t, nI nl, nI ns, oc, nI nr, nI na, wk', nI fc', le, si, fr, go, qd, qu, lv, lw, lf, sv, sf, sw, rt, rl, ra, ap, av, af, aw, xs, xf', xo, xk', xn')) :
    wpX_walk post (h, t, nI nl, nI ns, oc, nI nr, nI na, wk, nI fc, le, si, fr, go, qd, qu, lv, lw, lf, sv, sf, sw, rt, rl, ra, ap, av, af, aw, xs, xf, xo, xk, xn) (nI st) (zfl b) := by
  unfold wpX_walk
  refine nm_e (nm_e (nm_e (nm_e ⟨73, ?_⟩)))
  have hc8 := zc_le8 (wk ||| ((1 : Int32) <<< (nI st &&& 31)))
  have hput := zc_put hst hw
  have key := zx_w36 (post := post) (h := h) (t := t) (oc := oc) (nl := nl) (ns := ns) (nr := nr) (na := na) (le := le) (si := si) (fr := fr) (go := go) (qd := qd) (qu := qu) (lv := lv) (lw := lw) (lf := lf) (sv := sv) (sw := sw) (sf := sf) (rt := rt) (rl := rl) (ra := ra) (ap := ap) (av := av) (af := af) (aw := aw) (xs := xs) (xo := xo) (b := b) (Z := Z) (Q := Q) (W0 := wk) (e := e) (st := st) hQ
    (fun set wk' fc' xf' xk' xn' hD hV' hs => by
      obtain ⟨e1, e2, e3⟩ := zD_end hD
      exact H set wk' fc' xf' xk' xn' e1 hV' e2 e3 hs)
    72 0 73 1 fc ((1 : Int32) <<< (nI st &&& 31)) (wk ||| ((1 : Int32) <<< (nI st &&& 31))) xf (upd xk 0 (nI st)) (upd xn 0 (nI 0)) ?_ (by omega) (by omega) ?_ hV ?_ ?_ ?_
  · exact key
  · rw [zl_up (by omega)]
    unfold zMu
    simp only [zs]
    rw [zup_s]
    omega
  · rw [zl_up (by omega), zl_up (by omega)]
    exact zD_start hP hst hw hQ0
  · intro k hk
    have ek : k = 0 := by omega
    rw [zl_up (by omega), ek, zup_s, pk_us]
    exact ⟨hst, rfl⟩
  · intro k hk
    have ek : k = 0 := by omega
    rw [zl_up (by omega), ek, zup_s, pk_us]
    exact ⟨by omega, rfl⟩
  · rw [zb_1 (by omega)]; exact decide_eq_true rfl
end
end
section
/-! X: addSteps, makeSteps, twoThreads -/
def zXS (xs : Nat → Int32) (M : Nat → Nat → Nat → Prop) : Prop := ∀ s t, s < 8 → t < 8 → ∀ k, bt (xs (s * 8 + t)) k = true ↔ M s t k
theorem zXS_c {xs : Nat → Int32} {M M' : Nat → Nat → Nat → Prop} (h : zXS xs M) (hM : ∀ s t k, s < 8 → t < 8 → (M s t k ↔ M' s t k)) : zXS xs M' := fun s t hs ht k => (h s t hs ht k).trans (hM s t k hs ht)
def zAd (oc o i : Int32) (th s t k : Nat) : Prop := bt o s = true ∧ bt i t = true ∧ k = th ∧ ¬ (s = t ∧ bt oc s = true)
def zMm (oc o i : Int32) (th : Nat) (M : Nat → Nat → Nat → Prop) (s j a b k : Nat) : Prop := M a b k ∨ (zAd oc o i th a b k ∧ (a < s ∨ (a = s ∧ b < j)))
theorem zXS_n {oc o i : Int32} {th s j : Nat} {M : Nat → Nat → Nat → Prop} {xs : Nat → Int32} (h : zXS xs (zMm oc o i th M s j)) (hc : ¬ (bt o s = true ∧ bt i j = true ∧ ¬ (s = j ∧ bt oc s = true))) :
    zXS xs (zMm oc o i th M s (j + 1)) := by
  refine zXS_c h fun a b k _ _ => ⟨fun z => ?_, fun z => ?_⟩
  · rcases z with z | ⟨z1, z2⟩
    · exact Or.inl z
    · exact Or.inr ⟨z1, by omega⟩
  · rcases z with z | ⟨z1, z2⟩
    · exact Or.inl z
    · by_cases e : a = s ∧ b = j
      · obtain ⟨rfl, rfl⟩ := e
        exact absurd ⟨z1.1, z1.2.1, z1.2.2.2⟩ hc
      · exact Or.inr ⟨z1, by omega⟩
theorem zXS_y {oc o i : Int32} {th s j : Nat} {M : Nat → Nat → Nat → Prop} {xs : Nat → Int32} (hs : s < 8) (hj : j < 8) (hth : th < 32) (h : zXS xs (zMm oc o i th M s j)) (hc : bt o s = true ∧ bt i j = true ∧ ¬ (s = j ∧ bt oc s = true)) :
    zXS (upd xs (s * 8 + j) (xs (s * 8 + j) ||| ((1 : Int32) <<< (nI th &&& 31)))) (zMm oc o i th M s (j + 1)) := by
  intro a b ha hb k
  rw [zu_or, zb_1 hth, decide_eq_true_eq, h a b ha hb k]
  constructor
  · rintro ((z | ⟨z1, z2⟩) | ⟨z1, z2⟩)
    · exact Or.inl z
    · exact Or.inr ⟨z1, by omega⟩
    · have ea : a = s := by omega
      have eb : b = j := by omega
      subst ea eb
      exact Or.inr ⟨⟨hc.1, hc.2.1, z2, hc.2.2⟩, by omega⟩
  · rintro (z | ⟨z1, z2⟩)
    · exact Or.inl (Or.inl z)
    · by_cases e : a = s ∧ b = j
      · obtain ⟨rfl, rfl⟩ := e
        exact Or.inr ⟨rfl, z1.2.2.1⟩
      · exact Or.inl (Or.inr ⟨z1, by omega⟩)
/-- continuations over X's arrays, over X's state -/
abbrev zTX : Type := (Nat → Int32) → (Nat → Int32) → (Nat → Int32) → (Nat → Int32) → (Nat → Int32) → (Nat → Int32) → (Nat → Int32) → (Nat → Int32) → (Nat → Int32) → (Nat → Int32) → (Nat → Int32) → (Nat → Int32) → (Nat → Int32) → (Nat → Int32) → (Nat → Int32) → (Nat → Int32) → (Nat → Int32) → (Nat → Int32) → (Nat → Int32) → (Nat → Int32) → (Nat → Int32) → (Nat → Int32) → (Nat → Int32) → (Nat → Int32) →  Prop
abbrev zTX2 : Type := Int32 → Int32 → Int32 → Int32 → Int32 → Int32 → Int32 → Int32 → Int32 → zTX
def zch (ra : Nat → Int32) : Nat → Int32 → Nat → Prop
  | 0, _, _ => False
  | d + 1, x, q => ¬ x < 0 ∧ (q = x.toNatClampNeg ∨ zch ra d (ra x.toNatClampNeg) q)
def zWW (P rt rl ra : Nat → Int32) (oc : Int32) (nr s t k : Nat) : Prop := ∃ r, r < nr ∧ ∃ q, zch ra 12 (ra r) q ∧ zAd oc (P (zl rl q)) (P (zl rl r)) (zl rt r) s t k
section
variable {nl ns nr na k : Nat} {h t oc kn wk fc : Int32} {le si fr go qd qu lv lw lf sv sw sf rt rl ra ap av af aw al co sg p hh xs xf xo xk xn ys yr P : Nat → Int32}
theorem zx_a13 {post : SX → Prop} {J3 : Int32 → zTX} {o i : Int32} {th s : Nat} {M : Nat → Nat → Nat → Prop} (hs : s < 8) (hth : th < 32)
    (H : ∀ xs', zXS xs' (zMm oc o i th M s 8) → J3 (nI (s + 1)) le si fr go qd qu lv lw lf sv sf sw rt rl ra ap av af aw xs' xf xo xk xn) :
    ∀ (d j n : Nat) (xs : Nat → Int32), j + d = 8 → d < n → zXS xs (zMm oc o i th M s j) → wX_addSteps_13 post J3 o i (nI th) (nI s) h t (nI nl) (nI ns) oc (nI nr) (nI na) wk fc n (nI j) le si fr go qd qu lv lw lf sv sf sw rt rl ra ap av af aw xs xf xo xk xn := by
  intro d
  induction d with
  | zero =>
    intro j n xs hj hn hX
    obtain ⟨n, rfl⟩ : ∃ m, n = m + 1 := ⟨n - 1, by omega⟩
    have e : j = 8 := by omega
    subst e
    exact br_t (nI_le (a := 8) (b := 8) (by decide) (by decide)) (nm_r (nI_1 s) (H xs hX))
  | succ d ih =>
    intro j n xs hj hn hX
    obtain ⟨n, rfl⟩ : ∃ m, n = m + 1 := ⟨n - 1, by omega⟩
    have hno : ¬ (bt o s = true ∧ bt i j = true ∧ ¬ (s = j ∧ bt oc s = true)) → wX_addSteps_13 post J3 o i (nI th) (nI s) h t (nI nl) (nI ns) oc (nI nr) (nI na) wk fc n (nI (j + 1)) le si fr go qd qu lv lw lf sv sf sw rt rl ra ap av af aw xs xf xo xk xn :=
      fun z => ih (j + 1) n xs (by omega) (by omega) (zXS_n hX z)
    have hyes : (bt o s = true ∧ bt i j = true ∧ ¬ (s = j ∧ bt oc s = true)) → wX_addSteps_72 post J3 (wX_addSteps_13 post J3 o i (nI th) (nI s) h t (nI nl) (nI ns) oc (nI nr) (nI na) wk fc n) o i (nI th) (nI s) (nI j) h t (nI nl) (nI ns) oc (nI nr) (nI na) wk fc le si fr go qd qu lv lw lf sv sf sw rt rl ra ap av af aw xs xf xo xk xn := by
      intro z
      unfold wX_addSteps_72
      rw [zn_88, nI_clamp (by omega : s * 8 + j < 2 ^ 31)]
      exact And.intro (vp_in_nI (by omega) (by decide)) (And.intro (vp_in_nI (by omega) (by decide)) (nm_e (nm_r (nI_1 j) (ih (j + 1) n _ (by omega) (by omega) (zXS_y hs (by omega) hth hX z)))))
    have h44 : ¬ (bt o s = true ∧ bt i j = true ∧ ¬ (s = j ∧ bt oc s = true)) → wX_addSteps_44 post J3 (wX_addSteps_13 post J3 o i (nI th) (nI s) h t (nI nl) (nI ns) oc (nI nr) (nI na) wk fc n) o i (nI th) (nI s) (nI j) h t (nI nl) (nI ns) oc (nI nr) (nI na) wk fc le si fr go qd qu lv lw lf sv sf sw rt rl ra ap av af aw xs xf xo xk xn := by
      intro z
      unfold wX_addSteps_44 wX_addSteps_45
      exact br_t rfl (nm_r (nI_1 j) (hno z))
    refine br_f (nI_ge (b := 8) (by omega) (by decide)) (br_c (fun c1 => br_c (fun c2 => ?_) (fun c2 => h44 (fun z => c2 ((zb_t (by omega)).mpr z.2.1)))) (fun c1 => h44 (fun z => c1 ((zb_t (by omega)).mpr z.1))))
    have c1' := (zb_t (by omega)).mp c1
    have c2' := (zb_t (by omega)).mp c2
    unfold wX_addSteps_45
    refine br_f (by decide) (br_c (fun c3 => br_c (fun c4 => nm_r (nI_1 j) (hno ?_)) (fun c4 => hyes ?_)) (fun c3 => hyes ?_))
    · rw [nI_eq (by omega) (by omega)] at c3
      exact fun z => z.2.2 ⟨c3, (zb_t (by omega)).mp c4⟩
    · exact ⟨c1', c2', fun z => c4 ((zb_t (by omega)).mpr z.2)⟩
    · rw [nI_eq (by omega) (by omega)] at c3
      exact ⟨c1', c2', fun z => c3 z.1⟩
theorem zx_a3 {post : SX → Prop} {o i : Int32} {th : Nat} {M : Nat → Nat → Nat → Prop} (hth : th < 32)
    (H : ∀ xs', zXS xs' (fun a b k => M a b k ∨ zAd oc o i th a b k) → post (h, t, nI nl, nI ns, oc, nI nr, nI na, wk, fc, le, si, fr, go, qd, qu, lv, lw, lf, sv, sf, sw, rt, rl, ra, ap, av, af, aw, xs', xf, xo, xk, xn)) :
    ∀ (d s n : Nat) (xs : Nat → Int32), s + d = 8 → d < n → zXS xs (zMm oc o i th M s 0) → wX_addSteps_3 post o i (nI th) h t (nI nl) (nI ns) oc (nI nr) (nI na) wk fc n (nI s) le si fr go qd qu lv lw lf sv sf sw rt rl ra ap av af aw xs xf xo xk xn := by
  intro d
  induction d with
  | zero =>
    intro s n xs hj hn hX
    obtain ⟨n, rfl⟩ : ∃ m, n = m + 1 := ⟨n - 1, by omega⟩
    have e : s = 8 := by omega
    subst e
    refine br_t (nI_le (a := 8) (b := 8) (by decide) (by decide)) (H xs (zXS_c hX fun a b k ha hb => ⟨fun z => ?_, fun z => ?_⟩))
    · rcases z with z | z
      · exact Or.inl z
      · exact Or.inr z.1
    · rcases z with z | z
      · exact Or.inl z
      · exact Or.inr ⟨z, Or.inl ha⟩
  | succ d ih =>
    intro s n xs hj hn hX
    obtain ⟨n, rfl⟩ : ∃ m, n = m + 1 := ⟨n - 1, by omega⟩
    refine br_f (nI_ge (b := 8) (by omega) (by decide)) ⟨9, zx_a13 (M := M) (by omega) hth (fun xs' hX' => ih (s + 1) n xs' (by omega) (by omega) (zXS_c hX' fun a b k ha hb => ⟨fun z => ?_, fun z => ?_⟩)) 8 0 9 xs (by omega) (by omega) hX⟩
    · rcases z with z | ⟨z1, z2⟩
      · exact Or.inl z
      · exact Or.inr ⟨z1, by omega⟩
    · rcases z with z | ⟨z1, z2⟩
      · exact Or.inl z
      · exact Or.inr ⟨z1, by omega⟩
theorem zx_addSteps {post : SX → Prop} {o i : Int32} {th : Nat} {M : Nat → Nat → Nat → Prop} (hth : th < 32) (hX : zXS xs M)
    (H : ∀ xs', zXS xs' (fun a b k => M a b k ∨ zAd oc o i th a b k) → post (h, t, nI nl, nI ns, oc, nI nr, nI na, wk, fc, le, si, fr, go, qd, qu, lv, lw, lf, sv, sf, sw, rt, rl, ra, ap, av, af, aw, xs', xf, xo, xk, xn)) : wpX_addSteps post (h, t, nI nl, nI ns, oc, nI nr, nI na, wk, fc, le, si, fr, go, qd, qu, lv, lw, lf, sv, sf, sw, rt, rl, ra, ap, av, af, aw, xs, xf, xo, xk, xn) o i (nI th) := by
  unfold wpX_addSteps
  refine ⟨9, zx_a3 (M := M) hth H 8 0 9 xs (by omega) (by omega) (zXS_c hX fun a b k _ _ => ⟨Or.inl, fun z => ?_⟩)⟩
  rcases z with z | ⟨z1, z2⟩
  · exact z
  · omega
theorem zx_m40 {post : SX → Prop} {J23 : Int32 → zTX2} (hW : zW le si fr) (hnr : nr ≤ 12) (g3 : zV rt nr 4) (g4 : zV rl nr 12) (g5 : ∀ r, r < nr → ra r = -1 ∨ ∃ a, a < r ∧ ra r = nI a) {r : Nat} (hr : r < nr) :
    ∀ (d i n : Nat) (x2 : Int32) (xs : Nat → Int32) (M : Nat → Nat → Nat → Prop), i + d = 12 → d < n → (x2 < 0 ∨ ∃ a, a < nr ∧ x2 = nI a) → zXS xs M →
    (∀ xs', zXS xs' (fun s t k => M s t k ∨ ∃ q, zch ra d x2 q ∧ zAd oc (zP le si (zl rl q)) (zP le si (zl rl r)) (zl rt r) s t k) → J23 (nI (r + 1)) h t (nI nl) (nI ns) oc (nI nr) (nI na) wk fc le si fr go qd qu lv lw lf sv sf sw rt rl ra ap av af aw xs' xf xo xk xn) →
    wX_makeSteps_40 post J23 (nI r) n x2 (nI i) h t (nI nl) (nI ns) oc (nI nr) (nI na) wk fc le si fr go qd qu lv lw lf sv sf sw rt rl ra ap av af aw xs xf xo xk xn := by
  obtain ⟨t1, t2⟩ := g3 r hr
  obtain ⟨r1, r2⟩ := g4 r hr
  obtain ⟨lr1, lr2, lr3⟩ := hW.1 (zl rl r) (by omega)
  have hcr : (nI r).toNatClampNeg = r := nI_clamp (by omega)
  have hir : vp_in (nI r) 12 := vp_in_nI (by omega) (by decide)
  intro d
  induction d with
  | zero =>
    intro i n x2 xs M hi hn hx hX H
    obtain ⟨n, rfl⟩ : ∃ m, n = m + 1 := ⟨n - 1, by omega⟩
    have e : i = 12 := by omega
    subst e
    refine br_t (nI_le (a := 12) (b := 12) (by decide) (by decide)) (nm_r (nI_1 r) (H xs (zXS_c hX fun s t k _ _ => ⟨Or.inl, fun z => z.elim id (fun ⟨q, y, _⟩ => y.elim)⟩)))
  | succ d ih =>
    intro i n x2 xs M hi hn hx hX H
    obtain ⟨n, rfl⟩ : ∃ m, n = m + 1 := ⟨n - 1, by omega⟩
    refine br_f (nI_ge (b := 12) (by omega) (by decide)) ?_
    by_cases c : x2 < 0
    · refine br_t c (nm_r (nI_1 r) (H xs (zXS_c hX fun s t k _ _ => ⟨Or.inl, fun z => z.elim id (fun ⟨q, y, _⟩ => absurd c y.1)⟩)))
    · refine br_f c ?_
      obtain ⟨a, ha, rfl⟩ : ∃ a, a < nr ∧ x2 = nI a := hx.elim (fun z => absurd z c) id
      have hca : (nI a).toNatClampNeg = a := nI_clamp (by omega)
      have hia : vp_in (nI a) 12 := vp_in_nI (by omega) (by decide)
      obtain ⟨b1, b2⟩ := g4 a ha
      obtain ⟨l1, l2, l3⟩ := hW.1 (zl rl a) (by omega)
      have hnx : ra a < 0 ∨ ∃ b, b < nr ∧ ra a = nI b := by
        rcases g5 a ha with z | ⟨b, hb, z⟩
        · rw [z]; exact Or.inl (by decide)
        · exact Or.inr ⟨b, by omega, z⟩
      rw [hca, hcr]
      refine And.intro hia (And.intro (by rw [b2]; exact vp_in_nI (by omega) (by decide)) (And.intro ?_ (And.intro hir (And.intro (by rw [r2]; exact vp_in_nI (by omega) (by decide)) (And.intro ?_ (And.intro hir ?_))))))
      · show vp_in (le (zl rl a)) 28
        rw [l2]; exact vp_in_nI l1 (by decide)
      · show vp_in (le (zl rl r)) 28
        rw [lr2]; exact vp_in_nI lr1 (by decide)
      · rw [t2]
        refine zx_addSteps (by omega) hX (fun xs' hX' => And.intro hia (nm_e (nm_r (nI_1 i) (ih (i + 1) n (ra a) xs' _ (by omega) (by omega) hnx hX' (fun x3 hX3 => H x3 (zXS_c hX3 fun s t k _ _ => ⟨fun z => ?_, fun z => ?_⟩))))))
        · rcases z with (z | z) | ⟨q, z1, z2⟩
          · exact Or.inl z
          · exact Or.inr ⟨a, ⟨c, Or.inl hca.symm⟩, z⟩
          · exact Or.inr ⟨q, ⟨c, Or.inr (by rw [hca]; exact z1)⟩, z2⟩
        · rcases z with z | ⟨q, ⟨_, z1 | z1⟩, z2⟩
          · exact Or.inl (Or.inl z)
          · rw [hca] at z1; rw [z1] at z2; exact Or.inl (Or.inr z2)
          · rw [hca] at z1; exact Or.inr ⟨q, z1, z2⟩
theorem zx_m23 {post : SX → Prop} (hW : zW le si fr) (hnr : nr ≤ 12) (g3 : zV rt nr 4) (g4 : zV rl nr 12) (g5 : ∀ r, r < nr → ra r = -1 ∨ ∃ a, a < r ∧ ra r = nI a)
    (H : ∀ xs', zXS xs' (zWW (zP le si) rt rl ra oc nr) → post (h, t, nI nl, nI ns, oc, nI nr, nI na, wk, fc, le, si, fr, go, qd, qu, lv, lw, lf, sv, sf, sw, rt, rl, ra, ap, av, af, aw, xs', xf, xo, xk, xn)) :
    ∀ (d r n : Nat) (xs : Nat → Int32), r + d = nr → d < n → zXS xs (zWW (zP le si) rt rl ra oc r) → wX_makeSteps_23 post n (nI r) h t (nI nl) (nI ns) oc (nI nr) (nI na) wk fc le si fr go qd qu lv lw lf sv sf sw rt rl ra ap av af aw xs xf xo xk xn := by
  intro d
  induction d with
  | zero =>
    intro r n xs hr hn hX
    obtain ⟨n, rfl⟩ : ∃ m, n = m + 1 := ⟨n - 1, by omega⟩
    have e : r = nr := by omega
    subst e
    exact br_t (nI_le (Nat.le_refl _) (by omega)) (H xs hX)
  | succ d ih =>
    intro r n xs hr hn hX
    obtain ⟨n, rfl⟩ : ∃ m, n = m + 1 := ⟨n - 1, by omega⟩
    have hnx : ra r < 0 ∨ ∃ b, b < nr ∧ ra r = nI b := by
      rcases g5 r (by omega) with z | ⟨b, hb, z⟩
      · rw [z]; exact Or.inl (by decide)
      · exact Or.inr ⟨b, by omega, z⟩
    refine br_f (nI_ge (by omega) (by omega)) (And.intro (vp_in_nI (by omega) (by decide)) ?_)
    rw [nI_clamp (by omega : r < 2 ^ 31)]
    refine nm_e ⟨13, zx_m40 hW hnr g3 g4 g5 (by omega) 12 0 13 (ra r) xs _ (by omega) (by omega) hnx hX (fun xs' hX' => ih (r + 1) n xs' (by omega) (by omega) (zXS_c hX' fun s t k _ _ => ⟨fun z => ?_, fun z => ?_⟩))⟩
    · rcases z with ⟨r', hr', z⟩ | z
      · exact ⟨r', by omega, z⟩
      · exact ⟨r, by omega, z⟩
    · obtain ⟨r', hr', z⟩ := z
      by_cases e : r' = r
      · subst e; exact Or.inr z
      · exact Or.inl ⟨r', by omega, z⟩
theorem zx_makeSteps {post : SX → Prop} (hW : zW le si fr) (hnr : nr ≤ 12) (g3 : zV rt nr 4) (g4 : zV rl nr 12) (g5 : ∀ r, r < nr → ra r = -1 ∨ ∃ a, a < r ∧ ra r = nI a)
    (H : ∀ xs', zXS xs' (zWW (zP le si) rt rl ra oc nr) → post (h, t, nI nl, nI ns, oc, nI nr, nI na, wk, fc, le, si, fr, go, qd, qu, lv, lw, lf, sv, sf, sw, rt, rl, ra, ap, av, af, aw, xs', xf, xo, xk, xn)) : wpX_makeSteps post (h, t, nI nl, nI ns, oc, nI nr, nI na, wk, fc, le, si, fr, go, qd, qu, lv, lw, lf, sv, sf, sw, rt, rl, ra, ap, av, af, aw, xs, xf, xo, xk, xn) := by
  have key : ∀ (d i n : Nat), i + d = 64 → d < n → wX_makeSteps_2 post h t (nI nl) (nI ns) oc (nI nr) (nI na) wk fc n (nI i) le si fr go qd qu lv lw lf sv sf sw rt rl ra ap av af aw (zz xs i) xf xo xk xn := by
    intro d
    induction d with
    | zero =>
      intro i n hi hn
      obtain ⟨n, rfl⟩ : ∃ m, n = m + 1 := ⟨n - 1, by omega⟩
      have e : i = 64 := by omega
      subst e
      refine br_t (nI_le (a := 64) (b := 64) (by decide) (by decide)) ⟨13, zx_m23 hW hnr g3 g4 g5 H nr 0 13 (zz xs 64) (by omega) (by omega) (fun s t hs ht k => ?_)⟩
      rw [zz_l (by omega), b_0]
      exact ⟨fun z => absurd z (by decide), fun ⟨r, hr, _⟩ => absurd hr (by omega)⟩
    | succ d ih =>
      intro i n hi hn
      obtain ⟨n, rfl⟩ : ∃ m, n = m + 1 := ⟨n - 1, by omega⟩
      refine br_f (nI_ge (b := 64) (by omega) (by decide)) (And.intro (vp_in_nI (by omega) (by decide)) ?_)
      rw [nI_clamp (by omega : i < 2 ^ 31), zz_s]
      exact nm_e (nm_r (nI_1 i) (ih (i + 1) n (by omega) (by omega)))
  have k0 := key 64 0 65 (by omega) (by omega)
  rw [zz_0] at k0
  exact ⟨65, k0⟩
theorem zx_t13 {post : Int32 → Prop} {J4 : Int32 → Int32 → Prop} {part : Int32} {s : Nat} (hs : s < 8) :
    ∀ (d j n : Nat) (x2 : Int32) (Q : Nat → Prop), j + d = 8 → d < n → (∀ k, bt x2 k = true ↔ Q k ∨ ∃ b, b < j ∧ bt part s = true ∧ bt part b = true ∧ bt (xs (s * 8 + b)) k = true) →
    (∀ r, (∀ k, bt r k = true ↔ Q k ∨ ∃ b, b < 8 ∧ bt part s = true ∧ bt part b = true ∧ bt (xs (s * 8 + b)) k = true) → J4 r (nI (s + 1))) →
    wX_twoThreads_13 post J4 part (nI s) h t (nI nl) (nI ns) oc (nI nr) (nI na) wk fc le si fr go qd qu lv lw lf sv sf sw rt rl ra ap av af aw xs xf xo xk xn n x2 (nI j) := by
  intro d
  induction d with
  | zero =>
    intro j n x2 Q hj hn hx H
    obtain ⟨n, rfl⟩ : ∃ m, n = m + 1 := ⟨n - 1, by omega⟩
    have e : j = 8 := by omega
    subst e
    exact br_t (nI_le (a := 8) (b := 8) (by decide) (by decide)) (nm_r (nI_1 s) (H x2 hx))
  | succ d ih =>
    intro j n x2 Q hj hn hx H
    obtain ⟨n, rfl⟩ : ∃ m, n = m + 1 := ⟨n - 1, by omega⟩
    have hno : ¬ (bt part s = true ∧ bt part j = true) → wX_twoThreads_13 post J4 part (nI s) h t (nI nl) (nI ns) oc (nI nr) (nI na) wk fc le si fr go qd qu lv lw lf sv sf sw rt rl ra ap av af aw xs xf xo xk xn n x2 (nI (j + 1)) := by
      intro hc
      refine ih (j + 1) n x2 Q (by omega) (by omega) (fun k => (hx k).trans ⟨fun z => ?_, fun z => ?_⟩) H
      · rcases z with z | ⟨b, hb, z⟩
        · exact Or.inl z
        · exact Or.inr ⟨b, by omega, z⟩
      · rcases z with z | ⟨b, hb, z1, z2, z3⟩
        · exact Or.inl z
        · by_cases e : b = j
          · rw [e] at z2; exact absurd ⟨z1, z2⟩ hc
          · exact Or.inr ⟨b, by omega, z1, z2, z3⟩
    refine br_f (nI_ge (b := 8) (by omega) (by decide)) (br_c (fun c1 => br_c (fun c2 => ?_) (fun c2 => nm_r (nI_1 j) (hno (fun z => c2 ((zb_t (by omega)).mpr z.2))))) (fun c1 => nm_r (nI_1 j) (hno (fun z => c1 ((zb_t (by omega)).mpr z.1)))))
    have c1' := (zb_t (by omega)).mp c1
    have c2' := (zb_t (by omega)).mp c2
    rw [zn_88, nI_clamp (by omega : s * 8 + j < 2 ^ 31)]
    refine And.intro (vp_in_nI (by omega) (by decide)) (nm_e (nm_r (nI_1 j) (ih (j + 1) n _ Q (by omega) (by omega) (fun k => ?_) H)))
    rw [b_or, Bool.or_eq_true, hx k]
    constructor
    · rintro ((z | ⟨b, hb, z⟩) | z)
      · exact Or.inl z
      · exact Or.inr ⟨b, by omega, z⟩
      · exact Or.inr ⟨j, by omega, c1', c2', z⟩
    · rintro (z | ⟨b, hb, z1, z2, z3⟩)
      · exact Or.inl (Or.inl z)
      · by_cases e : b = j
        · rw [e] at z3; exact Or.inr z3
        · exact Or.inl (Or.inr ⟨b, by omega, z1, z2, z3⟩)
theorem zx_t4 {post : Int32 → Prop} {part : Int32}
    (H : ∀ r, (∀ k, bt r k = true ↔ ∃ a b, a < 8 ∧ b < 8 ∧ bt part a = true ∧ bt part b = true ∧ bt (xs (a * 8 + b)) k = true) → (r &&& (r - 1) = 0 → post 0) ∧ (¬ r &&& (r - 1) = 0 → post 1)) :
    ∀ (d s n : Nat) (x2 : Int32), s + d = 8 → d < n → (∀ k, bt x2 k = true ↔ ∃ a b, a < s ∧ b < 8 ∧ bt part a = true ∧ bt part b = true ∧ bt (xs (a * 8 + b)) k = true) →
    wX_twoThreads_4 post part h t (nI nl) (nI ns) oc (nI nr) (nI na) wk fc le si fr go qd qu lv lw lf sv sf sw rt rl ra ap av af aw xs xf xo xk xn n x2 (nI s) := by
  intro d
  induction d with
  | zero =>
    intro s n x2 hj hn hx
    obtain ⟨n, rfl⟩ : ∃ m, n = m + 1 := ⟨n - 1, by omega⟩
    have e : s = 8 := by omega
    subst e
    exact br_t (nI_le (a := 8) (b := 8) (by decide) (by decide)) (H x2 hx)
  | succ d ih =>
    intro s n x2 hj hn hx
    obtain ⟨n, rfl⟩ : ∃ m, n = m + 1 := ⟨n - 1, by omega⟩
    refine br_f (nI_ge (b := 8) (by omega) (by decide)) ⟨9, zx_t13 (by omega) 8 0 9 x2 (fun k => ∃ a b, a < s ∧ b < 8 ∧ bt part a = true ∧ bt part b = true ∧ bt (xs (a * 8 + b)) k = true) (by omega) (by omega) (fun k => (hx k).trans ⟨Or.inl, fun z => z.elim id (fun ⟨b, hb, _⟩ => absurd hb (by omega))⟩) (fun r hr => ih (s + 1) n r (by omega) (by omega) (fun k => (hr k).trans ⟨fun z => ?_, fun z => ?_⟩))⟩
    · rcases z with ⟨a, b, ha, z⟩ | ⟨b, hb, z⟩
      · exact ⟨a, b, by omega, z⟩
      · exact ⟨s, b, by omega, hb, z⟩
    · obtain ⟨a, b, ha, hb, z⟩ := z
      by_cases e : a = s
      · subst e; exact Or.inr ⟨b, hb, z⟩
      · exact Or.inl ⟨a, b, by omega, hb, z⟩
theorem zx_two {post : Int32 → Prop} {part : Int32}
    (H : ∀ r, (∀ k, bt r k = true ↔ ∃ a b, a < 8 ∧ b < 8 ∧ bt part a = true ∧ bt part b = true ∧ bt (xs (a * 8 + b)) k = true) → (r &&& (r - 1) = 0 → post 0) ∧ (¬ r &&& (r - 1) = 0 → post 1)) :
    wpX_twoThreads post (h, t, nI nl, nI ns, oc, nI nr, nI na, wk, fc, le, si, fr, go, qd, qu, lv, lw, lf, sv, sf, sw, rt, rl, ra, ap, av, af, aw, xs, xf, xo, xk, xn) part := by
  unfold wpX_twoThreads
  refine ⟨9, zx_t4 H 8 0 9 0 (by omega) (by omega) (fun k => ?_)⟩
  rw [b_0]
  exact ⟨fun z => absurd z (by decide), fun ⟨a, b, ha, _⟩ => absurd ha (by omega)⟩
end
end
section
/-! X: danger -/
def zCC (R : Nat → Nat → Prop) (a b : Nat) : Prop := zSt R a b ∧ zSt R b a
theorem zCC_s {R : Nat → Nat → Prop} {a b : Nat} (h : zCC R a b) : zCC R b a := ⟨h.2, h.1⟩
theorem zCC_t {R : Nat → Nat → Prop} {a b c : Nat} (h : zCC R a b) (h' : zCC R b c) : zCC R a c := ⟨zSt_t h.1 h'.1, zSt_t h'.2 h.2⟩
def zTW (R : Nat → Nat → Prop) (M : Nat → Nat → Nat → Prop) (s k : Nat) : Prop := ∃ a b, a < 8 ∧ b < 8 ∧ M a b k ∧ zCC R s a ∧ zCC R s b
def zDg (R : Nat → Nat → Prop) (M : Nat → Nat → Nat → Prop) (s : Nat) : Prop := ∃ k1 k2, k1 ≠ k2 ∧ zTW R M s k1 ∧ zTW R M s k2
theorem zTW_c {R : Nat → Nat → Prop} {M : Nat → Nat → Nat → Prop} {s x k : Nat} (h : zCC R s x) (hT : zTW R M s k) : zTW R M x k := by
  obtain ⟨a, b, h1, h2, h3, h4, h5⟩ := hT
  exact ⟨a, b, h1, h2, h3, zCC_t (zCC_s h) h4, zCC_t (zCC_s h) h5⟩
theorem zDg_c {R : Nat → Nat → Prop} {M : Nat → Nat → Nat → Prop} {s x : Nat} (h : zCC R s x) (hD : zDg R M s) : zDg R M x := by
  obtain ⟨k1, k2, h0, h1, h2⟩ := hD
  exact ⟨k1, k2, h0, zTW_c h h1, zTW_c h h2⟩
theorem zOF_c {G : Nat → Nat → Prop} {Z : Nat → Prop} {fc : Nat} {f g : Nat → Nat} (h : zOF G Z fc f) (e : ∀ i, i < fc → f i = g i) : zOF G Z fc g := by
  intro j hj
  obtain ⟨d, h0, h1, h2, h3⟩ := h j hj
  refine ⟨d, h0, fun i hi y hy hg => ?_, fun i hi hi' => ?_, fun i hi => ?_⟩
  · rw [← e i (by omega)] at hg
    rcases h1 i hi y hy hg with z | ⟨i', hi', z⟩ | z
    · exact Or.inl z
    · exact Or.inr (Or.inl ⟨i', hi', by rw [← e i' (by omega)]; exact z⟩)
    · exact Or.inr (Or.inr fun i' hi' => by rw [← e i' (by omega)]; exact z i' hi')
  · rw [← e j hj, ← e i (by omega)]; exact h2 i hi hi'
  · rw [← e j hj, ← e i (by omega)]; exact h3 i hi
theorem zw_t1 : ∀ m, m < 256 → nI m &&& (nI m - 1) = 0 ∨ ∃ i, i < 8 ∧ ∃ j, j < 8 ∧ i ≠ j ∧ bt (nI m) i = true ∧ bt (nI m) j = true := by decide +kernel
theorem zw_two {r : Int32} (h : z8 r) : ¬ r &&& (r - 1) = 0 ↔ ∃ k1 k2, k1 ≠ k2 ∧ bt r k1 = true ∧ bt r k2 = true := by
  obtain ⟨m, hm, rfl⟩ := zw_255 h
  constructor
  · intro z
    rcases zw_t1 m hm with y | ⟨i, _, j, _, h1, h2, h3⟩
    · exact absurd y z
    · exact ⟨i, j, h1, h2, h3⟩
  · rintro ⟨k1, k2, h1, h2, h3⟩ z
    rcases zw_pow m hm z with y | ⟨j, hj, y⟩
    · rw [y, b_0] at h2; exact absurd h2 (by decide)
    · rw [y, zb_1 (by omega), decide_eq_true_eq] at h2 h3
      exact h1 (h2.trans h3.symm)
theorem zSt_8 {xs : Nat → Int32} {a b : Nat} (h : zSt (zR1 xs) a b) (ha : a < 8) : b < 8 := h (fun x => x < 8) ha (fun x y _ hg => hg.2.1)
/-- what a backward walk finds: the strongly connected part -/
theorem zk_Q {xs : Nat → Int32} {lo : Nat → Nat} {wk : Int32} {j d : Nat} (hsur : ∀ v, v < 8 → ∃ i, i < 8 ∧ lo i = v) (w1 : ∀ i, j < i → i < 8 → bt wk (lo i) = true)
    (h1 : ∀ i, i < d → ∀ y, y < 8 → zR1 xs (lo i) y → False ∨ (∃ i', i' < d ∧ lo i' = y) ∨ ∀ i', i' ≤ j → lo i' ≠ y) (h2 : ∀ i, d ≤ i → i ≤ j → zSt (zR1 xs) (lo j) (lo i)) :
    ∀ x y, (zCC (zR1 xs) (lo j) x ∧ (∀ i, i < d → lo i ≠ x) ∧ ∃ i, i ≤ j ∧ lo i = x) → zGb xs true x y → y < 8 → bt wk y = false → zCC (zR1 xs) (lo j) y ∧ (∀ i, i < d → lo i ≠ y) ∧ ∃ i, i ≤ j ∧ lo i = y := by
  intro x y hx hg hy hw
  obtain ⟨hc, hd, i0, hi0, e0⟩ := hx
  have hg' : zR1 xs y x := hg
  obtain ⟨iy, hiy, ey⟩ := hsur y hy
  have hij : iy ≤ j := by
    rcases Nat.lt_or_ge j iy with z | z
    · have := w1 iy z hiy
      rw [ey, hw] at this; exact absurd this (by decide)
    · exact z
  have hnd : ∀ i, i < d → lo i ≠ y := by
    intro i hi z
    rw [← z] at hg'
    rcases h1 i hi x hg'.2.1 hg' with w | ⟨i', hi', w⟩ | w
    · exact w
    · exact hd i' hi' w
    · exact w i0 hi0 e0
  refine ⟨⟨?_, zSt_t (zSt_1 hg') hc.2⟩, hnd, iy, hij, ey⟩
  rw [← ey]
  rcases Nat.lt_or_ge iy d with z | z
  · exact absurd ey (hnd iy z)
  · exact h2 iy z hij
theorem zk_set {xs : Nat → Int32} {wk wk' set : Int32} {s e fc : Nat} {f : Nat → Nat} {Q : Nat → Prop} (hs : bt wk s = false) (w2 : ∀ x y, bt wk x = true → zCC (zR1 xs) x y → bt wk y = true)
    (hP : zPh (zGb xs true) (fun x => bt wk x = true) e wk' fc f) (hwk : ∀ x, bt wk' x = true ↔ bt wk x = true ∨ bt set x = true) (hset : ∀ x, bt set x = true → bt wk x = false ∧ zCC (zR1 xs) s x ∧ Q x) (hst : bt set s = true) :
    ∀ x, bt set x = true ↔ zCC (zR1 xs) s x := by
  obtain ⟨p1, p2, p3, p4, p5, p6, p7⟩ := hP
  intro x
  refine ⟨fun z => (hset x z).2.1, fun z => ?_⟩
  have key : zSt (zR1 xs) s x → bt set x = true := by
    refine zSt_back (Q := fun x => zSt (zR1 xs) s x → bt set x = true) z.2 (fun _ => hst) (fun a b hg hb ha => ?_)
    have hb' := hb (zSt_t ha (zSt_1 hg))
    obtain ⟨q1, q2, _⟩ := hset b hb'
    have hcl : bt wk' a = true := by
      rcases p4 b ((hwk b).mpr (Or.inr hb')) with y | ⟨i, hi, y⟩
      · have y' : bt wk b = true := y
        rw [q1] at y'; exact absurd y' (by decide)
      · refine p6 i hi a hg.1 ?_
        rw [y]; exact hg
    rcases (hwk a).mp hcl with y | y
    · have := w2 a s y ⟨zSt_t (zSt_1 hg) q2.2, ha⟩
      rw [hs] at this; exact absurd this (by decide)
    · exact y
  exact key z.1
def zcp (a b : Nat → Int32) (i : Nat) : Nat → Int32 := fun j => if j < i then a j else b j
theorem zcp_0 (a b : Nat → Int32) : zcp a b 0 = b := by funext j; unfold zcp; rw [if_neg (by omega)]
theorem zcp_s (a b : Nat → Int32) (i : Nat) : upd (zcp a b i) i (a i) = zcp a b (i + 1) := by
  funext j; unfold upd zcp
  by_cases e : j = i
  · rw [if_pos e, if_pos (by omega), e]
  · rw [if_neg e]
    by_cases e2 : j < i
    · rw [if_pos e2, if_pos (by omega)]
    · rw [if_neg e2, if_neg (by omega)]
theorem zcp_l {a b : Nat → Int32} {i j : Nat} (h : j < i) : zcp a b i j = a j := if_pos h
section
variable {nl ns nr na k : Nat} {h t oc kn wk fcx : Int32} {le si fr go qd qu lv lw lf sv sw sf rt rl ra ap av af aw xs xf xo xk xn : Nat → Int32} {fc : Nat} {M : Nat → Nat → Nat → Prop}
theorem zx_d82 {post : Int32 → SX → Prop} (hX : zXS xs M) (hM8 : ∀ s t k, M s t k → k < 8) (hOF : zOF (zR1 xs) (fun _ => False) 8 (zl xo)) (hsur : ∀ v, v < 8 → ∃ i, i < 8 ∧ zl xo i = v) (hlo : zV xo 8 8)
    (H : ∀ (r wk : Int32) (fc : Int32) (xf xk xn : Nat → Int32), (∀ x, bt r x = true ↔ x < 8 ∧ zDg (zR1 xs) M x) → post r (h, t, nI nl, nI ns, oc, nI nr, nI na, wk, fc, le, si, fr, go, qd, qu, lv, lw, lf, sv, sf, sw, rt, rl, ra, ap, av, af, aw, xs, xf, xo, xk, xn)) :
    ∀ (m n : Nat) (x1 wk fcx : Int32) (xf xk xn : Nat → Int32), m ≤ 8 → m < n → (∀ i, m ≤ i → i < 8 → bt wk (zl xo i) = true) → (∀ x y, bt wk x = true → zCC (zR1 xs) x y → bt wk y = true) → z8 wk →
    (∀ x, bt x1 x = true ↔ bt wk x = true ∧ zDg (zR1 xs) M x) → wX_danger_82 post n x1 (nI m + (-1)) h t (nI nl) (nI ns) oc (nI nr) (nI na) wk fcx le si fr go qd qu lv lw lf sv sf sw rt rl ra ap av af aw xs xf xo xk xn := by
  intro m
  induction m with
  | zero =>
    intro n x1 wk fcx xf xk xn hm hn w1 w2 w8 hx1
    obtain ⟨n, rfl⟩ : ∃ m, n = m + 1 := ⟨n - 1, by omega⟩
    refine br_t (by decide) (H x1 wk fcx xf xk xn (fun x => (hx1 x).trans ⟨fun z => ⟨z8_lt w8 z.1, z.2⟩, fun z => ⟨?_, z.2⟩⟩))
    obtain ⟨i, hi, e⟩ := hsur x z.1
    rw [← e]; exact w1 i (by omega) hi
  | succ m ih =>
    intro n x1 wk fcx xf xk xn hm hn w1 w2 w8 hx1
    obtain ⟨n, rfl⟩ : ∃ m, n = m + 1 := ⟨n - 1, by omega⟩
    obtain ⟨o1, o2⟩ := hlo m (by omega)
    rw [pk_m1]
    refine br_f (nI_pos (by omega)) (And.intro (vp_in_nI (by omega) (by decide)) ?_)
    rw [nI_clamp (by omega : m < 2 ^ 31)]
    refine nm_r o2 (br_c (fun c => ?_) (fun c => ?_))
    · have c' := (zb_f (by omega)).mp c
      obtain ⟨d, h0, h1, h2, h3⟩ := hOF m (by omega)
      have w1' : ∀ i, m < i → i < 8 → bt wk (zl xo i) = true := fun i hi hi' => w1 i (by omega) hi'
      refine zx_walk (b := true) (fc := 0) (Z := fun x => bt wk x = true) (e := zc wk) (Q := fun x => zCC (zR1 xs) (zl xo m) x ∧ (∀ i, i < d → zl xo i ≠ x) ∧ ∃ i, i ≤ m ∧ zl xo i = x) o1 c' ⟨⟨zSt_r _, zSt_r _⟩, h3, m, Nat.le_refl _, rfl⟩
        (zk_Q hsur w1' h1 h2) ⟨fun i hi => absurd hi (by omega), by omega, w8, fun x hx => Or.inl hx, fun i hi => absurd hi (by omega), fun i hi => absurd hi (by omega), fun j hj => absurd hj (by omega)⟩ (fun i hi => absurd hi (by omega))
        (fun set wk' fc' xf' xk' xn' hP hV hwk hset hst => ?_)
      have hpart := zk_set (Q := fun x => (∀ i, i < d → zl xo i ≠ x) ∧ ∃ i, i ≤ m ∧ zl xo i = x) c' w2 hP hwk hset hst
      refine zx_two (fun r hr => ?_)
      have hr' : ∀ k, bt r k = true ↔ zTW (zR1 xs) M (zl xo m) k := by
        intro k
        rw [hr k]
        constructor
        · rintro ⟨a, b, ha, hb, z1, z2, z3⟩
          exact ⟨a, b, ha, hb, (hX a b ha hb k).mp z3, (hpart a).mp z1, (hpart b).mp z2⟩
        · rintro ⟨a, b, ha, hb, z3, z1, z2⟩
          exact ⟨a, b, ha, hb, (hpart a).mpr z1, (hpart b).mpr z2, (hX a b ha hb k).mpr z3⟩
      have hr8 : z8 r := by
        intro k hk
        cases hb : bt r k
        · rfl
        · obtain ⟨a, b, _, _, z, _⟩ := (hr' k).mp hb
          have := hM8 _ _ _ z
          omega
      have htwo : ¬ r &&& (r - 1) = 0 ↔ zDg (zR1 xs) M (zl xo m) := by
        rw [zw_two hr8]
        constructor
        · rintro ⟨k1, k2, z0, z1, z2⟩
          exact ⟨k1, k2, z0, (hr' k1).mp z1, (hr' k2).mp z2⟩
        · rintro ⟨k1, k2, z0, z1, z2⟩
          exact ⟨k1, k2, z0, (hr' k1).mpr z1, (hr' k2).mpr z2⟩
      have n1 : ∀ i, m ≤ i → i < 8 → bt wk' (zl xo i) = true := by
        intro i hi hi'
        by_cases ei : i = m
        · rw [ei]; exact (hwk _).mpr (Or.inr hst)
        · exact (hwk _).mpr (Or.inl (w1 i (by omega) hi'))
      have n2 : ∀ x y, bt wk' x = true → zCC (zR1 xs) x y → bt wk' y = true := by
        intro x y hx hc
        rcases (hwk x).mp hx with z | z
        · exact (hwk y).mpr (Or.inl (w2 x y z hc))
        · exact (hwk y).mpr (Or.inr ((hpart y).mpr (zCC_t ((hpart x).mp z) hc)))
      have hf : ∀ g : Int32, (∀ x, bt g x = true ↔ bt wk' x = true ∧ zDg (zR1 xs) M x) → wX_danger_82 post n g (nI m + (-1)) h t (nI nl) (nI ns) oc (nI nr) (nI na) wk' (nI fc') le si fr go qd qu lv lw lf sv sf sw rt rl ra ap av af aw xs xf' xo xk' xn' :=
        fun g hg => ih n g wk' (nI fc') xf' xk' xn' (by omega) (by omega) n1 n2 hP.2.2.1 hg
      refine ⟨fun c2 => br_t rfl (nm_e (hf x1 (fun x => ?_))), fun c2 => br_f (by decide) (nm_e (nm_e (hf _ (fun x => ?_))))⟩
      · rw [hx1 x, hwk x]
        constructor
        · rintro ⟨z1, z2⟩
          exact ⟨Or.inl z1, z2⟩
        · rintro ⟨z1 | z1, z2⟩
          · exact ⟨z1, z2⟩
          · exact absurd (htwo.mpr (zDg_c (zCC_s ((hpart x).mp z1)) z2)) (fun z => z c2)
      · rw [b_or, Bool.or_eq_true, hx1 x, hwk x]
        constructor
        · rintro (⟨z1, z2⟩ | z)
          · exact ⟨Or.inl z1, z2⟩
          · exact ⟨Or.inr z, zDg_c ((hpart x).mp z) (htwo.mp c2)⟩
        · rintro ⟨z1 | z1, z2⟩
          · exact Or.inl ⟨z1, z2⟩
          · exact Or.inr z1
    · have c' : bt wk (zl xo m) = true := ts_nf (fun z => c ((zb_f (by omega)).mpr z))
      refine nm_e (ih n x1 wk fcx xf xk xn (by omega) (by omega) (fun i hi hi' => ?_) w2 w8 hx1)
      by_cases ei : i = m
      · rw [ei]; exact c'
      · exact w1 i (by omega) hi'
theorem zx_d48 {post : Int32 → SX → Prop} (hX : zXS xs M) (hM8 : ∀ s t k, M s t k → k < 8) (hOF : zOF (zR1 xs) (fun _ => False) 8 (zl xf)) (hsur : ∀ v, v < 8 → ∃ i, i < 8 ∧ zl xf i = v) (hlo : zV xf 8 8)
    (H : ∀ (r wk : Int32) (fc : Int32) (xf xk xn xo : Nat → Int32), (∀ x, bt r x = true ↔ x < 8 ∧ zDg (zR1 xs) M x) → post r (h, t, nI nl, nI ns, oc, nI nr, nI na, wk, fc, le, si, fr, go, qd, qu, lv, lw, lf, sv, sf, sw, rt, rl, ra, ap, av, af, aw, xs, xf, xo, xk, xn)) :
    ∀ (d i n : Nat), i + d = 8 → d < n → wX_danger_48 post h t (nI nl) (nI ns) oc (nI nr) (nI na) wk fcx n (nI i) le si fr go qd qu lv lw lf sv sf sw rt rl ra ap av af aw xs xf (zcp xf xo i) xk xn := by
  intro d
  induction d with
  | zero =>
    intro i n hi hn
    obtain ⟨n, rfl⟩ : ∃ m, n = m + 1 := ⟨n - 1, by omega⟩
    have e : i = 8 := by omega
    subst e
    have ez : ∀ i, i < 8 → zl (zcp xf xo 8) i = zl xf i := fun i hi => by unfold zl; rw [zcp_l hi]
    refine br_t (nI_le (a := 8) (b := 8) (by decide) (by decide)) ⟨9, ?_⟩
    have key := zx_d82 (post := post) (h := h) (t := t) (oc := oc) (nl := nl) (ns := ns) (nr := nr) (na := na) (le := le) (si := si) (fr := fr) (go := go) (qd := qd) (qu := qu) (lv := lv) (lw := lw) (lf := lf) (sv := sv) (sw := sw) (sf := sf) (rt := rt) (rl := rl) (ra := ra) (ap := ap) (av := av) (af := af) (aw := aw) (xo := zcp xf xo 8)
      hX hM8 (zOF_c hOF (fun i hi => (ez i hi).symm)) (fun v hv => by obtain ⟨i, hi, e⟩ := hsur v hv; exact ⟨i, hi, by rw [ez i hi]; exact e⟩) (fun i hi => by rw [ez i hi, zcp_l hi]; exact hlo i hi) (fun r wk fc xf' xk' xn' hr => H r wk fc xf' xk' xn' _ hr)
      8 9 0 0 fcx xf xk xn (by omega) (by omega) (fun i hi hi' => absurd hi' (by omega)) (fun x y hx => by rw [b_0] at hx; exact absurd hx (by decide)) z8_0 (fun x => by rw [b_0]; exact ⟨fun z => absurd z (by decide), fun z => absurd z.1 (by decide)⟩)
    rw [show nI 8 + (-1) = 7 from by decide] at key
    exact key
  | succ d ih =>
    intro i n hi hn
    obtain ⟨n, rfl⟩ : ∃ m, n = m + 1 := ⟨n - 1, by omega⟩
    have hii : vp_in (nI i) 8 := vp_in_nI (by omega) (by decide)
    refine br_f (nI_ge (b := 8) (by omega) (by decide)) (And.intro hii (And.intro hii ?_))
    rw [nI_clamp (by omega : i < 2 ^ 31), zcp_s]
    exact nm_e (nm_r (nI_1 i) (ih (i + 1) n (by omega) (by omega)))
theorem zx_d16 {post : Int32 → SX → Prop} (hX : zXS xs M) (hM8 : ∀ s t k, M s t k → k < 8)
    (H : ∀ (r wk : Int32) (fc : Int32) (xf xk xn xo : Nat → Int32), (∀ x, bt r x = true ↔ x < 8 ∧ zDg (zR1 xs) M x) → post r (h, t, nI nl, nI ns, oc, nI nr, nI na, wk, fc, le, si, fr, go, qd, qu, lv, lw, lf, sv, sf, sw, rt, rl, ra, ap, av, af, aw, xs, xf, xo, xk, xn)) :
    ∀ (d s n fc : Nat) (wk : Int32) (xf xk xn : Nat → Int32), s + d = 8 → d < n → zPh (zR1 xs) (fun _ => False) 0 wk fc (zl xf) → zV xf fc 8 → (∀ x, x < s → bt wk x = true) → wX_danger_16 post n (nI s) h t (nI nl) (nI ns) oc (nI nr) (nI na) wk (nI fc) le si fr go qd qu lv lw lf sv sf sw rt rl ra ap av af aw xs xf xo xk xn := by
  intro d
  induction d with
  | zero =>
    intro s n fc wk xf xk xn hs hn hP hV hw
    obtain ⟨n, rfl⟩ : ∃ m, n = m + 1 := ⟨n - 1, by omega⟩
    have e : s = 8 := by omega
    subst e
    obtain ⟨p1, p2, p3, p4, p5, p6, p7⟩ := hP
    have hc : zc wk = 8 := by
      unfold zc
      rw [zs_eq (g := fun _ => 1) (fun i hi => by show (bt wk i).toNat = 1; rw [hw i hi]; rfl)]
      decide
    have e8 : fc = 8 := by omega
    subst e8
    refine br_t (nI_le (a := 8) (b := 8) (by decide) (by decide)) ⟨9, ?_⟩
    have key := zx_d48 (post := post) (h := h) (t := t) (oc := oc) (wk := wk) (fcx := nI 8) (nl := nl) (ns := ns) (nr := nr) (na := na) (le := le) (si := si) (fr := fr) (go := go) (qd := qd) (qu := qu) (lv := lv) (lw := lw) (lf := lf) (sv := sv) (sw := sw) (sf := sf) (rt := rt) (rl := rl) (ra := ra) (ap := ap) (av := av) (af := af) (aw := aw) (xk := xk) (xn := xn) (xo := xo)
      hX hM8 p7 (fun v hv => by
        rcases p4 v (hw v hv) with z | z
        · exact z.elim
        · exact z) hV H 8 0 9 (by omega) (by omega)
    rw [zcp_0] at key
    exact key
  | succ d ih =>
    intro s n fc wk xf xk xn hs hn hP hV hw
    obtain ⟨n, rfl⟩ : ∃ m, n = m + 1 := ⟨n - 1, by omega⟩
    refine br_f (nI_ge (b := 8) (by omega) (by decide)) (br_c (fun c => ?_) (fun c => ?_))
    · have c' := (zb_f (by omega)).mp c
      refine zx_walk (b := false) (Q := fun _ => True) (Z := fun _ => False) (e := 0) (by omega) c' trivial (fun _ _ _ _ _ _ => trivial) hP hV (fun set wk' fc' xf' xk' xn' hP' hV' hwk hset hst => ?_)
      refine nm_r (nI_1 s) (ih (s + 1) n fc' wk' xf' xk' xn' (by omega) (by omega) hP' hV' (fun x hx => ?_))
      by_cases e : x = s
      · rw [e]; exact (hwk s).mpr (Or.inr hst)
      · exact (hwk x).mpr (Or.inl (hw x (by omega)))
    · have c' : bt wk s = true := ts_nf (fun z => c ((zb_f (by omega)).mpr z))
      refine nm_r (nI_1 s) (ih (s + 1) n fc wk xf xk xn (by omega) (by omega) hP hV (fun x hx => ?_))
      by_cases e : x = s
      · rw [e]; exact c'
      · exact hw x (by omega)
end
def zRM (M : Nat → Nat → Nat → Prop) (s t : Nat) : Prop := s < 8 ∧ t < 8 ∧ ∃ k, M s t k
theorem zRM_e {xs : Nat → Int32} {M : Nat → Nat → Nat → Prop} (hX : zXS xs M) : zR1 xs = zRM M := by
  funext s t
  apply propext
  unfold zR1 zRM
  constructor
  · rintro ⟨hs, ht, z⟩
    refine ⟨hs, ht, Classical.byContradiction fun y => z (zb_z.mpr fun i => ts_nt fun w => y ⟨i, (hX s t hs ht i).mp w⟩)⟩
  · rintro ⟨hs, ht, k, z⟩
    refine ⟨hs, ht, fun y => ?_⟩
    have := (hX s t hs ht k).mpr z
    rw [y, b_0] at this; exact absurd this (by decide)
section
variable {nl ns nr na k : Nat} {h t oc kn wk fcx : Int32} {le si fr go qd qu lv lw lf sv sw sf rt rl ra ap av af aw xs xf xo xk xn : Nat → Int32}
theorem zx_danger {post : Int32 → SX → Prop} (hW : zW le si fr) (hnr : nr ≤ 12) (g3 : zV rt nr 4) (g4 : zV rl nr 12) (g5 : ∀ r, r < nr → ra r = -1 ∨ ∃ a, a < r ∧ ra r = nI a)
    (H : ∀ (r wk : Int32) (fc : Int32) (xs xf xk xn xo : Nat → Int32), (∀ x, bt r x = true ↔ x < 8 ∧ zDg (zRM (zWW (zP le si) rt rl ra oc nr)) (zWW (zP le si) rt rl ra oc nr) x) → post r (h, t, nI nl, nI ns, oc, nI nr, nI na, wk, fc, le, si, fr, go, qd, qu, lv, lw, lf, sv, sf, sw, rt, rl, ra, ap, av, af, aw, xs, xf, xo, xk, xn)) :
    wpX_danger post (h, t, nI nl, nI ns, oc, nI nr, nI na, wk, fcx, le, si, fr, go, qd, qu, lv, lw, lf, sv, sf, sw, rt, rl, ra, ap, av, af, aw, xs, xf, xo, xk, xn) := by
  have hM8 : ∀ s t k, zWW (zP le si) rt rl ra oc nr s t k → k < 8 := by
    rintro s t k ⟨r, hr, q, _, z⟩
    have := (g3 r hr).1
    have := z.2.2.1
    omega
  unfold wpX_danger
  refine zx_makeSteps hW hnr g3 g4 g5 (fun xs' hX => ⟨9, ?_⟩)
  refine zx_d16 hX hM8 (fun r wk fc xf xk xn xo hr => H r wk fc xs' xf xk xn xo ?_) 8 0 9 0 0 xf xk xn (by omega) (by omega) ⟨fun i hi => absurd hi (by omega), by decide, z8_0, fun x hx => by rw [b_0] at hx; exact absurd hx (by decide), fun i hi => absurd hi (by omega), fun i hi => absurd hi (by omega), fun j hj => absurd hj (by omega)⟩ (fun i hi => absurd hi (by omega)) (fun x hx => absurd hx (by omega))
  rw [← zRM_e hX]
  exact hr
end
end
section
/-! Y: danger -/
def zYS (ys : Nat → Int32) (M : Nat → Nat → Nat → Prop) : Prop := ∀ th s, th < 4 → s < 8 → ∀ t, bt (ys (th * 8 + s)) t = true ↔ M s t th
theorem zYS_c {ys : Nat → Int32} {M M' : Nat → Nat → Nat → Prop} (h : zYS ys M) (hM : ∀ s t k, s < 8 → k < 4 → (M s t k ↔ M' s t k)) : zYS ys M' := fun th s hth hs t => (h th s hth hs t).trans (hM s t th hs hth)
def zMs (oc o i : Int32) (th : Nat) (M : Nat → Nat → Nat → Prop) (s a b k : Nat) : Prop := M a b k ∨ (zAd oc o i th a b k ∧ a < s)
theorem zYS_n {oc o i : Int32} {th s : Nat} {M : Nat → Nat → Nat → Prop} {ys : Nat → Int32} (h : zYS ys (zMs oc o i th M s)) (hc : ¬ bt o s = true) : zYS ys (zMs oc o i th M (s + 1)) := by
  refine zYS_c h fun a b k _ _ => ⟨fun z => ?_, fun z => ?_⟩
  · rcases z with z | ⟨z1, z2⟩
    · exact Or.inl z
    · exact Or.inr ⟨z1, by omega⟩
  · rcases z with z | ⟨z1, z2⟩
    · exact Or.inl z
    · by_cases e : a = s
      · rw [e] at z1; exact absurd z1.1 hc
      · exact Or.inr ⟨z1, by omega⟩
theorem zYS_y {oc o i x : Int32} {th s : Nat} {M : Nat → Nat → Nat → Prop} {ys : Nat → Int32} (hs : s < 8) (hth : th < 4) (h : zYS ys (zMs oc o i th M s)) (hc : bt o s = true)
    (hx : ∀ t, bt x t = true ↔ bt i t = true ∧ ¬ (s = t ∧ bt oc s = true)) : zYS (upd ys (th * 8 + s) (ys (th * 8 + s) ||| x)) (zMs oc o i th M (s + 1)) := by
  intro k a hk ha b
  rw [zu_or, h k a hk ha b, hx b]
  constructor
  · rintro ((z | ⟨z1, z2⟩) | ⟨z1, z2, z3⟩)
    · exact Or.inl z
    · exact Or.inr ⟨z1, by omega⟩
    · have ea : a = s := by omega
      have ek : k = th := by omega
      subst ea
      exact Or.inr ⟨⟨hc, z2, ek, z3⟩, by omega⟩
  · rintro (z | ⟨z1, z2⟩)
    · exact Or.inl (Or.inl z)
    · by_cases e : a = s
      · subst e
        refine Or.inr ⟨?_, z1.2.1, z1.2.2.2⟩
        rw [z1.2.2.1]
      · exact Or.inl (Or.inr ⟨z1, by omega⟩)
section
variable {nl ns nr na k : Nat} {oc kn : Int32} {lv lw lf sv sw sf rt rl ra ap av af aw al co sg p hh ys yr P : Nat → Int32} {M : Nat → Nat → Nat → Prop}
theorem zy_s3 {post : SY → Prop} {th w v : Nat} (hO : zO oc sg) (hth : th < 4) (hw : w < 12) (hv : v < 12)
    (H : ∀ ys', zYS ys' (fun a b k => M a b k ∨ zAd oc (p w) (p v) th a b k) → post (nI nl, nI ns, nI nr, nI na, kn, al, co, lv, lw, lf, sv, sw, sf, sg, rt, rl, ra, ap, av, af, aw, p, hh, ys', yr)) :
    ∀ (d s n : Nat) (ys : Nat → Int32), s + d = 8 → d < n → zYS ys (zMs oc (p w) (p v) th M s) → wY_step_3 post (nI th) (nI w) (nI v) (nI nl) (nI ns) (nI nr) (nI na) kn n (nI s) al co lv lw lf sv sw sf sg rt rl ra ap av af aw p hh ys yr := by
  have hcw : (nI w).toNatClampNeg = w := nI_clamp (by omega)
  have hcv : (nI v).toNatClampNeg = v := nI_clamp (by omega)
  have hiv : vp_in (nI v) 12 := vp_in_nI hv (by decide)
  intro d
  induction d with
  | zero =>
    intro s n ys hj hn hX
    obtain ⟨n, rfl⟩ : ∃ m, n = m + 1 := ⟨n - 1, by omega⟩
    have e : s = 8 := by omega
    subst e
    refine br_t (nI_le (a := 8) (b := 8) (by decide) (by decide)) (H ys (zYS_c hX fun a b k ha hb => ⟨fun z => ?_, fun z => ?_⟩))
    · rcases z with z | z
      · exact Or.inl z
      · exact Or.inr z.1
    · rcases z with z | z
      · exact Or.inl z
      · exact Or.inr ⟨z, ha⟩
  | succ d ih =>
    intro s n ys hj hn hX
    obtain ⟨n, rfl⟩ : ∃ m, n = m + 1 := ⟨n - 1, by omega⟩
    have hcs : (nI s).toNatClampNeg = s := nI_clamp (by omega)
    have h57 : ∀ x : Int32, bt (p w) s = true → (∀ t, bt x t = true ↔ bt (p v) t = true ∧ ¬ (s = t ∧ bt oc s = true)) → wY_step_57 post (wY_step_3 post (nI th) (nI w) (nI v) (nI nl) (nI ns) (nI nr) (nI na) kn n) (nI th) (nI w) (nI v) (nI s) x (nI nl) (nI ns) (nI nr) (nI na) kn al co lv lw lf sv sw sf sg rt rl ra ap av af aw p hh ys yr := by
      intro x hb hx
      unfold wY_step_57
      rw [zn_88, nI_clamp (by omega : th * 8 + s < 2 ^ 31)]
      exact And.intro (vp_in_nI (by omega) (by decide)) (And.intro (vp_in_nI (by omega) (by decide)) (nm_e (nm_r (nI_1 s) (ih (s + 1) n _ (by omega) (by omega) (zYS_y (by omega) hth hX hb hx)))))
    refine br_f (nI_ge (b := 8) (by omega) (by decide)) (And.intro (vp_in_nI hw (by decide)) ?_)
    rw [hcw]
    refine br_c (fun c => And.intro (vp_in_nI (by omega) (by decide)) ?_) (fun c => nm_r (nI_1 s) (ih (s + 1) n ys (by omega) (by omega) (zYS_n hX (fun z => c ((zb_t (by omega)).mpr z)))))
    have c' := (zb_t (by omega)).mp c
    rw [hcs, hcv]
    refine br_c (fun c2 => And.intro hiv (h57 _ c' (fun t => ?_))) (fun c2 => And.intro hiv (h57 _ c' (fun t => ?_)))
    · have hb : ¬ bt oc s = true := fun z => by
        rw [hO s (by omega), if_pos z] at c2
        exact absurd c2 (by decide)
      exact ⟨fun z => ⟨z, fun y => hb y.2⟩, fun z => z.1⟩
    · have hb : bt oc s = true := Classical.byContradiction fun z => by
        rw [hO s (by omega), if_neg z] at c2
        exact absurd rfl c2
      rw [zb_an, zb_1 (by omega), Bool.and_eq_true, Bool.not_eq_true', decide_eq_false_iff_not]
      exact ⟨fun z => ⟨z.1, fun y => z.2 y.1.symm⟩, fun z => ⟨z.1, fun y => z.2 ⟨y.symm, hb⟩⟩⟩
theorem zy_step {post : SY → Prop} {th w v : Nat} (hO : zO oc sg) (hth : th < 4) (hw : w < 12) (hv : v < 12) (hX : zYS ys M)
    (H : ∀ ys', zYS ys' (fun a b k => M a b k ∨ zAd oc (p w) (p v) th a b k) → post (nI nl, nI ns, nI nr, nI na, kn, al, co, lv, lw, lf, sv, sw, sf, sg, rt, rl, ra, ap, av, af, aw, p, hh, ys', yr)) : wpY_step post (nI nl, nI ns, nI nr, nI na, kn, al, co, lv, lw, lf, sv, sw, sf, sg, rt, rl, ra, ap, av, af, aw, p, hh, ys, yr) (nI th) (nI w) (nI v) := by
  unfold wpY_step
  refine ⟨9, zy_s3 (M := M) hO hth hw hv H 8 0 9 ys (by omega) (by omega) (zYS_c hX fun a b k _ _ => ⟨Or.inl, fun z => ?_⟩)⟩
  rcases z with z | ⟨z1, z2⟩
  · exact z
  · omega
theorem zy_a40 {post : SY → Prop} {J23 : Int32 → zTS2} (hO : zO oc sg) (hnr : nr ≤ 12) (g3 : zV rt nr 4) (g4 : zV rl nr 12) (g5 : ∀ r, r < nr → ra r = -1 ∨ ∃ a, a < r ∧ ra r = nI a) (hp : ∀ v, v < 12 → p v = P v) {r : Nat} (hr : r < nr) :
    ∀ (d i n : Nat) (x2 : Int32) (ys : Nat → Int32) (M : Nat → Nat → Nat → Prop), i + d = 12 → d < n → (x2 < 0 ∨ ∃ a, a < nr ∧ x2 = nI a) → zYS ys M →
    (∀ ys', zYS ys' (fun s t k => M s t k ∨ ∃ q, zch ra d x2 q ∧ zAd oc (P (zl rl q)) (P (zl rl r)) (zl rt r) s t k) → J23 (nI (r + 1)) (nI nl) (nI ns) (nI nr) (nI na) kn al co lv lw lf sv sw sf sg rt rl ra ap av af aw p hh ys' yr) →
    wY_allSteps_40 post J23 (nI r) n x2 (nI i) (nI nl) (nI ns) (nI nr) (nI na) kn al co lv lw lf sv sw sf sg rt rl ra ap av af aw p hh ys yr := by
  obtain ⟨t1, t2⟩ := g3 r hr
  obtain ⟨r1, r2⟩ := g4 r hr
  have hcr : (nI r).toNatClampNeg = r := nI_clamp (by omega)
  have hir : vp_in (nI r) 12 := vp_in_nI (by omega) (by decide)
  intro d
  induction d with
  | zero =>
    intro i n x2 ys M hi hn hx hX H
    obtain ⟨n, rfl⟩ : ∃ m, n = m + 1 := ⟨n - 1, by omega⟩
    have e : i = 12 := by omega
    subst e
    refine br_t (nI_le (a := 12) (b := 12) (by decide) (by decide)) (nm_r (nI_1 r) (H ys (zYS_c hX fun s t k _ _ => ⟨Or.inl, fun z => z.elim id (fun ⟨q, y, _⟩ => y.elim)⟩)))
  | succ d ih =>
    intro i n x2 ys M hi hn hx hX H
    obtain ⟨n, rfl⟩ : ∃ m, n = m + 1 := ⟨n - 1, by omega⟩
    refine br_f (nI_ge (b := 12) (by omega) (by decide)) ?_
    by_cases c : x2 < 0
    · refine br_t c (nm_r (nI_1 r) (H ys (zYS_c hX fun s t k _ _ => ⟨Or.inl, fun z => z.elim id (fun ⟨q, y, _⟩ => absurd c y.1)⟩)))
    · refine br_f c ?_
      obtain ⟨a, ha, rfl⟩ : ∃ a, a < nr ∧ x2 = nI a := hx.elim (fun z => absurd z c) id
      have hca : (nI a).toNatClampNeg = a := nI_clamp (by omega)
      have hia : vp_in (nI a) 12 := vp_in_nI (by omega) (by decide)
      obtain ⟨b1, b2⟩ := g4 a ha
      have hnx : ra a < 0 ∨ ∃ b, b < nr ∧ ra a = nI b := by
        rcases g5 a ha with z | ⟨b, hb, z⟩
        · rw [z]; exact Or.inl (by decide)
        · exact Or.inr ⟨b, by omega, z⟩
      rw [hca, hcr]
      refine And.intro hir (And.intro hia (And.intro hir ?_))
      rw [t2, b2, r2]
      refine zy_step hO t1 b1 r1 hX (fun ys' hX' => And.intro hia (nm_e (nm_r (nI_1 i) (ih (i + 1) n (ra a) ys' _ (by omega) (by omega) hnx hX' (fun x3 hX3 => H x3 (zYS_c hX3 fun s t k _ _ => ⟨fun z => ?_, fun z => ?_⟩))))))
      · rcases z with (z | z) | ⟨q, z1, z2⟩
        · exact Or.inl z
        · rw [hp _ b1, hp _ r1] at z
          exact Or.inr ⟨a, ⟨c, Or.inl hca.symm⟩, z⟩
        · exact Or.inr ⟨q, ⟨c, Or.inr (by rw [hca]; exact z1)⟩, z2⟩
      · rcases z with z | ⟨q, ⟨_, z1 | z1⟩, z2⟩
        · exact Or.inl (Or.inl z)
        · rw [hca] at z1; rw [z1] at z2
          refine Or.inl (Or.inr ?_)
          rw [hp _ b1, hp _ r1]
          exact z2
        · rw [hca] at z1; exact Or.inr ⟨q, z1, z2⟩
theorem zy_a23 {post : SY → Prop} (hO : zO oc sg) (hnr : nr ≤ 12) (g3 : zV rt nr 4) (g4 : zV rl nr 12) (g5 : ∀ r, r < nr → ra r = -1 ∨ ∃ a, a < r ∧ ra r = nI a) (hp : ∀ v, v < 12 → p v = P v)
    (H : ∀ ys', zYS ys' (zWW P rt rl ra oc nr) → post (nI nl, nI ns, nI nr, nI na, kn, al, co, lv, lw, lf, sv, sw, sf, sg, rt, rl, ra, ap, av, af, aw, p, hh, ys', yr)) :
    ∀ (d r n : Nat) (ys : Nat → Int32), r + d = nr → d < n → zYS ys (zWW P rt rl ra oc r) → wY_allSteps_23 post n (nI r) (nI nl) (nI ns) (nI nr) (nI na) kn al co lv lw lf sv sw sf sg rt rl ra ap av af aw p hh ys yr := by
  intro d
  induction d with
  | zero =>
    intro r n ys hr hn hX
    obtain ⟨n, rfl⟩ : ∃ m, n = m + 1 := ⟨n - 1, by omega⟩
    have e : r = nr := by omega
    subst e
    exact br_t (nI_le (Nat.le_refl _) (by omega)) (H ys hX)
  | succ d ih =>
    intro r n ys hr hn hX
    obtain ⟨n, rfl⟩ : ∃ m, n = m + 1 := ⟨n - 1, by omega⟩
    have hnx : ra r < 0 ∨ ∃ b, b < nr ∧ ra r = nI b := by
      rcases g5 r (by omega) with z | ⟨b, hb, z⟩
      · rw [z]; exact Or.inl (by decide)
      · exact Or.inr ⟨b, by omega, z⟩
    refine br_f (nI_ge (by omega) (by omega)) (And.intro (vp_in_nI (by omega) (by decide)) ?_)
    rw [nI_clamp (by omega : r < 2 ^ 31)]
    refine nm_e ⟨13, zy_a40 hO hnr g3 g4 g5 hp (by omega) 12 0 13 (ra r) ys _ (by omega) (by omega) hnx hX (fun ys' hX' => ih (r + 1) n ys' (by omega) (by omega) (zYS_c hX' fun s t k _ _ => ⟨fun z => ?_, fun z => ?_⟩))⟩
    · rcases z with ⟨r', hr', z⟩ | z
      · exact ⟨r', by omega, z⟩
      · exact ⟨r, by omega, z⟩
    · obtain ⟨r', hr', z⟩ := z
      by_cases e : r' = r
      · subst e; exact Or.inr z
      · exact Or.inl ⟨r', by omega, z⟩
theorem zy_allSteps {post : SY → Prop} (hO : zO oc sg) (hnr : nr ≤ 12) (g3 : zV rt nr 4) (g4 : zV rl nr 12) (g5 : ∀ r, r < nr → ra r = -1 ∨ ∃ a, a < r ∧ ra r = nI a) (hp : ∀ v, v < 12 → p v = P v)
    (H : ∀ ys', zYS ys' (zWW P rt rl ra oc nr) → post (nI nl, nI ns, nI nr, nI na, kn, al, co, lv, lw, lf, sv, sw, sf, sg, rt, rl, ra, ap, av, af, aw, p, hh, ys', yr)) : wpY_allSteps post (nI nl, nI ns, nI nr, nI na, kn, al, co, lv, lw, lf, sv, sw, sf, sg, rt, rl, ra, ap, av, af, aw, p, hh, ys, yr) := by
  have key : ∀ (d i n : Nat), i + d = 32 → d < n → wY_allSteps_2 post (nI nl) (nI ns) (nI nr) (nI na) kn n (nI i) al co lv lw lf sv sw sf sg rt rl ra ap av af aw p hh (zz ys i) yr := by
    intro d
    induction d with
    | zero =>
      intro i n hi hn
      obtain ⟨n, rfl⟩ : ∃ m, n = m + 1 := ⟨n - 1, by omega⟩
      have e : i = 32 := by omega
      subst e
      refine br_t (nI_le (a := 32) (b := 32) (by decide) (by decide)) ⟨13, zy_a23 (P := P) hO hnr g3 g4 g5 hp H nr 0 13 (zz ys 32) (by omega) (by omega) (fun th s hth hs t => ?_)⟩
      rw [zz_l (by omega), b_0]
      exact ⟨fun z => absurd z (by decide), fun ⟨r, hr, _⟩ => absurd hr (by omega)⟩
    | succ d ih =>
      intro i n hi hn
      obtain ⟨n, rfl⟩ : ∃ m, n = m + 1 := ⟨n - 1, by omega⟩
      refine br_f (nI_ge (b := 32) (by omega) (by decide)) (And.intro (vp_in_nI (by omega) (by decide)) ?_)
      rw [nI_clamp (by omega : i < 2 ^ 31), zz_s]
      exact nm_e (nm_r (nI_1 i) (ih (i + 1) n (by omega) (by omega)))
  have k0 := key 32 0 33 (by omega) (by omega)
  rw [zz_0] at k0
  exact ⟨33, k0⟩
theorem zn_r8 {i : Nat} (hi : i < 32) : nI i - nI i / 8 * 8 = nI (i % 8) := pk_rem (d := 8) (by omega) (by decide) (by decide)
theorem zn_d8 {i : Nat} (hi : i < 32) : nI i / 8 = nI (i / 8) := pk_div (d := 8) (by omega) (by decide) (by decide)
theorem zy_bey {post : Int32 → Prop} {mask : Int32} (H : ∀ r, (∀ t, bt r t = true ↔ ∃ i, i < 32 ∧ bt mask (i % 8) = true ∧ bt (ys i) t = true) → post r) : wpY_beyond post (nI nl, nI ns, nI nr, nI na, kn, al, co, lv, lw, lf, sv, sw, sf, sg, rt, rl, ra, ap, av, af, aw, p, hh, ys, yr) mask := by
  have key : ∀ (d i n : Nat) (x2 : Int32), i + d = 32 → d < n → (∀ t, bt x2 t = true ↔ ∃ j, j < i ∧ bt mask (j % 8) = true ∧ bt (ys j) t = true) → wY_beyond_4 post mask (nI nl) (nI ns) (nI nr) (nI na) kn al co lv lw lf sv sw sf sg rt rl ra ap av af aw p hh ys yr n x2 (nI i) := by
    intro d
    induction d with
    | zero =>
      intro i n x2 hi hn hx
      obtain ⟨n, rfl⟩ : ∃ m, n = m + 1 := ⟨n - 1, by omega⟩
      have e : i = 32 := by omega
      subst e
      exact br_t (nI_le (a := 32) (b := 32) (by decide) (by decide)) (H x2 hx)
    | succ d ih =>
      intro i n x2 hi hn hx
      obtain ⟨n, rfl⟩ : ∃ m, n = m + 1 := ⟨n - 1, by omega⟩
      have hm8 : i % 8 < 8 := Nat.mod_lt _ (by decide)
      refine br_f (nI_ge (b := 32) (by omega) (by decide)) (And.intro (by decide) ?_)
      rw [zn_r8 (by omega)]
      refine br_c (fun c => And.intro (vp_in_nI (by omega) (by decide)) ?_) (fun c => nm_r (nI_1 i) (ih (i + 1) n x2 (by omega) (by omega) (fun t => (hx t).trans ⟨fun z => ?_, fun z => ?_⟩)))
      · have c' := (zb_t (by omega)).mp c
        rw [nI_clamp (by omega : i < 2 ^ 31)]
        refine nm_e (nm_r (nI_1 i) (ih (i + 1) n _ (by omega) (by omega) (fun t => ?_)))
        rw [b_or, Bool.or_eq_true, hx t]
        constructor
        · rintro (⟨j, hj, z⟩ | z)
          · exact ⟨j, by omega, z⟩
          · exact ⟨i, by omega, c', z⟩
        · rintro ⟨j, hj, z1, z2⟩
          by_cases e : j = i
          · rw [e] at z2; exact Or.inr z2
          · exact Or.inl ⟨j, by omega, z1, z2⟩
      · obtain ⟨j, hj, z⟩ := z
        exact ⟨j, by omega, z⟩
      · obtain ⟨j, hj, z1, z2⟩ := z
        by_cases e : j = i
        · rw [e] at z1; exact absurd ((zb_t (by omega)).mpr z1) c
        · exact ⟨j, by omega, z1, z2⟩
  refine ⟨33, key 32 0 33 0 (by omega) (by omega) (fun t => ?_)⟩
  rw [b_0]
  exact ⟨fun z => absurd z (by decide), fun ⟨j, hj, _⟩ => absurd hj (by omega)⟩
end
def zRI (M : Nat → Nat → Nat → Prop) (k s : Nat) (x : Int32) : Prop :=
  z8 x ∧ bt x s = true ∧ (∀ t, bt x t = true → zSt (zRM M) s t) ∧ (k + 1 ≤ zc x ∨ ∀ a b, bt x a = true → zRM M a b → bt x b = true)
theorem zRI_s {ys : Nat → Int32} {M : Nat → Nat → Nat → Prop} {k s : Nat} {x r : Int32} (hX : zYS ys M) (hM : ∀ s t k, M s t k → t < 8 ∧ k < 4) (h : zRI M k s x)
    (hr : ∀ t, bt r t = true ↔ ∃ i, i < 32 ∧ bt x (i % 8) = true ∧ bt (ys i) t = true) : zRI M (k + 1) s (x ||| r) := by
  obtain ⟨h1, h2, h3, h4⟩ := h
  have hr' : ∀ t, bt r t = true ↔ ∃ a, bt x a = true ∧ zRM M a t := by
    intro t
    rw [hr t]
    constructor
    · rintro ⟨i, hi, z1, z2⟩
      have e : i = i / 8 * 8 + i % 8 := by omega
      rw [e, hX (i / 8) (i % 8) (by omega) (by omega) t] at z2
      exact ⟨i % 8, z1, by omega, (hM _ _ _ z2).1, i / 8, z2⟩
    · rintro ⟨a, z1, ha, ht, k', z2⟩
      have hk := (hM _ _ _ z2).2
      refine ⟨k' * 8 + a, by omega, ?_, (hX k' a hk ha t).mpr z2⟩
      rw [show (k' * 8 + a) % 8 = a by omega]
      exact z1
  have hr8 : z8 r := by
    intro t ht
    cases hb : bt r t
    · rfl
    · obtain ⟨a, _, z⟩ := (hr' t).mp hb
      have := z.2.1
      omega
  have hor : ∀ t, bt (x ||| r) t = true ↔ bt x t = true ∨ bt r t = true := fun t => by rw [b_or, Bool.or_eq_true]
  refine ⟨z8_or h1 hr8, (hor s).mpr (Or.inl h2), fun t ht => ?_, ?_⟩
  · rcases (hor t).mp ht with z | z
    · exact h3 t z
    · obtain ⟨a, z1, z2⟩ := (hr' t).mp z
      exact zSt_t (h3 a z1) (zSt_1 z2)
  · by_cases hcl : ∀ a b, bt x a = true → zRM M a b → bt x b = true
    · refine Or.inr fun a b ha hg => (hor b).mpr (Or.inl ?_)
      have ha' : bt x a = true := by
        rcases (hor a).mp ha with z | z
        · exact z
        · obtain ⟨a', z1, z2⟩ := (hr' a).mp z
          exact hcl a' a z1 z2
      exact hcl a b ha' hg
    · left
      have hk : k + 1 ≤ zc x := h4.elim id (fun z => absurd z hcl)
      have hex : ∃ b, b < 8 ∧ bt x b = false ∧ bt r b = true := by
        apply Classical.byContradiction
        intro z
        refine hcl fun a b ha hg => ?_
        cases hb : bt x b
        · exact absurd ⟨b, hg.2.1, hb, (hr' b).mpr ⟨a, ha, hg⟩⟩ z
        · rfl
      obtain ⟨b, hb8, hb, hrb⟩ := hex
      have := zc_lt (x := x) (y := x ||| r) hb8 hb ((hor b).mpr (Or.inr hrb)) (fun s _ hs => (hor s).mpr (Or.inl hs))
      omega
theorem zRI_e {M : Nat → Nat → Nat → Prop} {s : Nat} {x : Int32} (h : zRI M 8 s x) : ∀ t, bt x t = true ↔ zSt (zRM M) s t := by
  obtain ⟨h1, h2, h3, h4⟩ := h
  intro t
  refine ⟨h3 t, fun z => ?_⟩
  have := zc_le8 x
  rcases h4 with y | y
  · omega
  · exact z (fun t => bt x t = true) h2 y
end
section
/-! Y: allWays, threadsAround, danger; the owed statement of danger -/
def zo (yr : Nat → Int32) (i : Nat) : Nat → Int32 := fun j => if j < i then (1 : Int32) <<< (nI j &&& 31) else yr j
theorem zo_0 (a : Nat → Int32) : zo a 0 = a := by funext j; unfold zo; rw [if_neg (by omega)]
theorem zo_s (a : Nat → Int32) (i : Nat) : upd (zo a i) i ((1 : Int32) <<< (nI i &&& 31)) = zo a (i + 1) := by
  funext j; unfold upd zo
  by_cases e : j = i
  · rw [if_pos e, if_pos (by omega), e]
  · rw [if_neg e]
    by_cases e2 : j < i
    · rw [if_pos e2, if_pos (by omega)]
    · rw [if_neg e2, if_neg (by omega)]
theorem zo_l {a : Nat → Int32} {i j : Nat} (h : j < i) : zo a i j = (1 : Int32) <<< (nI j &&& 31) := if_pos h
theorem zc_1 : ∀ s, s < 8 → 1 ≤ zc ((1 : Int32) <<< (nI s &&& 31)) := by decide +kernel
theorem zw_c1 : ∀ m, m < 256 → (zc (nI m) ≤ 1 ↔ nI m &&& (nI m - 1) = 0) := by decide +kernel
section
variable {nl ns nr na k : Nat} {oc kn : Int32} {lv lw lf sv sw sf rt rl ra ap av af aw al co sg p hh ys yr P : Nat → Int32} {M : Nat → Nat → Nat → Prop}
theorem zy_w33 {post : SY → Prop} {J25 : Int32 → zTY} {r : Nat} (hX : zYS ys M) (hM : ∀ s t k, M s t k → t < 8 ∧ k < 4)
    (H : ∀ yr', (∀ s, s < 8 → zRI M (r + 1) s (yr' s)) → J25 (nI (r + 1)) al co lv lw lf sv sw sf sg rt rl ra ap av af aw p hh ys yr') :
    ∀ (d s n : Nat) (yr : Nat → Int32), s + d = 8 → d < n → (∀ j, j < 8 → zRI M (if j < s then r + 1 else r) j (yr j)) → wY_allWays_33 post J25 (nI r) (nI nl) (nI ns) (nI nr) (nI na) kn n (nI s) al co lv lw lf sv sw sf sg rt rl ra ap av af aw p hh ys yr := by
  intro d
  induction d with
  | zero =>
    intro s n yr hs hn hI
    obtain ⟨n, rfl⟩ : ∃ m, n = m + 1 := ⟨n - 1, by omega⟩
    have e : s = 8 := by omega
    subst e
    refine br_t (nI_le (a := 8) (b := 8) (by decide) (by decide)) (nm_r (nI_1 r) (H yr (fun j hj => ?_)))
    have := hI j hj
    rwa [if_pos hj] at this
  | succ d ih =>
    intro s n yr hs hn hI
    obtain ⟨n, rfl⟩ : ∃ m, n = m + 1 := ⟨n - 1, by omega⟩
    have his : vp_in (nI s) 8 := vp_in_nI (by omega) (by decide)
    refine br_f (nI_ge (b := 8) (by omega) (by decide)) (And.intro his (And.intro his ?_))
    rw [nI_clamp (by omega : s < 2 ^ 31)]
    refine zy_bey (fun rr hr => And.intro his (nm_e (nm_r (nI_1 s) (ih (s + 1) n _ (by omega) (by omega) (fun j hj => ?_)))))
    by_cases e : j = s
    · rw [e, pk_us, if_pos (by omega)]
      have h0 := hI s (by omega)
      rw [if_neg (by omega)] at h0
      exact zRI_s hX hM h0 hr
    · rw [pk_un e]
      have h0 := hI j hj
      by_cases e2 : j < s
      · rw [if_pos (by omega)]; rwa [if_pos e2] at h0
      · rw [if_neg (by omega)]; rwa [if_neg e2] at h0
theorem zy_w25 {post : SY → Prop} (hX : zYS ys M) (hM : ∀ s t k, M s t k → t < 8 ∧ k < 4)
    (H : ∀ yr', (∀ s, s < 8 → zRI M 8 s (yr' s)) → post (nI nl, nI ns, nI nr, nI na, kn, al, co, lv, lw, lf, sv, sw, sf, sg, rt, rl, ra, ap, av, af, aw, p, hh, ys, yr')) :
    ∀ (d r n : Nat) (yr : Nat → Int32), r + d = 8 → d < n → (∀ j, j < 8 → zRI M r j (yr j)) → wY_allWays_25 post (nI nl) (nI ns) (nI nr) (nI na) kn n (nI r) al co lv lw lf sv sw sf sg rt rl ra ap av af aw p hh ys yr := by
  intro d
  induction d with
  | zero =>
    intro r n yr hs hn hI
    obtain ⟨n, rfl⟩ : ∃ m, n = m + 1 := ⟨n - 1, by omega⟩
    have e : r = 8 := by omega
    subst e
    exact br_t (nI_le (a := 8) (b := 8) (by decide) (by decide)) (H yr hI)
  | succ d ih =>
    intro r n yr hs hn hI
    obtain ⟨n, rfl⟩ : ∃ m, n = m + 1 := ⟨n - 1, by omega⟩
    refine br_f (nI_ge (b := 8) (by omega) (by decide)) ⟨9, zy_w33 hX hM (fun yr' hI' => ih (r + 1) n yr' (by omega) (by omega) hI') 8 0 9 yr (by omega) (by omega) (fun j hj => ?_)⟩
    rw [if_neg (by omega)]
    exact hI j hj
theorem zy_allWays {post : SY → Prop} (hX : zYS ys M) (hM : ∀ s t k, M s t k → t < 8 ∧ k < 4)
    (H : ∀ yr', (∀ s, s < 8 → ∀ t, bt (yr' s) t = true ↔ zSt (zRM M) s t) → post (nI nl, nI ns, nI nr, nI na, kn, al, co, lv, lw, lf, sv, sw, sf, sg, rt, rl, ra, ap, av, af, aw, p, hh, ys, yr')) : wpY_allWays post (nI nl, nI ns, nI nr, nI na, kn, al, co, lv, lw, lf, sv, sw, sf, sg, rt, rl, ra, ap, av, af, aw, p, hh, ys, yr) := by
  have key : ∀ (d i n : Nat), i + d = 8 → d < n → wY_allWays_2 post (nI nl) (nI ns) (nI nr) (nI na) kn n (nI i) al co lv lw lf sv sw sf sg rt rl ra ap av af aw p hh ys (zo yr i) := by
    intro d
    induction d with
    | zero =>
      intro i n hi hn
      obtain ⟨n, rfl⟩ : ∃ m, n = m + 1 := ⟨n - 1, by omega⟩
      have e : i = 8 := by omega
      subst e
      refine br_t (nI_le (a := 8) (b := 8) (by decide) (by decide)) ⟨9, zy_w25 hX hM (fun yr' hI => H yr' (fun s hs => zRI_e (hI s hs))) 8 0 9 (zo yr 8) (by omega) (by omega) (fun j hj => ?_)⟩
      rw [zo_l hj]
      refine ⟨z8_1 hj, by rw [zb_1 (by omega)]; exact decide_eq_true rfl, fun t ht => ?_, Or.inl (zc_1 j hj)⟩
      rw [zb_1 (by omega), decide_eq_true_eq] at ht
      rw [ht]; exact zSt_r _
    | succ d ih =>
      intro i n hi hn
      obtain ⟨n, rfl⟩ : ∃ m, n = m + 1 := ⟨n - 1, by omega⟩
      refine br_f (nI_ge (b := 8) (by omega) (by decide)) (And.intro (vp_in_nI (by omega) (by decide)) ?_)
      rw [nI_clamp (by omega : i < 2 ^ 31), zo_s]
      exact nm_e (nm_r (nI_1 i) (ih (i + 1) n (by omega) (by omega)))
  have k0 := key 8 0 9 (by omega) (by omega)
  rw [zo_0] at k0
  exact ⟨9, k0⟩
/-- a step i to t on a closed way through the site -/
def zW3 (ys yr : Nat → Int32) (s i t : Nat) : Prop := bt (ys i) t = true ∧ bt (yr s) (i % 8) = true ∧ bt (yr t) s = true
theorem zy_t13 {post : Int32 → Prop} {J4 : Int32 → Int32 → Prop} {s i : Nat} (hs : s < 8) (hi : i < 32) :
    ∀ (d j n : Nat) (x2 : Int32) (Q : Nat → Prop), j + d = 8 → d < n → (∀ k, bt x2 k = true ↔ Q k ∨ ∃ t, t < j ∧ zW3 ys yr s i t ∧ k = i / 8) →
    (∀ r, (∀ k, bt r k = true ↔ Q k ∨ ∃ t, t < 8 ∧ zW3 ys yr s i t ∧ k = i / 8) → J4 r (nI (i + 1))) →
    wY_threadsAround_13 post J4 (nI s) (nI i) (nI nl) (nI ns) (nI nr) (nI na) kn al co lv lw lf sv sw sf sg rt rl ra ap av af aw p hh ys yr n x2 (nI j) := by
  have hcs : (nI s).toNatClampNeg = s := nI_clamp (by omega)
  have hci : (nI i).toNatClampNeg = i := nI_clamp (by omega)
  have hm8 : i % 8 < 8 := Nat.mod_lt _ (by decide)
  have hd4 : i / 8 < 4 := by omega
  intro d
  induction d with
  | zero =>
    intro j n x2 Q hj hn hx H
    obtain ⟨n, rfl⟩ : ∃ m, n = m + 1 := ⟨n - 1, by omega⟩
    have e : j = 8 := by omega
    subst e
    exact br_t (nI_le (a := 8) (b := 8) (by decide) (by decide)) (nm_r (nI_1 i) (H x2 hx))
  | succ d ih =>
    intro j n x2 Q hj hn hx H
    obtain ⟨n, rfl⟩ : ∃ m, n = m + 1 := ⟨n - 1, by omega⟩
    have hcj : (nI j).toNatClampNeg = j := nI_clamp (by omega)
    have hno : ¬ zW3 ys yr s i j → wY_threadsAround_13 post J4 (nI s) (nI i) (nI nl) (nI ns) (nI nr) (nI na) kn al co lv lw lf sv sw sf sg rt rl ra ap av af aw p hh ys yr n x2 (nI (j + 1)) := by
      intro hc
      refine ih (j + 1) n x2 Q (by omega) (by omega) (fun k => (hx k).trans ⟨fun z => ?_, fun z => ?_⟩) H
      · rcases z with z | ⟨b, hb, z⟩
        · exact Or.inl z
        · exact Or.inr ⟨b, by omega, z⟩
      · rcases z with z | ⟨b, hb, z1, z2⟩
        · exact Or.inl z
        · by_cases e : b = j
          · rw [e] at z1; exact absurd z1 hc
          · exact Or.inr ⟨b, by omega, z1, z2⟩
    refine br_f (nI_ge (b := 8) (by omega) (by decide)) (And.intro (vp_in_nI hi (by decide)) ?_)
    rw [hci]
    unfold wY_threadsAround_40
    refine br_c (fun c1 => br_f (by decide) (And.intro (vp_in_nI hs (by decide)) (And.intro (by decide) ?_))) (fun c1 => br_t rfl (nm_r (nI_1 j) (hno (fun z => c1 ((zb_t (by omega)).mpr z.1)))))
    rw [hcs, hcj, zn_r8 hi, zn_d8 hi]
    refine br_c (fun c2 => And.intro (vp_in_nI (by omega) (by decide)) (br_c (fun c3 => And.intro (by decide) ?_) (fun c3 => nm_r (nI_1 j) (hno (fun z => c3 ((zb_t (by omega)).mpr z.2.2)))))) (fun c2 => nm_r (nI_1 j) (hno (fun z => c2 ((zb_t (by omega)).mpr z.2.1))))
    have hw : zW3 ys yr s i j := ⟨(zb_t (by omega)).mp c1, (zb_t (by omega)).mp c2, (zb_t (by omega)).mp c3⟩
    refine nm_e (nm_r (nI_1 j) (ih (j + 1) n _ Q (by omega) (by omega) (fun k => ?_) H))
    rw [zb_put _ (by omega), hx k]
    constructor
    · rintro ((z | ⟨b, hb, z⟩) | z)
      · exact Or.inl z
      · exact Or.inr ⟨b, by omega, z⟩
      · exact Or.inr ⟨j, by omega, hw, z⟩
    · rintro (z | ⟨b, hb, z1, z2⟩)
      · exact Or.inl (Or.inl z)
      · exact Or.inr z2
theorem zy_t4 {post : Int32 → Prop} {s : Nat} (hs : s < 8)
    (H : ∀ r, (∀ k, bt r k = true ↔ ∃ i t, i < 32 ∧ t < 8 ∧ zW3 ys yr s i t ∧ k = i / 8) → post (nI (zc r))) :
    ∀ (d i n : Nat) (x2 : Int32), i + d = 32 → d < n → (∀ k, bt x2 k = true ↔ ∃ j t, j < i ∧ t < 8 ∧ zW3 ys yr s j t ∧ k = j / 8) → wY_threadsAround_4 post (nI s) (nI nl) (nI ns) (nI nr) (nI na) kn al co lv lw lf sv sw sf sg rt rl ra ap av af aw p hh ys yr n x2 (nI i) := by
  intro d
  induction d with
  | zero =>
    intro i n x2 hj hn hx
    obtain ⟨n, rfl⟩ : ∃ m, n = m + 1 := ⟨n - 1, by omega⟩
    have e : i = 32 := by omega
    subst e
    exact br_t (nI_le (a := 32) (b := 32) (by decide) (by decide)) (zy_size (H x2 hx))
  | succ d ih =>
    intro i n x2 hj hn hx
    obtain ⟨n, rfl⟩ : ∃ m, n = m + 1 := ⟨n - 1, by omega⟩
    refine br_f (nI_ge (b := 32) (by omega) (by decide)) ⟨9, zy_t13 hs (by omega) 8 0 9 x2 (fun k => ∃ j t, j < i ∧ t < 8 ∧ zW3 ys yr s j t ∧ k = j / 8) (by omega) (by omega) (fun k => (hx k).trans ⟨Or.inl, fun z => z.elim id (fun ⟨b, hb, _⟩ => absurd hb (by omega))⟩) (fun r hr => ih (i + 1) n r (by omega) (by omega) (fun k => (hr k).trans ⟨fun z => ?_, fun z => ?_⟩))⟩
    · rcases z with ⟨j, t, hj, z⟩ | ⟨t, ht, z⟩
      · exact ⟨j, t, by omega, z⟩
      · exact ⟨i, t, by omega, ht, z⟩
    · obtain ⟨j, t, hj, ht, z⟩ := z
      by_cases e : j = i
      · subst e; exact Or.inr ⟨t, ht, z⟩
      · exact Or.inl ⟨j, t, by omega, ht, z⟩
theorem zy_ta {post : Int32 → Prop} {s : Nat} (hs : s < 8) (hX : zYS ys M) (hM : ∀ s t k, M s t k → t < 8 ∧ k < 4) (hR : ∀ s, s < 8 → ∀ t, bt (yr s) t = true ↔ zSt (zRM M) s t)
    (H : ∀ c, (¬ nI c ≤ 1 ↔ zDg (zRM M) M s) → post (nI c)) : wpY_threadsAround post (nI nl, nI ns, nI nr, nI na, kn, al, co, lv, lw, lf, sv, sw, sf, sg, rt, rl, ra, ap, av, af, aw, p, hh, ys, yr) (nI s) := by
  unfold wpY_threadsAround
  refine ⟨33, zy_t4 hs (fun r hr => H (zc r) ?_) 32 0 33 0 (by omega) (by omega) (fun k => by rw [b_0]; exact ⟨fun z => absurd z (by decide), fun ⟨j, t, hj, _⟩ => absurd hj (by omega)⟩)⟩
  have hr' : ∀ k, bt r k = true ↔ zTW (zRM M) M s k := by
    intro k
    rw [hr k]
    constructor
    · rintro ⟨i, t, hi, ht, ⟨z1, z2, z3⟩, rfl⟩
      have e : i = i / 8 * 8 + i % 8 := by omega
      have z1' : M (i % 8) t (i / 8) := by
        rw [e] at z1
        exact (hX (i / 8) (i % 8) (by omega) (by omega) t).mp z1
      have hg : zRM M (i % 8) t := ⟨by omega, ht, i / 8, z1'⟩
      have w2 := (hR s hs (i % 8)).mp z2
      have w3 := (hR t ht s).mp z3
      exact ⟨i % 8, t, by omega, ht, z1', ⟨w2, zSt_t (zSt_1 hg) w3⟩, ⟨zSt_t w2 (zSt_1 hg), w3⟩⟩
    · rintro ⟨a, b, ha, hb, z1, z2, z3⟩
      have hk := (hM _ _ _ z1).2
      have e1 : (k * 8 + a) % 8 = a := by omega
      refine ⟨k * 8 + a, b, by omega, hb, ⟨(hX k a hk ha b).mpr z1, ?_, (hR b hb s).mpr z3.2⟩, by omega⟩
      rw [e1]; exact (hR s hs a).mpr z2.1
  have hr8 : z8 r := by
    intro k hk
    cases hb : bt r k
    · rfl
    · obtain ⟨a, b, _, _, z, _⟩ := (hr' k).mp hb
      have := (hM _ _ _ z).2
      omega
  have hc : nI (zc r) ≤ 1 ↔ r &&& (r - 1) = 0 := by
    rw [show (1 : Int32) = nI 1 from rfl, nI_leI (by have := zc_le8 r; omega) (by decide)]
    obtain ⟨m, hm, rfl⟩ := zw_255 hr8
    exact zw_c1 m hm
  rw [hc, zw_two hr8]
  constructor
  · rintro ⟨k1, k2, z0, z1, z2⟩
    exact ⟨k1, k2, z0, (hr' k1).mp z1, (hr' k2).mp z2⟩
  · rintro ⟨k1, k2, z0, z1, z2⟩
    exact ⟨k1, k2, z0, (hr' k1).mpr z1, (hr' k2).mpr z2⟩
theorem zy_d16 {post : Int32 → SY → Prop} (hX : zYS ys M) (hM : ∀ s t k, M s t k → t < 8 ∧ k < 4) (hR : ∀ s, s < 8 → ∀ t, bt (yr s) t = true ↔ zSt (zRM M) s t)
    (H : ∀ r, (∀ x, bt r x = true ↔ x < 8 ∧ zDg (zRM M) M x) → post r (nI nl, nI ns, nI nr, nI na, kn, al, co, lv, lw, lf, sv, sw, sf, sg, rt, rl, ra, ap, av, af, aw, p, hh, ys, yr)) :
    ∀ (d s n : Nat) (x1 : Int32), s + d = 8 → d < n → (∀ x, bt x1 x = true ↔ x < s ∧ zDg (zRM M) M x) → wY_danger_16 post (nI nl) (nI ns) (nI nr) (nI na) kn al co lv lw lf sv sw sf sg rt rl ra ap av af aw p hh ys yr n x1 (nI s) := by
  intro d
  induction d with
  | zero =>
    intro s n x1 hs hn hx
    obtain ⟨n, rfl⟩ : ∃ m, n = m + 1 := ⟨n - 1, by omega⟩
    have e : s = 8 := by omega
    subst e
    exact br_t (nI_le (a := 8) (b := 8) (by decide) (by decide)) (H x1 hx)
  | succ d ih =>
    intro s n x1 hs hn hx
    obtain ⟨n, rfl⟩ : ∃ m, n = m + 1 := ⟨n - 1, by omega⟩
    refine br_f (nI_ge (b := 8) (by omega) (by decide)) (zy_ta (by omega) hX hM hR (fun c hc => br_c (fun c1 => nm_r (nI_1 s) (ih (s + 1) n x1 (by omega) (by omega) (fun x => (hx x).trans ⟨fun z => ⟨by omega, z.2⟩, fun z => ⟨?_, z.2⟩⟩))) (fun c1 => nm_e (nm_r (nI_1 s) (ih (s + 1) n _ (by omega) (by omega) (fun x => ?_))))))
    · by_cases e : x = s
      · rw [e] at z; exact absurd c1 (hc.mpr z.2)
      · omega
    · rw [zb_put _ (by omega), hx x]
      constructor
      · rintro (z | z)
        · exact ⟨by omega, z.2⟩
        · rw [z]; exact ⟨by omega, hc.mp c1⟩
      · rintro ⟨z1, z2⟩
        by_cases e : x = s
        · exact Or.inr e
        · exact Or.inl ⟨by omega, z2⟩
end
theorem i_vc_danger {k : Nat} {u : SX} {v : SY} (I : i_Rel k u v) (hk : k + 5 ≤ 2560) : wpX_danger (fun r u' => wpY_danger (fun r' v' => r' = r ∧ i_Rel (k + 5) u' v') v) u := by
  refine zz_el (C := fun u v => wpX_danger (fun r u' => wpY_danger (fun r' v' => r' = r ∧ i_Rel (k + 5) u' v') v) u) ?_ I
  clear I u v
  intro nl ns nr na h t oc kn wk fc le si fr go qd qu lv lw lf sv sw sf rt rl ra ap av af aw al co sg p hh xs xf xo xk xn ys yr hf
  obtain ⟨hD, ⟨g1, g2, g3, g4, g5, g6, g7⟩, hO, hK, hR⟩ := hf
  have hL := zRR_L hD hR
  refine zx_danger hR.1 g1 g3 g4 g5 (fun r wk' fc' xs' xf' xk' xn' xo' hr => ?_)
  unfold wpY_danger
  refine zy_wo hD hR hK (fun p' hh' e1 e2 => ?_)
  refine zy_allSteps (P := zP le si) hO g1 g3 g4 g5 e1 (fun ys' hY => ?_)
  have hM : ∀ s t k, zWW (zP le si) rt rl ra oc nr s t k → t < 8 ∧ k < 4 := by
    rintro s t k ⟨r, hr, q, _, z⟩
    have h1 := (g3 r hr).1
    have h2 := z.2.2.1
    have h3 := (g4 r hr).1
    exact ⟨z8_lt (hL.1 _ (by omega)) z.2.1, by omega⟩
  refine zy_allWays hY hM (fun yr' hW => ⟨9, ?_⟩)
  refine zy_d16 hY hM hW (fun r' hr' => ?_) 8 0 9 0 (by omega) (by omega) (fun x => by rw [b_0]; exact ⟨fun z => absurd z (by decide), fun z => absurd z.1 (by omega)⟩)
  exact ⟨b_ext fun i _ => Bool.eq_iff_iff.mpr ((hr' i).trans (hr i).symm), zz_in ⟨hD, ⟨g1, g2, g3, g4, g5, g6, g7⟩, hO, Or.inr ⟨rfl, e1, e2⟩, hR⟩⟩
end
