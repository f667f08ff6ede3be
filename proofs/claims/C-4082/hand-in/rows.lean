section
/-! rows pasted from the kit (PURE-ROWS, BITS) -/
theorem pk_us {f : Nat → Int32} {k : Nat} {x : Int32} : upd f k x k = x := if_pos rfl
theorem pk_un {f : Nat → Int32} {k j : Nat} {x : Int32} (h : j ≠ k) : upd f k x j = f j := if_neg h
theorem pk_mul (a b : Nat) : nI a * nI b = nI (a * b) := (Int32.ofNat_mul a b).symm
theorem pk_div {a d : Nat} (ha : a < 2 ^ 31) (h0 : 0 < d) (hd : d < 2 ^ 31) : nI a / nI d = nI (a / d) := by
  apply Int32.toInt_inj.mp
  rw [lg_idiv_nonneg (by rw [nI_toInt ha]; omega) (by rw [nI_toInt hd]; omega), nI_toInt ha, nI_toInt hd, nI_toInt (Nat.lt_of_le_of_lt (Nat.div_le_self a d) ha)]
  first | rfl | exact (Int.natCast_ediv _ _).symm
theorem pk_ix (x : Int32) {n : Nat} (hn : n < 2 ^ 31) : x < 0 ∨ nI n ≤ x ∨ ∃ j : Nat, j < n ∧ x = nI j := by
  by_cases h : x < 0
  · exact Or.inl h
  · obtain ⟨j, hj, rfl⟩ := nI_of h
    by_cases h2 : j < n
    · exact Or.inr (Or.inr ⟨j, h2, rfl⟩)
    · exact Or.inr (Or.inl (nI_le (by omega) hj))
theorem pk_le {x y : Int32} {A B : Prop} (a b : Nat) (f : a ≤ b → A) (g : b < a → B) (hx : x = nI a := by rfl) (hy : y = nI b := by rfl) (ha : a < 2 ^ 31 := by omega) (hb : b < 2 ^ 31 := by omega) : (x ≤ y → A) ∧ (¬ x ≤ y → B) := by
  subst hx hy
  rw [nI_leI ha hb]
  exact ⟨f, fun z => g (by omega)⟩
theorem pk_lt {x y : Int32} {A B : Prop} (a b : Nat) (f : a < b → A) (g : b ≤ a → B) (hx : x = nI a := by rfl) (hy : y = nI b := by rfl) (ha : a < 2 ^ 31 := by omega) (hb : b < 2 ^ 31 := by omega) : (x < y → A) ∧ (¬ x < y → B) := by
  subst hx hy
  rw [nI_ltI ha hb]
  exact ⟨f, fun z => g (by omega)⟩
theorem pk_eq {x y : Int32} {A B : Prop} (a b : Nat) (f : a = b → A) (g : a ≠ b → B) (hx : x = nI a := by rfl) (hy : y = nI b := by rfl) (ha : a < 2 ^ 31 := by omega) (hb : b < 2 ^ 31 := by omega) : (x = y → A) ∧ (¬ x = y → B) := by
  subst hx hy
  rw [nI_eq ha hb]
  exact ⟨f, g⟩
theorem pk_in {x : Int32} (n N : Nat) (h : n < N) (hx : x = nI n := by rfl) (hN : N < 2 ^ 31 := by omega) : vp_in x N := by
  subst hx
  exact vp_in_nI h hN
theorem pk_cl {x : Int32} (n : Nat) (hx : x = nI n := by rfl) (h : n < 2 ^ 31 := by omega) : x.toNatClampNeg = n := by
  subst hx
  exact nI_clamp h
theorem pk_tn {n : Nat} (h : n < 2 ^ 32) : (nI n).toBitVec.toNat = n := Nat.mod_eq_of_lt h
theorem pk_and (x : Int32) {m : Int32} (k : Nat) (hm : m.toBitVec.toNat = 2 ^ k - 1) : x &&& m = nI (x.toBitVec.toNat % 2 ^ k) := by
  apply Int32.toBitVec_inj.mp
  apply BitVec.eq_of_toNat_eq
  rw [Int32.toBitVec_and, BitVec.toNat_and, hm, Nat.and_two_pow_sub_one_eq_mod]
  show _ = (BitVec.ofNat 32 _).toNat
  rw [BitVec.toNat_ofNat]
  exact (Nat.mod_eq_of_lt (Nat.lt_of_le_of_lt (Nat.mod_le _ _) x.toBitVec.isLt)).symm
theorem pk_andE (x : Int32) {m : Int32} (k : Nat) (hm : m.toBitVec.toNat = 2 ^ k - 1) : ∃ j : Nat, j < 2 ^ k ∧ x &&& m = nI j := ⟨_, Nat.mod_lt _ (Nat.two_pow_pos k), pk_and x k hm⟩
theorem pk_vb (z : Int32) : vp_nar .byte z.toInt8.toInt32 = z.toInt8.toInt32 := by rw [vp_nar_byte]; simp
theorem pk_vs (z : Int32) : vp_nar .short z.toInt16.toInt32 = z.toInt16.toInt32 := by rw [vp_nar_short]; simp
def bt (x : Int32) (i : Nat) : Bool := x.toBitVec.getLsbD i
theorem b_ext {x y : Int32} (h : ∀ i, i < 32 → bt x i = bt y i) : x = y := Int32.toBitVec_inj.mp (BitVec.eq_of_getLsbD_eq (fun i hi => h i hi))
theorem b_or (x y : Int32) (i : Nat) : bt (x ||| y) i = (bt x i || bt y i) := by unfold bt; rw [Int32.toBitVec_or, BitVec.getLsbD_or]
theorem b_and (x y : Int32) (i : Nat) : bt (x &&& y) i = (bt x i && bt y i) := by unfold bt; rw [Int32.toBitVec_and, BitVec.getLsbD_and]
theorem b_xor (x y : Int32) (i : Nat) : bt (x ^^^ y) i = (bt x i ^^ bt y i) := by unfold bt; rw [Int32.toBitVec_xor, BitVec.getLsbD_xor]
theorem b_big {x : Int32} {i : Nat} (h : 32 ≤ i) : bt x i = false := BitVec.getLsbD_of_ge _ _ h
theorem b_255 (i : Nat) : bt 255 i = decide (i < 8) := by
  rcases Nat.lt_or_ge i 32 with h | h
  · exact (by decide +kernel : ∀ i, i < 32 → bt 255 i = decide (i < 8)) i h
  · rw [b_big h, decide_eq_false (by omega)]
theorem b_m1 : ∀ i, i < 32 → bt (-1) i = true := by decide +kernel
theorem b_0 (i : Nat) : bt 0 i = false := BitVec.getLsbD_zero
theorem s_l : ∀ n, n < 32 → ((nI n &&& 31).toBitVec.smod 32).toNat = n := by decide +kernel
theorem b_shl (n : Nat) (hn : n < 32) (x : Int32) {i : Nat} (hi : i < 32) : bt (x <<< (nI n &&& 31)) i = (decide (n ≤ i) && bt x (i - n)) := by
  unfold bt
  rw [Int32.toBitVec_shiftLeft]
  show (x.toBitVec <<< ((nI n &&& 31).toBitVec.smod 32).toNat).getLsbD i = _
  rw [s_l n hn, BitVec.getLsbD_shiftLeft]
  rcases Nat.lt_or_ge i n with h | h
  · simp [h, Nat.not_le.mpr h]
  · simp [hi, h, Nat.not_lt.mpr h]
theorem b_sshr (n : Nat) (hn : n < 32) (x : Int32) {i : Nat} (hi : i < 32) : bt (x >>> (nI n &&& 31)) i = if n + i < 32 then bt x (n + i) else bt x 31 := by
  unfold bt
  rw [Int32.toBitVec_shiftRight]
  show (x.toBitVec.sshiftRight ((nI n &&& 31).toBitVec.smod 32).toNat).getLsbD i = _
  rw [s_l n hn, BitVec.getLsbD_sshiftRight, BitVec.msb_eq_getLsbD_last]
  simp [hi]
end
section
/-! sets of states as the bits of an Int32 -/
theorem cp_bit1 : ∀ i, i < 32 → bt 1 i = decide (i = 0) := by decide +kernel
theorem cp_bf {b : Bool} (h : ¬ b = true) : b = false := by cases b <;> first | rfl | exact absurd rfl h
theorem cp_and1 (x : Int32) (s : Nat) (hs : s < 32) : ((x >>> (nI s &&& 31)) &&& 1) = if bt x s = true then 1 else 0 := by
  apply b_ext
  intro i hi
  rw [b_and, b_sshr s hs x hi, cp_bit1 i hi]
  rcases Nat.eq_zero_or_pos i with h0 | h0
  · subst h0
    rw [if_pos (show s + 0 < 32 from hs), Nat.add_zero]
    cases bt x s <;> decide +kernel
  · rw [decide_eq_false (by omega), Bool.and_false]
    cases bt x s
    · rw [if_neg (by decide), b_0]
    · rw [if_pos rfl, cp_bit1 i hi, decide_eq_false (by omega)]
theorem cp_is0 (x : Int32) (s : Nat) (hs : s < 32) : ((x >>> (nI s &&& 31)) &&& 1) = 0 ↔ bt x s = false := by
  rw [cp_and1 x s hs]
  cases bt x s
  · exact ⟨fun _ => rfl, fun _ => if_neg (by decide)⟩
  · exact ⟨fun z => absurd ((if_pos rfl).symm.trans z) (by decide), fun z => absurd z (by decide)⟩
theorem cp_is1 (x : Int32) (s : Nat) (hs : s < 32) : ((x >>> (nI s &&& 31)) &&& 1) = 1 ↔ bt x s = true := by
  rw [cp_and1 x s hs]
  cases bt x s
  · exact ⟨fun z => absurd ((if_neg (by decide)).symm.trans z) (by decide), fun z => absurd z (by decide)⟩
  · exact ⟨fun _ => rfl, fun _ => if_pos rfl⟩
theorem cp_lt32 {x : Int32} {t : Nat} (h : bt x t = true) : t < 32 := by
  rcases Nat.lt_or_ge t 32 with z | z
  · exact z
  · rw [b_big z] at h; exact absurd h (by decide)
theorem cp_sub (x y : Int32) : (x &&& (y ^^^ (-1))) = 0 ↔ ∀ t, bt x t = true → bt y t = true := by
  constructor
  · intro h t ht
    have e : bt (x &&& (y ^^^ (-1))) t = false := by rw [h, b_0]
    rw [b_and, b_xor, b_m1 t (cp_lt32 ht), ht] at e
    revert e
    cases bt y t <;> decide
  · intro h
    apply b_ext
    intro i hi
    rw [b_and, b_xor, b_m1 i hi, b_0]
    cases hx : bt x i
    · rfl
    · rw [h i hx]; rfl
theorem cp_ne0 (x : Int32) : ¬ x = 0 ↔ ∃ t, bt x t = true := by
  constructor
  · intro h
    refine Classical.byContradiction fun z => h (b_ext fun i _ => ?_)
    rw [b_0]
    exact cp_bf fun q => z ⟨i, q⟩
  · intro ⟨t, ht⟩ z
    rw [z, b_0] at ht
    exact absurd ht (by decide)
theorem cp_meet (x y : Int32) : ¬ (x &&& y) = 0 ↔ ∃ t, bt x t = true ∧ bt y t = true := by
  rw [cp_ne0]
  constructor
  · intro ⟨t, ht⟩
    rw [b_and, Bool.and_eq_true] at ht
    exact ⟨t, ht⟩
  · intro ⟨t, ht⟩
    exact ⟨t, by rw [b_and, Bool.and_eq_true]; exact ht⟩
theorem cp_setb (x : Int32) (s : Nat) (hs : s < 32) (t : Nat) : bt (x ||| ((1 : Int32) <<< (nI s &&& 31))) t = true ↔ (bt x t = true ∨ t = s) := by
  rcases Nat.lt_or_ge t 32 with z | z
  · rw [b_or, b_shl s hs 1 z, Bool.or_eq_true, Bool.and_eq_true, decide_eq_true_eq, cp_bit1 (t - s) (by omega), decide_eq_true_eq]
    constructor
    · rintro (h | h)
      · exact Or.inl h
      · exact Or.inr (by omega)
    · rintro (h | h)
      · exact Or.inl h
      · exact Or.inr (by omega)
  · rw [b_big z, b_big z]
    constructor
    · intro h; exact Or.inl h
    · rintro (h | h)
      · exact h
      · omega
theorem cp_ext {x y : Int32} (h : ∀ t, bt x t = true ↔ bt y t = true) : x = y := by
  apply b_ext
  intro i _
  have := h i
  revert this
  cases bt x i <;> cases bt y i <;> simp
/-- all bits below 8 -/
def cp_lo (x : Int32) : Prop := ∀ t, bt x t = true → t < 8
theorem cp_btn (m t : Nat) (ht : t < 32) : bt (nI m) t = m.testBit t := by
  show (BitVec.ofNat 32 m).getLsbD t = _
  rw [BitVec.getLsbD_ofNat, decide_eq_true ht, Bool.true_and]
theorem cp_loN {m : Nat} (h : m < 256) : cp_lo (nI m) := by
  intro t ht
  have h32 := cp_lt32 ht
  rw [cp_btn m t h32] at ht
  rcases Nat.lt_or_ge t 8 with z | z
  · exact z
  · have : m < 2 ^ t := Nat.lt_of_lt_of_le (show m < 2 ^ 8 from h) (Nat.pow_le_pow_right (by decide) z)
    rw [Nat.testBit_lt_two_pow this] at ht
    exact absurd ht (by decide)
theorem cp_lo0 : cp_lo 0 := fun t ht => by rw [b_0] at ht; exact absurd ht (by decide)
theorem cp_loE {x : Int32} (h : cp_lo x) : ∃ m, m < 256 ∧ x = nI m := by
  have e : x &&& 255 = x := by
    apply b_ext
    intro i _
    rw [b_and, b_255]
    cases hx : bt x i
    · rfl
    · rw [decide_eq_true (h i hx)]; rfl
  obtain ⟨j, hj, e2⟩ := pk_andE x (m := 255) 8 (by decide)
  exact ⟨j, hj, e.symm.trans e2⟩
theorem cp_short : ∀ m, m < 256 → (nI m).toInt16.toInt32 = nI m := by decide +kernel
theorem cp_byte : ∀ m, m < 16 → (nI m).toInt8.toInt32 = nI m := by decide +kernel
theorem cp_nsh {m : Nat} (h : m < 256) : vp_nar .short (nI m).toInt16.toInt32 = nI m := by rw [pk_vs, cp_short m h]
theorem cp_nby {m : Nat} (h : m < 16) : vp_nar .byte (nI m).toInt8.toInt32 = nI m := by rw [pk_vb, cp_byte m h]
theorem cp_ns0 : vp_nar .short 0 = 0 := by rw [vp_nar_short]; decide
theorem cp_nb0 : vp_nar .byte 0 = 0 := by rw [vp_nar_byte]; decide
theorem cp_m3 (s : Nat) : (3 : Int32) * nI s = nI (3 * s) := pk_mul 3 s
theorem cp_m3a (s a : Nat) : (3 : Int32) * nI s + nI a = nI (3 * s + a) := by rw [cp_m3, nI_add]
theorem cp_m33 (s : Nat) : (3 : Int32) * nI s + 3 = nI (3 * s + 3) := cp_m3a s 3
theorem cp_d3 {k : Nat} (h : k < 24) : nI k / 3 = nI (k / 3) := pk_div (d := 3) (by omega) (by decide) (by decide)
/-- outcomes x and a set: all outcomes within (m), or some -/
def cp_C (m : Bool) (x B : Int32) : Prop := if m = true then (¬ x = 0 ∧ (x &&& (B ^^^ (-1))) = 0) else ¬ (x &&& B) = 0
end
section
/-! layers: the pure law of weak and sure -/
/-- by L, the worst outcome of x (m), or the luckiest one, is at most r -/
def cp_V (m : Bool) (x : Int32) (L : Nat → Nat) (r : Nat) : Prop :=
  (m = true → (∃ t, bt x t = true) ∧ ∀ t, bt x t = true → L t ≤ r) ∧ (m = false → ∃ t, bt x t = true ∧ L t ≤ r)
theorem cp_Vmap {m : Bool} {x : Int32} {L L' : Nat → Nat} {r r' : Nat} (hx : cp_lo x) (h : ∀ t, t < 8 → L t ≤ r → L' t ≤ r') (v : cp_V m x L r) : cp_V m x L' r' :=
  ⟨fun e => ⟨(v.1 e).1, fun t ht => h t (hx t ht) ((v.1 e).2 t ht)⟩, fun e => (v.2 e).elim fun t ht => ⟨t, ht.1, h t (hx t ht.1) ht.2⟩⟩
theorem cp_Vne {m : Bool} {x : Int32} {L : Nat → Nat} {r : Nat} (v : cp_V m x L r) : ∃ t, bt x t = true ∧ L t ≤ r := by
  cases m
  · exact v.2 rfl
  · obtain ⟨t, ht⟩ := (v.1 rfl).1
    exact ⟨t, ht, (v.1 rfl).2 t ht⟩
def cp_D (m : Bool) (A : Nat → Int32) (L : Nat → Nat) (r s : Nat) : Prop := ∃ a, a < 3 ∧ cp_V m (A (3 * s + a)) L r
/-- L is the layer of each state; 99 for none -/
def cp_Lay (m : Bool) (A : Nat → Int32) (G : Int32) (L : Nat → Nat) : Prop :=
  (∀ s, s < 8 → (L s = 0 ↔ bt G s = true)) ∧ (∀ s, s < 8 → L s ≤ 8 ∨ L s = 99) ∧
  (∀ s r, s < 8 → L s = r + 1 → r < 8 → cp_D m A L r s) ∧ (∀ s r, s < 8 → r < 99 → cp_D m A L r s → L s ≤ r + 1)
/-- r layers are found -/
def cp_Pre (m : Bool) (A : Nat → Int32) (G : Int32) (L : Nat → Nat) (r : Nat) : Prop :=
  (∀ s, s < 8 → (L s = 0 ↔ bt G s = true)) ∧ (∀ s, s < 8 → L s ≤ r ∨ L s = 99) ∧
  (∀ s q, s < 8 → L s = q + 1 → q < r → cp_D m A L q s) ∧ (∀ s q, s < 8 → q < r → cp_D m A L q s → L s ≤ q + 1)
/-- within layer r + 1, the states below i are looked at -/
def cp_In (m : Bool) (A : Nat → Int32) (L : Nat → Nat) (r i : Nat) (L' : Nat → Nat) : Prop :=
  ∀ s, s < 8 → (s < i → (L s = 99 → cp_D m A L r s → L' s = r + 1) ∧ (¬ (L s = 99 ∧ cp_D m A L r s) → L' s = L s)) ∧ (i ≤ s → L' s = L s)
theorem cp_Pre0 (m : Bool) (A : Nat → Int32) (G : Int32) : cp_Pre m A G (fun s => if bt G s = true then 0 else 99) 0 := by
  refine ⟨fun s _ => ?_, fun s _ => ?_, fun s q _ _ h => absurd h (Nat.not_lt_zero _), fun s q _ h => absurd h (Nat.not_lt_zero _)⟩
  · show (if bt G s = true then 0 else 99) = 0 ↔ _
    cases bt G s <;> simp
  · show (if bt G s = true then 0 else 99) ≤ 0 ∨ (if bt G s = true then 0 else 99) = 99
    cases bt G s <;> simp
theorem cp_In0 (m : Bool) (A : Nat → Int32) (L : Nat → Nat) (r : Nat) : cp_In m A L r 0 L := fun s _ => ⟨fun h => absurd h (Nat.not_lt_zero _), fun _ => rfl⟩
/-- a state that stays -/
theorem cp_InK {m : Bool} {A : Nat → Int32} {L L' : Nat → Nat} {r i : Nat} (h : cp_In m A L r i L') (hn : ¬ (L i = 99 ∧ cp_D m A L r i)) : cp_In m A L r (i + 1) L' := by
  intro s hs
  obtain ⟨h1, h2⟩ := h s hs
  refine ⟨fun z => ?_, fun z => h2 (by omega)⟩
  rcases Nat.lt_or_ge s i with q | q
  · exact h1 q
  · have e : s = i := by omega
    subst e
    exact ⟨fun a b => absurd ⟨a, b⟩ hn, fun _ => h2 (Nat.le_refl _)⟩
/-- a state that comes in -/
theorem cp_InU {m : Bool} {A : Nat → Int32} {L L' : Nat → Nat} {r i : Nat} (h : cp_In m A L r i L') (h9 : L i = 99) (hd : cp_D m A L r i) : cp_In m A L r (i + 1) (fun s => if s = i then r + 1 else L' s) := by
  intro s hs
  obtain ⟨h1, h2⟩ := h s hs
  show (_ → (_ → _ → (if s = i then r + 1 else L' s) = r + 1) ∧ (_ → (if s = i then r + 1 else L' s) = L s)) ∧ (_ → (if s = i then r + 1 else L' s) = L s)
  rcases Nat.lt_trichotomy s i with q | q | q
  · rw [if_neg (by omega)]
    exact ⟨fun _ => h1 q, fun z => by omega⟩
  · subst q
    rw [if_pos rfl]
    exact ⟨fun _ => ⟨fun _ _ => rfl, fun z => absurd ⟨h9, hd⟩ z⟩, fun z => by omega⟩
  · rw [if_neg (by omega)]
    exact ⟨fun z => by omega, fun _ => h2 (by omega)⟩
theorem cp_Dmap {m : Bool} {A : Nat → Int32} {L L' : Nat → Nat} {r r' s : Nat} (hA : ∀ k, cp_lo (A k)) (h : ∀ t, t < 8 → L t ≤ r → L' t ≤ r') (v : cp_D m A L r s) : cp_D m A L' r' s :=
  v.elim fun a ha => ⟨a, ha.1, cp_Vmap (hA _) h ha.2⟩
theorem cp_step {m : Bool} {A : Nat → Int32} {G : Int32} {L L' : Nat → Nat} {r : Nat} (hA : ∀ k, cp_lo (A k)) (hr : r < 8) (P : cp_Pre m A G L r) (I : cp_In m A L r 8 L') : cp_Pre m A G L' (r + 1) := by
  obtain ⟨p1, p2, p3, p4⟩ := P
  have hle : ∀ q, q ≤ r → ∀ t, t < 8 → (L' t ≤ q → L t ≤ q) ∧ (L t ≤ q → L' t ≤ q) := by
    intro q hq t ht
    have b := p2 t ht
    obtain ⟨i1, i2⟩ := (I t ht).1 ht
    by_cases c : L t = 99 ∧ cp_D m A L r t
    · have e := i1 c.1 c.2
      have c1 := c.1
      exact ⟨fun z => by omega, fun z => by omega⟩
    · have e := i2 c
      exact ⟨fun z => by omega, fun z => by omega⟩
  refine ⟨fun s hs => ?_, fun s hs => ?_, fun s q hs e hq => ?_, fun s q hs hq d => ?_⟩
  · rw [← p1 s hs]
    obtain ⟨a, b⟩ := hle 0 (by omega) s hs
    constructor
    · intro z; have := a (by omega); omega
    · intro z; have := b (by omega); omega
  · have b := p2 s hs
    obtain ⟨i1, i2⟩ := (I s hs).1 hs
    by_cases c : L s = 99 ∧ cp_D m A L r s
    · have e := i1 c.1 c.2
      omega
    · have e := i2 c
      omega
  · have b := p2 s hs
    obtain ⟨i1, i2⟩ := (I s hs).1 hs
    by_cases c : L s = 99 ∧ cp_D m A L r s
    · have e2 := i1 c.1 c.2
      have eq : q = r := by omega
      subst eq
      exact cp_Dmap hA (fun t ht => (hle _ (Nat.le_refl _) t ht).2) c.2
    · have e2 := i2 c
      exact cp_Dmap hA (fun t ht => (hle q (by omega) t ht).2) (p3 s q hs (by omega) (by omega))
  · have d' := cp_Dmap hA (fun t ht => (hle q (by omega) t ht).1) d
    have b := p2 s hs
    obtain ⟨i1, i2⟩ := (I s hs).1 hs
    by_cases c : L s = 99 ∧ cp_D m A L r s
    · have e := i1 c.1 c.2
      rcases Nat.lt_or_ge q r with z | z
      · have := p4 s q hs z d'
        have c1 := c.1
        omega
      · omega
    · have e := i2 c
      rcases Nat.lt_or_ge q r with z | z
      · have := p4 s q hs z d'
        omega
      · have eq : q = r := by omega
        subst eq
        have h9 : ¬ L s = 99 := fun z9 => c ⟨z9, d'⟩
        omega
/-- n + 1 numbers from n places -/
theorem cp_pig : ∀ (n : Nat) (f : Nat → Nat), (∀ j, j ≤ n → ∃ s, s < n ∧ f s = j) → False := by
  intro n
  induction n with
  | zero => intro f h; obtain ⟨s, hs, _⟩ := h 0 (Nat.le_refl _); omega
  | succ n ih =>
    intro f h
    obtain ⟨s0, h0, e0⟩ := h (n + 1) (Nat.le_refl _)
    refine ih (fun x => if x = s0 then f n else f x) fun j hj => ?_
    obtain ⟨s, hs, e⟩ := h j (by omega)
    have hne : s ≠ s0 := fun z => by rw [z, e0] at e; omega
    rcases Nat.lt_or_ge s n with q | q
    · exact ⟨s, q, by show (if s = s0 then f n else f s) = j; rw [if_neg hne]; exact e⟩
    · have es : s = n := by omega
      subst es
      exact ⟨s0, by omega, by show (if s0 = s0 then f s else f s0) = j; rw [if_pos rfl]; exact e⟩
theorem cp_fin {m : Bool} {A : Nat → Int32} {G : Int32} {L : Nat → Nat} (hA : ∀ k, cp_lo (A k)) (P : cp_Pre m A G L 8) : cp_Lay m A G L := by
  obtain ⟨p1, p2, p3, p4⟩ := P
  have down : ∀ s r, s < 8 → L s = r + 1 → r < 8 → ∃ t, t < 8 ∧ L t = r := by
    intro s r hs e hr
    refine Classical.byContradiction fun z => ?_
    have d := p3 s r hs e hr
    have hne : ∀ t, t < 8 → L t ≠ r := fun t ht q => z ⟨t, ht, q⟩
    cases r with
    | zero =>
      obtain ⟨a, ha, v⟩ := d
      obtain ⟨t, ht, h⟩ := cp_Vne v
      exact hne t (hA _ t ht) (by omega)
    | succ r =>
      have := p4 s r hs (by omega) (cp_Dmap hA (fun t ht h => by have := hne t ht; omega) d)
      omega
  have no8 : ∀ s, s < 8 → L s ≠ 8 := by
    intro s hs e
    have all : ∀ d, d ≤ 8 → ∃ t, t < 8 ∧ L t = 8 - d := by
      intro d
      induction d with
      | zero => intro _; exact ⟨s, hs, e⟩
      | succ d ih =>
        intro hd
        obtain ⟨t, ht, et⟩ := ih (by omega)
        exact down t (8 - (d + 1)) ht (by omega) (by omega)
    refine cp_pig 8 L fun j hj => ?_
    obtain ⟨t, ht, et⟩ := all (8 - j) (by omega)
    exact ⟨t, ht, by omega⟩
  refine ⟨p1, p2, p3, fun s r hs hr d => ?_⟩
  rcases Nat.lt_or_ge r 8 with q | q
  · exact p4 s r hs q d
  · have := p4 s 7 hs (by omega) (cp_Dmap hA (fun t ht h => by have a := no8 t ht; have b := p2 t ht; omega) d)
    omega
/-- the picture of L in a set and an array -/
def cp_St (L : Nat → Nat) (B : Int32) (f : Nat → Int32) : Prop := (∀ t, bt B t = true ↔ (t < 8 ∧ L t < 99)) ∧ ∀ s, s < 8 → L s < 99 → f s = nI (L s)
/-- the set of what is found so far answers cp_V -/
theorem cp_CV {m : Bool} {x B : Int32} {L : Nat → Nat} {r : Nat} (hx : cp_lo x) (hB : ∀ t, bt B t = true ↔ (t < 8 ∧ L t < 99)) (hL : ∀ s, s < 8 → L s ≤ r ∨ L s = 99) (hr : r < 99) : cp_C m x B ↔ cp_V m x L r := by
  have hb : ∀ t, bt x t = true → (bt B t = true ↔ L t ≤ r) := by
    intro t ht
    have h8 := hx t ht
    have := hL t h8
    rw [hB]
    constructor
    · intro z; omega
    · intro z; omega
  cases m
  · show (if false = true then _ else ¬ (x &&& B) = 0) ↔ _
    rw [if_neg (by decide), cp_meet]
    constructor
    · intro ⟨t, h1, h2⟩
      exact ⟨fun z => absurd z (by decide), fun _ => ⟨t, h1, (hb t h1).1 h2⟩⟩
    · intro v
      obtain ⟨t, h1, h2⟩ := v.2 rfl
      exact ⟨t, h1, (hb t h1).2 h2⟩
  · show (if true = true then (¬ x = 0 ∧ (x &&& (B ^^^ (-1))) = 0) else _) ↔ _
    rw [if_pos rfl, cp_ne0, cp_sub]
    constructor
    · intro ⟨h1, h2⟩
      exact ⟨fun _ => ⟨h1, fun t ht => (hb t ht).1 (h2 t ht)⟩, fun z => absurd z (by decide)⟩
    · intro v
      exact ⟨(v.1 rfl).1, fun t ht => (hb t ht).2 ((v.1 rfl).2 t ht)⟩
end
section
/-! X's walks: helpers -/
theorem cp_bt {b : Bool} (h : ¬ b = false) : b = true := by cases b <;> first | rfl | exact absurd rfl h
theorem cp_Ct {x B : Int32} : cp_C true x B ↔ (¬ x = 0 ∧ (x &&& (B ^^^ (-1))) = 0) := by unfold cp_C; rw [if_pos rfl]
theorem cp_Cf {x B : Int32} : cp_C false x B ↔ ¬ (x &&& B) = 0 := by unfold cp_C; rw [if_neg (by decide)]
def cp_i (m : Bool) : Int32 := cond m 1 0
theorem cp_n0 : ¬ (1 : Int32) = 0 := by decide
theorem cp_xin {post : Int32 → Prop} {u : SX} {x : Int32} {s : Nat} (hs : s < 32) (h1 : bt x s = true → post 1) (h0 : bt x s = false → post 0) : wpX_isIn post u x (nI s) := by
  obtain ⟨G, kn, wk, sf, su, lf, A, sl, wl⟩ := u
  exact br_c (fun z => h0 ((cp_is0 x s hs).1 z)) (fun z => h1 (cp_bt fun q => z ((cp_is0 x s hs).2 q)))
section
variable {G kn wk sf su lf : Int32} {A sl wl : Nat → Int32}
theorem cp_xlead {post : Int32 → Prop} {k : Nat} {B : Int32} (hk : k < 24) (h1 : cp_C true (A k) B → post 1) (h0 : ¬ cp_C true (A k) B → post 0) : wpX_leadsInto post (G, kn, wk, sf, su, lf, A, sl, wl) (nI k) B := by
  have hi : vp_in (nI k) 24 := vp_in_nI hk (by decide)
  unfold wpX_leadsInto
  dsimp only
  rw [nI_clamp (show k < 2 ^ 31 by omega)]
  rw [cp_Ct] at h1 h0
  exact ⟨hi, br_c (fun z => h0 fun q => q.1 z) (fun z => ⟨hi, br_c (fun w => h1 ⟨z, w⟩) (fun w => h0 fun q => w q.2)⟩)⟩
theorem cp_xmay {post : Int32 → Prop} {k : Nat} {B : Int32} (hk : k < 24) (h1 : cp_C false (A k) B → post 1) (h0 : ¬ cp_C false (A k) B → post 0) : wpX_mayLeadInto post (G, kn, wk, sf, su, lf, A, sl, wl) (nI k) B := by
  have hi : vp_in (nI k) 24 := vp_in_nI hk (by decide)
  unfold wpX_mayLeadInto
  dsimp only
  rw [nI_clamp (show k < 2 ^ 31 by omega)]
  rw [cp_Cf] at h1 h0
  exact ⟨hi, br_c (fun z => h0 fun q => q z) (fun z => h1 z)⟩
theorem cp_xsome5 {post : Int32 → Prop} (m : Bool) {B : Int32} {s : Nat} (hs : s < 8) (h1 : (∃ b, b < 3 ∧ cp_C m (A (3 * s + b)) B) → post 1) : ∀ d a, a + d = 3 → ((∀ b, a ≤ b → b < 3 → ¬ cp_C m (A (3 * s + b)) B) → post 0) → wX_someLeads_5 post (nI s) B (cp_i m) G kn wk sf su lf A sl wl (d + 1) (nI (3 * s + a)) := by
  intro d
  induction d with
  | zero =>
    intro a ha h0
    have hc : (3 : Int32) * nI s + 3 ≤ nI (3 * s + a) := by rw [cp_m33]; exact nI_le (by omega) (by omega)
    exact br_t hc (h0 fun b q w => by omega)
  | succ d ih =>
    intro a ha h0
    have hn : ¬ (3 : Int32) * nI s + 3 ≤ nI (3 * s + a) := by rw [cp_m33]; exact nI_ge (by omega) (by omega)
    have next : ¬ cp_C m (A (3 * s + a)) B → ∀ y, y = nI (3 * s + a) + 1 → wX_someLeads_5 post (nI s) B (cp_i m) G kn wk sf su lf A sl wl (d + 1) y := by
      intro hc y ey
      rw [ey, nI_1]
      refine ih (a + 1) (by omega) (fun hb => h0 fun b q w => ?_)
      rcases Nat.lt_or_ge a b with z | z
      · exact hb b (by omega) w
      · have e : b = a := by omega
        rw [e]; exact hc
    refine br_f hn ?_
    cases m
    · exact br_t rfl (cp_xmay (by omega) (fun hc => br_f cp_n0 (h1 ⟨a, by omega, hc⟩)) (fun hc => br_t rfl (next hc)))
    · exact br_f cp_n0 (cp_xlead (by omega) (fun hc => br_f cp_n0 (h1 ⟨a, by omega, hc⟩)) (fun hc => br_t rfl (next hc)))
theorem cp_xsome {post : Int32 → Prop} (m : Bool) {B : Int32} {s : Nat} (hs : s < 8) (h1 : (∃ b, b < 3 ∧ cp_C m (A (3 * s + b)) B) → post 1) (h0 : (¬ ∃ b, b < 3 ∧ cp_C m (A (3 * s + b)) B) → post 0) : wpX_someLeads post (G, kn, wk, sf, su, lf, A, sl, wl) (nI s) B (cp_i m) := by
  unfold wpX_someLeads
  dsimp only
  exact nm_r (e' := nI (3 * s)) (cp_m3 s) (Exists.intro 4 (cp_xsome5 m hs h1 3 0 rfl (fun z => h0 (fun ⟨b, q, w⟩ => z b (Nat.zero_le _) q w))))
end
theorem cp_DC {m : Bool} {A : Nat → Int32} {B : Int32} {L : Nat → Nat} {r s : Nat} (hA : ∀ k, cp_lo (A k)) (hB : ∀ t, bt B t = true ↔ (t < 8 ∧ L t < 99)) (hL : ∀ s, s < 8 → L s ≤ r ∨ L s = 99) (hr : r < 8) : (∃ b, b < 3 ∧ cp_C m (A (3 * s + b)) B) ↔ cp_D m A L r s :=
  ⟨fun ⟨b, q, w⟩ => ⟨b, q, (cp_CV (hA _) hB hL (by omega)).1 w⟩, fun ⟨b, q, w⟩ => ⟨b, q, (cp_CV (hA _) hB hL (by omega)).2 w⟩⟩
theorem cp_StU {L : Nat → Nat} {B : Int32} {f : Nat → Int32} {r i : Nat} (hi : i < 8) (hr : r < 8) (h : cp_St L B f) : cp_St (fun s => if s = i then r + 1 else L s) (B ||| ((1 : Int32) <<< (nI i &&& 31))) (upd f i (nI (r + 1))) := by
  constructor
  · intro t
    show _ ↔ (t < 8 ∧ (if t = i then r + 1 else L t) < 99)
    rw [cp_setb B i (by omega) t, h.1 t]
    by_cases e : t = i
    · rw [if_pos e]
      exact ⟨fun _ => by omega, fun _ => Or.inr e⟩
    · rw [if_neg e]
      exact ⟨fun z => z.elim id (fun q => absurd q e), fun z => Or.inl z⟩
  · intro s hs
    show (if s = i then r + 1 else L s) < 99 → upd f i (nI (r + 1)) s = nI (if s = i then r + 1 else L s)
    by_cases e : s = i
    · rw [if_pos e, e, pk_us]; exact fun _ => rfl
    · rw [if_neg e, pk_un e]; exact h.2 s hs
theorem cp_St0 {G : Int32} {f : Nat → Int32} (hG : cp_lo G) (hf : ∀ s, s < 8 → f s = 0) : cp_St (fun s => if bt G s = true then 0 else 99) G f := by
  constructor
  · intro t
    show _ ↔ (t < 8 ∧ (if bt G t = true then 0 else 99) < 99)
    by_cases e : bt G t = true
    · rw [if_pos e]; exact ⟨fun _ => ⟨hG t e, by decide⟩, fun _ => e⟩
    · rw [if_neg e]; exact ⟨fun z => absurd z e, fun z => absurd z.2 (by decide)⟩
  · intro s hs
    show (if bt G s = true then 0 else 99) < 99 → f s = nI (if bt G s = true then 0 else 99)
    by_cases e : bt G s = true
    · rw [if_pos e, hf s hs]; exact fun _ => rfl
    · rw [if_neg e]; exact fun z => absurd z (by decide)
/-! X's findWeak -/
section
variable {G kn wk sf su lf : Int32} {A sl wl : Nat → Int32}
theorem cp_x44weak {post : SX → Prop} {J : Int32 → Int32 → (Nat → Int32) → (Nat → Int32) → (Nat → Int32) → Prop} {L : Nat → Nat} {r : Nat} {B : Int32} (hA : ∀ k, cp_lo (A k)) (hr : r < 8) (hL : ∀ s, s < 8 → L s ≤ r ∨ L s = 99) (hB : ∀ t, bt B t = true ↔ (t < 8 ∧ L t < 99)) (hJ : ∀ L' wk wl, cp_In false A L r 8 L' → cp_St L' wk wl → J (nI (r + 2)) wk A sl wl) : ∀ d i, i + d = 8 → ∀ L' wk wl, cp_In false A L r i L' → cp_St L' wk wl → wX_findWeak_44 post J (nI (r + 1)) B G kn sf su lf (d + 1) (nI i) wk A sl wl := by
  intro d
  induction d with
  | zero =>
    intro i hi L' wk wl I S
    have e : i = 8 := by omega
    subst e
    exact br_t (nI_le (a := 8) (b := 8) (by omega) (by omega)) (fun y ey => by rw [ey, nI_1]; exact hJ L' wk wl I S)
  | succ d ih =>
    intro i hi L' wk wl I S
    have h8 : i < 8 := by omega
    have eL : L' i = L i := (I i h8).2 (Nat.le_refl _)
    have keep : ¬ (L i = 99 ∧ cp_D false A L r i) → ∀ y, y = nI i + 1 → wX_findWeak_44 post J (nI (r + 1)) B G kn sf su lf (d + 1) y wk A sl wl := by
      intro hn y ey
      rw [ey, nI_1]
      exact ih (i + 1) (by omega) L' wk wl (cp_InK I hn) S
    refine br_f (nI_ge (a := i) (b := 8) h8 (by omega)) (cp_xin (by omega) (fun hin => br_f cp_n0 (keep fun z => ?_)) (fun hout => br_t rfl ?_))
    · have := ((S.1 i).1 hin).2
      omega
    · have h9 : L i = 99 := by
        have a := hL i h8
        have b : ¬ L' i < 99 := fun z => by
          have := (S.1 i).2 ⟨h8, z⟩
          rw [hout] at this
          exact absurd this (by decide)
        omega
      refine cp_xsome false h8 (fun hd => br_f cp_n0 ?_) (fun hn => br_t rfl (keep fun z => hn ((cp_DC hA hB hL hr).2 z.2)))
      have hdd := (cp_DC hA hB hL hr).1 hd
      refine fun x ex => And.intro (vp_in_nI h8 (by omega)) (fun f ef y ey => ?_)
      rw [ex, ef, ey, nI_1 i, nI_clamp (show i < 2 ^ 31 by omega), cp_nby (show r + 1 < 16 by omega)]
      exact ih (i + 1) (by omega) _ _ _ (cp_InU I h9 hdd) (cp_StU h8 hr S)
theorem cp_x31weak {post : SX → Prop} (hA : ∀ k, cp_lo (A k)) (hp : ∀ L wk wl, cp_Lay false A G L → cp_St L wk wl → post (G, kn, wk, sf, su, lf, A, sl, wl)) : ∀ d r, r + d = 8 → ∀ L wk wl, cp_Pre false A G L r → cp_St L wk wl → wX_findWeak_31 post G kn sf su lf (d + 1) (nI (r + 1)) wk A sl wl := by
  intro d
  induction d with
  | zero =>
    intro r hr L wk wl P S
    have e : r = 8 := by omega
    subst e
    exact br_t (nI_lt (a := 8) (b := 9) (by omega) (by omega)) (hp L wk wl (cp_fin hA P) S)
  | succ d ih =>
    intro r hr L wk wl P S
    exact br_f (nI_nlt (a := 8) (b := r + 1) (by omega) (by omega)) (Exists.intro 9 (cp_x44weak hA (by omega) P.2.1 S.1 (fun L' wk wl I' S' => ih (r + 1) (by omega) L' wk wl (cp_step hA (by omega) P I') S') 8 0 rfl L wk wl (cp_In0 false A L r) S))
theorem cp_x10weak {post : SX → Prop} (hA : ∀ k, cp_lo (A k)) (hG : cp_lo G) (hp : ∀ L wk wl, cp_Lay false A G L → cp_St L wk wl → post (G, kn, wk, sf, su, lf, A, sl, wl)) : ∀ d i, i + d = 8 → ∀ wl, (∀ s, s < i → wl s = 0) → wX_findWeak_10 post G kn G sf su lf (d + 1) (nI i) A sl wl := by
  intro d
  induction d with
  | zero =>
    intro i hi wl hz
    have e : i = 8 := by omega
    subst e
    exact br_t (nI_le (a := 8) (b := 8) (by omega) (by omega)) (Exists.intro 9 (cp_x31weak hA hp 8 0 rfl _ G wl (cp_Pre0 false A G) (cp_St0 hG hz)))
  | succ d ih =>
    intro i hi wl hz
    refine br_f (nI_ge (a := i) (b := 8) (by omega) (by omega)) (And.intro (vp_in_nI (by omega) (by omega)) (fun f ef y ey => ?_))
    rw [ef, ey, nI_1 i, nI_clamp (show i < 2 ^ 31 by omega), cp_nb0]
    refine ih (i + 1) (by omega) _ fun s hs => ?_
    by_cases e : s = i
    · rw [e, pk_us]
    · rw [pk_un e]; exact hz s (by omega)
theorem cp_xweak {post : SX → Prop} (hA : ∀ k, cp_lo (A k)) (hG : cp_lo G) (hp : ∀ L wk wl, cp_Lay false A G L → cp_St L wk wl → post (G, kn, wk, sf, su, lf, A, sl, wl)) : wpX_findWeak post (G, kn, wk, sf, su, lf, A, sl, wl) :=
  Exists.intro 9 (cp_x10weak hA hG hp 8 0 rfl wl (fun s z => absurd z (Nat.not_lt_zero _)))
end
/-! X's findSure -/
section
variable {G kn wk sf su lf : Int32} {A sl wl : Nat → Int32}
theorem cp_x44sure {post : SX → Prop} {J : Int32 → Int32 → (Nat → Int32) → (Nat → Int32) → (Nat → Int32) → Prop} {L : Nat → Nat} {r : Nat} {B : Int32} (hA : ∀ k, cp_lo (A k)) (hr : r < 8) (hL : ∀ s, s < 8 → L s ≤ r ∨ L s = 99) (hB : ∀ t, bt B t = true ↔ (t < 8 ∧ L t < 99)) (hJ : ∀ L' su sl, cp_In true A L r 8 L' → cp_St L' su sl → J (nI (r + 2)) su A sl wl) : ∀ d i, i + d = 8 → ∀ L' su sl, cp_In true A L r i L' → cp_St L' su sl → wX_findSure_44 post J (nI (r + 1)) B G kn wk sf lf (d + 1) (nI i) su A sl wl := by
  intro d
  induction d with
  | zero =>
    intro i hi L' su sl I S
    have e : i = 8 := by omega
    subst e
    exact br_t (nI_le (a := 8) (b := 8) (by omega) (by omega)) (fun y ey => by rw [ey, nI_1]; exact hJ L' su sl I S)
  | succ d ih =>
    intro i hi L' su sl I S
    have h8 : i < 8 := by omega
    have eL : L' i = L i := (I i h8).2 (Nat.le_refl _)
    have keep : ¬ (L i = 99 ∧ cp_D true A L r i) → ∀ y, y = nI i + 1 → wX_findSure_44 post J (nI (r + 1)) B G kn wk sf lf (d + 1) y su A sl wl := by
      intro hn y ey
      rw [ey, nI_1]
      exact ih (i + 1) (by omega) L' su sl (cp_InK I hn) S
    refine br_f (nI_ge (a := i) (b := 8) h8 (by omega)) (cp_xin (by omega) (fun hin => br_f cp_n0 (keep fun z => ?_)) (fun hout => br_t rfl ?_))
    · have := ((S.1 i).1 hin).2
      omega
    · have h9 : L i = 99 := by
        have a := hL i h8
        have b : ¬ L' i < 99 := fun z => by
          have := (S.1 i).2 ⟨h8, z⟩
          rw [hout] at this
          exact absurd this (by decide)
        omega
      refine cp_xsome true h8 (fun hd => br_f cp_n0 ?_) (fun hn => br_t rfl (keep fun z => hn ((cp_DC hA hB hL hr).2 z.2)))
      have hdd := (cp_DC hA hB hL hr).1 hd
      refine fun x ex => And.intro (vp_in_nI h8 (by omega)) (fun f ef y ey => ?_)
      rw [ex, ef, ey, nI_1 i, nI_clamp (show i < 2 ^ 31 by omega), cp_nby (show r + 1 < 16 by omega)]
      exact ih (i + 1) (by omega) _ _ _ (cp_InU I h9 hdd) (cp_StU h8 hr S)
theorem cp_x31sure {post : SX → Prop} (hA : ∀ k, cp_lo (A k)) (hp : ∀ L su sl, cp_Lay true A G L → cp_St L su sl → post (G, kn, wk, sf, su, lf, A, sl, wl)) : ∀ d r, r + d = 8 → ∀ L su sl, cp_Pre true A G L r → cp_St L su sl → wX_findSure_31 post G kn wk sf lf (d + 1) (nI (r + 1)) su A sl wl := by
  intro d
  induction d with
  | zero =>
    intro r hr L su sl P S
    have e : r = 8 := by omega
    subst e
    exact br_t (nI_lt (a := 8) (b := 9) (by omega) (by omega)) (hp L su sl (cp_fin hA P) S)
  | succ d ih =>
    intro r hr L su sl P S
    exact br_f (nI_nlt (a := 8) (b := r + 1) (by omega) (by omega)) (Exists.intro 9 (cp_x44sure hA (by omega) P.2.1 S.1 (fun L' su sl I' S' => ih (r + 1) (by omega) L' su sl (cp_step hA (by omega) P I') S') 8 0 rfl L su sl (cp_In0 true A L r) S))
theorem cp_x10sure {post : SX → Prop} (hA : ∀ k, cp_lo (A k)) (hG : cp_lo G) (hp : ∀ L su sl, cp_Lay true A G L → cp_St L su sl → post (G, kn, wk, sf, su, lf, A, sl, wl)) : ∀ d i, i + d = 8 → ∀ sl, (∀ s, s < i → sl s = 0) → wX_findSure_10 post G kn wk sf G lf (d + 1) (nI i) A sl wl := by
  intro d
  induction d with
  | zero =>
    intro i hi sl hz
    have e : i = 8 := by omega
    subst e
    exact br_t (nI_le (a := 8) (b := 8) (by omega) (by omega)) (Exists.intro 9 (cp_x31sure hA hp 8 0 rfl _ G sl (cp_Pre0 true A G) (cp_St0 hG hz)))
  | succ d ih =>
    intro i hi sl hz
    refine br_f (nI_ge (a := i) (b := 8) (by omega) (by omega)) (And.intro (vp_in_nI (by omega) (by omega)) (fun f ef y ey => ?_))
    rw [ef, ey, nI_1 i, nI_clamp (show i < 2 ^ 31 by omega), cp_nb0]
    refine ih (i + 1) (by omega) _ fun s hs => ?_
    by_cases e : s = i
    · rw [e, pk_us]
    · rw [pk_un e]; exact hz s (by omega)
theorem cp_xsure {post : SX → Prop} (hA : ∀ k, cp_lo (A k)) (hG : cp_lo G) (hp : ∀ L su sl, cp_Lay true A G L → cp_St L su sl → post (G, kn, wk, sf, su, lf, A, sl, wl)) : wpX_findSure post (G, kn, wk, sf, su, lf, A, sl, wl) :=
  Exists.intro 9 (cp_x10sure hA hG hp 8 0 rfl sl (fun s z => absurd z (Nat.not_lt_zero _)))
end
end
section
/-! Y's walks: outcome, count, reached -/
theorem cp_yin {post : Int32 → Prop} {u : SY} {x : Int32} {s : Nat} (hs : s < 32) (h1 : bt x s = true → post 1) (h0 : bt x s = false → post 0) : wpY_in post u x (nI s) := by
  obtain ⟨G, A, far⟩ := u
  exact br_c (fun z => h1 ((cp_is1 x s hs).1 z)) (fun z => h0 (cp_bf fun q => z ((cp_is1 x s hs).2 q)))
/-- the greatest so far -/
def cp_Mo (x : Int32) (F : Nat → Nat) (i : Nat) (y : Int32) : Prop :=
  (y = -1 ∧ ∀ t, t < i → bt x t = false) ∨ ∃ mo, y = nI mo ∧ mo ≤ 99 ∧ (∃ t, t < i ∧ bt x t = true) ∧ ∀ q, mo ≤ q ↔ ∀ t, t < i → bt x t = true → F t ≤ q
/-- the smallest so far -/
def cp_Le (x : Int32) (F : Nat → Nat) (i : Nat) (y : Int32) : Prop :=
  ∃ le, y = nI le ∧ le ≤ 99 ∧ ∀ q, q < 99 → (le ≤ q ↔ ∃ t, t < i ∧ bt x t = true ∧ F t ≤ q)
theorem cp_MoK {x : Int32} {F : Nat → Nat} {i : Nat} {y : Int32} (hb : bt x i = false) (h : cp_Mo x F i y) : cp_Mo x F (i + 1) y := by
  have hne : ∀ t, bt x t = true → t ≠ i := fun t ht e => by rw [e, hb] at ht; exact absurd ht (by decide)
  rcases h with ⟨e, h⟩ | ⟨mo, e, h9, ⟨t0, h0, h1⟩, h⟩
  · refine Or.inl ⟨e, fun t ht => ?_⟩
    rcases Nat.lt_or_ge t i with z | z
    · exact h t z
    · have : t = i := by omega
      rw [this]; exact hb
  · refine Or.inr ⟨mo, e, h9, ⟨t0, by omega, h1⟩, fun q => ?_⟩
    rw [h q]
    exact ⟨fun z t ht hx => z t (by have := hne t hx; omega) hx, fun z t ht hx => z t (by omega) hx⟩
theorem cp_LeK {x : Int32} {F : Nat → Nat} {i : Nat} {y : Int32} (hb : bt x i = false) (h : cp_Le x F i y) : cp_Le x F (i + 1) y := by
  have hne : ∀ t, bt x t = true → t ≠ i := fun t ht e => by rw [e, hb] at ht; exact absurd ht (by decide)
  obtain ⟨le, e, h9, h⟩ := h
  refine ⟨le, e, h9, fun q hq => ?_⟩
  rw [h q hq]
  exact ⟨fun ⟨t, a, b, c⟩ => ⟨t, by omega, b, c⟩, fun ⟨t, a, b, c⟩ => ⟨t, by have := hne t b; omega, b, c⟩⟩
theorem cp_MoT {x : Int32} {F : Nat → Nat} {i : Nat} {y : Int32} (hb : bt x i = true) (hF : F i ≤ 99) (h : cp_Mo x F i y) : ∃ y', cp_Mo x F (i + 1) y' ∧ ((nI (F i) ≤ y ∧ y' = y) ∨ (¬ nI (F i) ≤ y ∧ y' = nI (F i))) := by
  rcases h with ⟨e, h⟩ | ⟨mo, e, h9, ⟨t0, h0, h1⟩, h⟩
  · refine ⟨nI (F i), Or.inr ⟨F i, rfl, hF, ⟨i, by omega, hb⟩, fun q => ?_⟩, Or.inr ⟨?_, rfl⟩⟩
    · constructor
      · intro z t ht hx
        rcases Nat.lt_or_ge t i with w | w
        · rw [h t w] at hx; exact absurd hx (by decide)
        · have : t = i := by omega
          rw [this]; exact z
      · intro z; exact z i (by omega) hb
    · rw [e, Int32.le_iff_toInt_le, nI_toInt (by omega), show (-1 : Int32).toInt = -1 from by decide]
      omega
  · by_cases c : F i ≤ mo
    · refine ⟨y, Or.inr ⟨mo, e, h9, ⟨t0, by omega, h1⟩, fun q => ?_⟩, Or.inl ⟨by rw [e]; exact nI_le c (by omega), rfl⟩⟩
      rw [h q]
      constructor
      · intro z t ht hx
        rcases Nat.lt_or_ge t i with w | w
        · exact z t w hx
        · have e2 : t = i := by omega
          have := (h q).2 z
          rw [e2]; omega
      · exact fun z t ht hx => z t (by omega) hx
    · refine ⟨nI (F i), Or.inr ⟨F i, rfl, hF, ⟨i, by omega, hb⟩, fun q => ?_⟩, Or.inr ⟨by rw [e]; exact nI_ge (by omega) (by omega), rfl⟩⟩
      constructor
      · intro z t ht hx
        rcases Nat.lt_or_ge t i with w | w
        · exact (h q).1 (by omega) t w hx
        · have e2 : t = i := by omega
          rw [e2]; exact z
      · intro z; exact z i (by omega) hb
theorem cp_LeT {x : Int32} {F : Nat → Nat} {i : Nat} {y : Int32} (hb : bt x i = true) (hF : F i ≤ 99) (h : cp_Le x F i y) : ∃ y', cp_Le x F (i + 1) y' ∧ ((y ≤ nI (F i) ∧ y' = y) ∨ (¬ y ≤ nI (F i) ∧ y' = nI (F i))) := by
  obtain ⟨le, e, h9, h⟩ := h
  by_cases c : le ≤ F i
  · refine ⟨y, ⟨le, e, h9, fun q hq => ?_⟩, Or.inl ⟨by rw [e]; exact nI_le c (by omega), rfl⟩⟩
    constructor
    · intro z
      obtain ⟨t, a, b, d⟩ := (h q hq).1 z
      exact ⟨t, by omega, b, d⟩
    · intro ⟨t, a, b, d⟩
      rcases Nat.lt_or_ge t i with w | w
      · exact (h q hq).2 ⟨t, w, b, d⟩
      · have e2 : t = i := by omega
        rw [e2] at d; omega
  · refine ⟨nI (F i), ⟨F i, rfl, hF, fun q hq => ?_⟩, Or.inr ⟨by rw [e]; exact nI_ge (by omega) (by omega), rfl⟩⟩
    constructor
    · intro z; exact ⟨i, by omega, hb, z⟩
    · intro ⟨t, a, b, d⟩
      rcases Nat.lt_or_ge t i with w | w
      · have := (h q hq).2 ⟨t, w, b, d⟩
        omega
      · have e2 : t = i := by omega
        rw [e2] at d; exact d
theorem cp_yout9 (m : Bool) {G : Int32} {A far : Nat → Int32} {x : Int32} {F : Nat → Nat} (hx : cp_lo x) (hF : ∀ s, s < 8 → far s = nI (F s) ∧ F s ≤ 99) : ∀ d i, i + d = 8 → ∀ x3 x4, cp_Mo x F i x3 → cp_Le x F i x4 → ∃ v, v ≤ 99 ∧ (∀ q, q < 99 → (v ≤ q ↔ cp_V m x F q)) ∧ ∀ post : Int32 → Prop, post (nI v) → wY_outcome_9 post x (cp_i m) G A far (d + 1) x3 x4 (nI i) := by
  intro d
  induction d with
  | zero =>
    intro i hi x3 x4 M E
    have e : i = 8 := by omega
    subst e
    have c8 : (8 : Int32) ≤ nI 8 := nI_le (a := 8) (b := 8) (by omega) (by omega)
    obtain ⟨le, e4, h4, hle⟩ := E
    cases m
    · refine ⟨le, h4, fun q hq => ?_, fun post hp => br_t c8 (br_t rfl (by rw [e4]; exact hp))⟩
      rw [hle q hq]
      exact ⟨fun ⟨t, a, b, c⟩ => ⟨fun z => absurd z (by decide), fun _ => ⟨t, b, c⟩⟩, fun v => (v.2 rfl).elim fun t ht => ⟨t, hx t ht.1, ht.1, ht.2⟩⟩
    · rcases M with ⟨e3, hn⟩ | ⟨mo, e3, h3, ⟨t0, a0, b0⟩, hmo⟩
      · refine ⟨le, h4, fun q hq => ?_, fun post hp => br_t c8 (br_f cp_n0 (br_t (by rw [e3]; decide) (by rw [e4]; exact hp)))⟩
        rw [hle q hq]
        constructor
        · intro ⟨t, a, b, c⟩
          rw [hn t a] at b; exact absurd b (by decide)
        · intro v
          obtain ⟨t, ht⟩ := (v.1 rfl).1
          rw [hn t (hx t ht)] at ht; exact absurd ht (by decide)
      · refine ⟨mo, h3, fun q hq => ?_, fun post hp => br_t c8 (br_f cp_n0 (br_f (by rw [e3]; exact nI_pos (by omega)) (by rw [e3]; exact hp)))⟩
        rw [hmo q]
        exact ⟨fun z => ⟨fun _ => ⟨⟨t0, b0⟩, fun t ht => z t (hx t ht) ht⟩, fun z => absurd z (by decide)⟩, fun v t _ ht => (v.1 rfl).2 t ht⟩
  | succ d ih =>
    intro i hi x3 x4 M E
    have h8 : i < 8 := by omega
    have c8 : ¬ (8 : Int32) ≤ nI i := nI_ge (a := i) (b := 8) h8 (by omega)
    have hin : vp_in (nI i) 8 := vp_in_nI h8 (by omega)
    obtain ⟨ef, h9⟩ := hF i h8
    have e : far (nI i).toNatClampNeg = nI (F i) := by rw [nI_clamp (show i < 2 ^ 31 by omega), ef]
    by_cases hb : bt x i = true
    · obtain ⟨y3, M', c3⟩ := cp_MoT hb h9 M
      obtain ⟨y4, E', c4⟩ := cp_LeT hb h9 E
      obtain ⟨v, v9, hv, hw⟩ := ih (i + 1) (by omega) y3 y4 M' E'
      refine ⟨v, v9, hv, fun post hp => ?_⟩
      have hh := hw post hp
      have j45 : wY_outcome_45 post (wY_outcome_9 post x (cp_i m) G A far (d + 1)) x (cp_i m) y3 x4 (nI i) G A far := by
        unfold wY_outcome_45
        rw [e]
        rcases c4 with ⟨c, e4⟩ | ⟨c, e4⟩
        · exact ⟨hin, br_t c (fun y ey => by rw [ey, nI_1 i, ← e4]; exact hh)⟩
        · exact ⟨hin, br_f c ⟨hin, fun z ez y ey => by rw [ey, nI_1 i, ez, ← e4]; exact hh⟩⟩
      refine br_f c8 (cp_yin (by omega) (fun _ => br_f cp_n0 (And.intro hin ?_)) (fun z => absurd hb (by rw [z]; decide)))
      rw [e]
      rcases c3 with ⟨c, e3⟩ | ⟨c, e3⟩
      · exact br_t c (by rw [← e3]; exact j45)
      · exact br_f c ⟨hin, fun z ez => by rw [ez, ← e3]; exact j45⟩
    · have hb' := cp_bf hb
      obtain ⟨v, v9, hv, hw⟩ := ih (i + 1) (by omega) x3 x4 (cp_MoK hb' M) (cp_LeK hb' E)
      exact ⟨v, v9, hv, fun post hp => br_f c8 (cp_yin (by omega) (fun z => absurd z hb) (fun _ => br_t rfl (fun y ey => by rw [ey, nI_1 i]; exact hw post hp)))⟩
theorem cp_yout (m : Bool) {G : Int32} {A far : Nat → Int32} {x : Int32} {F : Nat → Nat} (hx : cp_lo x) (hF : ∀ s, s < 8 → far s = nI (F s) ∧ F s ≤ 99) : ∃ v, v ≤ 99 ∧ (∀ q, q < 99 → (v ≤ q ↔ cp_V m x F q)) ∧ ∀ post : Int32 → Prop, post (nI v) → wpY_outcome post (G, A, far) x (cp_i m) := by
  obtain ⟨v, v9, hv, hw⟩ := cp_yout9 m (G := G) (A := A) hx hF 8 0 rfl (-1) 99 (Or.inl ⟨rfl, fun t z => absurd z (Nat.not_lt_zero _)⟩) ⟨99, rfl, Nat.le_refl _, fun q hq => ⟨fun z => by omega, fun ⟨t, z, _⟩ => absurd z (Nat.not_lt_zero _)⟩⟩
  exact ⟨v, v9, hv, fun post hp => Exists.intro 9 (hw post hp)⟩
/-- far is F, between L and 99, and right up to r -/
def cp_F (L F : Nat → Nat) (far : Nat → Int32) (r : Nat) : Prop := (∀ s, s < 8 → far s = nI (F s) ∧ F s ≤ 99) ∧ (∀ s, s < 8 → L s ≤ F s) ∧ ∀ s, s < 8 → L s ≤ r → F s = L s
def cp_Md (m : Bool) (A : Nat → Int32) (L F : Nat → Nat) (r k : Nat) : Prop := ∀ j, j < k → cp_V m (A j) L r → F (j / 3) ≤ r + 1
theorem cp_vr {m : Bool} {A : Nat → Int32} {L F : Nat → Nat} {far : Nat → Int32} {r k v : Nat} (hA : ∀ k, cp_lo (A k)) (hr : r < 8) (H : cp_F L F far r) (hv : ∀ q, q < 99 → (v ≤ q ↔ cp_V m (A k) F q)) (h : cp_V m (A k) L r) : v ≤ r :=
  (hv r (by omega)).2 (cp_Vmap (hA k) (fun t ht hl => by have := H.2.2 t ht hl; omega) h)
theorem cp_lv {m : Bool} {A : Nat → Int32} {G : Int32} {L F : Nat → Nat} {far : Nat → Int32} {r k v : Nat} (hA : ∀ k, cp_lo (A k)) (hL : cp_Lay m A G L) (hk : k < 24) (H : cp_F L F far r) (hv : ∀ q, q < 99 → (v ≤ q ↔ cp_V m (A k) F q)) (h : v < 99) : L (k / 3) ≤ v + 1 := by
  have w := cp_Vmap (L' := L) (r' := v) (hA k) (fun t ht hl => by have := H.2.1 t ht; omega) ((hv v h).1 (Nat.le_refl _))
  refine hL.2.2.2 (k / 3) v (by omega) h ⟨k % 3, by omega, ?_⟩
  rw [show 3 * (k / 3) + k % 3 = k by omega]
  exact w
theorem cp_Fup {m : Bool} {A : Nat → Int32} {G : Int32} {L F : Nat → Nat} {far : Nat → Int32} {r k v : Nat} (hA : ∀ k, cp_lo (A k)) (hL : cp_Lay m A G L) (hk : k < 24) (H : cp_F L F far r) (hv : ∀ q, q < 99 → (v ≤ q ↔ cp_V m (A k) F q)) (h : v + 1 < F (k / 3)) : cp_F L (fun s => if s = k / 3 then v + 1 else F s) (upd far (k / 3) (nI (v + 1))) r := by
  have h9 := (H.1 (k / 3) (by omega)).2
  have hl := cp_lv hA hL hk H hv (by omega)
  refine ⟨fun s hs => ?_, fun s hs => ?_, fun s hs hr => ?_⟩
  · show upd far (k / 3) (nI (v + 1)) s = nI (if s = k / 3 then v + 1 else F s) ∧ (if s = k / 3 then v + 1 else F s) ≤ 99
    by_cases e : s = k / 3
    · rw [if_pos e, e, pk_us]; exact ⟨rfl, by omega⟩
    · rw [if_neg e, pk_un e]; exact H.1 s hs
  · show L s ≤ (if s = k / 3 then v + 1 else F s)
    by_cases e : s = k / 3
    · rw [if_pos e, e]; exact hl
    · rw [if_neg e]; exact H.2.1 s hs
  · show (if s = k / 3 then v + 1 else F s) = L s
    by_cases e : s = k / 3
    · have := H.2.2 s hs hr
      rw [e] at this
      omega
    · rw [if_neg e]; exact H.2.2 s hs hr
theorem cp_Rend {m : Bool} {A : Nat → Int32} {G : Int32} {L F : Nat → Nat} {far : Nat → Int32} {r : Nat} (hL : cp_Lay m A G L) (hr : r < 8) (H : cp_F L F far r) (D : cp_Md m A L F r 24) : cp_F L F far (r + 1) := by
  refine ⟨H.1, H.2.1, fun s hs hl => ?_⟩
  rcases Nat.lt_or_ge r (L s) with z | z
  · have e : L s = r + 1 := by omega
    obtain ⟨a, ha, v⟩ := hL.2.2.1 s r hs e hr
    have := D (3 * s + a) (by omega) v
    rw [show (3 * s + a) / 3 = s by omega] at this
    have := H.2.1 s hs
    omega
  · exact H.2.2 s hs z
theorem cp_y48 (m : Bool) {post : SY → Prop} {J : Int32 → (Nat → Int32) → (Nat → Int32) → Prop} {G : Int32} {A : Nat → Int32} {L : Nat → Nat} {r : Nat} (hA : ∀ k, cp_lo (A k)) (hL : cp_Lay m A G L) (hr : r < 8) (hJ : ∀ F far, cp_F L F far (r + 1) → J (nI (r + 1)) A far) : ∀ d k, k + d = 24 → ∀ F far, cp_F L F far r → cp_Md m A L F r k → wY_count_48 post J (cp_i m) (nI r) G (d + 1) (nI k) A far := by
  intro d
  induction d with
  | zero =>
    intro k hk F far H D
    have e : k = 24 := by omega
    subst e
    exact br_t (nI_le (a := 24) (b := 24) (by omega) (by omega)) (fun y ey => by rw [ey, nI_1]; exact hJ F far (cp_Rend hL hr H D))
  | succ d ih =>
    intro k hk F far H D
    have h24 : k < 24 := by omega
    have hin : vp_in (nI k) 24 := vp_in_nI h24 (by omega)
    have e3 : (nI k / 3).toNatClampNeg = k / 3 := by rw [cp_d3 h24, nI_clamp (by omega)]
    have hi3 : vp_in (nI k / 3) 8 := by rw [cp_d3 h24]; exact vp_in_nI (by omega) (by omega)
    obtain ⟨v, v9, hv, hw⟩ := cp_yout m (G := G) (A := A) (hA k) H.1
    obtain ⟨ef, hf9⟩ := H.1 (k / 3) (by omega)
    refine br_f (nI_ge (a := k) (b := 24) h24 (by omega)) (And.intro hin ?_)
    rw [nI_clamp (show k < 2 ^ 31 by omega)]
    refine hw _ (And.intro (by decide) (And.intro hi3 ?_))
    rw [e3, ef, nI_1 v]
    by_cases c : F (k / 3) ≤ v + 1
    · refine br_t (nI_le c (by omega)) (fun y ey => ?_)
      rw [ey, nI_1 k]
      refine ih (k + 1) (by omega) F far H (fun j hj hV => ?_)
      rcases Nat.lt_or_ge j k with z | z
      · exact D j z hV
      · have e : j = k := by omega
        subst e
        have := cp_vr hA hr H hv hV
        omega
    · refine br_f (nI_ge (by omega) (by omega)) (And.intro (by decide) (And.intro hi3 (fun f ef' y ey => ?_)))
      rw [ef', ey, nI_1 k]
      refine ih (k + 1) (by omega) _ _ (cp_Fup hA hL h24 H hv (by omega)) (fun j hj hV => ?_)
      show (if j / 3 = k / 3 then v + 1 else F (j / 3)) ≤ r + 1
      rcases Nat.lt_or_ge j k with z | z
      · have := D j z hV
        by_cases e : j / 3 = k / 3
        · rw [e] at this; rw [if_pos e]; omega
        · rw [if_neg e]; exact this
      · have e : j = k := by omega
        subst e
        have := cp_vr hA hr H hv hV
        rw [if_pos rfl]; omega
theorem cp_y40 (m : Bool) {post : SY → Prop} {G : Int32} {A : Nat → Int32} {L : Nat → Nat} (hA : ∀ k, cp_lo (A k)) (hL : cp_Lay m A G L) (hp : ∀ far, (∀ s, s < 8 → far s = nI (L s)) → post (G, A, far)) : ∀ d r, r + d = 8 → ∀ F far, cp_F L F far r → wY_count_40 post (cp_i m) G (d + 1) (nI r) A far := by
  intro d
  induction d with
  | zero =>
    intro r hr F far H
    have e : r = 8 := by omega
    subst e
    refine br_t (nI_le (a := 8) (b := 8) (by omega) (by omega)) (hp far fun s hs => ?_)
    obtain ⟨a, b⟩ := H.1 s hs
    have c := H.2.1 s hs
    have d := hL.2.1 s hs
    have e := H.2.2 s hs
    rw [a]
    congr 1
    omega
  | succ d ih =>
    intro r hr F far H
    exact br_f (nI_ge (a := r) (b := 8) (by omega) (by omega)) (Exists.intro 25 (cp_y48 m hA hL (by omega) (fun F' far' H' => ih (r + 1) (by omega) F' far' H') 24 0 rfl F far H (fun j z => absurd z (Nat.not_lt_zero _))))
theorem cp_F0 {m : Bool} {A : Nat → Int32} {G : Int32} {L : Nat → Nat} {far : Nat → Int32} (hL : cp_Lay m A G L) (h : ∀ s, s < 8 → far s = nI (if bt G s = true then 0 else 99)) : cp_F L (fun s => if bt G s = true then 0 else 99) far 0 := by
  refine ⟨fun s hs => ⟨h s hs, ?_⟩, fun s hs => ?_, fun s hs hl => ?_⟩
  · show (if bt G s = true then 0 else 99) ≤ 99
    cases bt G s <;> simp
  · show L s ≤ (if bt G s = true then 0 else 99)
    have a := hL.2.1 s hs
    by_cases e : bt G s = true
    · have := (hL.1 s hs).2 e
      rw [if_pos e]; omega
    · rw [if_neg e]; omega
  · show (if bt G s = true then 0 else 99) = L s
    have e := (hL.1 s hs).1 (by omega)
    rw [if_pos e]; omega
theorem cp_y2 (m : Bool) {post : SY → Prop} {G : Int32} {A : Nat → Int32} {L : Nat → Nat} (hA : ∀ k, cp_lo (A k)) (hL : cp_Lay m A G L) (hp : ∀ far, (∀ s, s < 8 → far s = nI (L s)) → post (G, A, far)) : ∀ d i, i + d = 8 → ∀ far : Nat → Int32, (∀ s, s < i → far s = nI (if bt G s = true then 0 else 99)) → wY_count_2 post (cp_i m) G (d + 1) (nI i) A far := by
  intro d
  induction d with
  | zero =>
    intro i hi far h
    have e : i = 8 := by omega
    subst e
    exact br_t (nI_le (a := 8) (b := 8) (by omega) (by omega)) (Exists.intro 9 (cp_y40 m hA hL hp 8 0 rfl _ far (cp_F0 hL h)))
  | succ d ih =>
    intro i hi far h
    have hin : vp_in (nI i) 8 := vp_in_nI (by omega) (by omega)
    have key : ∀ x : Int32, x = nI (if bt G i = true then 0 else 99) → ∀ f, f = upd far (nI i).toNatClampNeg x → ∀ y, y = nI i + 1 → wY_count_2 post (cp_i m) G (d + 1) y A f := by
      intro x ex f ef y ey
      rw [ef, ey, nI_1 i, nI_clamp (show i < 2 ^ 31 by omega)]
      refine ih (i + 1) (by omega) _ fun s hs => ?_
      by_cases e : s = i
      · rw [e, pk_us]; exact ex
      · rw [pk_un e]; exact h s (by omega)
    exact br_f (nI_ge (a := i) (b := 8) (by omega) (by omega)) (cp_yin (by omega) (fun z => br_f cp_n0 (And.intro hin (key 0 (by rw [if_pos z]; rfl)))) (fun z => br_t rfl (And.intro hin (key 99 (by rw [if_neg (by rw [z]; decide)]; rfl)))))
theorem cp_ycount (m : Bool) {post : SY → Prop} {G : Int32} {A far : Nat → Int32} {L : Nat → Nat} (hA : ∀ k, cp_lo (A k)) (hL : cp_Lay m A G L) (hp : ∀ far, (∀ s, s < 8 → far s = nI (L s)) → post (G, A, far)) : wpY_count post (G, A, far) (cp_i m) :=
  Exists.intro 9 (cp_y2 m hA hL hp 8 0 rfl far (fun s z => absurd z (Nat.not_lt_zero _)))
theorem cp_yreach4 {post : Int32 → Prop} {G : Int32} {A far : Nat → Int32} {L : Nat → Nat} {B : Int32} (h9 : ∀ s, s < 8 → L s ≤ 8 ∨ L s = 99) (hf : ∀ s, s < 8 → far s = nI (L s)) (hB : ∀ t, bt B t = true ↔ (t < 8 ∧ L t < 99)) (hp : post B) : ∀ d i, i + d = 8 → ∀ x, (∀ t, bt x t = true ↔ (t < i ∧ L t < 99)) → wY_reached_4 post G A far (d + 1) x (nI i) := by
  intro d
  induction d with
  | zero =>
    intro i hi x hx
    have e : i = 8 := by omega
    subst e
    have e : x = B := cp_ext fun t => by rw [hx t, hB t]
    exact br_t (nI_le (a := 8) (b := 8) (by omega) (by omega)) (by rw [e]; exact hp)
  | succ d ih =>
    intro i hi x hx
    have hin : vp_in (nI i) 8 := vp_in_nI (by omega) (by omega)
    have b9 := h9 i (by omega)
    refine br_f (nI_ge (a := i) (b := 8) (by omega) (by omega)) (And.intro hin ?_)
    rw [nI_clamp (show i < 2 ^ 31 by omega), hf i (by omega)]
    by_cases c : L i < 99
    · refine br_f (nI_ge (a := L i) (b := 99) c (by omega)) (fun z ez y ey => ?_)
      rw [ez, ey, nI_1 i]
      refine ih (i + 1) (by omega) _ fun t => ?_
      rw [cp_setb x i (by omega) t, hx t]
      constructor
      · rintro (q | q)
        · omega
        · subst q; omega
      · intro q
        by_cases e : t = i
        · exact Or.inr e
        · exact Or.inl (by omega)
    · refine br_t (nI_le (a := 99) (b := L i) (by omega) (by omega)) (fun y ey => ?_)
      rw [ey, nI_1 i]
      refine ih (i + 1) (by omega) _ fun t => ?_
      rw [hx t]
      constructor
      · intro q; omega
      · intro q
        by_cases e : t = i
        · subst e; omega
        · omega
theorem cp_yreach {post : Int32 → Prop} {G : Int32} {A far : Nat → Int32} {L : Nat → Nat} {B : Int32} (h9 : ∀ s, s < 8 → L s ≤ 8 ∨ L s = 99) (hf : ∀ s, s < 8 → far s = nI (L s)) (hB : ∀ t, bt B t = true ↔ (t < 8 ∧ L t < 99)) (hp : post B) : wpY_reached post (G, A, far) :=
  Exists.intro 9 (cp_yreach4 h9 hf hB hp 8 0 rfl 0 (fun t => by rw [b_0]; exact ⟨fun z => absurd z (by decide), fun z => absurd z.1 (Nat.not_lt_zero _)⟩))
end
section
/-! safe: pure rounds, X's walks, Y's walks -/
def cp_st (c : Nat → Bool) (A : Nat → Int32) (k : Nat) (x : Int32) : Int32 := if c k = true ∧ ¬ (A k &&& x) = 0 then x ||| ((1 : Int32) <<< (nI (k / 3) &&& 31)) else x
def cp_rd (c : Nat → Bool) (A : Nat → Int32) (x : Int32) : Nat → Int32
  | 0 => x
  | k + 1 => cp_st c A k (cp_rd c A x k)
def cp_rds (c : Nat → Bool) (A : Nat → Int32) (x : Int32) : Nat → Int32
  | 0 => x
  | r + 1 => cp_rd c A (cp_rds c A x r) 24
theorem cp_rd1 (c : Nat → Bool) (A : Nat → Int32) (x : Int32) (k : Nat) : cp_rd c A x (k + 1) = cp_st c A k (cp_rd c A x k) := rfl
theorem cp_rds1 (c : Nat → Bool) (A : Nat → Int32) (x : Int32) (r : Nat) : cp_rds c A x (r + 1) = cp_rd c A (cp_rds c A x r) 24 := rfl
theorem cp_stb {c : Nat → Bool} {A : Nat → Int32} {k : Nat} {x : Int32} (hk : k < 24) (t : Nat) : bt (cp_st c A k x) t = true ↔ (bt x t = true ∨ (t = k / 3 ∧ c k = true ∧ ¬ (A k &&& x) = 0)) := by
  unfold cp_st
  by_cases h : c k = true ∧ ¬ (A k &&& x) = 0
  · rw [if_pos h, cp_setb x (k / 3) (by omega) t]
    exact ⟨fun z => z.elim Or.inl (fun q => Or.inr ⟨q, h⟩), fun z => z.elim Or.inl (fun q => Or.inr q.1)⟩
  · rw [if_neg h]
    exact ⟨Or.inl, fun z => z.elim id (fun q => absurd q.2 h)⟩
theorem cp_rdge {c : Nat → Bool} {A : Nat → Int32} {x : Int32} {t : Nat} (h : bt x t = true) : ∀ n, n ≤ 24 → bt (cp_rd c A x n) t = true := by
  intro n
  induction n with
  | zero => exact fun _ => h
  | succ n ih => intro hn; rw [cp_rd1, cp_stb (by omega)]; exact Or.inl (ih (by omega))
theorem cp_rdsge {c : Nat → Bool} {A : Nat → Int32} {x : Int32} {t : Nat} (h : bt x t = true) : ∀ r, bt (cp_rds c A x r) t = true := by
  intro r
  induction r with
  | zero => exact h
  | succ r ih => rw [cp_rds1]; exact cp_rdge ih 24 (Nat.le_refl _)
theorem cp_rdlo {c : Nat → Bool} {A : Nat → Int32} {x : Int32} (h : cp_lo x) : ∀ n, n ≤ 24 → cp_lo (cp_rd c A x n) := by
  intro n
  induction n with
  | zero => exact fun _ => h
  | succ n ih =>
    intro hn t ht
    rw [cp_rd1, cp_stb (by omega)] at ht
    rcases ht with z | z
    · exact ih (by omega) t z
    · have := z.1; omega
theorem cp_rdslo {c : Nat → Bool} {A : Nat → Int32} {x : Int32} (h : cp_lo x) : ∀ r, cp_lo (cp_rds c A x r) := by
  intro r
  induction r with
  | zero => exact h
  | succ r ih => rw [cp_rds1]; exact cp_rdlo ih 24 (Nat.le_refl _)
theorem cp_sim1 {c d : Nat → Bool} {A : Nat → Int32} {P : Nat → Prop} (h : ∀ k, k < 24 → c k = true → ¬ A k = 0 → P (k / 3) → d k = true ∧ ∀ t, bt (A k) t = true → P t) {x y : Int32} (hxy : ∀ t, bt x t = true → P t → bt y t = true) : ∀ n, n ≤ 24 → ∀ t, bt (cp_rd c A x n) t = true → P t → bt (cp_rd d A y n) t = true := by
  intro n
  induction n with
  | zero => exact fun _ => hxy
  | succ n ih =>
    intro hn t ht hP
    rw [cp_rd1, cp_stb (by omega)] at ht
    rw [cp_rd1, cp_stb (by omega)]
    rcases ht with z | ⟨e, hc, hm⟩
    · exact Or.inl (ih (by omega) t z hP)
    · obtain ⟨q, q1, q2⟩ := (cp_meet _ _).1 hm
      obtain ⟨hd, hPP⟩ := h n (by omega) hc ((cp_ne0 _).2 ⟨q, q1⟩) (e ▸ hP)
      exact Or.inr ⟨e, hd, (cp_meet _ _).2 ⟨q, q1, ih (by omega) q q2 (hPP q q1)⟩⟩
theorem cp_sim {c d : Nat → Bool} {A : Nat → Int32} {P : Nat → Prop} (h : ∀ k, k < 24 → c k = true → ¬ A k = 0 → P (k / 3) → d k = true ∧ ∀ t, bt (A k) t = true → P t) (x : Int32) : ∀ r t, bt (cp_rds c A x r) t = true → P t → bt (cp_rds d A x r) t = true := by
  intro r
  induction r with
  | zero => exact fun t ht _ => ht
  | succ r ih => rw [cp_rds1, cp_rds1]; exact cp_sim1 h ih 24 (Nat.le_refl _)
/-- Y's condition on an action, its near set, and: K keeps -/
def cp_cY (A : Nat → Int32) (K : Int32) (k : Nat) : Bool := bt K (k / 3) && decide ((A k &&& (K ^^^ (-1))) = 0)
def cp_near (A : Nat → Int32) (G K : Int32) : Int32 := cp_rds (cp_cY A K) A G 8
def cp_KP (A : Nat → Int32) (G K : Int32) : Prop := (G &&& (K ^^^ (-1))) = 0 ∧ (K &&& (cp_near A G K ^^^ (-1))) = 0
def cp_Safe (A : Nat → Int32) (G S : Int32) : Prop := cp_lo S ∧ cp_KP A G S ∧ ∀ K, cp_KP A G K → ∀ t, bt K t = true → bt S t = true
def cp_SI (A : Nat → Int32) (G S : Int32) : Prop := cp_lo S ∧ (∀ t, bt G t = true → bt S t = true) ∧ ∀ K, cp_KP A G K → ∀ t, bt K t = true → bt S t = true
theorem cp_cYi {A : Nat → Int32} {K : Int32} {k : Nat} : cp_cY A K k = true ↔ (bt K (k / 3) = true ∧ (A k &&& (K ^^^ (-1))) = 0) := by
  unfold cp_cY
  rw [Bool.and_eq_true, decide_eq_true_eq]
theorem cp_SI0 {A : Nat → Int32} {G : Int32} (hG : cp_lo G) : cp_SI A G 255 := by
  refine ⟨fun t ht => ?_, fun t ht => ?_, fun K hK t ht => ?_⟩
  · rw [b_255, decide_eq_true_eq] at ht; exact ht
  · rw [b_255, decide_eq_true_eq]; exact hG t ht
  · rw [b_255, decide_eq_true_eq]
    exact cp_rdslo hG 8 t ((cp_sub _ _).1 hK.2 t ht)
section
variable {A : Nat → Int32} {G S lf : Int32}
theorem cp_Sb (t : Nat) : bt (cp_rds (fun k => bt lf k) A G 8 &&& (S ||| G)) t = true ↔ (bt (cp_rds (fun k => bt lf k) A G 8) t = true ∧ (bt S t = true ∨ bt G t = true)) := by
  rw [b_and, b_or, Bool.and_eq_true, Bool.or_eq_true]
theorem cp_Ssub (H : cp_SI A G S) (t : Nat) (h : bt (cp_rds (fun k => bt lf k) A G 8 &&& (S ||| G)) t = true) : bt S t = true := by
  rw [cp_Sb] at h
  exact h.2.elim id (H.2.1 t)
theorem cp_SIstep (H : cp_SI A G S) (hlf : ∀ k, k < 24 → (bt lf k = true ↔ cp_C true (A k) S)) : cp_SI A G (cp_rds (fun k => bt lf k) A G 8 &&& (S ||| G)) := by
  refine ⟨fun t ht => H.1 t (cp_Ssub H t ht), fun t ht => (cp_Sb t).2 ⟨cp_rdsge ht 8, Or.inr ht⟩, fun K hK t ht => ?_⟩
  have hKS := H.2.2 K hK
  refine (cp_Sb t).2 ⟨?_, Or.inl (hKS t ht)⟩
  refine cp_sim (c := cp_cY A K) (d := fun k => bt lf k) (P := fun _ => True) (fun k hk hc hne _ => ⟨?_, fun _ _ => trivial⟩) G 8 t ((cp_sub _ _).1 hK.2 t ht) trivial
  show bt lf k = true
  rw [hlf k hk, cp_Ct, cp_sub]
  rw [cp_cYi, cp_sub] at hc
  exact ⟨hne, fun q hq => hKS q (hc.2 q hq)⟩
theorem cp_SIfin (H : cp_SI A G S) (hlf : ∀ k, k < 24 → (bt lf k = true ↔ cp_C true (A k) S)) (e : (cp_rds (fun k => bt lf k) A G 8 &&& (S ||| G)) = S) : cp_Safe A G S := by
  refine ⟨H.1, ⟨(cp_sub _ _).2 H.2.1, (cp_sub _ _).2 fun t ht => ?_⟩, H.2.2⟩
  have ha : bt (cp_rds (fun k => bt lf k) A G 8) t = true := by
    have q := ht
    rw [← e, cp_Sb] at q
    exact q.1
  refine cp_sim (c := fun k => bt lf k) (d := cp_cY A S) (P := fun t => bt S t = true) (fun k hk hc _ hP => ?_) G 8 t ha ht
  have hc' : bt lf k = true := hc
  rw [hlf k hk, cp_Ct] at hc'
  exact ⟨cp_cYi.2 ⟨hP, hc'.2⟩, (cp_sub _ _).1 hc'.2⟩
theorem cp_Slt {x y : Int32} (h : ∀ t, bt x t = true → bt y t = true) (hn : ¬ x = y) : x.toBitVec.toNat < y.toBitVec.toNat := by
  have e : x = x &&& y := by
    apply b_ext
    intro i _
    rw [b_and]
    cases hx : bt x i
    · rfl
    · rw [h i hx]; rfl
  have h1 : x.toBitVec.toNat ≤ y.toBitVec.toNat := by
    rw [e, Int32.toBitVec_and, BitVec.toNat_and]
    exact Nat.and_le_right
  have h2 : x.toBitVec.toNat ≠ y.toBitVec.toNat := fun q => hn (Int32.toBitVec_inj.mp (BitVec.eq_of_toNat_eq q))
  omega
end
/-! X -/
section
variable {G kn wk sf su : Int32} {A sl wl : Nat → Int32}
theorem cp_xkeep7 {post : SX → Prop} (hp : ∀ lf, (∀ k, k < 24 → (bt lf k = true ↔ cp_C true (A k) sf)) → post (G, kn, wk, sf, su, lf, A, sl, wl)) : ∀ d k, k + d = 24 → ∀ lf, (∀ j, bt lf j = true ↔ (j < k ∧ cp_C true (A j) sf)) → wX_keepActions_7 post G kn wk sf su A sl wl (d + 1) (nI k) lf := by
  intro d
  induction d with
  | zero =>
    intro k hk lf h
    have e : k = 24 := by omega
    subst e
    refine br_t (nI_le (a := 24) (b := 24) (by omega) (by omega)) (hp lf fun j hj => ?_)
    rw [h j]
    exact ⟨fun z => z.2, fun z => ⟨hj, z⟩⟩
  | succ d ih =>
    intro k hk lf h
    refine br_f (nI_ge (a := k) (b := 24) (by omega) (by omega)) (cp_xlead (by omega) (fun hc => br_f cp_n0 (fun z ez y ey => ?_)) (fun hc => br_t rfl (fun y ey => ?_)))
    · rw [ez, ey, nI_1 k]
      refine ih (k + 1) (by omega) _ fun j => ?_
      rw [cp_setb lf k (by omega) j, h j]
      constructor
      · rintro (q | q)
        · exact ⟨by omega, q.2⟩
        · rw [q]; exact ⟨by omega, hc⟩
      · intro q
        by_cases e : j = k
        · exact Or.inr e
        · exact Or.inl ⟨by omega, q.2⟩
    · rw [ey, nI_1 k]
      refine ih (k + 1) (by omega) _ fun j => ?_
      rw [h j]
      constructor
      · exact fun q => ⟨by omega, q.2⟩
      · intro q
        by_cases e : j = k
        · rw [e] at q; exact absurd q.2 hc
        · exact ⟨by omega, q.2⟩
theorem cp_xkeep {lf : Int32} {post : SX → Prop} (hp : ∀ lf, (∀ k, k < 24 → (bt lf k = true ↔ cp_C true (A k) sf)) → post (G, kn, wk, sf, su, lf, A, sl, wl)) : wpX_keepActions post (G, kn, wk, sf, su, lf, A, sl, wl) :=
  Exists.intro 25 (cp_xkeep7 hp 24 0 rfl 0 (fun j => by rw [b_0]; exact ⟨fun z => absurd z (by decide), fun z => absurd z.1 (Nat.not_lt_zero _)⟩))
theorem cp_xable15 {lf : Int32} {post : Int32 → Prop} {J : Int32 → Int32 → Prop} {x : Int32} {r : Nat} (hJ : J (cp_rd (fun k => bt lf k) A x 24) (nI (r + 1))) : ∀ d k, k + d = 24 → wX_ableStates_15 post J (nI r) G kn wk sf su lf A sl wl (d + 1) (cp_rd (fun k => bt lf k) A x k) (nI k) := by
  intro d
  induction d with
  | zero =>
    intro k hk
    have e : k = 24 := by omega
    subst e
    exact br_t (nI_le (a := 24) (b := 24) (by omega) (by omega)) (fun y ey => by rw [ey, nI_1]; exact hJ)
  | succ d ih =>
    intro k hk
    have ih1 := ih (k + 1) (by omega)
    rw [cp_rd1] at ih1
    refine br_f (nI_ge (a := k) (b := 24) (by omega) (by omega)) ?_
    by_cases hb : bt lf k = true
    · refine br_f (fun z => by rw [cp_is0 lf k (by omega), hb] at z; exact absurd z (by decide)) (cp_xmay (by omega) (fun hc => br_f cp_n0 (And.intro (by decide) (fun z ez y ey => ?_))) (fun hc => br_t rfl (fun y ey => ?_)))
      · rw [ez, ey, nI_1 k, cp_d3 (by omega)]
        rw [cp_Cf] at hc
        unfold cp_st at ih1
        rw [if_pos ⟨hb, hc⟩] at ih1
        exact ih1
      · rw [ey, nI_1 k]
        rw [cp_Cf] at hc
        unfold cp_st at ih1
        rw [if_neg (fun q => hc q.2)] at ih1
        exact ih1
    · refine br_t ((cp_is0 lf k (by omega)).2 (cp_bf hb)) (fun y ey => ?_)
      rw [ey, nI_1 k]
      unfold cp_st at ih1
      rw [if_neg (fun q => hb q.1)] at ih1
      exact ih1
theorem cp_xable7 {lf : Int32} {post : Int32 → Prop} (hp : post (cp_rds (fun k => bt lf k) A G 8 &&& (sf ||| G))) : ∀ d r, r + d = 8 → wX_ableStates_7 post G kn wk sf su lf A sl wl (d + 1) (cp_rds (fun k => bt lf k) A G r) (nI r) := by
  intro d
  induction d with
  | zero =>
    intro r hr
    have e : r = 8 := by omega
    subst e
    exact br_t (nI_le (a := 8) (b := 8) (by omega) (by omega)) hp
  | succ d ih =>
    intro r hr
    exact br_f (nI_ge (a := r) (b := 8) (by omega) (by omega)) (Exists.intro 25 (cp_xable15 (x := cp_rds (fun k => bt lf k) A G r) (ih (r + 1) (by omega)) 24 0 rfl))
theorem cp_xable {lf : Int32} {post : Int32 → Prop} (hp : post (cp_rds (fun k => bt lf k) A G 8 &&& (sf ||| G))) : wpX_ableStates post (G, kn, wk, sf, su, lf, A, sl, wl) :=
  Exists.intro 9 (cp_xable7 hp 8 0 rfl)
end
section
variable {G kn wk su : Int32} {A sl wl : Nat → Int32}
theorem cp_xsafe9 {post : SX → Prop} (hp : ∀ sf lf, cp_Safe A G sf → post (G, kn, wk, sf, su, lf, A, sl, wl)) : ∀ N sf lf, sf.toBitVec.toNat < N → cp_SI A G sf → wX_findSafe_9 post (N + 1) 1 G kn wk sf su lf A sl wl := by
  intro N
  induction N with
  | zero => intro sf lf h; exact absurd h (Nat.not_lt_zero _)
  | succ N ih =>
    intro sf lf hN H
    refine br_f cp_n0 (cp_xkeep fun lf' hlf => ?_)
    dsimp only
    refine cp_xable ?_
    by_cases e : (cp_rds (fun k => bt lf' k) A G 8 &&& (sf ||| G)) = sf
    · refine br_t e ?_
      rw [e]
      exact br_t rfl (hp sf lf' (cp_SIfin H hlf e))
    · have := cp_Slt (cp_Ssub H) e
      exact br_f e (ih _ lf' (by omega) (cp_SIstep H hlf))
theorem cp_xsafe {sf lf : Int32} {post : SX → Prop} (hG : cp_lo G) (hp : ∀ sf lf, cp_Safe A G sf → post (G, kn, wk, sf, su, lf, A, sl, wl)) : wpX_findSafe post (G, kn, wk, sf, su, lf, A, sl, wl) :=
  Exists.intro 257 (cp_xsafe9 hp 256 255 lf (by decide) (cp_SI0 hG))
end
/-! Y -/
section
variable {G : Int32} {A far : Nat → Int32}
theorem cp_ykeep16 {post : Int32 → Prop} {J : Int32 → Int32 → Prop} {K x : Int32} {r : Nat} (hJ : J (cp_rd (cp_cY A K) A x 24) (nI (r + 1))) : ∀ d k, k + d = 24 → wY_keeps_16 post J K (nI r) G A far (d + 1) (cp_rd (cp_cY A K) A x k) (nI k) := by
  intro d
  induction d with
  | zero =>
    intro k hk
    have e : k = 24 := by omega
    subst e
    exact br_t (nI_le (a := 24) (b := 24) (by omega) (by omega)) (fun y ey => by rw [ey, nI_1]; exact hJ)
  | succ d ih =>
    intro k hk
    have ih1 := ih (k + 1) (by omega)
    rw [cp_rd1] at ih1
    have hin : vp_in (nI k) 24 := vp_in_nI (by omega) (by omega)
    have skip : ¬ (cp_cY A K k = true ∧ ¬ (A k &&& cp_rd (cp_cY A K) A x k) = 0) → ∀ y, y = nI k + 1 → wY_keeps_16 post J K (nI r) G A far (d + 1) (cp_rd (cp_cY A K) A x k) y := by
      intro hn y ey
      rw [ey, nI_1 k]
      unfold cp_st at ih1
      rw [if_neg hn] at ih1
      exact ih1
    refine br_f (nI_ge (a := k) (b := 24) (by omega) (by omega)) (And.intro (by decide) ?_)
    rw [cp_d3 (show k < 24 by omega), nI_clamp (show k < 2 ^ 31 by omega)]
    refine cp_yin (by omega) (fun hb => br_f cp_n0 (And.intro hin (br_c (fun hs => And.intro hin (br_c (fun hm => skip fun q => q.2 hm) (fun hm => And.intro (by decide) (fun z ez y ey => ?_)))) (fun hs => skip fun q => hs (cp_cYi.1 q.1).2)))) (fun hb => br_t rfl (skip fun q => by have := (cp_cYi.1 q.1).1; rw [hb] at this; exact absurd this (by decide)))
    rw [ez, ey, nI_1 k]
    unfold cp_st at ih1
    rw [if_pos ⟨cp_cYi.2 ⟨hb, hs⟩, hm⟩] at ih1
    exact ih1
theorem cp_ykeep7 {post : Int32 → Prop} {K : Int32} (h1 : (K &&& (cp_near A G K ^^^ (-1))) = 0 → post 1) (h0 : ¬ (K &&& (cp_near A G K ^^^ (-1))) = 0 → post 0) : ∀ d r, r + d = 8 → wY_keeps_7 post K G A far (d + 1) (cp_rds (cp_cY A K) A G r) (nI r) := by
  intro d
  induction d with
  | zero =>
    intro r hr
    have e : r = 8 := by omega
    subst e
    exact br_t (nI_le (a := 8) (b := 8) (by omega) (by omega)) (br_c h1 h0)
  | succ d ih =>
    intro r hr
    exact br_f (nI_ge (a := r) (b := 8) (by omega) (by omega)) (Exists.intro 25 (cp_ykeep16 (x := cp_rds (cp_cY A K) A G r) (ih (r + 1) (by omega)) 24 0 rfl))
theorem cp_ykeep {post : Int32 → Prop} {K : Int32} (h1 : (K &&& (cp_near A G K ^^^ (-1))) = 0 → post 1) (h0 : ¬ (K &&& (cp_near A G K ^^^ (-1))) = 0 → post 0) : wpY_keeps post (G, A, far) K :=
  Exists.intro 9 (cp_ykeep7 h1 h0 8 0 rfl)
theorem cp_ysafe7 {post : Int32 → Prop} {S : Int32} (H : cp_Safe A G S) (hp : post S) : ∀ d j, j + d = 256 → ∀ x, (∀ t, bt x t = true → bt S t = true) → (∀ i, i < j → cp_KP A G (nI i) → ∀ t, bt (nI i) t = true → bt x t = true) → wY_safe_7 post G A far (d + 1) x (nI j) := by
  intro d
  induction d with
  | zero =>
    intro j hj x hx hi
    have e : j = 256 := by omega
    subst e
    obtain ⟨m, hm, em⟩ := cp_loE H.1
    have hK := H.2.1
    rw [em] at hK
    have e2 : x = S := cp_ext fun t => ⟨hx t, fun z => hi m hm hK t (by rw [← em]; exact z)⟩
    exact br_t (nI_le (a := 256) (b := 256) (by omega) (by omega)) (by rw [e2]; exact hp)
  | succ d ih =>
    intro j hj x hx hi
    have skip : ¬ cp_KP A G (nI j) → ∀ y, y = nI j + 1 → wY_safe_7 post G A far (d + 1) x y := by
      intro hn y ey
      rw [ey, nI_1 j]
      refine ih (j + 1) (by omega) x hx fun i hlt hK => ?_
      by_cases e : i = j
      · rw [e] at hK; exact absurd hK hn
      · exact hi i (by omega) hK
    refine br_f (nI_ge (a := j) (b := 256) (by omega) (by omega)) ?_
    by_cases g : (G &&& (nI j ^^^ (-1))) = 0
    · refine br_t g (cp_ykeep (fun h => br_f cp_n0 (fun z ez y ey => ?_)) (fun h => br_t rfl (skip fun q => h q.2)))
      rw [ez, ey, nI_1 j]
      refine ih (j + 1) (by omega) _ (fun t ht => ?_) fun i hlt hK t ht => ?_
      · rw [b_or, Bool.or_eq_true] at ht
        exact ht.elim (hx t) (H.2.2 (nI j) ⟨g, h⟩ t)
      · rw [b_or, Bool.or_eq_true]
        by_cases e : i = j
        · rw [e] at ht; exact Or.inr ht
        · exact Or.inl (hi i (by omega) hK t ht)
    · exact br_f g (skip fun q => g q.1)
theorem cp_ysafe {post : Int32 → Prop} {S : Int32} (H : cp_Safe A G S) (hp : post S) : wpY_safe post (G, A, far) :=
  Exists.intro 257 (cp_ysafe7 H hp 256 0 rfl G ((cp_sub _ _).1 H.2.1.1) (fun i z => absurd z (Nat.not_lt_zero _)))
end
end
section
/-! learn, and the loops of both sides in lockstep -/
def cp_Info (A : Nat → Int32) (G wk sf su : Int32) (sl wl : Nat → Int32) : Prop := (∃ L, cp_Lay false A G L ∧ cp_St L wk wl) ∧ (∃ L, cp_Lay true A G L ∧ cp_St L su sl) ∧ cp_Safe A G sf
theorem cp_xlearn {G kn wk sf su lf : Int32} {A sl wl : Nat → Int32} {post : SX → Prop} (hA : ∀ k, cp_lo (A k)) (hG : cp_lo G) (hk : kn = 0 ∨ cp_Info A G wk sf su sl wl) (hp : ∀ kn wk sf su lf sl wl, cp_Info A G wk sf su sl wl → post (G, kn, wk, sf, su, lf, A, sl, wl)) : wpX_learn post (G, kn, wk, sf, su, lf, A, sl, wl) := by
  unfold wpX_learn
  dsimp only
  refine br_c (fun _ => ?_) (fun hn => hp _ _ _ _ _ _ _ (hk.resolve_left hn))
  refine cp_xweak hA hG fun L wk' wl' hL hS => ?_
  dsimp only
  refine cp_xsure hA hG fun L2 su' sl' hL2 hS2 => ?_
  dsimp only
  refine cp_xsafe hG fun sf' lf' hs => ?_
  dsimp only
  exact hp 1 wk' sf' su' lf' sl' wl' ⟨⟨L, hL, hS⟩, ⟨L2, hL2, hS2⟩, hs⟩
theorem cp_xst {post : Int32 → Prop} {u : SX} {s : Nat} (hs : s < 8) (h : post 1) : wpX_isState post u (nI s) := by
  obtain ⟨G, kn, wk, sf, su, lf, A, sl, wl⟩ := u
  exact br_f (nI_pos (by omega)) (br_f (nI_ge (a := s) (b := 8) hs (by omega)) h)
theorem cp_yst {post : Int32 → Prop} {v : SY} {s : Nat} (hs : s < 8) (h : post 1) : wpY_isState post v (nI s) := by
  obtain ⟨G, A, far⟩ := v
  exact br_f (nI_pos (by omega)) (br_f (nI_nlt (a := 7) (b := s) (by omega) (by omega)) h)
theorem cp_cases (p : Int32) : ((∀ (post : Int32 → Prop) (u : SX), post 0 → wpX_isState post u p) ∧ (∀ (post : Int32 → Prop) (v : SY), post 0 → wpY_isState post v p)) ∨ ∃ s, s < 8 ∧ p = nI s := by
  rcases pk_ix p (n := 8) (by omega) with h | h | h
  · exact Or.inl ⟨fun post u hp => br_t h hp, fun post v hp => br_t h hp⟩
  · have e8 : (nI 8).toInt = 8 := by decide
    have e7 : (7 : Int32).toInt = 7 := by decide
    have e0 : (0 : Int32).toInt = 0 := by decide
    have h1 := h
    rw [Int32.le_iff_toInt_le, e8] at h1
    have hn : ¬ p < 0 := by rw [Int32.lt_iff_toInt_lt, e0]; omega
    have h7 : 7 < p := by rw [Int32.lt_iff_toInt_lt, e7]; omega
    exact Or.inl ⟨fun post u hp => br_f hn (br_t h hp), fun post v hp => br_f hn (br_t h7 hp)⟩
  · exact Or.inr h
section
variable {G : Int32} {A far : Nat → Int32}
theorem cp_ynum (m : Bool) {post : Int32 → SY → Prop} {L : Nat → Nat} {s : Nat} (hA : ∀ k, cp_lo (A k)) (hL : cp_Lay m A G L) (hs : s < 8) (h1 : L s < 99 → ∀ far, (∀ s, s < 8 → far s = nI (L s)) → post (nI (L s)) (G, A, far)) (h0 : L s = 99 → ∀ far, (∀ s, s < 8 → far s = nI (L s)) → post (-2) (G, A, far)) : wpY_number post (G, A, far) (nI s) (cp_i m) := by
  have hin : vp_in (nI s) 8 := vp_in_nI hs (by omega)
  have b := hL.2.1 s hs
  unfold wpY_number
  dsimp only
  refine cp_yst hs (br_f cp_n0 (cp_ycount m hA hL fun far hf => ?_))
  dsimp only
  rw [nI_clamp (show s < 2 ^ 31 by omega), hf s hs]
  refine ⟨hin, ?_⟩
  by_cases c : L s < 99
  · exact br_f (nI_ge (a := L s) (b := 99) c (by omega)) ⟨hin, h1 c far hf⟩
  · exact br_t (nI_le (a := 99) (b := L s) (by omega) (by omega)) (h0 (by omega) far hf)
theorem cp_ysure {post : Int32 → SY → Prop} {L : Nat → Nat} {su : Int32} (hA : ∀ k, cp_lo (A k)) (hL : cp_Lay true A G L) (hB : ∀ t, bt su t = true ↔ (t < 8 ∧ L t < 99)) (hp : ∀ far, (∀ s, s < 8 → far s = nI (L s)) → post su (G, A, far)) : wpY_sure post (G, A, far) := by
  unfold wpY_sure
  dsimp only
  refine cp_ycount true hA hL fun far hf => ?_
  dsimp only
  exact cp_yreach hL.2.1 hf hB (hp far hf)
theorem cp_ysafeT7 {post : Int32 → Prop} (hp : ∀ r, post r) : ∀ d j, j + d = 256 → ∀ x, wY_safe_7 post G A far (d + 1) x (nI j) := by
  intro d
  induction d with
  | zero =>
    intro j hj x
    have e : j = 256 := by omega
    subst e
    exact br_t (nI_le (a := 256) (b := 256) (by omega) (by omega)) (hp x)
  | succ d ih =>
    intro j hj x
    have nx : ∀ x y, y = nI j + 1 → wY_safe_7 post G A far (d + 1) x y := fun x y ey => by rw [ey, nI_1 j]; exact ih (j + 1) (by omega) x
    exact br_f (nI_ge (a := j) (b := 256) (by omega) (by omega)) (br_c (fun _ => cp_ykeep (fun _ => br_f cp_n0 (fun z _ => nx z)) (fun _ => br_t rfl (nx x))) (fun _ => nx x))
theorem cp_ysafeT {post : Int32 → Prop} (hp : ∀ r, post r) : wpY_safe post (G, A, far) := Exists.intro 257 (cp_ysafeT7 hp 256 0 rfl G)
end
section
variable {G kn wk sf su lf : Int32} {A sl wl far : Nat → Int32}
theorem cp_sa {s : Nat} (hs : s < 8) : ∀ d a, a + d = 3 → ∀ x : Int32, ∃ r, (∀ post : Int32 → SX → Prop, post r (G, kn, wk, sf, su, lf, A, sl, wl) → wX_safeActions_44 post (nI s) G kn wk sf su lf A sl wl (d + 1) x (nI a)) ∧ (∀ post : Int32 → Prop, post r → wY_safeActions_41 post (nI s) sf G A far (d + 1) x (nI a)) := by
  intro d
  induction d with
  | zero =>
    intro a ha x
    have c : (3 : Int32) ≤ nI a := nI_le (a := 3) (b := a) (by omega) (by omega)
    exact ⟨x, fun post hp => br_t c hp, fun post hp => br_t c hp⟩
  | succ d ih =>
    intro a ha x
    have h3 : ¬ (3 : Int32) ≤ nI a := nI_ge (a := a) (b := 3) (by omega) (by omega)
    have hin : vp_in (nI (3 * s + a)) 24 := vp_in_nI (by omega) (by omega)
    have hcl : (nI (3 * s + a)).toNatClampNeg = 3 * s + a := nI_clamp (by omega)
    by_cases c : cp_C true (A (3 * s + a)) sf
    · obtain ⟨r, hX, hY⟩ := ih (a + 1) (by omega) (x ||| ((1 : Int32) <<< (nI a &&& 31)))
      refine ⟨r, fun post hp => br_f h3 ?_, fun post hp => br_f h3 ?_⟩
      · rw [cp_m3a]
        exact cp_xlead (by omega) (fun _ => br_f cp_n0 (fun z ez y ey => by rw [ez, ey, nI_1 a]; exact hX post hp)) (fun q => absurd c q)
      · rw [cp_m3a, hcl]
        rw [cp_Ct] at c
        exact ⟨hin, br_f c.1 ⟨hin, br_t c.2 (fun z ez y ey => by rw [ez, ey, nI_1 a]; exact hY post hp)⟩⟩
    · obtain ⟨r, hX, hY⟩ := ih (a + 1) (by omega) x
      refine ⟨r, fun post hp => br_f h3 ?_, fun post hp => br_f h3 ?_⟩
      · rw [cp_m3a]
        exact cp_xlead (by omega) (fun q => absurd q c) (fun _ => br_t rfl (fun y ey => by rw [ey, nI_1 a]; exact hX post hp))
      · rw [cp_m3a, hcl]
        rw [cp_Ct] at c
        have nx : ∀ y, y = nI a + 1 → wY_safeActions_41 post (nI s) sf G A far (d + 1) x y := fun y ey => by rw [ey, nI_1 a]; exact hY post hp
        exact ⟨hin, br_c (fun _ => nx) (fun n0 => ⟨hin, br_f (fun z => c ⟨n0, z⟩) nx⟩)⟩
theorem cp_xkt16 {post : Int32 → Prop} {k q : Nat} {L : Nat → Nat} (hk : k < 24) (hq : q < 90) (hS : cp_St L su sl) (hC : ∀ t, bt (A k) t = true → bt su t = true) (h1 : (∀ t, t < 8 → bt (A k) t = true → L t ≤ q) → post 1) (h0 : (¬ ∀ t, t < 8 → bt (A k) t = true → L t ≤ q) → post 0) : ∀ d i, i + d = 8 → (∀ t, t < i → bt (A k) t = true → L t ≤ q) → wX_keepsTo_16 post (nI k) (nI (q + 1)) G kn wk sf su lf A sl wl (d + 1) (nI i) := by
  intro d
  induction d with
  | zero =>
    intro i hi h
    have e : i = 8 := by omega
    subst e
    exact br_t (nI_le (a := 8) (b := 8) (by omega) (by omega)) (h1 h)
  | succ d ih =>
    intro i hi h
    have h8 : i < 8 := by omega
    have hin : vp_in (nI i) 8 := vp_in_nI h8 (by omega)
    have nx : (bt (A k) i = true → L i ≤ q) → ∀ y, y = nI i + 1 → wX_keepsTo_16 post (nI k) (nI (q + 1)) G kn wk sf su lf A sl wl (d + 1) y := by
      intro hn y ey
      rw [ey, nI_1 i]
      refine ih (i + 1) (by omega) fun t ht hb => ?_
      by_cases e : t = i
      · rw [e] at hb ⊢; exact hn hb
      · exact h t (by omega) hb
    refine br_f (nI_ge (a := i) (b := 8) h8 (by omega)) (And.intro (vp_in_nI hk (by omega)) ?_)
    rw [nI_clamp (show k < 2 ^ 31 by omega), nI_clamp (show i < 2 ^ 31 by omega)]
    refine cp_xin (by omega) (fun hb => br_f cp_n0 ?_) (fun hb => br_t rfl (nx fun z => by rw [hb] at z; exact absurd z (by decide)))
    have h9 := ((hS.1 i).1 (hC i hb)).2
    rw [hS.2 i h8 h9]
    refine And.intro hin ?_
    by_cases c : L i ≤ q
    · exact br_t (nI_lt (by omega) (by omega)) (nx fun _ => c)
    · exact br_f (nI_nlt (by omega) (by omega)) (h0 fun z => c (z i h8 hb))
theorem cp_xkt {post : Int32 → Prop} {k q : Nat} {L : Nat → Nat} (hA : ∀ k, cp_lo (A k)) (hk : k < 24) (hq : q < 90) (hS : cp_St L su sl) (h1 : cp_V true (A k) L q → post 1) (h0 : ¬ cp_V true (A k) L q → post 0) : wpX_keepsTo post (G, kn, wk, sf, su, lf, A, sl, wl) (nI k) (nI (q + 1)) := by
  unfold wpX_keepsTo
  dsimp only
  refine cp_xlead hk (fun hc => br_f cp_n0 ?_) (fun hc => br_t rfl (h0 fun v => hc ?_))
  · rw [cp_Ct, cp_ne0, cp_sub] at hc
    exact Exists.intro 9 (cp_xkt16 hk hq hS hc.2 (fun z => h1 ⟨fun _ => ⟨hc.1, fun t ht => z t (hA k t ht) ht⟩, fun e => absurd e (by decide)⟩) (fun z => h0 fun v => z fun t _ ht => (v.1 rfl).2 t ht) 8 0 rfl (fun t z => absurd z (Nat.not_lt_zero _)))
  · rw [cp_Ct, cp_ne0, cp_sub]
    exact ⟨(v.1 rfl).1, fun t ht => (hS.1 t).2 ⟨hA k t ht, by have := (v.1 rfl).2 t ht; omega⟩⟩
theorem cp_sq {s q : Nat} {L : Nat → Nat} (hs : s < 8) (hq : q < 90) (hA : ∀ k, cp_lo (A k)) (hL : cp_Lay true A G L) (hS : cp_St L su sl) (e : L s = q + 1) : ∀ d a, a + d = 3 → ∃ r, (∀ post : Int32 → SX → Prop, post r (G, kn, wk, sf, su, lf, A, sl, wl) → wX_sureAction_44 post (nI s) G kn wk sf su lf A sl wl (d + 1) (nI a)) ∧ (∀ far, (∀ s, s < 8 → far s = nI (L s)) → ∀ post : Int32 → SY → Prop, post r (G, A, far) → wY_sureAction_35 post (nI s) G A far (d + 1) (nI a)) := by
  intro d
  induction d with
  | zero =>
    intro a ha
    have c : (3 : Int32) ≤ nI a := nI_le (a := 3) (b := a) (by omega) (by omega)
    exact ⟨-2, fun post hp => br_t c hp, fun far _ post hp => br_t c hp⟩
  | succ d ih =>
    intro a ha
    have h3 : ¬ (3 : Int32) ≤ nI a := nI_ge (a := a) (b := 3) (by omega) (by omega)
    have hin : vp_in (nI (3 * s + a)) 24 := vp_in_nI (by omega) (by omega)
    have hin8 : vp_in (nI s) 8 := vp_in_nI hs (by omega)
    have hcl : (nI (3 * s + a)).toNatClampNeg = 3 * s + a := nI_clamp (by omega)
    have hcs : (nI s).toNatClampNeg = s := nI_clamp (by omega)
    have es : sl s = nI (q + 1) := by rw [hS.2 s hs (by omega), e]
    have out : ∀ far : Nat → Int32, (∀ s, s < 8 → far s = nI (L s)) → ∃ v, v ≤ 99 ∧ (cp_V true (A (3 * s + a)) L q ↔ v + 1 = q + 1) ∧ ∀ post : Int32 → Prop, post (nI v) → wpY_outcome post (G, A, far) (A (3 * s + a)) (cp_i true) := by
      intro far hf
      obtain ⟨v, v9, hv, hw⟩ := cp_yout true (G := G) (A := A) (hA (3 * s + a)) (F := L) (fun s hs => ⟨hf s hs, by have := hL.2.1 s hs; omega⟩)
      refine ⟨v, v9, ⟨fun z => ?_, fun z => (hv q (by omega)).1 (by omega)⟩, hw⟩
      have a1 := (hv q (by omega)).2 z
      have a2 := hL.2.2.2 s v hs (by omega) ⟨a, by omega, (hv v (by omega)).1 (Nat.le_refl _)⟩
      omega
    by_cases c : cp_V true (A (3 * s + a)) L q
    · refine ⟨nI a, fun post hp => br_f h3 ?_, fun far hf post hp => br_f h3 ?_⟩
      · rw [cp_m3a, hcs, es]
        exact ⟨hin8, cp_xkt hA (by omega) hq hS (fun _ => br_f cp_n0 hp) (fun z => absurd c z)⟩
      · obtain ⟨v, v9, hvq, hw⟩ := out far hf
        rw [cp_m3a, hcl]
        refine ⟨hin, hw _ (And.intro hin8 ?_)⟩
        rw [hcs, hf s hs, e, nI_1 v]
        exact br_t (by rw [hvq.1 c]) hp
    · obtain ⟨r, hX, hY⟩ := ih (a + 1) (by omega)
      refine ⟨r, fun post hp => br_f h3 ?_, fun far hf post hp => br_f h3 ?_⟩
      · rw [cp_m3a, hcs, es]
        exact ⟨hin8, cp_xkt hA (by omega) hq hS (fun z => absurd z c) (fun _ => br_t rfl (fun y ey => by rw [ey, nI_1 a]; exact hX post hp))⟩
      · obtain ⟨v, v9, hvq, hw⟩ := out far hf
        rw [cp_m3a, hcl]
        refine ⟨hin, hw _ (And.intro hin8 ?_)⟩
        rw [hcs, hf s hs, e, nI_1 v]
        exact br_f (fun z => c (hvq.2 ((nI_eq (by omega) (by omega)).1 z))) (fun y ey => by rw [ey, nI_1 a]; exact hY far hf post hp)
theorem cp_hop : ∀ d i, i + d = 8 → ∀ x : Int32, ∃ r, (∀ post : Int32 → SX → Prop, post r (G, kn, wk, sf, su, lf, A, sl, wl) → wX_hopeful_20 post (sf &&& (su ^^^ (-1))) G kn wk sf su lf A sl wl (d + 1) x (nI i)) ∧ (∀ (far : Nat → Int32) (post : Int32 → SY → Prop), post r (G, A, far) → wY_hopeful_15 post sf su G A far (d + 1) x (nI i)) := by
  intro d
  induction d with
  | zero =>
    intro i hi x
    have c : (8 : Int32) ≤ nI i := nI_le (a := 8) (b := i) (by omega) (by omega)
    exact ⟨x, fun post hp => br_t c hp, fun far post hp => br_t c hp⟩
  | succ d ih =>
    intro i hi x
    have h8 : ¬ (8 : Int32) ≤ nI i := nI_ge (a := i) (b := 8) (by omega) (by omega)
    have eb : bt (sf &&& (su ^^^ (-1))) i = (bt sf i && !bt su i) := by
      rw [b_and, b_xor, b_m1 i (by omega)]
      cases bt su i <;> rfl
    by_cases c1 : bt sf i = true
    · by_cases c2 : bt su i = true
      · have ef : bt (sf &&& (su ^^^ (-1))) i = false := by rw [eb, c1, c2]; rfl
        obtain ⟨r, hX, hY⟩ := ih (i + 1) (by omega) x
        exact ⟨r, fun post hp => br_f h8 (cp_xin (by omega) (fun z => by rw [ef] at z; exact absurd z (by decide)) (fun _ => br_t rfl (fun y ey => by rw [ey, nI_1 i]; exact hX post hp))), fun far post hp => br_f h8 (cp_yin (by omega) (fun _ => br_f cp_n0 (cp_yin (by omega) (fun _ => br_f cp_n0 (fun y ey => by rw [ey, nI_1 i]; exact hY far post hp)) (fun z => by rw [c2] at z; exact absurd z (by decide)))) (fun z => by rw [c1] at z; exact absurd z (by decide)))⟩
      · have c2' := cp_bf c2
        have ef : bt (sf &&& (su ^^^ (-1))) i = true := by rw [eb, c1, c2']; rfl
        obtain ⟨r, hX, hY⟩ := ih (i + 1) (by omega) (x + 1)
        exact ⟨r, fun post hp => br_f h8 (cp_xin (by omega) (fun _ => br_f cp_n0 (fun w ew y ey => by rw [ew, ey, nI_1 i]; exact hX post hp)) (fun z => by rw [ef] at z; exact absurd z (by decide))), fun far post hp => br_f h8 (cp_yin (by omega) (fun _ => br_f cp_n0 (cp_yin (by omega) (fun z => absurd z c2) (fun _ => br_t rfl (fun w ew y ey => by rw [ew, ey, nI_1 i]; exact hY far post hp)))) (fun z => by rw [c1] at z; exact absurd z (by decide)))⟩
    · have c1' := cp_bf c1
      have ef : bt (sf &&& (su ^^^ (-1))) i = false := by rw [eb, c1']; rfl
      obtain ⟨r, hX, hY⟩ := ih (i + 1) (by omega) x
      exact ⟨r, fun post hp => br_f h8 (cp_xin (by omega) (fun z => by rw [ef] at z; exact absurd z (by decide)) (fun _ => br_t rfl (fun y ey => by rw [ey, nI_1 i]; exact hX post hp))), fun far post hp => br_f h8 (cp_yin (by omega) (fun z => absurd z c1) (fun _ => br_t rfl (fun y ey => by rw [ey, nI_1 i]; exact hY far post hp)))⟩
end
section
variable {G kn wk sf su lf : Int32} {sl wl far : Nat → Int32}
theorem cp_prune : ∀ d k, k + d = 24 → ∀ (x : Int32) (A : Nat → Int32), (∀ k, cp_lo (A k)) → ∃ r A', (∀ k, cp_lo (A' k)) ∧ (∀ post : Int32 → SX → Prop, post r (G, 0, wk, sf, su, lf, A', sl, wl) → wX_prune_8 post G kn wk sf su lf (d + 1) x (nI k) A sl wl) ∧ (∀ post : Int32 → SY → Prop, post r (G, A', far) → wY_prune_9 post sf G (d + 1) x (nI k) A far) := by
  intro d
  induction d with
  | zero =>
    intro k hk x A hA
    have c : (24 : Int32) ≤ nI k := nI_le (a := 24) (b := k) (by omega) (by omega)
    exact ⟨x, A, hA, fun post hp => br_t c hp, fun post hp => br_t c hp⟩
  | succ d ih =>
    intro k hk x A hA
    have h24 : ¬ (24 : Int32) ≤ nI k := nI_ge (a := k) (b := 24) (by omega) (by omega)
    have hin : vp_in (nI k) 24 := vp_in_nI (by omega) (by omega)
    have hcl : (nI k).toNatClampNeg = k := nI_clamp (by omega)
    by_cases c : (A k &&& (sf ^^^ (-1))) = 0
    · obtain ⟨r, A', hA', hX, hY⟩ := ih (k + 1) (by omega) x A hA
      refine ⟨r, A', hA', fun post hp => br_f h24 ?_, fun post hp => br_f h24 ?_⟩
      · have nx : ∀ y, y = nI k + 1 → wX_prune_8 post G kn wk sf su lf (d + 1) x y A sl wl := fun y ey => by rw [ey, nI_1 k]; exact hX post hp
        rw [hcl]
        exact ⟨hin, br_c (fun _ => nx) (fun n0 => cp_xlead (by omega) (fun _ => br_f cp_n0 nx) (fun z => absurd (cp_Ct.2 ⟨n0, c⟩) z))⟩
      · rw [hcl]
        exact ⟨hin, br_t c (fun y ey => by rw [ey, nI_1 k]; exact hY post hp)⟩
    · have n0 : ¬ A k = 0 := fun z => c (by rw [z]; exact Int32.zero_and)
      have hA2 : ∀ j, cp_lo (upd A k 0 j) := by
        intro j
        by_cases e : j = k
        · rw [e, pk_us]; exact cp_lo0
        · rw [pk_un e]; exact hA j
      obtain ⟨r, A', hA', hX, hY⟩ := ih (k + 1) (by omega) (x + 1) (upd A k 0) hA2
      refine ⟨r, A', hA', fun post hp => br_f h24 ?_, fun post hp => br_f h24 ?_⟩
      · rw [hcl]
        exact ⟨hin, br_f n0 (cp_xlead (by omega) (fun z => absurd (cp_Ct.1 z).2 c) (fun _ => br_t rfl (And.intro hin (fun f ef w ew y ey => by rw [ef, ew, ey, nI_1 k, cp_ns0]; exact hX post hp))))⟩
      · rw [hcl]
        exact ⟨hin, br_f c ⟨hin, fun f ef w ew y ey => by rw [ef, ew, ey, nI_1 k]; exact hY post hp⟩⟩
end
end
section
/-! what is owed -/
/-- both hold the same outcomes and goals, states below 8; what X knows is right -/
def i_Rel (_ : Nat) (u : SX) (v : SY) : Prop := ∃ (G kn wk sf su lf : Int32) (A sl wl far : Nat → Int32), u = (G, kn, wk, sf, su, lf, A, sl, wl) ∧ v = (G, A, far) ∧ (∀ k, cp_lo (A k)) ∧ cp_lo G ∧ (kn = 0 ∨ cp_Info A G wk sf su sl wl)
theorem cp_rel {k : Nat} {G kn wk sf su lf : Int32} {A sl wl far : Nat → Int32} (hA : ∀ k, cp_lo (A k)) (hG : cp_lo G) (hI : kn = 0 ∨ cp_Info A G wk sf su sl wl) : i_Rel k (G, kn, wk, sf, su, lf, A, sl, wl) (G, A, far) := ⟨G, kn, wk, sf, su, lf, A, sl, wl, far, rfl, rfl, hA, hG, hI⟩
theorem i_up {k : Nat} {u : SX} {v : SY} (h : i_Rel k u v) : i_Rel (k + 4) u v := h
theorem i_vc0 : wpX_init (fun u => wpY_init (fun v => i_Rel 0 u v)) := by
  unfold wpX_init wpY_init
  exact cp_rel (fun _ => cp_lo0) cp_lo0 (Or.inl rfl)
theorem i_vc_action {k : Nat} {u : SX} {v : SY} (I : i_Rel k u v) (hk : k + 4 ≤ 2048) (v1 : Int32) (v2 : Int32) (v3 : Int32) : wpX_action (fun r u' => wpY_action (fun r' v' => r' = r ∧ i_Rel (k + 4) u' v') v v1 v2 v3) u v1 v2 v3 := by
  obtain ⟨G, kn, wk, sf, su, lf, A, sl, wl, far, rfl, rfl, hA, hG, hI⟩ := I
  unfold wpX_action wpY_action
  dsimp only
  rcases cp_cases v1 with ⟨bx, b2⟩ | ⟨s, hs, rfl⟩
  · exact bx _ _ (br_t rfl (b2 _ _ (br_t rfl ⟨rfl, cp_rel hA hG hI⟩)))
  · refine cp_xst hs (br_f cp_n0 ?_)
    by_cases a0 : v2 < 0
    · exact br_t a0 (cp_yst hs (br_f cp_n0 (br_t a0 ⟨rfl, cp_rel hA hG hI⟩)))
    refine br_f a0 ?_
    by_cases a2 : 2 < v2
    · exact br_t a2 (cp_yst hs (br_f cp_n0 (br_f a0 (br_t a2 ⟨rfl, cp_rel hA hG hI⟩))))
    refine br_f a2 ?_
    by_cases o0 : v3 < 0
    · exact br_t o0 (cp_yst hs (br_f cp_n0 (br_f a0 (br_f a2 (br_t o0 ⟨rfl, cp_rel hA hG hI⟩)))))
    refine br_f o0 ?_
    by_cases o2 : v3 ≤ 255
    · have hin : vp_in (3 * nI s + v2) 24 := by
        obtain ⟨a, ha, rfl⟩ := nI_of2 (M := 2) (n := 2) (by decide) a0 (Int32.not_lt.mp a2)
        rw [cp_m3a]
        exact vp_in_nI (by omega) (by omega)
      refine br_t o2 (And.intro hin (fun f ef => cp_yst hs (br_f cp_n0 (br_f a0 (br_f a2 (br_f o0 (br_t o2 (And.intro hin (fun g eg => ⟨rfl, ?_⟩)))))))))
      obtain ⟨o, ho, rfl⟩ := nI_of2 (M := 255) (n := 255) (by decide) o0 o2
      rw [ef, eg, cp_nsh (by omega)]
      refine cp_rel (fun j => ?_) hG (Or.inl rfl)
      by_cases e : j = (3 * nI s + v2).toNatClampNeg
      · rw [e, pk_us]; exact cp_loN (by omega)
      · rw [pk_un e]; exact hA j
    · exact br_f o2 (cp_yst hs (br_f cp_n0 (br_f a0 (br_f a2 (br_f o0 (br_f o2 ⟨rfl, cp_rel hA hG hI⟩))))))
theorem i_vc_goals {k : Nat} {u : SX} {v : SY} (I : i_Rel k u v) (hk : k + 4 ≤ 2048) (v1 : Int32) : wpX_goals (fun r u' => wpY_goals (fun r' v' => r' = r ∧ i_Rel (k + 4) u' v') v v1) u v1 := by
  obtain ⟨G, kn, wk, sf, su, lf, A, sl, wl, far, rfl, rfl, hA, hG, hI⟩ := I
  unfold wpX_goals wpY_goals
  dsimp only
  by_cases o0 : v1 < 0
  · exact br_t o0 (br_t o0 ⟨rfl, cp_rel hA hG hI⟩)
  refine br_f o0 ?_
  by_cases o2 : v1 ≤ 255
  · refine br_t o2 (br_f o0 (br_t o2 ⟨rfl, ?_⟩))
    obtain ⟨o, ho, rfl⟩ := nI_of2 (M := 255) (n := 255) (by decide) o0 o2
    exact cp_rel hA (cp_loN (by omega)) (Or.inl rfl)
  · exact br_f o2 (br_f o0 (br_f o2 ⟨rfl, cp_rel hA hG hI⟩))
theorem i_vc_weak {k : Nat} {u : SX} {v : SY} (I : i_Rel k u v) (hk : k + 4 ≤ 2048) : wpX_weak (fun r u' => wpY_weak (fun r' v' => r' = r ∧ i_Rel (k + 4) u' v') v) u := by
  obtain ⟨G, kn, wk, sf, su, lf, A, sl, wl, far, rfl, rfl, hA, hG, hI⟩ := I
  unfold wpX_weak wpY_weak
  dsimp only
  refine cp_xlearn hA hG hI fun kn wk sf su lf sl wl J => ?_
  obtain ⟨L, hL, hS⟩ := J.1
  dsimp only
  refine cp_ycount false hA hL fun far hf => ?_
  dsimp only
  exact cp_yreach hL.2.1 hf hS.1 ⟨rfl, cp_rel hA hG (Or.inr J)⟩
theorem i_vc_safe {k : Nat} {u : SX} {v : SY} (I : i_Rel k u v) (hk : k + 4 ≤ 2048) : wpX_safe (fun r u' => wpY_safe (fun r' => r' = r ∧ i_Rel (k + 4) u' v) v) u := by
  obtain ⟨G, kn, wk, sf, su, lf, A, sl, wl, far, rfl, rfl, hA, hG, hI⟩ := I
  unfold wpX_safe
  dsimp only
  refine cp_xlearn hA hG hI fun kn wk sf su lf sl wl J => ?_
  dsimp only
  exact cp_ysafe J.2.2 ⟨rfl, cp_rel hA hG (Or.inr J)⟩
theorem i_vc_sure {k : Nat} {u : SX} {v : SY} (I : i_Rel k u v) (hk : k + 4 ≤ 2048) : wpX_sure (fun r u' => wpY_sure (fun r' v' => r' = r ∧ i_Rel (k + 4) u' v') v) u := by
  obtain ⟨G, kn, wk, sf, su, lf, A, sl, wl, far, rfl, rfl, hA, hG, hI⟩ := I
  unfold wpX_sure
  dsimp only
  refine cp_xlearn hA hG hI fun kn wk sf su lf sl wl J => ?_
  obtain ⟨L, hL, hS⟩ := J.2.1
  dsimp only
  exact cp_ysure hA hL hS.1 fun far hf => ⟨rfl, cp_rel hA hG (Or.inr J)⟩
theorem i_vc_steps {k : Nat} {u : SX} {v : SY} (I : i_Rel k u v) (hk : k + 4 ≤ 2048) (v1 : Int32) : wpX_steps (fun r u' => wpY_steps (fun r' v' => r' = r ∧ i_Rel (k + 4) u' v') v v1) u v1 := by
  obtain ⟨G, kn, wk, sf, su, lf, A, sl, wl, far, rfl, rfl, hA, hG, hI⟩ := I
  unfold wpX_steps wpY_steps
  dsimp only
  rcases cp_cases v1 with ⟨bx, b2⟩ | ⟨s, hs, rfl⟩
  · refine bx _ _ (br_t rfl ?_)
    unfold wpY_number
    dsimp only
    exact b2 _ _ (br_t rfl ⟨rfl, cp_rel hA hG hI⟩)
  · refine cp_xst hs (br_f cp_n0 (cp_xlearn hA hG hI fun kn wk sf su lf sl wl J => ?_))
    obtain ⟨L, hL, hS⟩ := J.2.1
    dsimp only
    rw [nI_clamp (show s < 2 ^ 31 by omega)]
    refine cp_xin (by omega) (fun hin => br_f cp_n0 (And.intro (vp_in_nI hs (by omega)) ?_)) (fun hout => br_t rfl ?_)
    · have h9 := ((hS.1 s).1 hin).2
      rw [hS.2 s hs h9]
      exact cp_ynum true hA hL hs (fun _ far hf => ⟨rfl, cp_rel hA hG (Or.inr J)⟩) (fun z => by omega)
    · exact cp_ynum true hA hL hs (fun z => by have := (hS.1 s).2 ⟨hs, z⟩; rw [hout] at this; exact absurd this (by decide)) (fun _ far hf => ⟨rfl, cp_rel hA hG (Or.inr J)⟩)
theorem i_vc_luck {k : Nat} {u : SX} {v : SY} (I : i_Rel k u v) (hk : k + 4 ≤ 2048) (v1 : Int32) : wpX_luck (fun r u' => wpY_luck (fun r' v' => r' = r ∧ i_Rel (k + 4) u' v') v v1) u v1 := by
  obtain ⟨G, kn, wk, sf, su, lf, A, sl, wl, far, rfl, rfl, hA, hG, hI⟩ := I
  unfold wpX_luck wpY_luck
  dsimp only
  rcases cp_cases v1 with ⟨bx, b2⟩ | ⟨s, hs, rfl⟩
  · refine bx _ _ (br_t rfl ?_)
    unfold wpY_number
    dsimp only
    exact b2 _ _ (br_t rfl ⟨rfl, cp_rel hA hG hI⟩)
  · refine cp_xst hs (br_f cp_n0 (cp_xlearn hA hG hI fun kn wk sf su lf sl wl J => ?_))
    obtain ⟨L, hL, hS⟩ := J.1
    dsimp only
    rw [nI_clamp (show s < 2 ^ 31 by omega)]
    refine cp_xin (by omega) (fun hin => br_f cp_n0 (And.intro (vp_in_nI hs (by omega)) ?_)) (fun hout => br_t rfl ?_)
    · have h9 := ((hS.1 s).1 hin).2
      rw [hS.2 s hs h9]
      exact cp_ynum false hA hL hs (fun _ far hf => ⟨rfl, cp_rel hA hG (Or.inr J)⟩) (fun z => by omega)
    · exact cp_ynum false hA hL hs (fun z => by have := (hS.1 s).2 ⟨hs, z⟩; rw [hout] at this; exact absurd this (by decide)) (fun _ far hf => ⟨rfl, cp_rel hA hG (Or.inr J)⟩)
theorem i_vc_safeActions {k : Nat} {u : SX} {v : SY} (I : i_Rel k u v) (hk : k + 4 ≤ 2048) (v1 : Int32) : wpX_safeActions (fun r u' => wpY_safeActions (fun r' => r' = r ∧ i_Rel (k + 4) u' v) v v1) u v1 := by
  obtain ⟨G, kn, wk, sf, su, lf, A, sl, wl, far, rfl, rfl, hA, hG, hI⟩ := I
  unfold wpX_safeActions wpY_safeActions
  dsimp only
  rcases cp_cases v1 with ⟨bx, b2⟩ | ⟨s, hs, rfl⟩
  · exact bx _ _ (br_t rfl (cp_ysafeT fun r => b2 _ _ (br_t rfl ⟨rfl, cp_rel hA hG hI⟩)))
  · refine cp_xst hs (br_f cp_n0 (cp_xlearn hA hG hI fun kn wk sf su lf sl wl J => ?_))
    dsimp only
    refine cp_xin (by omega) (fun hin => br_f cp_n0 ?_) (fun hout => br_t rfl (cp_xin (by omega) (fun hsf => br_f cp_n0 ?_) (fun hsf => br_t rfl ?_)))
    · exact cp_ysafe J.2.2 (cp_yst hs (br_f cp_n0 (cp_yin (by omega) (fun _ => br_f cp_n0 ⟨rfl, cp_rel hA hG (Or.inr J)⟩) (fun z => by rw [hin] at z; exact absurd z (by decide)))))
    · obtain ⟨r, hX, hY⟩ := cp_sa (G := G) (kn := kn) (wk := wk) (sf := sf) (su := su) (lf := lf) (A := A) (sl := sl) (wl := wl) (far := far) hs 3 0 rfl 0
      refine Exists.intro 4 (hX _ ?_)
      exact cp_ysafe J.2.2 (cp_yst hs (br_f cp_n0 (cp_yin (by omega) (fun z => by rw [hout] at z; exact absurd z (by decide)) (fun _ => br_t rfl (cp_yin (by omega) (fun _ => br_f cp_n0 (Exists.intro 4 (hY _ ⟨rfl, cp_rel hA hG (Or.inr J)⟩))) (fun z => by rw [hsf] at z; exact absurd z (by decide)))))))
    · exact cp_ysafe J.2.2 (cp_yst hs (br_f cp_n0 (cp_yin (by omega) (fun z => by rw [hout] at z; exact absurd z (by decide)) (fun _ => br_t rfl (cp_yin (by omega) (fun z => by rw [hsf] at z; exact absurd z (by decide)) (fun _ => br_t rfl ⟨rfl, cp_rel hA hG (Or.inr J)⟩))))))
theorem i_vc_sureAction {k : Nat} {u : SX} {v : SY} (I : i_Rel k u v) (hk : k + 4 ≤ 2048) (v1 : Int32) : wpX_sureAction (fun r u' => wpY_sureAction (fun r' v' => r' = r ∧ i_Rel (k + 4) u' v') v v1) u v1 := by
  obtain ⟨G, kn, wk, sf, su, lf, A, sl, wl, far, rfl, rfl, hA, hG, hI⟩ := I
  unfold wpX_sureAction wpY_sureAction
  dsimp only
  rcases cp_cases v1 with ⟨bx, b2⟩ | ⟨s, hs, rfl⟩
  · exact bx _ _ (br_t rfl (b2 _ _ (br_t rfl ⟨rfl, cp_rel hA hG hI⟩)))
  · refine cp_xst hs (br_f cp_n0 (cp_xlearn hA hG hI fun kn wk sf su lf sl wl J => ?_))
    obtain ⟨L, hL, hS⟩ := J.2.1
    dsimp only
    refine cp_xin (by omega) (fun hin => br_f cp_n0 ?_) (fun hout => br_t rfl (cp_xin (by omega) (fun hsu => br_f cp_n0 ?_) (fun hsu => br_t rfl ?_)))
    · exact cp_yst hs (br_f cp_n0 (cp_yin (by omega) (fun _ => br_f cp_n0 ⟨rfl, cp_rel hA hG (Or.inr J)⟩) (fun z => by rw [hin] at z; exact absurd z (by decide))))
    · have h9 := ((hS.1 s).1 hsu).2
      have hb := hL.2.1 s hs
      have hne : L s ≠ 0 := fun z => by have := (hL.1 s hs).1 z; rw [hout] at this; exact absurd this (by decide)
      obtain ⟨q, hq⟩ : ∃ q, L s = q + 1 := ⟨L s - 1, by omega⟩
      have two : ¬ nI (L s) = -2 := by
        intro z
        have z2 : (nI (L s)).toInt = (-2 : Int32).toInt := by rw [z]
        rw [nI_toInt (by omega), show (-2 : Int32).toInt = -2 from by decide] at z2
        omega
      obtain ⟨r, hX, hY⟩ := cp_sq (G := G) (kn := kn) (wk := wk) (sf := sf) (su := su) (lf := lf) (A := A) (sl := sl) (wl := wl) hs (by omega) hA hL hS hq 3 0 rfl
      refine Exists.intro 4 (hX _ ?_)
      refine cp_yst hs (br_f cp_n0 (cp_yin (by omega) (fun z => by rw [hout] at z; exact absurd z (by decide)) (fun _ => br_t rfl ?_)))
      unfold wpY_steps
      dsimp only
      exact cp_ynum true hA hL hs (fun _ far hf => br_f two (Exists.intro 4 (hY far hf _ ⟨rfl, cp_rel hA hG (Or.inr J)⟩))) (fun z => by omega)
    · refine cp_yst hs (br_f cp_n0 (cp_yin (by omega) (fun z => by rw [hout] at z; exact absurd z (by decide)) (fun _ => br_t rfl ?_)))
      unfold wpY_steps
      dsimp only
      exact cp_ynum true hA hL hs (fun z => by have := (hS.1 s).2 ⟨hs, z⟩; rw [hsu] at this; exact absurd this (by decide)) (fun _ far hf => br_t rfl ⟨rfl, cp_rel hA hG (Or.inr J)⟩)
theorem i_vc_prune {k : Nat} {u : SX} {v : SY} (I : i_Rel k u v) (hk : k + 4 ≤ 2048) : wpX_prune (fun r u' => wpY_prune (fun r' v' => r' = r ∧ i_Rel (k + 4) u' v') v) u := by
  obtain ⟨G, kn, wk, sf, su, lf, A, sl, wl, far, rfl, rfl, hA, hG, hI⟩ := I
  unfold wpX_prune wpY_prune
  dsimp only
  refine cp_xlearn hA hG hI fun kn wk sf su lf sl wl J => ?_
  dsimp only
  obtain ⟨r, A', hA', hX, hY⟩ := cp_prune (G := G) (kn := kn) (wk := wk) (sf := sf) (su := su) (lf := lf) (sl := sl) (wl := wl) (far := far) 24 0 rfl 0 A hA
  exact Exists.intro 25 (hX _ (cp_ysafe J.2.2 (Exists.intro 25 (hY _ ⟨rfl, cp_rel hA' hG (Or.inl rfl)⟩))))
theorem i_vc_hopeful {k : Nat} {u : SX} {v : SY} (I : i_Rel k u v) (hk : k + 4 ≤ 2048) : wpX_hopeful (fun r u' => wpY_hopeful (fun r' v' => r' = r ∧ i_Rel (k + 4) u' v') v) u := by
  obtain ⟨G, kn, wk, sf, su, lf, A, sl, wl, far, rfl, rfl, hA, hG, hI⟩ := I
  unfold wpX_hopeful wpY_hopeful
  dsimp only
  refine cp_xlearn hA hG hI fun kn wk sf su lf sl wl J => ?_
  obtain ⟨L, hL, hS⟩ := J.2.1
  dsimp only
  obtain ⟨r, hX, hY⟩ := cp_hop (G := G) (kn := kn) (wk := wk) (sf := sf) (su := su) (lf := lf) (A := A) (sl := sl) (wl := wl) 8 0 rfl 0
  refine nm_e (Exists.intro 9 (hX _ ?_))
  refine cp_ysafe J.2.2 (cp_ysure hA hL hS.1 fun far hf => ?_)
  exact Exists.intro 9 (hY far _ ⟨rfl, cp_rel hA hG (Or.inr J)⟩)
end
