section
theorem pk_us {f : Nat → Int32} {k : Nat} {x : Int32} : upd f k x k = x := if_pos rfl
theorem pk_un {f : Nat → Int32} {k j : Nat} {x : Int32} (h : j ≠ k) : upd f k x j = f j := if_neg h
theorem pk_sub {a b : Nat} (h : b ≤ a) : nI a - nI b = nI (a - b) := by
  obtain ⟨c, rfl⟩ : ∃ c, a = c + b := ⟨a - b, by omega⟩
  rw [← nI_add, Int32.add_sub_cancel, Nat.add_sub_cancel]
theorem pk_m1 (n : Nat) : nI (n + 1) + (-1) = nI n := by
  rw [← nI_1, Int32.add_assoc, show (1 : Int32) + (-1) = 0 from rfl, Int32.add_zero]
theorem pk_mul (a b : Nat) : nI a * nI b = nI (a * b) := (Int32.ofNat_mul a b).symm
theorem pk_ix (x : Int32) {n : Nat} (hn : n < 2 ^ 31) : x < 0 ∨ nI n ≤ x ∨ ∃ j : Nat, j < n ∧ x = nI j := by
  by_cases h : x < 0
  · exact Or.inl h
  · obtain ⟨j, hj, rfl⟩ := nI_of h
    by_cases h2 : j < n
    · exact Or.inr (Or.inr ⟨j, h2, rfl⟩)
    · exact Or.inr (Or.inl (nI_le (by omega) hj))
theorem pk_le {x y : Int32} {A B : Prop} (a b : Nat) (f : a ≤ b → A) (g : b < a → B) (hx : x = nI a := by rfl) (hy : y = nI b := by rfl) (ha : a < 2 ^ 31 := by omega) (hb : b < 2 ^ 31 := by omega) : (x ≤ y → A) ∧ (¬ x ≤ y → B) := by
  subst hx hy
  rw [nI_leI ha hb]
  exact ⟨f, fun z => g (by omega)⟩
theorem pk_lt {x y : Int32} {A B : Prop} (a b : Nat) (f : a < b → A) (g : b ≤ a → B) (hx : x = nI a := by rfl) (hy : y = nI b := by rfl) (ha : a < 2 ^ 31 := by omega) (hb : b < 2 ^ 31 := by omega) : (x < y → A) ∧ (¬ x < y → B) := by
  subst hx hy
  rw [nI_ltI ha hb]
  exact ⟨f, fun z => g (by omega)⟩
theorem pk_eq {x y : Int32} {A B : Prop} (a b : Nat) (f : a = b → A) (g : a ≠ b → B) (hx : x = nI a := by rfl) (hy : y = nI b := by rfl) (ha : a < 2 ^ 31 := by omega) (hb : b < 2 ^ 31 := by omega) : (x = y → A) ∧ (¬ x = y → B) := by
  subst hx hy
  rw [nI_eq ha hb]
  exact ⟨f, g⟩
theorem pk_in {x : Int32} (n N : Nat) (h : n < N) (hx : x = nI n := by rfl) (hN : N < 2 ^ 31 := by omega) : vp_in x N := by
  subst hx
  exact vp_in_nI h hN
theorem pk_cl {x : Int32} (n : Nat) (hx : x = nI n := by rfl) (h : n < 2 ^ 31 := by omega) : x.toNatClampNeg = n := by
  subst hx
  exact nI_clamp h
theorem pk_tn {n : Nat} (h : n < 2 ^ 32) : (nI n).toBitVec.toNat = n := Nat.mod_eq_of_lt h
theorem pk_vb (z : Int32) : vp_nar .byte z.toInt8.toInt32 = z.toInt8.toInt32 := by rw [vp_nar_byte]; simp
theorem pk_vs (z : Int32) : vp_nar .short z.toInt16.toInt32 = z.toInt16.toInt32 := by rw [vp_nar_short]; simp
theorem pk_loop {σ : Type} (W : Nat → Nat → σ → Prop) (I : Nat → σ → Prop) (e i0 : Nat) (s : σ) (hi : i0 ≤ e) (h0 : I i0 s) (hx : ∀ n s, I e s → W (n + 1) e s)
    (hs : ∀ n i s, i < e → I i s → (∀ s', I (i + 1) s' → W n (i + 1) s') → W (n + 1) i s) : ∃ n, W n i0 s :=
  ⟨e + 1, loop_i W I e hx hs (e + 1) i0 s hi (by omega) h0⟩
theorem pk_loopD {σ : Type} (W : Nat → Nat → σ → Prop) (I : Nat → σ → Prop) (hx : ∀ n s, I 0 s → W (n + 1) 0 s)
    (hs : ∀ n i s, I (i + 1) s → (∀ s', I i s' → W n i s') → W (n + 1) (i + 1) s) : ∀ (e : Nat) (s : σ), I e s → W (e + 1) e s := by
  intro e
  induction e with
  | zero => exact fun s h => hx 0 s h
  | succ e ih => exact fun s h => hs (e + 1) e s h (fun s' h' => ih s' h')
def bt (x : Int32) (i : Nat) : Bool := x.toBitVec.getLsbD i
theorem b_ext {x y : Int32} (h : ∀ i, i < 32 → bt x i = bt y i) : x = y := Int32.toBitVec_inj.mp (BitVec.eq_of_getLsbD_eq (fun i hi => h i hi))
theorem b_or (x y : Int32) (i : Nat) : bt (x ||| y) i = (bt x i || bt y i) := by unfold bt; rw [Int32.toBitVec_or, BitVec.getLsbD_or]
theorem b_and (x y : Int32) (i : Nat) : bt (x &&& y) i = (bt x i && bt y i) := by unfold bt; rw [Int32.toBitVec_and, BitVec.getLsbD_and]
theorem b_xor (x y : Int32) (i : Nat) : bt (x ^^^ y) i = (bt x i ^^ bt y i) := by unfold bt; rw [Int32.toBitVec_xor, BitVec.getLsbD_xor]
theorem b_big {x : Int32} {i : Nat} (h : 32 ≤ i) : bt x i = false := BitVec.getLsbD_of_ge _ _ h
theorem b_m1 : ∀ i, i < 32 → bt (-1) i = true := by decide +kernel
theorem b_0 (i : Nat) : bt 0 i = false := BitVec.getLsbD_zero
theorem s_l : ∀ n, n < 32 → ((nI n &&& 31).toBitVec.smod 32).toNat = n := by decide +kernel
theorem b_shl (n : Nat) (hn : n < 32) (x : Int32) {i : Nat} (hi : i < 32) : bt (x <<< (nI n &&& 31)) i = (decide (n ≤ i) && bt x (i - n)) := by
  unfold bt
  rw [Int32.toBitVec_shiftLeft]
  show (x.toBitVec <<< ((nI n &&& 31).toBitVec.smod 32).toNat).getLsbD i = _
  rw [s_l n hn, BitVec.getLsbD_shiftLeft]
  rcases Nat.lt_or_ge i n with h | h
  · simp [h, Nat.not_le.mpr h]
  · simp [hi, h, Nat.not_lt.mpr h]
theorem b_sshr (n : Nat) (hn : n < 32) (x : Int32) {i : Nat} (hi : i < 32) : bt (x >>> (nI n &&& 31)) i = if n + i < 32 then bt x (n + i) else bt x 31 := by
  unfold bt
  rw [Int32.toBitVec_shiftRight]
  show (x.toBitVec.sshiftRight ((nI n &&& 31).toBitVec.smod 32).toNat).getLsbD i = _
  rw [s_l n hn, BitVec.getLsbD_sshiftRight, BitVec.msb_eq_getLsbD_last]
  simp [hi]
end
section
/-! bits of masks -/
theorem cd_b1 : ∀ i, i < 32 → bt 1 i = decide (i = 0) := by decide +kernel
theorem cd_bit {x : Int32} {u : Nat} (hu : u < 32) : ((x >>> (nI u &&& 31)) &&& 1) = if bt x u = true then 1 else 0 := by
  apply b_ext
  intro i hi
  rw [b_and, b_sshr u hu x hi, cd_b1 i hi]
  by_cases h : i = 0
  · subst h
    rw [if_pos (show u + 0 < 32 from hu), Nat.add_zero]
    cases bt x u
    · decide
    · decide
  · rw [decide_eq_false h, Bool.and_false]
    cases bt x u
    · exact (b_0 i).symm
    · exact ((cd_b1 i hi).trans (decide_eq_false h)).symm
theorem cd_bit0 {x : Int32} {u : Nat} (hu : u < 32) : ((x >>> (nI u &&& 31)) &&& 1) = 0 ↔ bt x u = false := by
  rw [cd_bit hu]
  cases bt x u
  · exact ⟨fun _ => rfl, fun _ => rfl⟩
  · exact ⟨fun h => absurd h (by decide), fun h => nomatch h⟩
theorem cd_bit1 {x : Int32} {u : Nat} (hu : u < 32) : ((x >>> (nI u &&& 31)) &&& 1) = 1 ↔ bt x u = true := by
  rw [cd_bit hu]
  cases bt x u
  · exact ⟨fun h => absurd h (by decide), fun h => nomatch h⟩
  · exact ⟨fun _ => rfl, fun _ => rfl⟩
theorem cd_shl {u : Nat} (hu : u < 32) (i : Nat) : bt ((1 : Int32) <<< (nI u &&& 31)) i = decide (i = u) := by
  by_cases hi : i < 32
  · rw [b_shl u hu 1 hi]
    by_cases h : u ≤ i
    · rw [decide_eq_true h, Bool.true_and, cd_b1 (i - u) (by omega)]
      apply decide_eq_decide.mpr
      omega
    · rw [decide_eq_false h, Bool.false_and]
      exact (decide_eq_false (by omega)).symm
  · rw [b_big (by omega)]
    exact (decide_eq_false (by omega)).symm
theorem cd_andn (x y : Int32) (i : Nat) : bt (x &&& (y ^^^ (-1))) i = (bt x i && !bt y i) := by
  by_cases hi : i < 32
  · rw [b_and, b_xor, b_m1 i hi, Bool.xor_true]
  · rw [b_and, b_big (x := x) (by omega), Bool.false_and, Bool.false_and]
theorem cd_orn {u : Nat} (hu : u < 32) (x : Int32) (i : Nat) : bt (x ||| ((1 : Int32) <<< (nI u &&& 31))) i = (bt x i || decide (i = u)) := by
  rw [b_or, cd_shl hu]
theorem cd_clr {u : Nat} (hu : u < 32) (x : Int32) (i : Nat) : bt (x &&& (((1 : Int32) <<< (nI u &&& 31)) ^^^ (-1))) i = (bt x i && !decide (i = u)) := by
  rw [cd_andn, cd_shl hu]
def cd_Sub (x y : Int32) : Prop := ∀ i, bt x i = true → bt y i = true
theorem cd_sub0 {x y : Int32} : (x &&& (y ^^^ (-1))) = 0 ↔ cd_Sub x y := by
  constructor
  · intro h i hx
    have e := cd_andn x y i
    rw [h, b_0, hx] at e
    cases hy : bt y i
    · rw [hy] at e
      exact nomatch e
    · rfl
  · intro h
    apply b_ext
    intro i hi
    rw [cd_andn, b_0]
    cases hx : bt x i
    · rfl
    · rw [h i hx]
      rfl
theorem cd_and1 {u : Nat} (hu : u < 32) {x : Int32} : (((1 : Int32) <<< (nI u &&& 31)) &&& x) = 0 ↔ bt x u = false := by
  constructor
  · intro h
    have e := b_and ((1 : Int32) <<< (nI u &&& 31)) x u
    rw [h, b_0, cd_shl hu, decide_eq_true rfl, Bool.true_and] at e
    exact e.symm
  · intro h
    apply b_ext
    intro i hi
    rw [b_and, b_0, cd_shl hu]
    by_cases e : i = u
    · rw [e, h, Bool.and_false]
    · rw [decide_eq_false e, Bool.false_and]
theorem cd_0and (x : Int32) : (0 : Int32) &&& x = 0 := by
  apply b_ext
  intro i hi
  rw [b_and, b_0, Bool.false_and]
theorem cd_or0 (x : Int32) : x ||| 0 = x := by
  apply b_ext
  intro i hi
  rw [b_or, b_0, Bool.or_false]
theorem cd_sub1 {u : Nat} (hu : u < 32) {x : Int32} : cd_Sub ((1 : Int32) <<< (nI u &&& 31)) x ↔ bt x u = true := by
  constructor
  · intro h
    exact h u (by rw [cd_shl hu]; exact decide_eq_true rfl)
  · intro h i hi
    rw [cd_shl hu] at hi
    rw [of_decide_eq_true hi]
    exact h
theorem cd_sz (x : Int32) : cd_Sub 0 x := by
  intro i hi
  rw [b_0] at hi
  exact nomatch hi
theorem cd_sr (x : Int32) : cd_Sub x x := fun _ h => h
theorem cd_st {x y z : Int32} (a : cd_Sub x y) (b : cd_Sub y z) : cd_Sub x z := fun i h => b i (a i h)
theorem cd_sa {x y : Int32} (a : cd_Sub x y) (b : cd_Sub y x) : x = y := by
  apply b_ext
  intro i _
  cases hx : bt x i
  · cases hy : bt y i
    · rfl
    · rw [b i hy] at hx
      exact nomatch hx
  · exact (a i hx).symm
theorem cd_nf {x : Bool} (h : ¬ x = false) : x = true := by cases x; exact absurd rfl h; rfl
theorem cd_nt {x : Bool} (h : ¬ x = true) : x = false := by cases x; rfl; exact absurd rfl h
theorem cd_ft {x : Bool} {p : Prop} (h : x = false) (k : x = true) : p := by rw [h] at k; exact nomatch k
/-! masks of nine bits by their numbers -/
theorem cd_bn {s : Nat} (hs : s < 512) (i : Nat) : bt (nI s) i = s.testBit i := by
  show (BitVec.ofNat 32 s).getLsbD i = _
  rw [BitVec.getLsbD_ofNat]
  by_cases hi : i < 32
  · rw [decide_eq_true hi, Bool.true_and]
  · rw [decide_eq_false hi, Bool.false_and]
    exact (Nat.testBit_lt_two_pow (Nat.lt_of_lt_of_le hs (Nat.pow_le_pow_right (n := 2) (by decide) (show 9 ≤ i by omega)))).symm
theorem cd_big {s i : Nat} (hs : s < 512) (hi : 9 ≤ i) : bt (nI s) i = false := by
  rw [cd_bn hs]
  exact Nat.testBit_lt_two_pow (Nat.lt_of_lt_of_le hs (Nat.pow_le_pow_right (n := 2) (by decide) hi))
theorem cd_mk {x : Int32} (h : ∀ i, 9 ≤ i → bt x i = false) : ∃ s, s < 512 ∧ x = nI s := by
  refine ⟨x.toBitVec.toNat, ?_, ?_⟩
  · apply Nat.lt_pow_two_of_testBit (n := 9)
    intro i hi
    rw [BitVec.testBit_toNat]
    exact h i hi
  · apply Int32.toBitVec_inj.1
    show x.toBitVec = BitVec.ofNat 32 x.toBitVec.toNat
    simp
theorem cd_mle {s t : Nat} (hs : s < 512) (ht : t < 512) (h : cd_Sub (nI s) (nI t)) : s ≤ t := by
  have e : s &&& t = s := by
    apply Nat.eq_of_testBit_eq
    intro i
    rw [Nat.testBit_and]
    cases hb : s.testBit i
    · rfl
    · have := h i (by rw [cd_bn hs]; exact hb)
      rw [cd_bn ht] at this
      rw [this]
      rfl
  rw [← e]
  exact Nat.and_le_right
/-! small stores -/
theorem cd_t16 {x : Int32} (h : ∀ i, 9 ≤ i → bt x i = false) : vp_nar .short x.toInt16.toInt32 = x := by
  obtain ⟨s, hs, rfl⟩ := cd_mk h
  rw [pk_vs]
  exact lg_i2s_small (by rw [nI_toInt (by omega)]; omega) (by rw [nI_toInt (by omega)]; omega)
theorem cd_t8 {x : Int32} (h1 : -128 ≤ x.toInt) (h2 : x.toInt < 128) : vp_nar .byte x.toInt8.toInt32 = x := by
  rw [pk_vb]
  exact lg_i2b_small h1 h2
theorem cd_t8n {n : Nat} (h : n < 128) : vp_nar .byte (nI n).toInt8.toInt32 = nI n :=
  cd_t8 (by rw [nI_toInt (by omega)]; omega) (by rw [nI_toInt (by omega)]; omega)
theorem cd_cell {a b : Nat} : nI a * 11 + nI b = nI (a * 11 + b) := by
  show nI a * nI 11 + nI b = _
  rw [pk_mul, nI_add]
theorem cd_i50 : (50 : Int32).toInt = 50 := by decide
theorem cd_im50 : (-50 : Int32).toInt = -50 := by decide
theorem cd_i0 : (0 : Int32).toInt = 0 := by decide
end
section
/-! sums of ints -/
def cd_su (f : Nat → Int) : Nat → Int
  | 0 => 0
  | n + 1 => cd_su f n + f n
theorem cd_su_c {f g : Nat → Int} : ∀ {n : Nat}, (∀ i, i < n → f i = g i) → cd_su f n = cd_su g n := by
  intro n
  induction n with
  | zero => exact fun _ => rfl
  | succ n ih =>
    intro h
    show cd_su f n + f n = cd_su g n + g n
    rw [ih (fun i hi => h i (by omega)), h n (by omega)]
theorem cd_su_le {f g : Nat → Int} : ∀ {n : Nat}, (∀ i, i < n → f i ≤ g i) → cd_su f n ≤ cd_su g n := by
  intro n
  induction n with
  | zero => exact fun _ => Int.le_refl _
  | succ n ih =>
    intro h
    show cd_su f n + f n ≤ cd_su g n + g n
    have a := ih (fun i hi => h i (by omega))
    have b := h n (by omega)
    omega
theorem cd_su_lt {f g : Nat → Int} {j : Nat} : ∀ {n : Nat}, (∀ i, i < n → f i ≤ g i) → j < n → f j < g j → cd_su f n < cd_su g n := by
  intro n
  induction n with
  | zero => exact fun _ h => absurd h (by omega)
  | succ n ih =>
    intro h hj hl
    show cd_su f n + f n < cd_su g n + g n
    have b := h n (by omega)
    by_cases e : j = n
    · subst e
      have a := cd_su_le (f := f) (g := g) (n := j) (fun i hi => h i (by omega))
      omega
    · have a := ih (fun i hi => h i (by omega)) (by omega) hl
      omega
theorem cd_su_add (f g : Nat → Int) (n : Nat) : cd_su (fun i => f i + g i) n = cd_su f n + cd_su g n := by
  induction n with
  | zero => rfl
  | succ n ih =>
    show cd_su (fun i => f i + g i) n + (f n + g n) = (cd_su f n + f n) + (cd_su g n + g n)
    rw [ih]
    omega
theorem cd_su_k (c : Int) (n : Nat) : cd_su (fun _ => c) n = n * c := by
  induction n with
  | zero => simp [cd_su]
  | succ n ih =>
    show cd_su (fun _ => c) n + c = _
    rw [ih, Int.natCast_add, Int.add_mul]
    simp
theorem cd_su_z {f : Nat → Int} {n : Nat} (h : ∀ i, i < n → f i = 0) : cd_su f n = 0 := by
  rw [cd_su_c (g := fun _ => 0) h, cd_su_k, Int.mul_zero]
theorem cd_su_nn {f : Nat → Int} {n : Nat} (h : ∀ i, i < n → 0 ≤ f i) : 0 ≤ cd_su f n := by
  have := cd_su_le (f := fun _ => 0) (g := f) h
  rw [cd_su_k, Int.mul_zero] at this
  exact this
theorem cd_su_upd {f g : Nat → Int} {j : Nat} : ∀ {n : Nat}, j < n → (∀ i, i < n → i ≠ j → f i = g i) → cd_su f n = cd_su g n + (f j - g j) := by
  intro n
  induction n with
  | zero => exact fun h => absurd h (by omega)
  | succ n ih =>
    intro hj h
    show cd_su f n + f n = cd_su g n + g n + (f j - g j)
    by_cases e : j = n
    · subst e
      rw [cd_su_c (f := f) (g := g) (n := j) (fun i hi => h i (by omega) (by omega))]
      omega
    · rw [ih (by omega) (fun i hi => h i (by omega)), h n (by omega) (by omega)]
      omega
theorem cd_su_pt {f : Nat → Int} {n j : Nat} (h : ∀ i, i < n → 0 ≤ f i) (hj : j < n) : f j ≤ cd_su f n := by
  have e := cd_su_upd (f := fun i => if i = j then 0 else f i) (g := f) hj (fun i _ hne => if_neg hne)
  have a : 0 ≤ cd_su (fun i => if i = j then 0 else f i) n := cd_su_nn (fun i hi => by
    try dsimp only
    split
    · exact Int.le_refl _
    · exact h i hi)
  try dsimp only at e
  rw [if_pos rfl] at e
  omega
theorem cd_su_zz {f : Nat → Int} {n j : Nat} (h : ∀ i, i < n → 0 ≤ f i) (hz : cd_su f n ≤ 0) (hj : j < n) : f j = 0 := by
  have a := cd_su_pt h hj
  have b := h j hj
  omega
theorem cd_su_app (f : Nat → Int) (n : Nat) : ∀ k, cd_su f (n + k) = cd_su f n + cd_su (fun b => f (n + b)) k := by
  intro k
  induction k with
  | zero => exact (Int.add_zero _).symm
  | succ k ih =>
    show cd_su f (n + k) + f (n + k) = cd_su f n + (cd_su (fun b => f (n + b)) k + f (n + k))
    rw [ih]
    omega
theorem cd_su_mul (f : Nat → Int) (m : Nat) : ∀ n, cd_su f (n * m) = cd_su (fun a => cd_su (fun b => f (a * m + b)) m) n := by
  intro n
  induction n with
  | zero => rw [Nat.zero_mul]; rfl
  | succ n ih =>
    rw [Nat.succ_mul, cd_su_app, ih]
    rfl
theorem cd_su_sw (f : Nat → Nat → Int) (m : Nat) : ∀ n, cd_su (fun i => cd_su (fun j => f i j) m) n = cd_su (fun j => cd_su (fun i => f i j) n) m := by
  intro n
  induction n with
  | zero => exact (cd_su_z (fun _ _ => rfl)).symm
  | succ n ih =>
    show cd_su (fun i => cd_su (fun j => f i j) m) n + cd_su (fun j => f n j) m = cd_su (fun j => cd_su (fun i => f i j) n + f n j) m
    rw [ih, cd_su_add]
theorem cd_su_one {n c : Nat} (hc : c < n) (x : Int) : cd_su (fun i => if i = c then x else 0) n = x := by
  have e := cd_su_upd (f := fun i => if i = c then x else 0) (g := fun _ => 0) hc (fun i _ hne => if_neg hne)
  try dsimp only at e
  rw [e, cd_su_k, if_pos rfl]
  omega
/-! how many bits -/
def cd_pc (s : Int32) (n : Nat) : Int := cd_su (fun i => if bt s i = true then 1 else 0) n
theorem cd_pc_le (s : Int32) (n : Nat) : cd_pc s n ≤ n := by
  have := cd_su_le (f := fun i => if bt s i = true then 1 else 0) (g := fun _ => 1) (n := n) (fun i _ => by
    try dsimp only
    split
    · exact Int.le_refl _
    · decide)
  rw [cd_su_k] at this
  unfold cd_pc
  omega
theorem cd_pc_nn (s : Int32) (n : Nat) : 0 ≤ cd_pc s n := cd_su_nn (fun i _ => by
    try dsimp only
    split
    · decide
    · exact Int.le_refl _)
theorem cd_pc_lt {s t : Int32} {n j : Nat} (h : cd_Sub s t) (hj : j < n) (hs : bt s j = false) (ht : bt t j = true) : cd_pc s n < cd_pc t n := by
  refine cd_su_lt (j := j) (fun i _ => ?_) hj ?_
  · try dsimp only
    cases hb : bt s i
    · cases bt t i <;> decide
    · rw [h i hb]
      decide
  · try dsimp only
    rw [hs, ht]
    decide
theorem cd_pc_add {s t : Int32} {n j : Nat} (hj : j < n) (hs : bt s j = false) (ht : ∀ i, bt t i = (bt s i || decide (i = j))) : cd_pc t n = cd_pc s n + 1 := by
  unfold cd_pc
  rw [cd_su_upd (f := fun i => if bt t i = true then 1 else 0) (g := fun i => if bt s i = true then 1 else 0) hj (fun i _ hne => by
    try dsimp only
    rw [ht, decide_eq_false hne, Bool.or_false])]
  rw [ht, hs, decide_eq_true rfl]
  rfl
end
section
/-! the plain law: cuts of the room, closed sets -/
def cd_Cl (P : Int32) (N : Nat → Int32) (s : Int32) : Prop := cd_Sub s P ∧ ∀ u, u < 9 → bt s u = true → cd_Sub (N u) s
def cd_St (P : Int32) (N : Nat → Int32) : Prop := (∀ i, 9 ≤ i → bt P i = false) ∧ ∀ u, u < 9 → cd_Sub (N u) P
def cd_ws (W : Nat → Int32) (s : Int32) : Int := cd_su (fun u => if bt s u = true then (W u).toInt else 0) 9
def cd_cut (S : Nat → Bool) (R : Nat → Int32) : Int := cd_su (fun i => if (S (i / 11) && !S (i % 11)) = true then (R i).toInt else 0) 121
def cd_cap (P : Int32) (N A : Nat → Int32) (k a b : Nat) : Int32 :=
  if a = 9 then (if b < k ∧ bt P b = true ∧ ¬ A b ≤ 0 then A b else 0)
  else if a < k ∧ bt P a = true then (if b = 10 then (if 0 ≤ A a then 0 else -A a) else if b < 9 ∧ bt (N a) b = true then 1048576 else 0)
  else 0
def cd_R0 (P : Int32) (N A : Nat → Int32) (k : Nat) (R : Nat → Int32) : Prop := ∀ a b, a < 11 → b < 11 → R (a * 11 + b) = cd_cap P N A k a b
def cd_mx (x : Int32) : Int := if 0 < x.toInt then x.toInt else 0
def cd_mn (x : Int32) : Int := if x.toInt < 0 then -x.toInt else 0
def cd_P0 (P : Int32) (A : Nat → Int32) (k : Nat) : Int := cd_su (fun u => if bt P u = true then cd_mx (A u) else 0) k
def cd_Ab (A : Nat → Int32) : Prop := ∀ i, i < 9 → -1000 ≤ (A i).toInt ∧ (A i).toInt ≤ 1000
def cd_row (P : Int32) (N A : Nat → Int32) (S : Nat → Bool) (a : Nat) : Int :=
  (if (S a && bt P a) = true then cd_mn (A a) + cd_su (fun b => if (bt (N a) b && !S b) = true then 1048576 else 0) 9 else 0) + (if (!S a && bt P a) = true then cd_mx (A a) else 0)
theorem cd_ile {x : Int32} : x ≤ 0 ↔ x.toInt ≤ 0 := by rw [Int32.le_iff_toInt_le, cd_i0]
theorem cd_ige {x : Int32} : 0 ≤ x ↔ 0 ≤ x.toInt := by rw [Int32.le_iff_toInt_le, cd_i0]
theorem cd_ihuge : (1048576 : Int32).toInt = 1048576 := by decide
theorem cd_cap9 {P : Int32} {N A : Nat → Int32} {b : Nat} (hb : b < 9) : (cd_cap P N A 9 9 b).toInt = if bt P b = true then cd_mx (A b) else 0 := by
  unfold cd_cap cd_mx
  rw [if_pos rfl]
  by_cases hp : bt P b = true
  · by_cases h0 : A b ≤ 0
    · have h1 := cd_ile.mp h0
      rw [if_neg (fun h => h.2.2 h0), if_pos hp, if_neg (by omega), cd_i0]
    · have h1 : ¬ (A b).toInt ≤ 0 := fun z => h0 (cd_ile.mpr z)
      rw [if_pos ⟨hb, hp, h0⟩, if_pos hp, if_pos (by omega)]
  · rw [if_neg (fun h => hp h.2.1), if_neg hp, cd_i0]
theorem cd_capn {P : Int32} {N A : Nat → Int32} {a b : Nat} (ha : a < 9) (hp : bt P a = false) : cd_cap P N A 9 a b = 0 := by
  unfold cd_cap
  rw [if_neg (by omega), if_neg (fun h => cd_ft hp h.2)]
theorem cd_cap10 {P : Int32} {N A : Nat → Int32} {a : Nat} (hA : cd_Ab A) (ha : a < 9) (hp : bt P a = true) : (cd_cap P N A 9 a 10).toInt = cd_mn (A a) := by
  unfold cd_cap cd_mn
  rw [if_neg (by omega), if_pos ⟨ha, hp⟩, if_pos rfl]
  by_cases h0 : 0 ≤ A a
  · have h1 := cd_ige.mp h0
    rw [if_pos h0, if_neg (by omega), cd_i0]
  · have h1 : ¬ 0 ≤ (A a).toInt := fun z => h0 (cd_ige.mpr z)
    rw [if_neg h0, if_pos (by omega)]
    have := hA a ha
    exact Jvm.Kit.i32_neg (by omega)
theorem cd_capN {P : Int32} {N A : Nat → Int32} {a b : Nat} (ha : a < 9) (hp : bt P a = true) (hb : b < 9) : (cd_cap P N A 9 a b).toInt = if bt (N a) b = true then 1048576 else 0 := by
  unfold cd_cap
  rw [if_neg (by omega), if_pos ⟨ha, hp⟩, if_neg (by omega)]
  by_cases h : bt (N a) b = true
  · rw [if_pos ⟨hb, h⟩, if_pos h, cd_ihuge]
  · rw [if_neg (fun z => h z.2), if_neg h, cd_i0]
theorem cd_su11 (f : Nat → Int) : cd_su f 11 = cd_su f 9 + f 9 + f 10 := rfl
theorem cd_cut0 {P : Int32} {N A R : Nat → Int32} {S : Nat → Bool} (hR : cd_R0 P N A 9 R) (hA : cd_Ab A) (h9 : S 9 = true) (h10 : S 10 = false) : cd_cut S R = cd_su (cd_row P N A S) 9 := by
  have e1 : cd_cut S R = cd_su (fun a => cd_su (fun b => if (S a && !S b) = true then (cd_cap P N A 9 a b).toInt else 0) 11) 11 := by
    unfold cd_cut
    rw [show (121 : Nat) = 11 * 11 from rfl, cd_su_mul]
    refine cd_su_c (fun a ha => cd_su_c (fun b hb => ?_))
    try dsimp only
    rw [show (a * 11 + b) / 11 = a by omega, show (a * 11 + b) % 11 = b by omega, hR a b ha hb]
  have r10 : cd_su (fun b => if (S 10 && !S b) = true then (cd_cap P N A 9 10 b).toInt else 0) 11 = 0 := by
    refine cd_su_z (fun b _ => ?_)
    rw [h10]
    rfl
  have r9 : cd_su (fun b => if (S 9 && !S b) = true then (cd_cap P N A 9 9 b).toInt else 0) 11 = cd_su (fun b => if (!S b && bt P b) = true then cd_mx (A b) else 0) 9 := by
    rw [cd_su11]
    have z9 : (if (S 9 && !S 9) = true then (cd_cap P N A 9 9 9).toInt else 0) = 0 := by
      rw [h9]
      rfl
    have z10 : (if (S 9 && !S 10) = true then (cd_cap P N A 9 9 10).toInt else 0) = 0 := by
      have : cd_cap P N A 9 9 10 = 0 := by
        unfold cd_cap
        rw [if_pos rfl, if_neg (fun z => absurd z.1 (by omega))]
      rw [this, cd_i0]
      split <;> rfl
    rw [z9, z10, Int.add_zero, Int.add_zero]
    refine cd_su_c (fun b hb => ?_)
    try dsimp only
    rw [h9, cd_cap9 hb, Bool.true_and]
    cases S b <;> cases bt P b <;> rfl
  rw [e1, cd_su11, r10, r9, Int.add_zero, ← cd_su_add]
  refine cd_su_c (fun a ha => ?_)
  try dsimp only
  unfold cd_row
  congr 1
  cases hS : S a
  · rw [Bool.false_and, if_neg (by decide)]
    exact cd_su_z (fun b _ => rfl)
  · cases hp : bt P a
    · rw [Bool.and_false, if_neg (by decide)]
      refine cd_su_z (fun b _ => ?_)
      rw [cd_capn ha hp, cd_i0]
      split <;> rfl
    · rw [Bool.true_and, if_pos rfl, cd_su11]
      have z9 : (if (true && !S 9) = true then (cd_cap P N A 9 a 9).toInt else 0) = 0 := by
        rw [h9]
        rfl
      have z10 : (if (true && !S 10) = true then (cd_cap P N A 9 a 10).toInt else 0) = cd_mn (A a) := by
        rw [h10, cd_cap10 hA ha hp]
        rfl
      rw [z9, z10, Int.add_zero, Int.add_comm]
      congr 1
      refine cd_su_c (fun b hb => ?_)
      try dsimp only
      rw [cd_capN ha hp hb]
      cases S b <;> cases bt (N a) b <;> rfl
def cd_cls (P : Int32) (N : Nat → Int32) (S : Nat → Bool) : Prop := ∀ a, a < 9 → S a = true → bt P a = true → ∀ b, bt (N a) b = true → S b = true
theorem cd_mnx (x : Int32) : cd_mn x + x.toInt = cd_mx x := by
  unfold cd_mn cd_mx
  split <;> split <;> omega
theorem cd_mn0 (x : Int32) : 0 ≤ cd_mn x := by
  unfold cd_mn
  split <;> omega
theorem cd_mx0 (x : Int32) : 0 ≤ cd_mx x := by
  unfold cd_mx
  split <;> omega
theorem cd_cutC {P : Int32} {N A : Nat → Int32} {S : Nat → Bool} (hc : cd_cls P N S) : cd_su (cd_row P N A S) 9 = cd_P0 P A 9 - cd_su (fun a => if (S a && bt P a) = true then (A a).toInt else 0) 9 := by
  have e : cd_su (cd_row P N A S) 9 + cd_su (fun a => if (S a && bt P a) = true then (A a).toInt else 0) 9 = cd_P0 P A 9 := by
    rw [← cd_su_add]
    refine cd_su_c (fun a ha => ?_)
    try dsimp only
    unfold cd_row
    cases hp : bt P a
    · rw [Bool.and_false, Bool.and_false, if_neg (by decide)]
      rfl
    · cases hS : S a
      · show 0 + cd_mx (A a) + 0 = cd_mx (A a)
        omega
      · show cd_mn (A a) + cd_su (fun b => if (bt (N a) b && !S b) = true then 1048576 else 0) 9 + 0 + (A a).toInt = cd_mx (A a)
        rw [cd_su_z (fun b hb => by
          try dsimp only
          cases hN : bt (N a) b
          · rfl
          · rw [hc a ha hS hp b hN]
            rfl)]
        have := cd_mnx (A a)
        omega
  omega
theorem cd_row0 (P : Int32) (N A : Nat → Int32) (S : Nat → Bool) (a : Nat) : 0 ≤ cd_row P N A S a := by
  unfold cd_row
  have h1 := cd_mn0 (A a)
  have h2 := cd_mx0 (A a)
  have h3 : 0 ≤ cd_su (fun b => if (bt (N a) b && !S b) = true then 1048576 else 0) 9 := cd_su_nn (fun b _ => by
    try dsimp only
    split <;> decide)
  split <;> split <;> omega
theorem cd_cutN {P : Int32} {N A : Nat → Int32} {S : Nat → Bool} (hSt : cd_St P N) (hn : ¬ cd_cls P N S) : 1048576 ≤ cd_su (cd_row P N A S) 9 := by
  apply Classical.byContradiction
  intro h
  apply hn
  intro a ha hS hp b hb
  apply cd_nf
  intro hSb
  apply h
  have hb9 : b < 9 := by
    apply Classical.byContradiction
    intro hb9
    exact cd_ft (hSt.1 b (by omega)) (hSt.2 a ha b hb)
  have h1 := cd_su_pt (f := cd_row P N A S) (fun i (_ : i < 9) => cd_row0 P N A S i) ha
  have h2 := cd_su_pt (f := fun b => if (bt (N a) b && !S b) = true then (1048576 : Int) else 0) (n := 9) (fun i _ => by
    try dsimp only
    split <;> decide) hb9
  try dsimp only at h2
  rw [hb, hSb] at h2
  have h3 : (1048576 : Int) ≤ cd_su (fun b => if (bt (N a) b && !S b) = true then (1048576 : Int) else 0) 9 := h2
  have h4 := cd_mn0 (A a)
  have h5 := cd_mx0 (A a)
  have h6 : cd_row P N A S a = cd_mn (A a) + cd_su (fun b => if (bt (N a) b && !S b) = true then (1048576 : Int) else 0) 9 + 0 := by
    unfold cd_row
    rw [hS, hp]
    rfl
  omega
def cd_Rc (S : Nat → Bool) (R : Nat → Int32) : Prop := ∀ a b, a < 11 → b < 11 → S a = true → S b = false → (R (a * 11 + b)).toInt ≤ 0
def cd_Nn (R : Nat → Int32) : Prop := ∀ i, i < 121 → 0 ≤ (R i).toInt
theorem cd_cut_t {S : Nat → Bool} {R : Nat → Int32} (nn : cd_Nn R) : ∀ i, i < 121 → 0 ≤ (if (S (i / 11) && !S (i % 11)) = true then (R i).toInt else 0) := by
  intro i hi
  split
  · exact nn i hi
  · exact Int.le_refl _
theorem cd_cut_nn {S : Nat → Bool} {R : Nat → Int32} (nn : cd_Nn R) : 0 ≤ cd_cut S R := cd_su_nn (cd_cut_t nn)
theorem cd_cut_z {S : Nat → Bool} {R : Nat → Int32} (nn : cd_Nn R) : cd_cut S R ≤ 0 ↔ cd_Rc S R := by
  constructor
  · intro h a b ha hb hSa hSb
    have e := cd_su_zz (cd_cut_t (S := S) nn) h (show a * 11 + b < 121 by omega)
    rw [show (a * 11 + b) / 11 = a by omega, show (a * 11 + b) % 11 = b by omega, hSa, hSb] at e
    exact Int.le_of_eq e
  · intro h
    apply Int.le_of_eq
    refine cd_su_z (fun i hi => ?_)
    cases hSa : S (i / 11)
    · rfl
    · cases hSb : S (i % 11)
      · have := h (i / 11) (i % 11) (by omega) (by omega) hSa hSb
        rw [show i / 11 * 11 + i % 11 = i by omega] at this
        have n := nn i hi
        show (R i).toInt = 0
        omega
      · rfl
/-- what the search finds -/
def cd_Bf (R : Nat → Int32) (fs : Int32) : Prop := bt fs 9 = true ∧ (∀ i, 11 ≤ i → bt fs i = false) ∧ cd_Rc (bt fs) R ∧ ∀ S : Nat → Bool, S 9 = true → cd_Rc S R → ∀ i, bt fs i = true → S i = true
def cd_Fl (P : Int32) (N A R : Nat → Int32) (fs r : Int32) : Prop :=
  cd_Nn R ∧ cd_Bf R fs ∧ bt fs 10 = false ∧ ∃ (R0 : Nat → Int32) (tot : Int), cd_R0 P N A 9 R0 ∧ (∀ S : Nat → Bool, S 9 = true → S 10 = false → cd_cut S R = cd_cut S R0 - tot) ∧ r.toInt = cd_P0 P A 9 - tot
def cd_ns (s : Int32) : Nat → Bool := fun i => decide (i = 9) || bt s i
theorem cd_ns9 (s : Int32) : cd_ns s 9 = true := rfl
theorem cd_nsn {s : Int32} {i : Nat} (h : i ≠ 9) : cd_ns s i = bt s i := by
  unfold cd_ns
  rw [decide_eq_false h, Bool.false_or]
theorem cd_ns10 {P : Int32} {N : Nat → Int32} {s : Int32} (hSt : cd_St P N) (h : cd_Sub s P) : cd_ns s 10 = false := by
  rw [cd_nsn (by decide)]
  apply cd_nt
  intro z
  exact cd_ft (hSt.1 10 (by decide)) (h 10 z)
def cd_Rs (s : Int32) (R : Nat → Int32) : Prop := cd_Rc (cd_ns s) R
def cd_Res (P : Int32) (N A R : Nat → Int32) (r : Int32) : Prop :=
  (∀ s, cd_Cl P N s → cd_ws A s ≤ r.toInt) ∧ (∀ s, cd_Cl P N s → cd_ws A s = r.toInt → cd_Rs s R) ∧
  (∀ s, cd_Sub s P → cd_Rs s R → cd_Cl P N s ∧ cd_ws A s = r.toInt) ∧
  ∀ (S : Nat → Bool) (s : Int32), S 9 = true → S 10 = false → (∀ i, bt s i = (S i && bt P i)) → cd_Rc S R → cd_Rs s R
theorem cd_wsP {P : Int32} {A : Nat → Int32} {s : Int32} (h : cd_Sub s P) : cd_su (fun a => if (cd_ns s a && bt P a) = true then (A a).toInt else 0) 9 = cd_ws A s := by
  refine cd_su_c (fun a ha => ?_)
  try dsimp only
  rw [cd_nsn (by omega)]
  cases hs : bt s a
  · rfl
  · rw [h a hs]
    rfl
theorem cd_clsN {P : Int32} {N : Nat → Int32} {s : Int32} (h : cd_Sub s P) (hc : cd_cls P N (cd_ns s)) (hSt : cd_St P N) : cd_Cl P N s := by
  refine ⟨h, fun u hu hs i hi => ?_⟩
  have := hc u hu (by rw [cd_nsn (by omega)]; exact hs) (h u hs) i hi
  by_cases e : i = 9
  · subst e
    exact cd_ft (hSt.1 9 (by decide)) (hSt.2 u hu 9 hi)
  · rw [cd_nsn e] at this
    exact this
theorem cd_clN {P : Int32} {N : Nat → Int32} {s : Int32} (h : cd_Cl P N s) : cd_cls P N (cd_ns s) := by
  intro a ha hS _ b hb
  rw [cd_nsn (by omega)] at hS
  have := h.2 a ha hS b hb
  unfold cd_ns
  rw [this, Bool.or_true]
theorem cd_cl0 (P : Int32) (N : Nat → Int32) : cd_Cl P N 0 := by
  refine ⟨cd_sz P, fun u _ h => ?_⟩
  rw [b_0] at h
  exact nomatch h
theorem cd_ws0 (A : Nat → Int32) : cd_ws A 0 = 0 := by
  refine cd_su_z (fun i _ => ?_)
  rw [b_0]
  rfl
theorem cd_P0le {P : Int32} {A : Nat → Int32} (hA : cd_Ab A) : cd_P0 P A 9 ≤ 9000 := by
  have := cd_su_le (f := fun u => if bt P u = true then cd_mx (A u) else 0) (g := fun _ => 1000) (n := 9) (fun i hi => by
    try dsimp only
    have := hA i hi
    unfold cd_mx
    split
    · split <;> omega
    · decide)
  rw [cd_su_k] at this
  exact this
theorem cd_res {P : Int32} {N A R : Nat → Int32} {fs r : Int32} (hSt : cd_St P N) (hA : cd_Ab A) (h : cd_Fl P N A R fs r) : cd_Res P N A R r := by
  obtain ⟨nn, _, _, R0, tot, hR, hc, hr⟩ := h
  have k1 : ∀ s, cd_Cl P N s → cd_cut (cd_ns s) R = r.toInt - cd_ws A s := by
    intro s hs
    rw [hc _ (cd_ns9 s) (cd_ns10 hSt hs.1), cd_cut0 hR hA (cd_ns9 s) (cd_ns10 hSt hs.1), cd_cutC (cd_clN hs), cd_wsP hs.1]
    omega
  have k2 : ∀ s, cd_Cl P N s → cd_ws A s ≤ r.toInt := by
    intro s hs
    have := k1 s hs
    have := cd_cut_nn (S := cd_ns s) nn
    omega
  refine ⟨k2, ?_, ?_, ?_⟩
  · intro s hs e
    apply (cd_cut_z nn).mp
    rw [k1 s hs]
    omega
  · intro s hs hz
    have z := (cd_cut_z nn).mpr hz
    have cl : cd_Cl P N s := by
      apply cd_clsN hs _ hSt
      apply Classical.byContradiction
      intro hn
      have a := cd_cutN (A := A) hSt hn
      rw [← cd_cut0 hR hA (cd_ns9 s) (cd_ns10 hSt hs)] at a
      have b := hc _ (cd_ns9 s) (cd_ns10 hSt hs)
      have c := k2 0 (cd_cl0 P N)
      rw [cd_ws0] at c
      have d := cd_P0le (P := P) hA
      omega
    refine ⟨cl, ?_⟩
    have a := k1 s cl
    have b := cd_cut_nn (S := cd_ns s) nn
    omega
  · intro S s h9 h10 hs hz
    have hsP : cd_Sub s P := by
      intro i hi
      rw [hs] at hi
      exact (Bool.and_eq_true_iff.mp hi).2
    apply (cd_cut_z nn).mp
    have z := (cd_cut_z nn).mpr hz
    rw [hc _ h9 h10, cd_cut0 hR hA h9 h10] at z
    rw [hc _ (cd_ns9 s) (cd_ns10 hSt hsP), cd_cut0 hR hA (cd_ns9 s) (cd_ns10 hSt hsP)]
    have e : cd_su (cd_row P N A (cd_ns s)) 9 = cd_su (cd_row P N A S) 9 := by
      refine cd_su_c (fun a ha => ?_)
      unfold cd_row
      rw [cd_nsn (show a ≠ 9 by omega), hs]
      cases hp : bt P a
      · rw [Bool.and_false, Bool.and_false, Bool.and_false, Bool.and_false]
        rfl
      · rw [Bool.and_true, Bool.and_true, Bool.and_true]
        congr 2
        congr 1
        refine cd_su_c (fun b hb => ?_)
        try dsimp only
        rw [cd_nsn (show b ≠ 9 by omega), hs]
        cases hN : bt (N a) b
        · rfl
        · rw [hSt.2 a ha b hN, Bool.and_true]
    rw [e]
    exact z
/-- the least best set -/
theorem cd_least {P : Int32} {N A R : Nat → Int32} {fs r : Int32} (hSt : cd_St P N) (hb : cd_Bf R fs) (h10 : bt fs 10 = false) (h : cd_Res P N A R r) :
    cd_Rs (fs &&& P) R ∧ (∀ s, cd_Rs s R → cd_Sub (fs &&& P) s) ∧ ∀ i, bt fs i = true → i = 9 ∨ bt P i = true := by
  have k : cd_Rs (fs &&& P) R := h.2.2.2 (bt fs) (fs &&& P) hb.1 h10 (fun i => b_and fs P i) hb.2.2.1
  refine ⟨k, ?_, ?_⟩
  · intro s hs i hi
    rw [b_and] at hi
    have hi := Bool.and_eq_true_iff.mp hi
    have := hb.2.2.2 (cd_ns s) (cd_ns9 s) hs i hi.1
    by_cases e : i = 9
    · subst e
      exact cd_ft (hSt.1 9 (by decide)) hi.2
    · rw [cd_nsn e] at this
      exact this
  · intro i hi
    have := hb.2.2.2 (cd_ns (fs &&& P)) (cd_ns9 _) k i hi
    by_cases e : i = 9
    · exact Or.inl e
    · rw [cd_nsn e, b_and] at this
      exact Or.inr (Bool.and_eq_true_iff.mp this).2
/-- what can come to the sink -/
def cd_Nr (R : Nat → Int32) (nr : Int32) : Prop := bt nr 10 = true ∧ cd_Rc (fun i => !bt nr i) R ∧ ∀ S : Nat → Bool, S 10 = false → cd_Rc S R → ∀ i, i < 11 → bt nr i = true → S i = false
theorem cd_great {P : Int32} {N A R : Nat → Int32} {fs r nr : Int32} (hSt : cd_St P N) (hb : cd_Bf R fs) (h10 : bt fs 10 = false) (h : cd_Res P N A R r) (hn : cd_Nr R nr) :
    cd_Rs (P &&& (nr ^^^ (-1))) R ∧ ∀ s, cd_Sub s P → cd_Rs s R → cd_Sub s (P &&& (nr ^^^ (-1))) := by
  refine ⟨?_, ?_⟩
  · refine h.2.2.2 (fun i => !bt nr i) _ ?_ ?_ ?_ hn.2.1
    · try dsimp only
      cases h9 : bt nr 9
      · rfl
      · exact cd_ft (hn.2.2 (bt fs) h10 hb.2.2.1 9 (by decide) h9) hb.1
    · try dsimp only
      rw [hn.1]
      rfl
    · intro i
      rw [cd_andn, Bool.and_comm]
  · intro s hs hz i hi
    rw [cd_andn, hs i hi, Bool.true_and]
    cases e : bt nr i
    · rfl
    · have hi9 : i < 9 := by
        apply Classical.byContradiction
        intro z
        exact cd_ft (hSt.1 i (by omega)) (hs i hi)
      have := hn.2.2 (cd_ns s) (cd_ns10 hSt hs) hz i (by omega) e
      rw [cd_nsn (by omega)] at this
      exact cd_ft this hi
end
section
/-! greatest worths, and counting -/
def cd_Wb (W : Nat → Int32) : Prop := ∀ i, i < 9 → -50 ≤ (W i).toInt ∧ (W i).toInt ≤ 50
theorem cd_wsb {W : Nat → Int32} (hW : cd_Wb W) (s : Int32) : -450 ≤ cd_ws W s ∧ cd_ws W s ≤ 450 := by
  constructor
  · have := cd_su_le (f := fun _ => -50) (g := fun u => if bt s u = true then (W u).toInt else 0) (n := 9) (fun i hi => by
      try dsimp only
      have := hW i hi
      split <;> omega)
    rw [cd_su_k] at this
    exact this
  · have := cd_su_le (g := fun _ => 50) (f := fun u => if bt s u = true then (W u).toInt else 0) (n := 9) (fun i hi => by
      try dsimp only
      have := hW i hi
      split <;> omega)
    rw [cd_su_k] at this
    exact this
theorem cd_ws_c {W A : Nat → Int32} (h : ∀ i, i < 9 → A i = W i) (s : Int32) : cd_ws A s = cd_ws W s :=
  cd_su_c (fun i hi => by rw [h i hi])
theorem cd_ws_upd {W : Nat → Int32} {u : Nat} (hu : u < 9) (x : Int32) (s : Int32) : cd_ws (upd W u x) s = cd_ws W s + (if bt s u = true then x.toInt - (W u).toInt else 0) := by
  unfold cd_ws
  rw [cd_su_upd (f := fun v => if bt s v = true then (upd W u x v).toInt else 0) (g := fun v => if bt s v = true then (W v).toInt else 0) hu (fun i _ hne => by
    try dsimp only
    rw [pk_un hne])]
  try dsimp only
  rw [pk_us]
  split <;> omega
def cd_Mx (P : Int32) (N W : Nat → Int32) (Q : Int32 → Prop) (m : Int) : Prop := (∀ s, cd_Cl P N s → Q s → cd_ws W s ≤ m) ∧ ∃ s, cd_Cl P N s ∧ Q s ∧ cd_ws W s = m
theorem cd_mx_u {P : Int32} {N W : Nat → Int32} {Q : Int32 → Prop} {m m' : Int} (h : cd_Mx P N W Q m) (h' : cd_Mx P N W Q m') : m = m' := by
  obtain ⟨s, a, b, c⟩ := h.2
  obtain ⟨s', a', b', c'⟩ := h'.2
  have d := h.1 s' a' b'
  have e := h'.1 s a b
  omega
theorem cd_mx_q {P : Int32} {N W : Nat → Int32} {Q Q' : Int32 → Prop} {m : Int} (e : ∀ s, Q s ↔ Q' s) (h : cd_Mx P N W Q m) : cd_Mx P N W Q' m := by
  obtain ⟨s, a, b, c⟩ := h.2
  exact ⟨fun s hs hq => h.1 s hs ((e s).mpr hq), s, a, (e s).mp b, c⟩
theorem cd_mx_c {P : Int32} {N W A : Nat → Int32} {Q : Int32 → Prop} {m : Int} (e : ∀ i, i < 9 → A i = W i) (h : cd_Mx P N A Q m) : cd_Mx P N W Q m := by
  obtain ⟨s, a, b, c⟩ := h.2
  exact ⟨fun s hs hq => by rw [← cd_ws_c e]; exact h.1 s hs hq, s, a, b, by rw [← cd_ws_c e]; exact c⟩
theorem cd_clP {P : Int32} {N : Nat → Int32} (hSt : cd_St P N) : cd_Cl P N P := ⟨cd_sr P, fun u hu _ => hSt.2 u hu⟩
theorem cd_i1000 : (1000 : Int32).toInt = 1000 := by decide
theorem cd_im1000 : (-1000 : Int32).toInt = -1000 := by decide
theorem cd_with {P : Int32} {N W A : Nat → Int32} {u : Nat} {r : Int} (hSt : cd_St P N) (hW : cd_Wb W) (hA : ∀ i, i < 9 → A i = W i) (hu : u < 9) (hp : bt P u = true)
    (h : cd_Mx P N (upd A u 1000) (fun _ => True) r) : cd_Mx P N W (fun s => bt s u = true) (r - 1000 + (W u).toInt) := by
  have e : ∀ s, cd_ws (upd A u 1000) s = cd_ws W s + (if bt s u = true then 1000 - (W u).toInt else 0) := by
    intro s
    rw [cd_ws_upd hu, cd_ws_c hA, hA u hu, cd_i1000]
  have hw := hW u hu
  refine ⟨fun s hs hq => ?_, ?_⟩
  · have a := h.1 s hs trivial
    rw [e, if_pos hq] at a
    omega
  · obtain ⟨s, a, _, c⟩ := h.2
    rw [e] at c
    have hq : bt s u = true := by
      apply cd_nf
      intro z
      rw [if_neg (by rw [z]; decide)] at c
      have b := h.1 P (cd_clP hSt) trivial
      rw [e, if_pos hp] at b
      have b1 := cd_wsb hW s
      have b2 := cd_wsb hW P
      omega
    rw [if_pos hq] at c
    exact ⟨s, a, hq, by omega⟩
theorem cd_wout {P : Int32} {N W A : Nat → Int32} {u : Nat} {r : Int} (hW : cd_Wb W) (hA : ∀ i, i < 9 → A i = W i) (hu : u < 9)
    (h : cd_Mx P N (upd A u (-1000)) (fun _ => True) r) : cd_Mx P N W (fun s => bt s u = false) r := by
  have e : ∀ s, cd_ws (upd A u (-1000)) s = cd_ws W s + (if bt s u = true then -1000 - (W u).toInt else 0) := by
    intro s
    rw [cd_ws_upd hu, cd_ws_c hA, hA u hu, cd_im1000]
  have hw := hW u hu
  refine ⟨fun s hs hq => ?_, ?_⟩
  · have a := h.1 s hs trivial
    rw [e, if_neg (by rw [hq]; decide)] at a
    omega
  · obtain ⟨s, a, _, c⟩ := h.2
    rw [e] at c
    have hq : bt s u = false := by
      apply cd_nt
      intro z
      rw [if_pos z] at c
      have b := h.1 0 (cd_cl0 P N) trivial
      rw [e, cd_ws0, b_0, if_neg (by decide)] at b
      have b1 := cd_wsb hW s
      omega
    rw [if_neg (by rw [hq]; decide)] at c
    exact ⟨s, a, hq, by omega⟩
/-- one worth x of u: the best with u is the best of all exactly from a bound on -/
theorem cd_thr {P : Int32} {N W : Nat → Int32} {u : Nat} {x : Int32} {m o r1 r2 : Int} (hu : u < 9) (hm : cd_Mx P N W (fun s => bt s u = true) m) (ho : cd_Mx P N W (fun s => bt s u = false) o)
    (h1 : cd_Mx P N (upd W u x) (fun s => bt s u = true) r1) (h2 : cd_Mx P N (upd W u x) (fun _ => True) r2) : r1 = r2 ↔ o - (m - (W u).toInt) ≤ x.toInt := by
  have e1 : r1 = m - (W u).toInt + x.toInt := by
    refine cd_mx_u h1 ⟨fun s hs hq => ?_, ?_⟩
    · have := hm.1 s hs hq
      rw [cd_ws_upd hu, if_pos hq]
      omega
    · obtain ⟨s, a, b, c⟩ := hm.2
      exact ⟨s, a, b, by rw [cd_ws_upd hu, if_pos b]; omega⟩
  have l1 : r1 ≤ r2 := by
    obtain ⟨s, a, b, c⟩ := h1.2
    rw [← c]
    exact h2.1 s a trivial
  have l2 : o ≤ r2 := by
    obtain ⟨s, a, b, c⟩ := ho.2
    have := h2.1 s a trivial
    rw [cd_ws_upd hu, if_neg (by rw [b]; decide)] at this
    omega
  have l3 : r2 ≤ r1 ∨ r2 ≤ o := by
    obtain ⟨s, a, _, c⟩ := h2.2
    cases hb : bt s u
    · right
      have := ho.1 s a hb
      rw [cd_ws_upd hu, if_neg (by rw [hb]; decide)] at c
      omega
    · left
      rw [← c]
      exact h1.1 s a hb
  omega
/-- a best set -/
def cd_Be (P : Int32) (N W : Nat → Int32) (s : Int32) : Prop := cd_Cl P N s ∧ ∀ t, cd_Cl P N t → cd_ws W t ≤ cd_ws W s
theorem cd_be_iff {P : Int32} {N W : Nat → Int32} {m : Int} (h : cd_Mx P N W (fun _ => True) m) (s : Int32) : cd_Be P N W s ↔ cd_Cl P N s ∧ cd_ws W s = m := by
  constructor
  · intro b
    refine ⟨b.1, ?_⟩
    obtain ⟨t, a, _, c⟩ := h.2
    have d := b.2 t a
    have e := h.1 s b.1 trivial
    omega
  · intro b
    refine ⟨b.1, fun t ht => ?_⟩
    rw [b.2]
    exact h.1 t ht trivial
noncomputable def cd_b01 (p : Prop) : Int := @ite Int p (Classical.propDecidable p) 1 0
theorem cd_b1t {p : Prop} (h : p) : cd_b01 p = 1 := if_pos h
theorem cd_b0f {p : Prop} (h : ¬ p) : cd_b01 p = 0 := if_neg h
theorem cd_b01_c {p q : Prop} (h : p ↔ q) : cd_b01 p = cd_b01 q := by rw [propext h]
theorem cd_brow {n : Nat} {q : Prop} {r : Nat → Prop} (h1 : q → ∃ s, s < n ∧ r s ∧ ∀ s', s' < n → r s' → s' = s) (h2 : ∀ s, s < n → r s → q) : cd_su (fun s => cd_b01 (r s)) n = cd_b01 q := by
  by_cases hq : q
  · obtain ⟨s, hs, a, b⟩ := h1 hq
    rw [cd_b1t hq, ← cd_su_one hs 1]
    refine cd_su_c (fun i hi => ?_)
    try dsimp only
    by_cases e : i = s
    · rw [if_pos e, cd_b1t (by rw [e]; exact a)]
    · rw [if_neg e, cd_b0f (fun z => e (b i hi z))]
  · rw [cd_b0f hq]
    exact cd_su_z (fun i hi => cd_b0f (fun z => hq (h2 i hi z)))
theorem cd_bij {n : Nat} {Q B : Nat → Prop} {r : Nat → Nat → Prop} (h1 : ∀ t, t < n → Q t → ∃ s, s < n ∧ r t s ∧ ∀ s', s' < n → r t s' → s' = s) (h1' : ∀ t s, t < n → s < n → r t s → Q t)
    (h2 : ∀ s, s < n → B s → ∃ t, t < n ∧ r t s ∧ ∀ t', t' < n → r t' s → t' = t) (h2' : ∀ t s, t < n → s < n → r t s → B s) : cd_su (fun t => cd_b01 (Q t)) n = cd_su (fun s => cd_b01 (B s)) n := by
  have a : cd_su (fun t => cd_b01 (Q t)) n = cd_su (fun t => cd_su (fun s => cd_b01 (r t s)) n) n :=
    cd_su_c (fun t ht => (cd_brow (h1 t ht) (fun s hs => h1' t s ht hs)).symm)
  have b : cd_su (fun s => cd_b01 (B s)) n = cd_su (fun s => cd_su (fun t => cd_b01 (r t s)) n) n :=
    cd_su_c (fun s hs => (cd_brow (r := fun t => r t s) (h2 s hs) (fun t ht => h2' t s ht hs)).symm)
  rw [a, b, cd_su_sw]
theorem cd_mkS {P s : Int32} {N : Nat → Int32} (hSt : cd_St P N) (h : cd_Sub s P) : ∃ t, t < 512 ∧ s = nI t :=
  cd_mk (fun i hi => cd_nt (fun z => cd_ft (hSt.1 i hi) (h i z)))
end
section
/-! the reference, method by method -/
def cd_T (P : Int32) (T : Nat → Int32) : Prop := ∀ i, i < 9 → T i = if bt P i = true then 1 else 0
def cd_Has (P x : Int32) : Prop := ∃ j, j < 9 ∧ x = nI j ∧ bt P j = true
def cd_Q (must never s : Int32) : Prop := (must &&& (s ^^^ (-1))) = 0 ∧ (never &&& s) = 0
theorem cd_le9 : (9 : Int32) ≤ nI 9 := nI_le (a := 9) (b := 9) (Nat.le_refl _) (by decide)
theorem cd_nl9 {i : Nat} (h : i < 9) : ¬ (9 : Int32) ≤ nI i := nI_ge (b := 9) h (by decide)
theorem cd_in9 {i : Nat} (h : i < 9) : vp_in (nI i) 9 := vp_in_nI h (by decide)
section
variable {P : Int32} {T W N : Nat → Int32}
theorem cd_yis_t {post : Int32 → Prop} {j : Nat} (hT : cd_T P T) (hj : j < 9) (hp : bt P j = true) (h : post 1) : wpY_is post (T, W, N) (nI j) := by
  refine br_f (nI_pos (by omega)) (br_f (cd_nl9 hj) ⟨cd_in9 hj, ?_⟩)
  rw [nI_clamp (by omega), hT j hj, hp]
  exact br_f (by decide) h
theorem cd_yis_f {post : Int32 → Prop} {x : Int32} (hT : cd_T P T) (hx : ¬ cd_Has P x) (h : post 0) : wpY_is post (T, W, N) x := by
  rcases pk_ix x (n := 9) (by decide) with h0 | h9 | ⟨j, hj, rfl⟩
  · exact br_t h0 h
  · exact br_f (Int32.not_lt.mpr (Int32.le_trans (by decide) h9)) (br_t h9 h)
  · have hp : bt P j = false := cd_nt (fun z => hx ⟨j, hj, rfl, z⟩)
    refine br_f (nI_pos (by omega)) (br_f (cd_nl9 hj) ⟨cd_in9 hj, ?_⟩)
    rw [nI_clamp (by omega), hT j hj, hp]
    exact br_t rfl h
theorem cd_yund {post : Int32 → Prop} (hSt : cd_St P N) (hT : cd_T P T) (h : post P) : wpY_undertakings post (T, W, N) := by
  refine loop_0 (fun n i s => wY_undertakings_4 post T W N n s (nI i)) (fun i s => ∀ j, bt s j = (decide (j < i) && bt P j)) 9 0 ?_ ?_ ?_
  · intro j
    rw [b_0, decide_eq_false (by omega), Bool.false_and]
  · intro n s hI
    refine br_t cd_le9 ?_
    have e : s = P := b_ext (fun j _ => by
      rw [hI]
      by_cases hj : j < 9
      · rw [decide_eq_true hj, Bool.true_and]
      · rw [hSt.1 j (by omega), Bool.and_false])
    rw [e]
    exact h
  · intro n i s hi hI K
    refine br_f (cd_nl9 hi) ⟨cd_in9 hi, ?_⟩
    rw [nI_clamp (by omega), hT i hi]
    cases hp : bt P i
    · refine br_t rfl (nm_r (nI_1 i) (K s ?_))
      intro j
      rw [hI]
      by_cases e : j = i
      · rw [e, hp, Bool.and_false, Bool.and_false]
      · congr 1
        apply decide_eq_decide.mpr
        omega
    · refine br_f (by decide) (nm_e (nm_r (nI_1 i) (K _ ?_)))
      intro j
      rw [cd_orn (by omega), hI]
      by_cases e : j = i
      · rw [e, hp, decide_eq_true rfl, Bool.or_true, decide_eq_true (show i < i + 1 by omega)]
        rfl
      · rw [decide_eq_false e, Bool.or_false]
        congr 1
        apply decide_eq_decide.mpr
        omega
theorem cd_ycl_l {post : Int32 → Prop} {s x : Int32} (hx : (x = 1 ∧ cd_Sub s P) ∨ (x = 0 ∧ ¬ cd_Cl P N s)) (h1 : cd_Cl P N s → post 1) (h0 : ¬ cd_Cl P N s → post 0) : ∃ n, wY_closed_19 post s T W N n x 0 := by
  refine loop_0 (fun n i x => wY_closed_19 post s T W N n x (nI i)) (fun i x => (x = 1 ∧ cd_Sub s P ∧ ∀ u, u < i → bt s u = true → cd_Sub (N u) s) ∨ (x = 0 ∧ ¬ cd_Cl P N s)) 9 x ?_ ?_ ?_
  · rcases hx with ⟨a, b⟩ | h
    · exact Or.inl ⟨a, b, fun u hu => absurd hu (by omega)⟩
    · exact Or.inr h
  · intro n x hI
    rcases hI with ⟨rfl, a, b⟩ | ⟨rfl, b⟩
    · exact br_t cd_le9 ⟨narrow_b1, h1 ⟨a, b⟩⟩
    · exact br_t cd_le9 ⟨narrow_b0, h0 b⟩
  · intro n i x hi hI K
    refine br_f (cd_nl9 hi) ?_
    rcases hI with ⟨rfl, a, b⟩ | ⟨rfl, b⟩
    · refine br_f (by decide) ?_
      cases hb : bt s i
      · refine br_t ((cd_bit0 (by omega)).mpr hb) (nm_r (nI_1 i) (K 1 (Or.inl ⟨rfl, a, fun u hu hs => ?_⟩)))
        by_cases e : u = i
        · rw [e] at hs
          exact cd_ft hb hs
        · exact b u (by omega) hs
      · refine br_f (fun z => cd_ft ((cd_bit0 (by omega)).mp z) hb) ⟨cd_in9 hi, ?_⟩
        rw [nI_clamp (by omega)]
        by_cases hn : cd_Sub (N i) s
        · refine br_t (cd_sub0.mpr hn) (nm_r (nI_1 i) (K 1 (Or.inl ⟨rfl, a, fun u hu hs => ?_⟩)))
          by_cases e : u = i
          · rw [e]
            exact hn
          · exact b u (by omega) hs
        · exact br_f (fun z => hn (cd_sub0.mp z)) (nm_r (nI_1 i) (K 0 (Or.inr ⟨rfl, fun c => hn (c.2 i hi hb)⟩)))
    · exact br_t rfl (nm_r (nI_1 i) (K 0 (Or.inr ⟨rfl, b⟩)))
theorem cd_yclosed {post : Int32 → Prop} {s : Int32} (hSt : cd_St P N) (hT : cd_T P T) (h1 : cd_Cl P N s → post 1) (h0 : ¬ cd_Cl P N s → post 0) : wpY_closed post (T, W, N) s := by
  unfold wpY_closed
  try dsimp only
  refine cd_yund hSt hT ?_
  by_cases hs : cd_Sub s P
  · exact br_t (cd_sub0.mpr hs) (cd_ycl_l (Or.inl ⟨rfl, hs⟩) h1 h0)
  · exact br_f (fun z => hs (cd_sub0.mp z)) (cd_ycl_l (Or.inr ⟨rfl, fun c => hs c.1⟩) h1 h0)
theorem cd_ysum {post : Int32 → Prop} {s : Int32} (hW : cd_Wb W) (h : ∀ r : Int32, r.toInt = cd_ws W s → post r) : wpY_sum post (T, W, N) s := by
  refine loop_0 (fun n i x => wY_sum_4 post s T W N n x (nI i)) (fun i x => x.toInt = cd_su (fun u => if bt s u = true then (W u).toInt else 0) i ∧ -50 * (i : Int) ≤ x.toInt ∧ x.toInt ≤ 50 * (i : Int)) 9 0 ?_ ?_ ?_
  · exact ⟨cd_i0, by rw [cd_i0]; omega, by rw [cd_i0]; omega⟩
  · intro n x hI
    exact br_t cd_le9 (h x hI.1)
  · intro n i x hi hI K
    obtain ⟨a, b, c⟩ := hI
    have hw := hW i hi
    have e : cd_su (fun u => if bt s u = true then (W u).toInt else 0) (i + 1) = cd_su (fun u => if bt s u = true then (W u).toInt else 0) i + (if bt s i = true then (W i).toInt else 0) := rfl
    refine br_f (cd_nl9 hi) ?_
    cases hb : bt s i
    · refine br_f (fun z => cd_ft hb ((cd_bit1 (by omega)).mp z)) (nm_r (nI_1 i) (K x ⟨?_, ?_, ?_⟩))
      · rw [e, hb, a]
        exact (Int.add_zero _).symm
      · omega
      · omega
    · refine br_t ((cd_bit1 (by omega)).mpr hb) ⟨cd_in9 hi, ?_⟩
      rw [nI_clamp (by omega)]
      have ea : (x + W i).toInt = x.toInt + (W i).toInt := Jvm.Kit.i32_add (by omega) (by omega)
      refine nm_e (nm_r (nI_1 i) (K _ ⟨?_, ?_, ?_⟩))
      · rw [e, hb, ea, a]
        rfl
      · rw [ea]
        omega
      · rw [ea]
        omega
theorem cd_ygreat {post : Int32 → Prop} {must never : Int32} (hSt : cd_St P N) (hT : cd_T P T) (hW : cd_Wb W) (ex : ∃ s, cd_Cl P N s ∧ cd_Q must never s) (h : ∀ r : Int32, cd_Mx P N W (cd_Q must never) r.toInt → post r) : wpY_greatest post (T, W, N) must never := by
  refine loop_0 (fun n i x => wY_greatest_6 post must never T W N n x (nI i)) (fun i x => (∀ t, t < i → cd_Cl P N (nI t) → cd_Q must never (nI t) → cd_ws W (nI t) ≤ x.toInt) ∧ (x = -100000 ∨ ∃ s, cd_Cl P N s ∧ cd_Q must never s ∧ cd_ws W s = x.toInt)) 512 (-100000) ⟨fun t ht => absurd ht (by omega), Or.inl rfl⟩ ?_ ?_
  · intro n x hI
    refine br_t (nI_le (a := 512) (b := 512) (Nat.le_refl _) (by decide)) (h x ?_)
    have all : ∀ s, cd_Cl P N s → cd_Q must never s → cd_ws W s ≤ x.toInt := by
      intro s hs hq
      obtain ⟨t, ht, rfl⟩ := cd_mkS hSt hs.1
      exact hI.1 t ht hs hq
    refine ⟨all, ?_⟩
    rcases hI.2 with rfl | he
    · obtain ⟨s, hs, hq⟩ := ex
      have a := all s hs hq
      have b := cd_wsb hW s
      have c : (-100000 : Int32).toInt = -100000 := by decide
      omega
    · exact he
  · intro n i x hi hI K
    have nx : (cd_Cl P N (nI i) → cd_Q must never (nI i) → cd_ws W (nI i) ≤ x.toInt) → wY_greatest_6 post must never T W N n x (nI (i + 1)) := by
      intro hk
      refine K x ⟨fun t ht => ?_, hI.2⟩
      by_cases e : t = i
      · rw [e]
        exact hk
      · exact hI.1 t (by omega)
    refine br_f (nI_ge (b := 512) hi (by decide)) ?_
    refine br_c (fun z1 => br_c (fun z2 => ?_) (fun z2 => nm_r (nI_1 i) (nx fun _ q => absurd q.2 z2))) (fun z1 => nm_r (nI_1 i) (nx fun _ q => absurd q.1 z1))
    refine cd_yclosed hSt hT (fun hc => ?_) (fun hc => ?_)
    · refine br_f (by decide) (cd_ysum hW fun r hr => ?_)
      refine br_c (fun z => nm_r (nI_1 i) (nx fun _ _ => ?_)) (fun z => nm_r (nI_1 i) (K r ⟨fun t ht hc' hq' => ?_, Or.inr ⟨_, hc, ⟨z1, z2⟩, hr.symm⟩⟩))
      · rw [← hr]
        exact Int32.le_iff_toInt_le.mp z
      · rw [Int32.le_iff_toInt_le] at z
        by_cases e : t = i
        · rw [e, ← hr]
          exact Int.le_refl _
        · have := hI.1 t (by omega) hc' hq'
          omega
    · exact br_t rfl (nm_r (nI_1 i) (nx fun c => absurd c hc))
theorem cd_ybest {post : Int32 → Prop} (hSt : cd_St P N) (hT : cd_T P T) (hW : cd_Wb W) (h : ∀ r : Int32, cd_Mx P N W (fun _ => True) r.toInt → post r) : wpY_best post (T, W, N) := by
  have q : ∀ s, cd_Q 0 0 s ↔ True := fun s => ⟨fun _ => trivial, fun _ => ⟨cd_0and _, cd_0and _⟩⟩
  unfold wpY_best
  try dsimp only
  exact cd_ygreat hSt hT hW ⟨0, cd_cl0 P N, (q 0).mpr trivial⟩ (fun r hr => h r (cd_mx_q q hr))
theorem cd_ybestWith {post : Int32 → Prop} {u : Nat} (hSt : cd_St P N) (hT : cd_T P T) (hW : cd_Wb W) (hu : u < 9) (hp : bt P u = true) (h : ∀ r : Int32, cd_Mx P N W (fun s => bt s u = true) r.toInt → post r) : wpY_bestWith post (T, W, N) (nI u) := by
  have q : ∀ s, cd_Q ((1 : Int32) <<< (nI u &&& 31)) 0 s ↔ bt s u = true := fun s =>
    ⟨fun z => (cd_sub1 (by omega)).mp (cd_sub0.mp z.1), fun z => ⟨cd_sub0.mpr ((cd_sub1 (by omega)).mpr z), cd_0and _⟩⟩
  unfold wpY_bestWith
  try dsimp only
  refine cd_yis_t hT hu hp ?_
  exact br_f (by decide) (cd_ygreat hSt hT hW ⟨P, cd_clP hSt, (q P).mpr hp⟩ (fun r hr => h r (cd_mx_q q hr)))
theorem cd_ywithout_t {post : Int32 → Prop} {u : Nat} (hSt : cd_St P N) (hT : cd_T P T) (hW : cd_Wb W) (hu : u < 9) (h : ∀ r : Int32, cd_Mx P N W (fun s => bt s u = false) r.toInt → post r) : wpY_bestWithout post (T, W, N) (nI u) := by
  have q : ∀ s, cd_Q 0 ((1 : Int32) <<< (nI u &&& 31)) s ↔ bt s u = false := fun s =>
    ⟨fun z => (cd_and1 (by omega)).mp z.2, fun z => ⟨cd_0and _, (cd_and1 (by omega)).mpr z⟩⟩
  refine br_f (nI_pos (by omega)) (br_f (cd_nl9 hu) ?_)
  unfold wY_bestWithout_19
  exact cd_ygreat hSt hT hW ⟨0, cd_cl0 P N, (q 0).mpr (b_0 u)⟩ (fun r hr => h r (cd_mx_q q hr))
theorem cd_ywithout_0 {post : Int32 → Prop} (hSt : cd_St P N) (hT : cd_T P T) (hW : cd_Wb W) (h : ∀ r : Int32, cd_Mx P N W (fun _ => True) r.toInt → post r) : wY_bestWithout_18 post 0 T W N := by
  have q : ∀ s, cd_Q 0 0 s ↔ True := fun s => ⟨fun _ => trivial, fun _ => ⟨cd_0and _, cd_0and _⟩⟩
  unfold wY_bestWithout_18 wY_bestWithout_19
  exact cd_ygreat hSt hT hW ⟨0, cd_cl0 P N, (q 0).mpr trivial⟩ (fun r hr => h r (cd_mx_q q hr))
theorem cd_ywithout_f {post : Int32 → Prop} {x : Int32} (hSt : cd_St P N) (hT : cd_T P T) (hW : cd_Wb W) (hx : ¬ cd_Has P x) (h : ∀ r : Int32, cd_Mx P N W (fun _ => True) r.toInt → post r) : wpY_bestWithout post (T, W, N) x := by
  rcases pk_ix x (n := 9) (by decide) with h0 | h9 | ⟨j, hj, rfl⟩
  · exact br_t h0 (cd_ywithout_0 hSt hT hW h)
  · exact br_f (Int32.not_lt.mpr (Int32.le_trans (by decide) h9)) (br_t h9 (cd_ywithout_0 hSt hT hW h))
  · have hp : bt P j = false := cd_nt (fun z => hx ⟨j, hj, rfl, z⟩)
    refine cd_ywithout_t hSt hT hW hj (fun r hr => h r ?_)
    obtain ⟨s, a, b, c⟩ := hr.2
    exact ⟨fun s hs _ => hr.1 s hs (cd_nt fun z => cd_ft hp (hs.1 j z)), s, a, trivial, c⟩
end
end
section
/-! the reference: sets of all best sets, closure, threshold -/
theorem cd_le512 : (512 : Int32) ≤ nI 512 := nI_le (a := 512) (b := 512) (Nat.le_refl _) (by decide)
theorem cd_nl512 {i : Nat} (h : i < 512) : ¬ (512 : Int32) ≤ nI i := nI_ge (b := 512) h (by decide)
section
variable {P : Int32} {T W N : Nat → Int32}
theorem cd_yleast {post : Int32 → Prop} {G : Int32} (hSt : cd_St P N) (hT : cd_T P T) (hW : cd_Wb W) (hG : cd_Be P N W G) (hs : ∀ s, cd_Be P N W s → cd_Sub G s) (h : post G) : wpY_leastBest post (T, W, N) := by
  unfold wpY_leastBest
  try dsimp only
  refine cd_ybest hSt hT hW (fun m hm => ?_)
  refine cd_yund hSt hT ?_
  refine loop_0 (fun n i x => wY_leastBest_12 post m T W N n x (nI i)) (fun i x => cd_Sub G x ∧ ∀ t, t < i → cd_Be P N W (nI t) → cd_Sub x (nI t)) 512 P ⟨hG.1.1, fun t ht => absurd ht (by omega)⟩ ?_ ?_
  · intro n x hI
    refine br_t cd_le512 ?_
    obtain ⟨t, ht, e⟩ := cd_mkS hSt hG.1.1
    have a := hI.2 t ht (by rw [← e]; exact hG)
    rw [← e] at a
    rw [cd_sa a hI.1]
    exact h
  · intro n i x hi hI K
    have nx : ¬ cd_Be P N W (nI i) → wY_leastBest_12 post m T W N n x (nI (i + 1)) := by
      intro hk
      refine K x ⟨hI.1, fun t ht hb => ?_⟩
      by_cases e : t = i
      · rw [e] at hb
        exact absurd hb hk
      · exact hI.2 t (by omega) hb
    refine br_f (cd_nl512 hi) (cd_yclosed hSt hT (fun hc => ?_) (fun hc => ?_))
    · refine br_f (by decide) (cd_ysum hW fun r hr => ?_)
      refine br_c (fun z => nm_e (nm_r (nI_1 i) (K _ ⟨?_, ?_⟩))) (fun z => nm_r (nI_1 i) (nx fun b => z ?_))
      · intro j hj
        rw [b_and, hI.1 j hj, hs (nI i) ((cd_be_iff hm _).mpr ⟨hc, by rw [← z, hr]⟩) j hj]
        rfl
      · intro t ht hb j hj
        rw [b_and] at hj
        have hj := Bool.and_eq_true_iff.mp hj
        by_cases e : t = i
        · rw [e]
          exact hj.2
        · exact hI.2 t (by omega) hb j hj.1
      · apply Int32.toInt_inj.mp
        rw [hr]
        exact ((cd_be_iff hm _).mp b).2
    · exact br_t rfl (nm_r (nI_1 i) (nx fun b => hc b.1))
theorem cd_ygreatest {post : Int32 → Prop} {G : Int32} (hSt : cd_St P N) (hT : cd_T P T) (hW : cd_Wb W) (hG : cd_Be P N W G) (hs : ∀ s, cd_Be P N W s → cd_Sub s G) (h : post G) : wpY_greatestBest post (T, W, N) := by
  unfold wpY_greatestBest
  try dsimp only
  refine cd_ybest hSt hT hW (fun m hm => ?_)
  refine loop_0 (fun n i x => wY_greatestBest_9 post m T W N n x (nI i)) (fun i x => cd_Sub x G ∧ ∀ t, t < i → cd_Be P N W (nI t) → cd_Sub (nI t) x) 512 0 ⟨cd_sz G, fun t ht => absurd ht (by omega)⟩ ?_ ?_
  · intro n x hI
    refine br_t cd_le512 ?_
    obtain ⟨t, ht, e⟩ := cd_mkS hSt hG.1.1
    have a := hI.2 t ht (by rw [← e]; exact hG)
    rw [← e] at a
    rw [cd_sa hI.1 a]
    exact h
  · intro n i x hi hI K
    have nx : ¬ cd_Be P N W (nI i) → wY_greatestBest_9 post m T W N n x (nI (i + 1)) := by
      intro hk
      refine K x ⟨hI.1, fun t ht hb => ?_⟩
      by_cases e : t = i
      · rw [e] at hb
        exact absurd hb hk
      · exact hI.2 t (by omega) hb
    refine br_f (cd_nl512 hi) (cd_yclosed hSt hT (fun hc => ?_) (fun hc => ?_))
    · refine br_f (by decide) (cd_ysum hW fun r hr => ?_)
      refine br_c (fun z => nm_e (nm_r (nI_1 i) (K _ ⟨?_, ?_⟩))) (fun z => nm_r (nI_1 i) (nx fun b => z ?_))
      · intro j hj
        rw [b_or] at hj
        rcases (Bool.or_eq_true_iff.mp hj) with hj | hj
        · exact hI.1 j hj
        · exact hs (nI i) ((cd_be_iff hm _).mpr ⟨hc, by rw [← z, hr]⟩) j hj
      · intro t ht hb j hj
        rw [b_or]
        by_cases e : t = i
        · rw [e] at hj
          rw [hj, Bool.or_true]
        · rw [hI.2 t (by omega) hb j hj]
          rfl
      · apply Int32.toInt_inj.mp
        rw [hr]
        exact ((cd_be_iff hm _).mp b).2
    · exact br_t rfl (nm_r (nI_1 i) (nx fun b => hc b.1))
theorem cd_ychoices {post : Int32 → Prop} (hSt : cd_St P N) (hT : cd_T P T) (hW : cd_Wb W) (h : ∀ c : Nat, (c : Int) = cd_su (fun t => cd_b01 (cd_Be P N W (nI t))) 512 → post (nI c)) : wpY_choices post (T, W, N) := by
  unfold wpY_choices
  try dsimp only
  refine cd_ybest hSt hT hW (fun m hm => ?_)
  refine loop_0 (fun n i x => wY_choices_9 post m T W N n x (nI i)) (fun i x => ∃ c : Nat, x = nI c ∧ (c : Int) = cd_su (fun t => cd_b01 (cd_Be P N W (nI t))) i) 512 0 ⟨0, rfl, rfl⟩ ?_ ?_
  · intro n x hI
    obtain ⟨c, rfl, e⟩ := hI
    exact br_t cd_le512 (h c e)
  · intro n i x hi hI K
    obtain ⟨c, rfl, e⟩ := hI
    have es : cd_su (fun t => cd_b01 (cd_Be P N W (nI t))) (i + 1) = cd_su (fun t => cd_b01 (cd_Be P N W (nI t))) i + cd_b01 (cd_Be P N W (nI i)) := rfl
    have nx : ¬ cd_Be P N W (nI i) → wY_choices_9 post m T W N n (nI c) (nI (i + 1)) := by
      intro hk
      refine K _ ⟨c, rfl, ?_⟩
      rw [es, cd_b0f hk, Int.add_zero]
      exact e
    refine br_f (cd_nl512 hi) (cd_yclosed hSt hT (fun hc => ?_) (fun hc => ?_))
    · refine br_f (by decide) (cd_ysum hW fun r hr => ?_)
      refine br_c (fun z => nm_r (nI_1 c) (nm_r (nI_1 i) (K _ ⟨c + 1, rfl, ?_⟩))) (fun z => nm_r (nI_1 i) (nx fun b => z ?_))
      · rw [es, cd_b1t ((cd_be_iff hm _).mpr ⟨hc, by rw [← z, hr]⟩), ← e]
        rfl
      · apply Int32.toInt_inj.mp
        rw [hr]
        exact ((cd_be_iff hm _).mp b).2
    · exact br_t rfl (nm_r (nI_1 i) (nx fun b => hc b.1))
theorem cd_yclosure {post : Int32 → Prop} {C v : Int32} (hSt : cd_St P N) (hT : cd_T P T) (hC : cd_Cl P N C) (hv : cd_Sub (v &&& P) C) (hm : ∀ s, cd_Cl P N s → cd_Sub (v &&& P) s → cd_Sub C s) (h : post C) : wpY_closure post (T, W, N) v := by
  unfold wpY_closure
  try dsimp only
  refine cd_yund hSt hT (nm_e ?_)
  obtain ⟨c, hc, rfl⟩ := cd_mkS hSt hC.1
  refine ⟨513, ?_⟩
  have key : ∀ (e : Nat) (x : Int32), (e ≤ c → x = nI c) ∧ e ≤ 512 → wY_closure_14 post (v &&& P) T W N (e + 1) x (nI e + (-1)) := by
    refine pk_loopD (fun n j x => wY_closure_14 post (v &&& P) T W N n x (nI j + (-1))) (fun j x => (j ≤ c → x = nI c) ∧ j ≤ 512) ?_ ?_
    · intro n x hI
      refine br_t (by decide) ?_
      rw [hI.1 (by omega)]
      exact h
    · intro n j x hI K
      try dsimp only
      rw [pk_m1]
      have hj : j < 512 := by omega
      refine br_f (nI_pos (by omega)) (cd_yclosed hSt hT (fun k => ?_) (fun k => ?_))
      · refine br_f (by decide) (br_c (fun z => nm_e (K _ ⟨fun q => ?_, by omega⟩)) (fun z => nm_e (K _ ⟨fun q => ?_, by omega⟩)))
        · have := cd_mle hc hj (hm _ k (cd_sub0.mp z))
          exact congrArg nI (by omega)
        · by_cases e : j = c
          · rw [e] at z
            exact absurd (cd_sub0.mpr hv) z
          · exact hI.1 (by omega)
      · refine br_t rfl (nm_e (K _ ⟨fun q => ?_, by omega⟩))
        by_cases e : j = c
        · rw [e] at k
          exact absurd hC k
        · exact hI.1 (by omega)
  exact key 512 0 ⟨fun z => absurd z (by omega), Nat.le_refl _⟩
/-- threshold: the least worth from lo on, of those from e - 50 to 50; 51 if there is none -/
def cd_thv (lo e : Int) : Int := if lo ≤ e - 50 then e - 50 else if lo ≤ 50 then lo else 51
theorem cd_wb_upd {u : Nat} {x : Int32} (hW : cd_Wb W) (h1 : -50 ≤ x.toInt) (h2 : x.toInt ≤ 50) : cd_Wb (upd W u x) := by
  intro i hi
  by_cases e : i = u
  · rw [e, pk_us]
    exact ⟨h1, h2⟩
  · rw [pk_un e]
    exact hW i hi
theorem cd_ythr {post : Int32 → SY → Prop} {u : Nat} {m o : Int} (hSt : cd_St P N) (hT : cd_T P T) (hW : cd_Wb W) (hu : u < 9) (hp : bt P u = true)
    (hm : cd_Mx P N W (fun s => bt s u = true) m) (ho : cd_Mx P N W (fun s => bt s u = false) o) (h : ∀ r : Int32, r.toInt = cd_thv (o - (m - (W u).toInt)) 0 → post r (T, W, N)) : wpY_threshold post (T, W, N) (nI u) := by
  unfold wpY_threshold
  try dsimp only
  refine cd_yis_t hT hu hp (br_f (by decide) ⟨cd_in9 hu, ?_⟩)
  rw [nI_clamp (by omega)]
  refine nm_e ⟨102, ?_⟩
  have key : ∀ (e : Nat) (x : Int32 × (Nat → Int32)), (e ≤ 101 ∧ (∀ i, i ≠ u → x.2 i = W i) ∧ x.1.toInt = cd_thv (o - (m - (W u).toInt)) e) → wY_threshold_25 post (nI u) (W u) (e + 1) x.1 (nI e + (-51)) T x.2 N := by
    refine pk_loopD (σ := Int32 × (Nat → Int32)) (fun n j x => wY_threshold_25 post (nI u) (W u) n x.1 (nI j + (-51)) T x.2 N) (fun e x => e ≤ 101 ∧ (∀ i, i ≠ u → x.2 i = W i) ∧ x.1.toInt = cd_thv (o - (m - (W u).toInt)) e) ?_ ?_
    · intro n x hI
      refine br_t (by decide) ⟨cd_in9 hu, ?_⟩
      rw [nI_clamp (by omega)]
      refine nm_r (e' := W) (funext fun i => ?_) (h _ hI.2.2)
      by_cases e : i = u
      · rw [e, pk_us]
      · rw [pk_un e, hI.2.1 i e]
    · intro n j x hI K
      obtain ⟨a, b, c⟩ := hI
      have ex : (nI (j + 1) + (-51)).toInt = (j : Int) - 50 := by
        have a1 : (nI (j + 1)).toInt = ((j + 1 : Nat) : Int) := nI_toInt (by omega)
        have a2 : (-51 : Int32).toInt = -51 := by decide
        rw [Jvm.Kit.i32_add (by rw [a1, a2]; omega) (by rw [a1, a2]; omega), a1, a2]
        omega
      have en : nI (j + 1) + (-51) + (-1) = nI j + (-51) := by
        rw [← nI_1, Int32.add_assoc, Int32.add_assoc, show (1 : Int32) + (-51 + -1) = -51 by decide]
      try dsimp only
      generalize nI (j + 1) + (-51) = x4 at ex en ⊢
      refine br_f (by rw [Int32.lt_iff_toInt_lt, ex, cd_im50]; omega) ⟨cd_in9 hu, ?_⟩
      rw [nI_clamp (by omega)]
      refine nm_r (e' := upd W u x4) (funext fun i => ?_) ?_
      · by_cases e : i = u
        · rw [e, pk_us, pk_us]
        · rw [pk_un e, pk_un e, b i e]
      · have hW' : cd_Wb (upd W u x4) := cd_wb_upd hW (by omega) (by omega)
        refine cd_ybestWith hSt hT hW' hu hp (fun r1 h1 => cd_ybest hSt hT hW' (fun r2 h2 => ?_))
        have iff := cd_thr hu hm ho h1 h2
        rw [ex] at iff
        refine br_c (fun z => nm_r en (K (x4, upd W u x4) ⟨by omega, fun i hi => pk_un hi, ?_⟩)) (fun z => nm_r en (K (x.1, upd W u x4) ⟨by omega, fun i hi => pk_un hi, ?_⟩))
        · have := iff.mp (congrArg Int32.toInt z)
          show x4.toInt = _
          unfold cd_thv
          rw [ex, if_pos this]
        · have nz : ¬ o - (m - (W u).toInt) ≤ (j : Int) - 50 := fun q => z (Int32.toInt_inj.mp (iff.mpr q))
          show x.1.toInt = _
          rw [c]
          generalize o - (m - (W u).toInt) = lo at nz ⊢
          unfold cd_thv
          rw [if_neg nz]
          split
          · split <;> omega
          · rfl
  have k := key 101 (51, W) ⟨Nat.le_refl _, fun _ _ => rfl, by
    show (51 : Int32).toInt = _
    rw [show (51 : Int32).toInt = 51 by decide]
    generalize o - (m - (W u).toInt) = lo
    unfold cd_thv
    split
    · rfl
    · split <;> omega⟩
  rw [show nI 101 + (-51) = (50 : Int32) by decide] at k
  exact k
end
end
section
/-! the component: small methods -/
theorem cd_xin {post : Int32 → Prop} {x : Int32} {u : Nat} (hu : u < 32) (h1 : bt x u = true → post 1) (h0 : bt x u = false → post 0) : wpX_in post x (nI u) := by
  cases hb : bt x u
  · exact br_t ((cd_bit0 hu).mpr hb) (h0 hb)
  · exact br_f (fun z => cd_ft ((cd_bit0 hu).mp z) hb) (h1 hb)
theorem cd_xw_t {post : Int32 → Prop} {x : Int32} (h1 : -50 ≤ x.toInt) (h2 : x.toInt ≤ 50) (h : post 1) : wpX_isWorth post x :=
  br_f (by rw [Int32.lt_iff_toInt_lt, cd_im50]; omega) (br_f (by rw [Int32.lt_iff_toInt_lt, cd_i50]; omega) h)
theorem cd_xw_f {post : Int32 → Prop} {x : Int32} (hn : ¬ (-50 ≤ x.toInt ∧ x.toInt ≤ 50)) (h : post 0) : wpX_isWorth post x := by
  by_cases a : x < -50
  · exact br_t a h
  · refine br_f a (br_t ?_ h)
    rw [Int32.lt_iff_toInt_lt, cd_im50] at a
    rw [Int32.lt_iff_toInt_lt, cd_i50]
    omega
theorem cd_yw_t {post : Int32 → Prop} {T W N : Nat → Int32} {x : Int32} (h1 : -50 ≤ x.toInt) (h2 : x.toInt ≤ 50) (h : post 1) : wpY_fits post (T, W, N) x :=
  br_f (by rw [Int32.lt_iff_toInt_lt, cd_im50]; omega) (br_f (by rw [Int32.lt_iff_toInt_lt, cd_i50]; omega) h)
theorem cd_yw_f {post : Int32 → Prop} {T W N : Nat → Int32} {x : Int32} (hn : ¬ (-50 ≤ x.toInt ∧ x.toInt ≤ 50)) (h : post 0) : wpY_fits post (T, W, N) x := by
  by_cases a : x < -50
  · exact br_t a h
  · refine br_f a (br_t ?_ h)
    rw [Int32.lt_iff_toInt_lt, cd_im50] at a
    rw [Int32.lt_iff_toInt_lt, cd_i50]
    omega
section
variable {P f : Int32} {W N A R F L : Nat → Int32}
theorem cd_xhas_t {post : Int32 → Prop} {j : Nat} (hj : j < 9) (hp : bt P j = true) (h : post 1) : wpX_has post (P, f, W, N, A, R, F, L) (nI j) :=
  br_f (nI_pos (by omega)) (br_f (cd_nl9 hj) (br_f (fun z => cd_ft ((cd_bit0 (by omega)).mp z) hp) h))
theorem cd_xhas_f {post : Int32 → Prop} {x : Int32} (hx : ¬ cd_Has P x) (h : post 0) : wpX_has post (P, f, W, N, A, R, F, L) x := by
  rcases pk_ix x (n := 9) (by decide) with h0 | h9 | ⟨j, hj, rfl⟩
  · exact br_t h0 h
  · exact br_f (Int32.not_lt.mpr (Int32.le_trans (by decide) h9)) (br_t h9 h)
  · have hp : bt P j = false := cd_nt (fun z => hx ⟨j, hj, rfl, z⟩)
    exact br_f (nI_pos (by omega)) (br_f (cd_nl9 hj) (br_t ((cd_bit0 (by omega)).mpr hp) h))
theorem cd_hasN {j : Nat} (hj : j < 9) (h : bt P j = false) : ¬ cd_Has P (nI j) := by
  rintro ⟨i, hi, e, hb⟩
  rw [nI_eq (by omega) (by omega)] at e
  rw [← e] at hb
  exact cd_ft h hb
theorem cd_xclosed {post : Int32 → Prop} {s : Int32} (h1 : cd_Cl P N s → post 1) (h0 : ¬ cd_Cl P N s → post 0) : wpX_closed post (P, f, W, N, A, R, F, L) s := by
  by_cases hs : cd_Sub s P
  · refine br_t (cd_sub0.mpr hs) ?_
    refine loop_0 (σ := Unit) (fun n i _ => wX_closed_15 post s P f W N A R F L n (nI i)) (fun i _ => ∀ u, u < i → bt s u = true → cd_Sub (N u) s) 9 () ?_ ?_ ?_
    · intro u hu
      exact absurd hu (by omega)
    · intro n _ hI
      exact br_t cd_le9 (h1 ⟨hs, hI⟩)
    · intro n i _ hi hI K
      refine br_f (cd_nl9 hi) (cd_xin (by omega) (fun hb => ?_) (fun hb => ?_))
      · refine br_f (by decide) ⟨cd_in9 hi, ?_⟩
        rw [nI_clamp (by omega)]
        by_cases hn : cd_Sub (N i) s
        · refine br_t (cd_sub0.mpr hn) (nm_r (nI_1 i) (K () (fun u hu hb' => ?_)))
          by_cases e : u = i
          · rw [e]
            exact hn
          · exact hI u (by omega) hb'
        · exact br_f (fun z => hn (cd_sub0.mp z)) (h0 fun c => hn (c.2 i hi hb))
      · refine br_t rfl (nm_r (nI_1 i) (K () (fun u hu hb' => ?_)))
        by_cases e : u = i
        · rw [e] at hb'
          exact cd_ft hb hb'
        · exact hI u (by omega) hb'
  · exact br_f (fun z => hs (cd_sub0.mp z)) (h0 fun c => hs c.1)
/-- a pass that either changes nothing or adds a bit -/
theorem cd_fix {x x' : Int32} {m k : Nat} {C : Int32 → Prop} (hb : ∀ i, bt x' i = true → i < m) (h : cd_Sub x x') (hc1 : C x → cd_Sub x' x) (hc2 : cd_Sub x' x → C x) (hI : C x ∨ (k : Int) + 1 ≤ cd_pc x m) : C x' ∨ ((k + 1 : Nat) : Int) + 1 ≤ cd_pc x' m := by
  by_cases e : cd_Sub x' x
  · left
    have a := hc2 e
    rw [← cd_sa h e]
    exact a
  · right
    rcases hI with a | a
    · exact absurd (hc1 a) e
    · have ⟨j, hj⟩ : ∃ j, ¬ (bt x' j = true → bt x j = true) := Classical.not_forall.mp e
      have hj := Classical.not_imp.mp hj
      have := cd_pc_lt h (hb j hj.1) (cd_nt hj.2) hj.1
      omega
theorem cd_xclo_in {post : Int32 → Prop} {J : Int32 → Int32 → Prop} {x3 s : Int32} (hSt : cd_St P N) (hs : cd_Sub s P)
    (h : ∀ x, cd_Sub s x → cd_Sub x P → (∀ v, v < 9 → bt s v = true → cd_Sub (N v) x) → (∀ C, cd_Cl P N C → cd_Sub s C → cd_Sub x C) → J x (x3 + 1)) : ∃ n, wX_closure_18 post J x3 P f W N A R F L n s 0 := by
  refine loop_0 (fun n i x => wX_closure_18 post J x3 P f W N A R F L n x (nI i)) (fun i x => cd_Sub s x ∧ cd_Sub x P ∧ (∀ v, v < i → bt s v = true → cd_Sub (N v) x) ∧ (∀ C, cd_Cl P N C → cd_Sub s C → cd_Sub x C)) 9 s ?_ ?_ ?_
  · exact ⟨cd_sr s, hs, fun v hv => absurd hv (by omega), fun C _ z => z⟩
  · intro n x hI
    exact br_t cd_le9 (nm_e (h x hI.1 hI.2.1 hI.2.2.1 hI.2.2.2))
  · intro n i x hi hI K
    obtain ⟨a, b, c, d⟩ := hI
    refine br_f (cd_nl9 hi) (cd_xin (by omega) (fun hb => ?_) (fun hb => ?_))
    · refine br_f (by decide) ⟨cd_in9 hi, ?_⟩
      rw [nI_clamp (by omega)]
      refine nm_e (nm_r (nI_1 i) (K _ ⟨?_, ?_, ?_, ?_⟩))
      · intro j hj
        rw [b_or, a j hj]
        rfl
      · intro j hj
        rw [b_or] at hj
        rcases Bool.or_eq_true_iff.mp hj with hj | hj
        · exact b j hj
        · exact hSt.2 i hi j hj
      · intro v hv hs' j hj
        rw [b_or]
        by_cases e : v = i
        · rw [e] at hj
          rw [hj, Bool.or_true]
        · rw [c v (by omega) hs' j hj]
          rfl
      · intro C hC hsC j hj
        rw [b_or] at hj
        rcases Bool.or_eq_true_iff.mp hj with hj | hj
        · exact d C hC hsC j hj
        · exact hC.2 i hi (d C hC hsC i hb) j hj
    · refine br_t rfl (nm_r (cd_or0 x) (nm_r (nI_1 i) (K _ ⟨a, b, fun v hv hs' => ?_, d⟩)))
      by_cases e : v = i
      · rw [e] at hs'
        exact cd_ft hb (a i hs')
      · exact c v (by omega) hs'
theorem cd_lt9 {s : Int32} (hSt : cd_St P N) (h : cd_Sub s P) : ∀ i, bt s i = true → i < 9 := by
  intro i hi
  apply Classical.byContradiction
  intro z
  exact cd_ft (hSt.1 i (by omega)) (h i hi)
theorem cd_xclosure {post : Int32 → Prop} {v : Int32} (hSt : cd_St P N) (h : ∀ C, cd_Cl P N C → cd_Sub (v &&& P) C → (∀ s, cd_Cl P N s → cd_Sub (v &&& P) s → cd_Sub C s) → post C) : wpX_closure post (P, f, W, N, A, R, F, L) v := by
  have hv : cd_Sub (v &&& P) P := by
    intro i hi
    rw [b_and] at hi
    exact (Bool.and_eq_true_iff.mp hi).2
  refine nm_e ?_
  refine loop_0 (fun n i x => wX_closure_9 post P f W N A R F L n x (nI i)) (fun k x => cd_Sub (v &&& P) x ∧ cd_Sub x P ∧ (∀ C, cd_Cl P N C → cd_Sub (v &&& P) C → cd_Sub x C) ∧ (cd_Cl P N x ∨ (k : Int) + 1 ≤ cd_pc x 9)) 9 (v &&& P) ?_ ?_ ?_
  · refine ⟨cd_sr _, hv, fun _ _ z => z, ?_⟩
    by_cases e : ∃ i, bt (v &&& P) i = true
    · obtain ⟨i, hi⟩ := e
      right
      have a := cd_pc_lt (cd_sz (v &&& P)) (cd_lt9 hSt hv i hi) (b_0 i) hi
      have b := cd_pc_nn 0 9
      omega
    · left
      exact ⟨hv, fun u _ hb => absurd ⟨u, hb⟩ e⟩
  · intro n x hI
    refine br_t cd_le9 (h x ?_ hI.1 hI.2.2.1)
    rcases hI.2.2.2 with a | a
    · exact a
    · have := cd_pc_le x 9
      omega
  · intro n k x hk hI K
    refine br_f (cd_nl9 hk) (cd_xclo_in hSt hI.2.1 (fun x' a b c d => ?_))
    rw [nI_1]
    refine K x' ⟨cd_st hI.1 a, b, fun C hC hs => d C hC (hI.2.2.1 C hC hs), ?_⟩
    exact cd_fix (C := cd_Cl P N) (cd_lt9 hSt b) a (fun z => d x z (cd_sr x)) (fun z => ⟨hI.2.1, fun u hu hb => cd_st (c u hu hb) z⟩) hI.2.2.2
theorem cd_xask {post : SX → Prop} (h : ∀ A', (∀ i, i < 9 → A' i = W i) → post (P, f, W, N, A', R, F, L)) : wpX_askPlainly post (P, f, W, N, A, R, F, L) := by
  refine loop_0 (fun n i A' => wX_askPlainly_2 post P f n (nI i) W N A' R F L) (fun i A' => ∀ j, j < i → A' j = W j) 9 A ?_ ?_ ?_
  · intro j hj
    exact absurd hj (by omega)
  · intro n A' hI
    exact br_t cd_le9 (h A' hI)
  · intro n i A' hi hI K
    refine br_f (cd_nl9 hi) ⟨cd_in9 hi, cd_in9 hi, ?_⟩
    rw [nI_clamp (by omega)]
    refine nm_e (nm_r (nI_1 i) (K _ (fun j hj => ?_)))
    by_cases e : j = i
    · rw [e, pk_us]
    · rw [pk_un e]
      exact hI j (by omega)
end
end
section
/-! spread: what the search finds -/
def cd_Pa (R : Nat → Int32) (f : Int32) (F : Nat → Int32) (ρ : Nat → Nat) : Prop := ∀ b, bt f b = true → b ≠ 9 → ∃ a, a < 11 ∧ bt f a = true ∧ F b = nI a ∧ ρ a < ρ b ∧ ¬ (R (a * 11 + b)).toInt ≤ 0
def cd_Bi (R : Nat → Int32) (f : Int32) (F L : Nat → Int32) (e : Nat) : Prop :=
  bt f 9 = true ∧ (∀ i, 11 ≤ i → bt f i = false) ∧ cd_pc f 11 = e ∧ (∀ i, i < e → ∃ a, a < 11 ∧ L i = nI a ∧ bt f a = true) ∧ (∀ a, bt f a = true → ∃ i, i < e ∧ L i = nI a) ∧
  (∀ S : Nat → Bool, S 9 = true → cd_Rc S R → ∀ i, bt f i = true → S i = true) ∧ ∃ ρ : Nat → Nat, (∀ a, bt f a = true → ρ a < e) ∧ cd_Pa R f F ρ
def cd_Bk (R : Nat → Int32) (f : Int32) (L : Nat → Int32) (k : Nat) : Prop := ∀ i, i < k → ∀ a, a < 11 → L i = nI a → ∀ b, b < 11 → ¬ (R (a * 11 + b)).toInt ≤ 0 → bt f b = true
theorem cd_bstep {R : Nat → Int32} {f : Int32} {F L : Nat → Int32} {e a j : Nat} (h : cd_Bi R f F L e) (ha : a < 11) (hfa : bt f a = true) (hj : j < 11) (hfj : bt f j = false) (hR : ¬ (R (a * 11 + j)).toInt ≤ 0) :
    e < 11 ∧ cd_Bi R (f ||| ((1 : Int32) <<< (nI j &&& 31))) (upd F j (nI a)) (upd L e (nI j)) (e + 1) := by
  obtain ⟨h9, hbig, hpc, hL, hfL, hmin, ρ, hρ, hpa⟩ := h
  have hf' : ∀ i, bt (f ||| ((1 : Int32) <<< (nI j &&& 31))) i = (bt f i || decide (i = j)) := fun i => cd_orn (by omega) f i
  generalize f ||| ((1 : Int32) <<< (nI j &&& 31)) = f' at hf' ⊢
  have hpc' := cd_pc_add (n := 11) hj hfj hf'
  have hle := cd_pc_le f' 11
  have he : e < 11 := by omega
  have up : ∀ i, bt f i = true → bt f' i = true := fun i hi => by rw [hf', hi]; rfl
  have hfj' : bt f' j = true := by rw [hf', decide_eq_true rfl, Bool.or_true]
  have dn : ∀ i, bt f' i = true → i ≠ j → bt f i = true := fun i hi hne => by
    rw [hf', decide_eq_false hne, Bool.or_false] at hi
    exact hi
  refine ⟨he, up 9 h9, ?_, ?_, ?_, ?_, ?_, fun x => if x = j then e else ρ x, ?_, ?_⟩
  · intro i hi
    rw [hf', hbig i hi, decide_eq_false (by omega)]
    rfl
  · rw [hpc', hpc]
    rfl
  · intro i hi
    by_cases e' : i = e
    · exact ⟨j, hj, by rw [e', pk_us], hfj'⟩
    · obtain ⟨a', x, y, z⟩ := hL i (by omega)
      exact ⟨a', x, by rw [pk_un e']; exact y, up a' z⟩
  · intro a' ha'
    by_cases e' : a' = j
    · exact ⟨e, by omega, by rw [pk_us, e']⟩
    · obtain ⟨i, hi, y⟩ := hfL a' (dn a' ha' e')
      exact ⟨i, by omega, by rw [pk_un (by omega)]; exact y⟩
  · intro S hS9 hS i hi
    by_cases e' : i = j
    · rw [e']
      apply cd_nf
      intro z
      exact hR (hS a j ha hj (hmin S hS9 hS a hfa) z)
    · exact hmin S hS9 hS i (dn i hi e')
  · intro a' ha'
    try dsimp only
    by_cases e' : a' = j
    · rw [if_pos e']
      omega
    · rw [if_neg e']
      have := hρ a' (dn a' ha' e')
      omega
  · intro b hb hb9
    by_cases e' : b = j
    · have hne : a ≠ j := fun z => cd_ft hfj (by rw [← z]; exact hfa)
      refine ⟨a, ha, up a hfa, by rw [e', pk_us], ?_, by rw [e']; exact hR⟩
      try dsimp only
      rw [if_neg hne, if_pos e']
      exact hρ a hfa
    · obtain ⟨a', x, y, z, w, q⟩ := hpa b (dn b hb e') hb9
      have hne : a' ≠ j := fun z' => cd_ft hfj (by rw [← z']; exact y)
      refine ⟨a', x, up a' y, by rw [pk_un e']; exact z, ?_, q⟩
      try dsimp only
      rw [if_neg hne, if_neg e']
      exact w
section
variable {P f : Int32} {W N A R F L : Nat → Int32}
theorem cd_xsp_in {post : Int32 → SX → Prop} {J : Int32 → Int32 → Int32 → (Nat → Int32) → (Nat → Int32) → (Nat → Int32) → (Nat → Int32) → (Nat → Int32) → (Nat → Int32) → Prop} {k a e : Nat} (ha : a < 11) (hk : k < e) (hL : L k = nI a) (hB : cd_Bi R f F L e) (hBk : cd_Bk R f L k)
    (h : ∀ (e' : Nat) (f' : Int32) (F' L' : Nat → Int32), k + 1 ≤ e' → cd_Bi R f' F' L' e' → cd_Bk R f' L' (k + 1) → J (nI e') (nI (k + 1)) f' W N A R F' L') : ∃ n, wX_spread_40 post J (nI k) (nI a) P n (nI e) 0 f W N A R F L := by
  refine loop_0 (fun n j (s : Nat × Int32 × (Nat → Int32) × (Nat → Int32)) => wX_spread_40 post J (nI k) (nI a) P n (nI s.1) (nI j) s.2.1 W N A R s.2.2.1 s.2.2.2) (fun j s => k < s.1 ∧ s.2.2.2 k = nI a ∧ cd_Bi R s.2.1 s.2.2.1 s.2.2.2 s.1 ∧ cd_Bk R s.2.1 s.2.2.2 k ∧ ∀ b, b < j → ¬ (R (a * 11 + b)).toInt ≤ 0 → bt s.2.1 b = true) 11 (e, f, F, L) ⟨hk, hL, hB, hBk, fun b hb => absurd hb (by omega)⟩ ?_ ?_
  · intro n s hI
    obtain ⟨e, f, F, L⟩ := s
    obtain ⟨i1, i2, i3, i4, i5⟩ := hI
    try dsimp only at i1 i2 i3 i4 i5
    refine br_t (nI_le (a := 11) (b := 11) (Nat.le_refl _) (by decide)) (nm_r (nI_1 k) (h e f F L i1 i3 ?_))
    intro i hi a' ha' hLa b hb hR
    by_cases e' : i = k
    · rw [e'] at hLa
      have q : a' = a := (nI_eq (by omega) (by omega)).mp (hLa.symm.trans i2)
      rw [q] at hR
      exact i5 b hb hR
    · exact i4 i (by omega) a' ha' hLa b hb hR
  · intro n j s hj hI K
    obtain ⟨e, f, F, L⟩ := s
    obtain ⟨i1, i2, i3, i4, i5⟩ := hI
    try dsimp only at i1 i2 i3 i4 i5
    have hfa : bt f a = true := by
      obtain ⟨a', x, y, z⟩ := i3.2.2.2.1 k i1
      have q : a' = a := (nI_eq (by omega) (by omega)).mp (y.symm.trans i2)
      rw [← q]
      exact z
    have nx : (¬ (R (a * 11 + j)).toInt ≤ 0 → bt f j = true) → wX_spread_40 post J (nI k) (nI a) P n (nI e) (nI (j + 1)) f W N A R F L := by
      intro hk
      refine K (e, f, F, L) ⟨i1, i2, i3, i4, fun b hb hR => ?_⟩
      by_cases e' : b = j
      · rw [e'] at hR ⊢
        exact hk hR
      · exact i5 b (by omega) hR
    refine br_f (nI_ge (b := 11) hj (by decide)) (cd_xin (by omega) (fun hb => ?_) (fun hb => ?_))
    · exact br_f (by decide) (nm_r (nI_1 j) (nx fun _ => hb))
    · refine br_t rfl ?_
      rw [cd_cell]
      refine ⟨vp_in_nI (by omega) (by decide), ?_⟩
      rw [nI_clamp (by omega), cd_ile]
      refine br_c (fun z => nm_r (nI_1 j) (nx fun q => absurd z q)) (fun z => ?_)
      have ⟨he, hB'⟩ := cd_bstep i3 ha hfa hj hb z
      refine nm_e ⟨vp_in_nI hj (by decide), nm_r (e' := upd F j (nI a)) (by rw [nI_clamp (by omega), cd_t8n (by omega)]) ⟨vp_in_nI (by omega) (by decide), nm_r (e' := upd L e (nI j)) (by rw [nI_clamp (by omega), cd_t8n (by omega)]) (nm_r (nI_1 e) (nm_r (nI_1 j) (K (e + 1, _, upd F j (nI a), upd L e (nI j)) ⟨?_, ?_, hB', ?_, ?_⟩)))⟩⟩
      · exact Nat.lt_succ_of_lt i1
      · show upd L e (nI j) k = nI a
        rw [pk_un (by omega)]
        exact i2
      · intro i hi a' ha' hLa b hb' hR
        try dsimp only at hLa ⊢
        rw [pk_un (by omega)] at hLa
        rw [cd_orn (by omega), i4 i hi a' ha' hLa b hb' hR]
        rfl
      · intro b hb' hR
        try dsimp only
        rw [cd_orn (by omega)]
        by_cases e' : b = j
        · rw [decide_eq_true e', Bool.or_true]
        · rw [i5 b (by omega) hR]
          rfl
theorem cd_xsp_out {post : Int32 → SX → Prop} (h : ∀ (e : Nat) (f : Int32) (F L : Nat → Int32), cd_Bi R f F L e → cd_Rc (bt f) R → wX_spread_120 post P f W N A R F L) :
    ∀ (d k e : Nat) (f : Int32) (F L : Nat → Int32), k + d = 11 → k ≤ e → cd_Bi R f F L e → cd_Bk R f L k → wX_spread_19 post P (d + 1) (nI e) (nI k) f W N A R F L := by
  intro d
  induction d with
  | zero =>
    intro k e f F L hd hk hB hBk
    have he : e ≤ 11 := by
      have a := cd_pc_le f 11
      rw [hB.2.2.1] at a
      omega
    refine br_t (nI_le (by omega) (by omega)) (h e f F L hB ?_)
    intro a b ha hb hfa hfb
    apply Classical.byContradiction
    intro hR
    obtain ⟨i, hi, y⟩ := hB.2.2.2.2.1 a hfa
    exact cd_ft hfb (hBk i (by omega) a ha y b hb hR)
  | succ d ih =>
    intro k e f F L hd hk hB hBk
    have he : e ≤ 11 := by
      have a := cd_pc_le f 11
      rw [hB.2.2.1] at a
      omega
    by_cases hke : e ≤ k
    · refine br_t (nI_le hke (by omega)) (h e f F L hB ?_)
      intro a b ha hb hfa hfb
      apply Classical.byContradiction
      intro hR
      obtain ⟨i, hi, y⟩ := hB.2.2.2.2.1 a hfa
      exact cd_ft hfb (hBk i (by omega) a ha y b hb hR)
    · refine br_f (nI_ge (by omega) (by omega)) (br_f (nI_ge (b := 11) (by omega) (by decide)) ⟨vp_in_nI (by omega) (by decide), ?_⟩)
      rw [nI_clamp (by omega)]
      obtain ⟨a, ha, hL, hfa⟩ := hB.2.2.2.1 k (by omega)
      rw [hL]
      exact nm_e (cd_xsp_in ha (by omega) hL hB hBk (fun e' f' F' L' h1 h2 h3 => ih (k + 1) e' f' F' L' (by omega) h1 h2 h3))
theorem cd_512 (i : Nat) : bt 512 i = decide (i = 9) := by
  by_cases h : i < 32
  · exact (by decide +kernel : ∀ i, i < 32 → bt 512 i = decide (i = 9)) i h
  · rw [b_big (by omega), decide_eq_false (by omega)]
theorem cd_v9 : vp_nar .byte 9 = nI 9 := by
  rw [vp_nar_byte]
  decide
theorem cd_xspread {post : Int32 → SX → Prop} (h : ∀ (f' : Int32) (F' L' : Nat → Int32) (ρ : Nat → Nat), cd_Bf R f' → cd_Pa R f' F' ρ → (bt f' 10 = true → post 1 (P, f', W, N, A, R, F', L')) ∧ (bt f' 10 = false → post 0 (P, f', W, N, A, R, F', L'))) : wpX_spread post (P, f, W, N, A, R, F, L) := by
  refine nm_e ⟨12, ?_⟩
  refine cd_xsp_out (fun e f' F' L' hB hc => ?_) 11 0 1 512 F _ (by omega) (by omega) ?_ ?_
  · unfold wX_spread_120
    obtain ⟨h9, hbig, hpc, hL, hfL, hmin, ρ, hρ, hpa⟩ := hB
    have k := h f' F' L' ρ ⟨h9, hbig, hc, hmin⟩ hpa
    exact cd_xin (u := 10) (by decide) (fun hb => ⟨narrow_b1, k.1 hb⟩) (fun hb => ⟨narrow_b0, k.2 hb⟩)
  · rw [cd_v9]
    have e9 : ∀ i, bt 512 i = true → i = 9 := fun i hi => by
      rw [cd_512] at hi
      exact of_decide_eq_true hi
    refine ⟨by rw [cd_512]; rfl, ?_, by decide +kernel, ?_, ?_, ?_, fun _ => 0, ?_, ?_⟩
    · intro i hi
      rw [cd_512, decide_eq_false (by omega)]
    · intro i hi
      exact ⟨9, by decide, by rw [show i = 0 by omega, pk_us], by rw [cd_512]; rfl⟩
    · intro a ha
      exact ⟨0, by decide, by rw [pk_us, e9 a ha]⟩
    · intro S hS _ i hi
      rw [e9 i hi]
      exact hS
    · intro a _
      exact Nat.zero_lt_one
    · intro b hb hne
      exact absurd (e9 b hb) hne
  · intro i hi
    exact absurd hi (by omega)
end
end
section
/-! push: every cut falls by the amount -/
def cd_Bd (R : Nat → Int32) : Prop := ∀ a b, a < 11 → b < 11 → (R (a * 11 + b)).toInt + (R (b * 11 + a)).toInt ≤ 4194304
theorem cd_cut_upd {S : Nat → Bool} {R : Nat → Int32} {i : Nat} (hi : i < 121) (x : Int32) : cd_cut S (upd R i x) = cd_cut S R + (if (S (i / 11) && !S (i % 11)) = true then x.toInt - (R i).toInt else 0) := by
  unfold cd_cut
  rw [cd_su_upd (f := fun j => if (S (j / 11) && !S (j % 11)) = true then (upd R i x j).toInt else 0) (g := fun j => if (S (j / 11) && !S (j % 11)) = true then (R j).toInt else 0) hi (fun j _ hne => by
    try dsimp only
    rw [pk_un hne])]
  try dsimp only
  rw [pk_us]
  split <;> omega
theorem cd_cellne {a b c d : Nat} (hb : b < 11) (hd : d < 11) (h : ¬ (a = c ∧ b = d)) : a * 11 + b ≠ c * 11 + d := by omega
theorem cd_pstep {R : Nat → Int32} {a b : Nat} {x : Int32} (ha : a < 11) (hb : b < 11) (hab : a ≠ b) (nn : cd_Nn R) (bd : cd_Bd R) (h1 : 1 ≤ x.toInt) (h2 : x.toInt ≤ (R (a * 11 + b)).toInt) :
    ∀ R1 R2 : Nat → Int32, R1 = upd R (a * 11 + b) (R (a * 11 + b) - x) → R2 = upd R1 (b * 11 + a) (R1 (b * 11 + a) + x) →
    cd_Nn R2 ∧ cd_Bd R2 ∧ (∀ i, i < 121 → i ≠ a * 11 + b → (R i).toInt ≤ (R2 i).toInt) ∧ ∀ S : Nat → Bool, cd_cut S R2 = cd_cut S R - (if S a = true then x.toInt else 0) + (if S b = true then x.toInt else 0) := by
  intro R1 R2 e1 e2
  have n1 := nn (a * 11 + b) (by omega)
  have n2 := nn (b * 11 + a) (by omega)
  have b1 := bd a b ha hb
  have hne : b * 11 + a ≠ a * 11 + b := by omega
  have c1 : R1 (b * 11 + a) = R (b * 11 + a) := by rw [e1, pk_un hne]
  have v1 : (R (a * 11 + b) - x).toInt = (R (a * 11 + b)).toInt - x.toInt := Jvm.Kit.i32_sub (by omega) (by omega)
  have v2 : (R1 (b * 11 + a) + x).toInt = (R (b * 11 + a)).toInt + x.toInt := by
    rw [c1]
    exact Jvm.Kit.i32_add (by omega) (by omega)
  have w1 : (R2 (a * 11 + b)).toInt = (R (a * 11 + b)).toInt - x.toInt := by rw [e2, pk_un hne.symm, e1, pk_us, v1]
  have w2 : (R2 (b * 11 + a)).toInt = (R (b * 11 + a)).toInt + x.toInt := by rw [e2, pk_us, v2]
  have w3 : ∀ i, i ≠ a * 11 + b → i ≠ b * 11 + a → R2 i = R i := fun i i1 i2 => by rw [e2, pk_un i2, e1, pk_un i1]
  refine ⟨?_, ?_, ?_, ?_⟩
  · intro i hi
    by_cases i1 : i = a * 11 + b
    · rw [i1, w1]
      omega
    · by_cases i2 : i = b * 11 + a
      · rw [i2, w2]
        omega
      · rw [w3 i i1 i2]
        exact nn i hi
  · intro c d hc hd
    by_cases i1 : c = a ∧ d = b
    · obtain ⟨rfl, rfl⟩ := i1
      rw [w1, w2]
      omega
    · by_cases i2 : c = b ∧ d = a
      · obtain ⟨rfl, rfl⟩ := i2
        rw [w1, w2]
        omega
      · rw [w3 _ (by omega) (by omega), w3 _ (by omega) (by omega)]
        exact bd c d hc hd
  · intro i hi i1
    by_cases i2 : i = b * 11 + a
    · rw [i2, w2]
      omega
    · rw [w3 i i1 i2]
      exact Int.le_refl _
  · intro S
    rw [e2, cd_cut_upd (by omega), v2, c1, e1, cd_cut_upd (by omega), v1]
    rw [show (a * 11 + b) / 11 = a by omega, show (a * 11 + b) % 11 = b by omega, show (b * 11 + a) / 11 = b by omega, show (b * 11 + a) % 11 = a by omega]
    cases S a <;> cases S b
    · show _ + 0 + 0 = _ - 0 + 0
      omega
    · show _ + 0 + (_ + x.toInt - _) = _ - 0 + x.toInt
      omega
    · show _ + (_ - x.toInt - _) + 0 = _ - x.toInt + 0
      omega
    · show _ + 0 + 0 = _ - x.toInt + x.toInt
      omega
/-- the way back from b to the source -/
theorem cd_path {R : Nat → Int32} {f : Int32} {F : Nat → Int32} {ρ : Nat → Nat} (hp : cd_Pa R f F ρ) : ∀ (m b : Nat), ρ b < m → b < 11 → bt f b = true →
    ∃ (d : Nat) (π : Nat → Nat), π 0 = b ∧ π d = 9 ∧ (∀ i, i ≤ d → π i < 11 ∧ ρ (π i) ≤ ρ b) ∧ (∀ i, i < d → π i ≠ 9 ∧ F (π i) = nI (π (i + 1)) ∧ ¬ (R (π (i + 1) * 11 + π i)).toInt ≤ 0) ∧ ∀ i j, i < j → j ≤ d → π i ≠ π j := by
  intro m
  induction m with
  | zero => exact fun b h => absurd h (by omega)
  | succ m ih =>
    intro b hm hb hf
    by_cases e : b = 9
    · refine ⟨0, fun _ => 9, e.symm, rfl, fun i hi => ⟨(by decide : 9 < 11), by rw [e]; exact Nat.le_refl _⟩, fun i hi => absurd hi (by omega), fun i j h1 h2 => absurd h2 (by omega)⟩
    · obtain ⟨a, ha, hfa, hF, hr, hR⟩ := hp b hf e
      obtain ⟨d, π, p0, pd, p1, p2, p3⟩ := ih a (by omega) ha hfa
      refine ⟨d + 1, fun i => match i with | 0 => b | i + 1 => π i, rfl, pd, ?_, ?_, ?_⟩
      · intro i hi
        cases i with
        | zero => exact ⟨hb, Nat.le_refl _⟩
        | succ i =>
          have := p1 i (by omega)
          exact ⟨this.1, Nat.le_trans this.2 (Nat.le_of_lt hr)⟩
      · intro i hi
        cases i with
        | zero =>
          refine ⟨e, ?_, ?_⟩
          · show F b = nI (π 0)
            rw [p0]
            exact hF
          · show ¬ (R (π 0 * 11 + b)).toInt ≤ 0
            rw [p0]
            exact hR
        | succ i => exact p2 i (by omega)
      · intro i j h1 h2
        cases j with
        | zero => exact absurd h1 (by omega)
        | succ j =>
          cases i with
          | zero =>
            intro z
            have z : b = π j := z
            have := (p1 j (by omega)).2
            rw [← z] at this
            omega
          | succ i => exact p3 i j (by omega) (by omega)
section
variable {P f : Int32} {W N A R F L : Nat → Int32}
theorem cd_xpush2 {post : Int32 → SX → Prop} {x : Int32} {d : Nat} {π : Nat → Nat} (nn : cd_Nn R) (bd : cd_Bd R) (p0 : π 0 = 10) (pd : π d = 9) (p1 : ∀ i, i ≤ d → π i < 11) (p2 : ∀ i, i < d → π i ≠ 9 ∧ F (π i) = nI (π (i + 1))) (p3 : ∀ i j, i < j → j ≤ d → π i ≠ π j)
    (h1 : 1 ≤ x.toInt) (hx : ∀ j, j < d → x.toInt ≤ (R (π (j + 1) * 11 + π j)).toInt)
    (h : ∀ R', cd_Nn R' → cd_Bd R' → (∀ S : Nat → Bool, S 9 = true → S 10 = false → cd_cut S R' = cd_cut S R - x.toInt) → post x (P, f, W, N, A, R', F, L)) : ∃ n, wX_push_53 post x P f n 10 W N A R F L := by
  have e10 : nI (π 0) = 10 := by rw [p0]; rfl
  rw [← e10]
  refine loop_0 (fun n i R' => wX_push_53 post x P f n (nI (π i)) W N A R' F L) (fun i R' => cd_Nn R' ∧ cd_Bd R' ∧ (∀ j, i ≤ j → j < d → x.toInt ≤ (R' (π (j + 1) * 11 + π j)).toInt) ∧ ∀ S : Nat → Bool, S 10 = false → cd_cut S R' = cd_cut S R - (if S (π i) = true then x.toInt else 0)) d R ?_ ?_ ?_
  · refine ⟨nn, bd, fun j _ => hx j, fun S hS => ?_⟩
    rw [p0, hS]
    exact (Int.sub_zero _).symm
  · intro n R' hI
    obtain ⟨i1, i2, i3, i4⟩ := hI
    refine br_t (congrArg nI pd) (h R' i1 i2 (fun S h9 h10 => ?_))
    rw [i4 S h10, pd, if_pos h9]
  · intro n i R' hi hI K
    obtain ⟨i1, i2, i3, i4⟩ := hI
    obtain ⟨q1, q2⟩ := p2 i hi
    have pi := p1 i (by omega)
    have pj := p1 (i + 1) (by omega)
    refine br_f (fun z => q1 ((nI_eq (b := 9) (by omega) (by decide)).mp z)) ⟨vp_in_nI pi (by decide), ?_⟩
    rw [nI_clamp (by omega), q2]
    refine nm_e ?_
    rw [cd_cell, cd_cell]
    have v1 : vp_in (nI (π (i + 1) * 11 + π i)) 121 := vp_in_nI (by omega) (by decide)
    have v2 : vp_in (nI (π i * 11 + π (i + 1))) 121 := vp_in_nI (by omega) (by decide)
    rw [nI_clamp (by omega), nI_clamp (by omega)]
    refine ⟨v1, v1, fun R1 e1 => ⟨v2, v2, fun R2 e2 => ⟨vp_in_nI pi (by decide), nm_e (K R2 ?_)⟩⟩⟩
    obtain ⟨k1, k2, k3, k4⟩ := cd_pstep pj pi (p3 i (i + 1) (by omega) (by omega)).symm i1 i2 h1 (i3 i (Nat.le_refl _) hi) R1 R2 e1 e2
    refine ⟨k1, k2, fun j hj hd => ?_, fun S hS => ?_⟩
    · have a1 := p1 j (by omega)
      have a2 := p1 (j + 1) (by omega)
      have a3 := p3 i j (by omega) (by omega)
      have := k3 (π (j + 1) * 11 + π j) (by omega) (by omega)
      have := i3 j (by omega) hd
      omega
    · rw [k4, i4 S hS]
      omega
theorem cd_xpush {post : Int32 → SX → Prop} {ρ : Nat → Nat} (nn : cd_Nn R) (bd : cd_Bd R) (hp : cd_Pa R f F ρ) (h10 : bt f 10 = true)
    (h : ∀ (x : Int32) (R' : Nat → Int32), 1 ≤ x.toInt → x.toInt ≤ 1048576 → cd_Nn R' → cd_Bd R' → (∀ S : Nat → Bool, S 9 = true → S 10 = false → cd_cut S R' = cd_cut S R - x.toInt) → post x (P, f, W, N, A, R', F, L)) : wpX_push post (P, f, W, N, A, R, F, L) := by
  obtain ⟨d, π, p0, pd, p1, p2, p3⟩ := cd_path hp _ 10 (Nat.lt_succ_self _) (by decide) h10
  unfold wpX_push
  try dsimp only
  have e10 : nI (π 0) = 10 := by rw [p0]; rfl
  rw [← e10]
  refine loop_0 (fun n i x => wX_push_6 post P f W N A R F L n x (nI (π i))) (fun i x => 1 ≤ x.toInt ∧ x.toInt ≤ 1048576 ∧ ∀ j, j < i → x.toInt ≤ (R (π (j + 1) * 11 + π j)).toInt) d 1048576 ⟨by decide, by decide, fun j hj => absurd hj (by omega)⟩ ?_ ?_
  · intro n x hI
    exact br_t (congrArg nI pd) (cd_xpush2 nn bd p0 pd (fun i hi => (p1 i hi).1) (fun i hi => ⟨(p2 i hi).1, (p2 i hi).2.1⟩) p3 hI.1 hI.2.2 (fun R' a b c => h x R' hI.1 hI.2.1 a b c))
  · intro n i x hi hI K
    obtain ⟨i1, i2, i3⟩ := hI
    obtain ⟨q1, q2, q3⟩ := p2 i hi
    have pi := (p1 i (by omega)).1
    have pj := (p1 (i + 1) (by omega)).1
    refine br_f (fun z => q1 ((nI_eq (b := 9) (by omega) (by decide)).mp z)) ⟨vp_in_nI pi (by decide), ?_⟩
    rw [nI_clamp (by omega), q2, cd_cell, nI_clamp (by omega)]
    refine ⟨vp_in_nI (by omega) (by decide), nm_e (br_c (fun z => ⟨vp_in_nI pi (by decide), nm_e (K x ⟨i1, i2, fun j hj => ?_⟩)⟩) (fun z => ⟨vp_in_nI pi (by decide), nm_e (K _ ⟨by omega, ?_, fun j hj => ?_⟩)⟩))⟩
    · by_cases e : j = i
      · rw [e]
        exact Int32.le_iff_toInt_le.mp z
      · exact i3 j (by omega)
    · rw [Int32.le_iff_toInt_le] at z
      omega
    · by_cases e : j = i
      · rw [e]
        exact Int.le_refl _
      · rw [Int32.le_iff_toInt_le] at z
        have := i3 j (by omega)
        omega
end
end
section
/-! solve -/
def cd_zp (x : Int32) : Int32 := if x ≤ 0 then 0 else x
def cd_zn (x : Int32) : Int32 := if 0 ≤ x then 0 else -x
theorem cd_cap_skip {P : Int32} {N A : Nat → Int32} {k : Nat} (hp : bt P k = false) (a b : Nat) : cd_cap P N A (k + 1) a b = cd_cap P N A k a b := by
  have e1 : (b < k + 1 ∧ bt P b = true ∧ ¬ A b ≤ 0) ↔ (b < k ∧ bt P b = true ∧ ¬ A b ≤ 0) := by
    constructor
    · intro h
      have : b ≠ k := fun z => cd_ft hp (by rw [← z]; exact h.2.1)
      exact ⟨by omega, h.2⟩
    · intro h
      exact ⟨by omega, h.2⟩
  have e2 : (a < k + 1 ∧ bt P a = true) ↔ (a < k ∧ bt P a = true) := by
    constructor
    · intro h
      have : a ≠ k := fun z => cd_ft hp (by rw [← z]; exact h.2)
      exact ⟨by omega, h.2⟩
    · intro h
      exact ⟨by omega, h.2⟩
  unfold cd_cap
  simp only [e1, e2]
theorem cd_c1 {P : Int32} {N A : Nat → Int32} {k : Nat} (hp : bt P k = true) : cd_cap P N A (k + 1) 9 k = cd_zp (A k) := by
  unfold cd_cap cd_zp
  rw [if_pos rfl]
  by_cases h : A k ≤ 0
  · rw [if_pos h, if_neg (fun z => z.2.2 h)]
  · rw [if_neg h, if_pos ⟨Nat.lt_succ_self k, hp, h⟩]
theorem cd_c2 {P : Int32} {N A : Nat → Int32} {k : Nat} (hk : k < 9) (hp : bt P k = true) : cd_cap P N A (k + 1) k 10 = cd_zn (A k) := by
  unfold cd_cap cd_zn
  rw [if_neg (by omega), if_pos ⟨Nat.lt_succ_self k, hp⟩, if_pos rfl]
theorem cd_c3 {P : Int32} {N A : Nat → Int32} {k b : Nat} (hk : k < 9) (hp : bt P k = true) (hb : b < 9) : cd_cap P N A (k + 1) k b = if bt (N k) b = true then 1048576 else 0 := by
  unfold cd_cap
  rw [if_neg (by omega), if_pos ⟨Nat.lt_succ_self k, hp⟩, if_neg (by omega)]
  by_cases h : bt (N k) b = true
  · rw [if_pos h, if_pos ⟨hb, h⟩]
  · rw [if_neg h, if_neg (fun z => h z.2)]
theorem cd_c4 {P : Int32} {N A : Nat → Int32} {k : Nat} (hk : k < 9) : cd_cap P N A (k + 1) k 9 = 0 := by
  unfold cd_cap
  rw [if_neg (by omega)]
  split
  · rw [if_neg (by decide), if_neg (fun z => absurd z.1 (by decide))]
  · rfl
theorem cd_c5 {P : Int32} {N A : Nat → Int32} {k a b : Nat} (ha : a ≠ k) (h : ¬ (a = 9 ∧ b = k)) : cd_cap P N A (k + 1) a b = cd_cap P N A k a b := by
  have e2 : (a < k + 1 ∧ bt P a = true) ↔ (a < k ∧ bt P a = true) := ⟨fun z => ⟨by omega, z.2⟩, fun z => ⟨by omega, z.2⟩⟩
  unfold cd_cap
  by_cases h9 : a = 9
  · have e1 : (b < k + 1 ∧ bt P b = true ∧ ¬ A b ≤ 0) ↔ (b < k ∧ bt P b = true ∧ ¬ A b ≤ 0) := ⟨fun z => ⟨by omega, z.2⟩, fun z => ⟨by omega, z.2⟩⟩
    rw [if_pos h9, if_pos h9]
    simp only [e1]
  · rw [if_neg h9, if_neg h9]
    simp only [e2]
theorem cd_c6 {P : Int32} {N A : Nat → Int32} {k b : Nat} (hk : k < 9) : cd_cap P N A k k b = 0 := by
  unfold cd_cap
  rw [if_neg (by omega), if_neg (fun z => absurd z.1 (by omega))]
theorem cd_cells {P : Int32} {N A R : Nat → Int32} {k : Nat} (hk : k < 9) (hp : bt P k = true) (hR : cd_R0 P N A k R) :
    ∀ a b, a < 11 → b < 11 → upd (upd R (9 * 11 + k) (cd_zp (A k))) (k * 11 + 10) (cd_zn (A k)) (a * 11 + b) = if a = k ∧ b < 9 then 0 else cd_cap P N A (k + 1) a b := by
  intro a b ha hb
  by_cases e1 : a = k
  · rw [e1]
    by_cases e2 : b = 10
    · rw [e2, pk_us, if_neg (by omega), cd_c2 hk hp]
    · rw [pk_un (by omega), pk_un (by omega), hR k b (by omega) hb, cd_c6 hk]
      by_cases e3 : b < 9
      · rw [if_pos ⟨rfl, e3⟩]
      · rw [if_neg (by omega), show b = 9 by omega, cd_c4 hk]
  · rw [if_neg (fun z => e1 z.1), pk_un (by omega)]
    by_cases e2 : a = 9 ∧ b = k
    · rw [e2.1, e2.2, pk_us, cd_c1 hp]
    · rw [pk_un (by omega), hR a b ha hb, cd_c5 e1 e2]
section
variable {P f : Int32} {W N A R F L : Nat → Int32} {J : Int32 → Int32 → (Nat → Int32) → (Nat → Int32) → (Nat → Int32) → (Nat → Int32) → (Nat → Int32) → (Nat → Int32) → Prop}
theorem cd_xs123 {post : Int32 → SX → Prop} {x1 : Int32} {k : Nat} (hk : k < 9) (hp : bt P k = true) (hR : ∀ a b, a < 11 → b < 11 → R (a * 11 + b) = if a = k ∧ b < 9 then 0 else cd_cap P N A (k + 1) a b)
    (h : ∀ R', cd_R0 P N A (k + 1) R' → J x1 (nI (k + 1)) W N A R' F L) : ∃ n, wX_solve_123 post J x1 (nI k) P f n 0 W N A R F L := by
  refine loop_0 (fun n v R' => wX_solve_123 post J x1 (nI k) P f n (nI v) W N A R' F L) (fun v R' => ∀ a b, a < 11 → b < 11 → R' (a * 11 + b) = if a = k ∧ v ≤ b ∧ b < 9 then 0 else cd_cap P N A (k + 1) a b) 9 R ?_ ?_ ?_
  · intro a b ha hb
    rw [hR a b ha hb]
    by_cases q : a = k ∧ b < 9
    · rw [if_pos q, if_pos (by omega)]
    · rw [if_neg q, if_neg (by omega)]
  · intro n R' hI
    refine br_t cd_le9 (nm_r (nI_1 k) (h R' fun a b ha hb => ?_))
    rw [hI a b ha hb, if_neg (by omega)]
  · intro n v R' hv hI K
    have key : ∀ x : Int32, x = cd_cap P N A (k + 1) k v → ∀ a b, a < 11 → b < 11 → upd R' (k * 11 + v) x (a * 11 + b) = if a = k ∧ v + 1 ≤ b ∧ b < 9 then 0 else cd_cap P N A (k + 1) a b := by
      intro x hx a b ha hb
      by_cases e : a = k ∧ b = v
      · rw [e.1, e.2, pk_us, if_neg (by omega), hx]
      · rw [pk_un (by omega), hI a b ha hb]
        by_cases q : a = k ∧ v + 1 ≤ b ∧ b < 9
        · rw [if_pos q, if_pos (by omega)]
        · rw [if_neg q, if_neg (by omega)]
    refine br_f (cd_nl9 hv) ⟨cd_in9 hk, ?_⟩
    rw [nI_clamp (by omega), cd_cell, nI_clamp (by omega)]
    refine cd_xin (by omega) (fun hb => ?_) (fun hb => ?_)
    · exact br_f (by decide) ⟨vp_in_nI (by omega) (by decide), nm_e (nm_r (nI_1 v) (K _ (key _ (by rw [cd_c3 hk hp hv, if_pos hb]))))⟩
    · exact br_t rfl ⟨vp_in_nI (by omega) (by decide), nm_e (nm_r (nI_1 v) (K _ (key _ (by rw [cd_c3 hk hp hv, if_neg (by rw [hb]; decide)]))))⟩
theorem cd_xs88 {post : Int32 → SX → Prop} {x1 z0 : Int32} {k : Nat} (hk : k < 9) (hp : bt P k = true) (hR : cd_R0 P N A k R) (hz : z0 = cd_zp (A k))
    (h : ∀ R', cd_R0 P N A (k + 1) R' → J x1 (nI (k + 1)) W N A R' F L) : wX_solve_88 post J x1 (nI k) z0 (99 + nI k) P f W N A R F L := by
  subst hz
  have e99 : (99 : Int32) + nI k = nI (9 * 11 + k) := nI_add 99 k
  have e10 : nI k * 11 + 10 = nI (k * 11 + 10) := cd_cell (b := 10)
  have c := cd_cells hk hp hR
  unfold wX_solve_88
  rw [e99, e10, nI_clamp (n := 9 * 11 + k) (by omega), nI_clamp (n := k * 11 + 10) (by omega), nI_clamp (n := k) (by omega)]
  refine ⟨vp_in_nI (by omega) (by decide), nm_e ⟨cd_in9 hk, br_c (fun z => ⟨vp_in_nI (by omega) (by decide), nm_e ?_⟩) (fun z => ⟨cd_in9 hk, vp_in_nI (by omega) (by decide), nm_e ?_⟩)⟩⟩
  · rw [show cd_zn (A k) = 0 from if_pos z] at c
    exact cd_xs123 hk hp c h
  · rw [show cd_zn (A k) = -A k from if_neg z] at c
    exact cd_xs123 hk hp c h
theorem cd_xs59 {post : Int32 → SX → Prop} {x1 z0 : Int32} {k : Nat} (hk : k < 9) (hp : bt P k = true) (hR : cd_R0 P N A k R)
    (h : ∀ R', cd_R0 P N A (k + 1) R' → J (x1 + z0) (nI (k + 1)) W N A R' F L) : wX_solve_59 post J (nI k) z0 x1 P f W N A R F L := by
  unfold wX_solve_59
  rw [nI_clamp (by omega)]
  exact nm_e ⟨cd_in9 hk, br_c (fun z => cd_xs88 hk hp hR (if_pos z).symm h) (fun z => ⟨cd_in9 hk, cd_xs88 hk hp hR (if_neg z).symm h⟩)⟩
theorem cd_xs25 {post : Int32 → SX → Prop} (hA : cd_Ab A) (hR : ∀ i, i < 121 → R i = 0) (h : ∀ (x1 : Int32) (R' : Nat → Int32), x1.toInt = cd_P0 P A 9 → cd_R0 P N A 9 R' → ∃ n, wX_solve_173 post n x1 0 P f W N A R' F L) :
    ∃ n, wX_solve_25 post P f n 0 0 W N A R F L := by
  refine loop_0 (fun n i (s : Int32 × (Nat → Int32)) => wX_solve_25 post P f n s.1 (nI i) W N A s.2 F L) (fun i s => cd_R0 P N A i s.2 ∧ s.1.toInt = cd_P0 P A i ∧ 0 ≤ s.1.toInt ∧ s.1.toInt ≤ 1000 * (i : Int)) 9 (0, R) ?_ ?_ ?_
  · refine ⟨fun a b ha hb => ?_, cd_i0, by rw [cd_i0]; decide, by rw [cd_i0]; decide⟩
    show R (a * 11 + b) = _
    rw [hR _ (by omega)]
    unfold cd_cap
    split
    · rw [if_neg (fun z => absurd z.1 (by omega))]
    · rw [if_neg (fun z => absurd z.1 (by omega))]
  · intro n s hI
    exact br_t cd_le9 (h s.1 s.2 hI.2.1 hI.1)
  · intro n i s hi hI K
    obtain ⟨x1, R⟩ := s
    obtain ⟨i1, i2, i3, i4⟩ := hI
    try dsimp only at i1 i2 i3 i4
    have eP : cd_P0 P A (i + 1) = cd_P0 P A i + (if bt P i = true then cd_mx (A i) else 0) := rfl
    have ha := hA i hi
    refine br_f (cd_nl9 hi) ?_
    cases hp : bt P i
    · refine cd_xhas_f (cd_hasN hi hp) (br_t rfl (nm_r (nI_1 i) (K (x1, R) ⟨fun a b ha hb => ?_, ?_, i3, ?_⟩)))
      · rw [cd_cap_skip hp]
        exact i1 a b ha hb
      · show x1.toInt = _
        rw [eP, hp, i2]
        exact (Int.add_zero _).symm
      · show x1.toInt ≤ _
        omega
    · refine cd_xhas_t hi hp (br_f (by decide) ⟨cd_in9 hi, ?_⟩)
      rw [nI_clamp (by omega)]
      refine br_c (fun z => cd_xs59 hi hp i1 (fun R' hR' => K (x1 + 0, R') ⟨hR', ?_⟩)) (fun z => ⟨cd_in9 hi, cd_xs59 hi hp i1 (fun R' hR' => K (x1 + A i, R') ⟨hR', ?_⟩)⟩)
      · rw [cd_ile] at z
        have em : cd_mx (A i) = 0 := if_neg (by omega)
        rw [eP, hp, if_pos rfl, em]
        try dsimp only
        rw [Int32.add_zero]
        omega
      · rw [cd_ile] at z
        have em : cd_mx (A i) = (A i).toInt := if_pos (by omega)
        have ea : (x1 + A i).toInt = x1.toInt + (A i).toInt := Jvm.Kit.i32_add (by omega) (by omega)
        rw [eP, hp, if_pos rfl, em]
        try dsimp only
        rw [ea]
        omega
theorem cd_cap_b {a b : Nat} (hA : cd_Ab A) (ha : a < 11) (hb : b < 11) : 0 ≤ (cd_cap P N A 9 a b).toInt ∧ (cd_cap P N A 9 a b).toInt ≤ 1048576 := by
  unfold cd_cap
  by_cases h9 : a = 9
  · rw [if_pos h9]
    split
    · rename_i h
      have := hA b h.1
      have z := h.2.2
      rw [cd_ile] at z
      omega
    · rw [cd_i0]
      decide
  · rw [if_neg h9]
    split
    · rename_i h
      have := hA a h.1
      split
      · split
        · rw [cd_i0]
          decide
        · rename_i z
          rw [cd_ige] at z
          rw [Jvm.Kit.i32_neg (by omega)]
          omega
      · split
        · decide
        · rw [cd_i0]
          decide
    · rw [cd_i0]
      decide
theorem cd_R0_nn (hA : cd_Ab A) (h : cd_R0 P N A 9 R) : cd_Nn R := by
  intro i hi
  have := h (i / 11) (i % 11) (by omega) (by omega)
  rw [show i / 11 * 11 + i % 11 = i by omega] at this
  rw [this]
  exact (cd_cap_b hA (by omega) (by omega)).1
theorem cd_R0_bd (hA : cd_Ab A) (h : cd_R0 P N A 9 R) : cd_Bd R := by
  intro a b ha hb
  rw [h a b ha hb, h b a hb ha]
  have h1 := (cd_cap_b (P := P) (N := N) hA ha hb).2
  have h2 := (cd_cap_b (P := P) (N := N) hA hb ha).2
  omega
def cd_Side (A : Nat → Int32) : Prop := (∀ i, i < 9 → (A i).toInt ≤ 50) ∨ (∀ i, i < 9 → -50 ≤ (A i).toInt)
theorem cd_rowF {S : Nat → Bool} {i : Nat} (h : S i = false) : cd_row P N A S i = if bt P i = true then cd_mx (A i) else 0 := by
  unfold cd_row
  rw [h]
  cases bt P i
  · rfl
  · exact Int.zero_add _
theorem cd_rowT {S : Nat → Bool} {i : Nat} (h : S i = true) (hb : ∀ b, b < 9 → S b = true) : cd_row P N A S i = if bt P i = true then cd_mn (A i) else 0 := by
  unfold cd_row
  rw [h, cd_su_z (fun b hb' => by
    rw [hb b hb']
    cases bt (N i) b <;> rfl)]
  cases bt P i
  · rfl
  · show cd_mn (A i) + 0 + 0 = cd_mn (A i)
    omega
theorem cd_few (hB : cd_Side A) : ∃ S : Nat → Bool, S 9 = true ∧ S 10 = false ∧ cd_su (cd_row P N A S) 9 ≤ 450 := by
  rcases hB with hB | hB
  · refine ⟨fun i => decide (i = 9), rfl, rfl, ?_⟩
    have := cd_su_le (f := cd_row P N A (fun i => decide (i = 9))) (g := fun _ => 50) (n := 9) (fun i hi => by
      have := hB i hi
      rw [cd_rowF (decide_eq_false (by omega))]
      unfold cd_mx
      split
      · split <;> omega
      · decide)
    rw [cd_su_k] at this
    exact this
  · refine ⟨fun i => decide (i ≠ 10), rfl, rfl, ?_⟩
    have := cd_su_le (f := cd_row P N A (fun i => decide (i ≠ 10))) (g := fun _ => 50) (n := 9) (fun i hi => by
      have := hB i hi
      rw [cd_rowT (decide_eq_true (by omega)) (fun b hb => decide_eq_true (by omega))]
      unfold cd_mn
      split
      · split <;> omega
      · decide)
    rw [cd_su_k] at this
    exact this
theorem cd_xs173 {post : Int32 → SX → Prop} {R0 : Nat → Int32} (hA : cd_Ab A) (hB : cd_Side A) (hR0 : cd_R0 P N A 9 R0)
    (h : ∀ (r f' : Int32) (R' F' L' : Nat → Int32), cd_Fl P N A R' f' r → post r (P, f', W, N, A, R', F', L')) :
    ∀ (d c : Nat) (x1 f : Int32) (R F L : Nat → Int32) (tot : Int), c + d = 512 → cd_Nn R → cd_Bd R → (∀ S : Nat → Bool, S 9 = true → S 10 = false → cd_cut S R = cd_cut S R0 - tot) → x1.toInt = cd_P0 P A 9 - tot → (c : Int) ≤ tot → wX_solve_173 post (d + 1) x1 (nI c) P f W N A R F L := by
  intro d
  have hP1 := cd_P0le (P := P) hA
  have hP2 : 0 ≤ cd_P0 P A 9 := cd_su_nn (fun i _ => by
    try dsimp only
    have := cd_mx0 (A i)
    split <;> omega)
  have lt : ∀ (R : Nat → Int32) (tot : Int), cd_Nn R → (∀ S : Nat → Bool, S 9 = true → S 10 = false → cd_cut S R = cd_cut S R0 - tot) → tot ≤ 450 := by
    intro R tot nn hc
    obtain ⟨S, h9, h10, hs⟩ := cd_few (P := P) (N := N) hB
    have a := hc S h9 h10
    rw [cd_cut0 hR0 hA h9 h10] at a
    have b := cd_cut_nn (S := S) nn
    omega
  induction d with
  | zero =>
    intro c x1 f R F L tot hc nn bd hcut hx htot
    have := lt R tot nn hcut
    omega
  | succ d ih =>
    intro c x1 f R F L tot hc nn bd hcut hx htot
    have ht := lt R tot nn hcut
    refine br_f (cd_nl512 (by omega)) (cd_xspread (fun f' F' L' ρ hbf hpa => ⟨fun h10 => ?_, fun h10 => ?_⟩))
    · refine br_f (by decide) (cd_xpush nn bd hpa h10 (fun x R' a1 a2 nn' bd' hc' => ?_))
      refine nm_e (nm_r (nI_1 c) (ih (c + 1) _ f' R' F' L' (tot + x.toInt) (by omega) nn' bd' (fun S h9 h10 => ?_) ?_ ?_))
      · rw [hc' S h9 h10, hcut S h9 h10]
        omega
      · rw [Jvm.Kit.i32_sub (by omega) (by omega)]
        omega
      · omega
    · exact br_t rfl (h x1 f' R F' L' ⟨nn, hbf, h10, R0, tot, hR0, hcut, hx⟩)
theorem cd_xsolve {post : Int32 → SX → Prop} (hA : cd_Ab A) (hB : cd_Side A) (h : ∀ (r f' : Int32) (R' F' L' : Nat → Int32), cd_Fl P N A R' f' r → post r (P, f', W, N, A, R', F', L')) : wpX_solve post (P, f, W, N, A, R, F, L) := by
  unfold wpX_solve
  try dsimp only
  refine loop_0 (fun n i R' => wX_solve_4 post 0 P f n (nI i) W N A R' F L) (fun i R' => ∀ j, j < i → R' j = 0) 121 R (fun j hj => absurd hj (by omega)) ?_ ?_
  · intro n R' hI
    refine br_t (nI_le (a := 121) (b := 121) (Nat.le_refl _) (by decide)) (cd_xs25 hA hI (fun x1 R0 hx hR0 => ⟨513, ?_⟩))
    exact cd_xs173 hA hB hR0 h 512 0 x1 f R0 F L 0 (by omega) (cd_R0_nn hA hR0) (cd_R0_bd hA hR0) (fun S _ _ => (Int.sub_zero _).symm) (by omega) (by omega)
  · intro n i R' hi hI K
    refine br_f (nI_ge (b := 121) hi (by decide)) ⟨vp_in_nI hi (by decide), ?_⟩
    rw [nI_clamp (by omega)]
    refine nm_e (nm_r (nI_1 i) (K _ (fun j hj => ?_)))
    by_cases e : j = i
    · rw [e, pk_us]
    · rw [pk_un e]
      exact hI j (by omega)
end
end
section
/-! apart, stays, and the counting of choices -/
def cd_Mn (R : Nat → Int32) (x : Int32) : Prop := (∀ S : Nat → Bool, S 10 = false → cd_Rc S R → ∀ i, i < 11 → bt x i = true → S i = false) ∧ ∀ i, bt x i = true → i < 11
section
variable {P f : Int32} {W N A R F L : Nat → Int32}
theorem cd_xap_b {post : Int32 → Prop} {J6 J14 : Int32 → Int32 → Prop} {x2 x0 s : Int32} {a : Nat} (ha : a < 11) (hs : cd_Sub s x0) (hm : cd_Mn R x0)
    (h : ∀ x, cd_Sub x0 x → cd_Mn R x → (∀ b, b < 11 → bt s b = true → ¬ (R (a * 11 + b)).toInt ≤ 0 → bt x a = true) → J14 x (nI (a + 1))) : ∃ n, wX_apart_23 post J6 J14 x2 (nI a) P f W N A R F L n x0 0 := by
  refine loop_0 (fun n j x => wX_apart_23 post J6 J14 x2 (nI a) P f W N A R F L n x (nI j)) (fun j x => cd_Sub x0 x ∧ cd_Mn R x ∧ ∀ b, b < j → bt s b = true → ¬ (R (a * 11 + b)).toInt ≤ 0 → bt x a = true) 11 x0 ⟨cd_sr x0, hm, fun b hb => absurd hb (by omega)⟩ ?_ ?_
  · intro n x hI
    exact br_t (nI_le (a := 11) (b := 11) (Nat.le_refl _) (by decide)) (nm_r (nI_1 a) (h x hI.1 hI.2.1 hI.2.2))
  · intro n j x hj hI K
    obtain ⟨i1, i2, i3⟩ := hI
    have nx : (bt s j = true → ¬ (R (a * 11 + j)).toInt ≤ 0 → bt x a = true) → wX_apart_23 post J6 J14 x2 (nI a) P f W N A R F L n x (nI (j + 1)) := by
      intro hk
      refine K x ⟨i1, i2, fun b hb => ?_⟩
      by_cases e : b = j
      · rw [e]
        exact hk
      · exact i3 b (by omega)
    refine br_f (nI_ge (b := 11) hj (by decide)) (cd_xin (by omega) (fun hb => ?_) (fun hb => ?_))
    · refine br_f (by decide) ?_
      rw [cd_cell, nI_clamp (by omega), cd_ile]
      refine ⟨vp_in_nI (by omega) (by decide), br_c (fun z => nm_r (cd_or0 x) (nm_r (nI_1 j) (nx fun _ q => absurd z q))) (fun z => nm_e (nm_r (nI_1 j) (K _ ⟨?_, ⟨?_, ?_⟩, ?_⟩)))⟩
      · intro i hi
        rw [cd_orn (by omega), i1 i hi]
        rfl
      · intro S hS hR i hi hb'
        rw [cd_orn (by omega)] at hb'
        rcases Bool.or_eq_true_iff.mp hb' with q | q
        · exact i2.1 S hS hR i hi q
        · rw [of_decide_eq_true q]
          apply cd_nt
          intro w
          exact z (hR a j ha hj w (i2.1 S hS hR j hj hb))
      · intro i hb'
        rw [cd_orn (by omega)] at hb'
        rcases Bool.or_eq_true_iff.mp hb' with q | q
        · exact i2.2 i q
        · rw [of_decide_eq_true q]
          exact ha
      · intro b _ _ _
        rw [cd_orn (by omega), decide_eq_true rfl, Bool.or_true]
    · exact br_t rfl (nm_r (cd_or0 x) (nm_r (nI_1 j) (nx fun q _ => cd_ft hb (hs j q |> i1 j))))
theorem cd_xap_a {post : Int32 → Prop} {J6 : Int32 → Int32 → Prop} {x2 s : Int32} (hm : cd_Mn R s)
    (h : ∀ x, cd_Sub s x → cd_Mn R x → (∀ a b, a < 11 → b < 11 → bt s b = true → ¬ (R (a * 11 + b)).toInt ≤ 0 → bt x a = true) → J6 x (x2 + 1)) : ∃ n, wX_apart_14 post J6 x2 P f W N A R F L n s 0 := by
  refine loop_0 (fun n j x => wX_apart_14 post J6 x2 P f W N A R F L n x (nI j)) (fun j x => cd_Sub s x ∧ cd_Mn R x ∧ ∀ a b, a < j → b < 11 → bt s b = true → ¬ (R (a * 11 + b)).toInt ≤ 0 → bt x a = true) 11 s ⟨cd_sr s, hm, fun a b ha => absurd ha (by omega)⟩ ?_ ?_
  · intro n x hI
    exact br_t (nI_le (a := 11) (b := 11) (Nat.le_refl _) (by decide)) (nm_e (h x hI.1 hI.2.1 hI.2.2))
  · intro n j x hj hI K
    obtain ⟨i1, i2, i3⟩ := hI
    refine br_f (nI_ge (b := 11) hj (by decide)) (cd_xap_b (s := s) hj i1 i2 (fun x' a b c => K x' ⟨cd_st i1 a, b, fun a' b' ha' hb' hs hR => ?_⟩))
    by_cases e : a' = j
    · rw [e] at hR ⊢
      exact c b' hb' hs hR
    · exact a a' (i3 a' b' (by omega) hb' hs hR)
theorem cd_1024 (i : Nat) : bt 1024 i = decide (i = 10) := by
  by_cases h : i < 32
  · exact (by decide +kernel : ∀ i, i < 32 → bt 1024 i = decide (i = 10)) i h
  · rw [b_big (by omega), decide_eq_false (by omega)]
theorem cd_xapart {post : Int32 → Prop} (h : ∀ nr, cd_Nr R nr → post (P &&& (nr ^^^ (-1)))) : wpX_apart post (P, f, W, N, A, R, F, L) := by
  unfold wpX_apart
  try dsimp only
  have e10 : ∀ i, bt 1024 i = true → i = 10 := fun i hi => by
    rw [cd_1024] at hi
    exact of_decide_eq_true hi
  refine loop_0 (fun n k x => wX_apart_6 post P f W N A R F L n x (nI k)) (fun k x => bt x 10 = true ∧ cd_Mn R x ∧ (cd_Rc (fun i => !bt x i) R ∨ (k : Int) + 1 ≤ cd_pc x 11)) 11 1024 ?_ ?_ ?_
  · refine ⟨by rw [cd_1024]; rfl, ⟨?_, ?_⟩, Or.inr (by decide +kernel)⟩
    · intro S hS _ i _ hi
      rw [e10 i hi]
      exact hS
    · intro i hi
      rw [e10 i hi]
      decide
  · intro n x hI
    refine br_t (nI_le (a := 11) (b := 11) (Nat.le_refl _) (by decide)) (h x ⟨hI.1, ?_, hI.2.1.1⟩)
    rcases hI.2.2 with a | a
    · exact a
    · have := cd_pc_le x 11
      omega
  · intro n k x hk hI K
    obtain ⟨i1, i2, i3⟩ := hI
    refine br_f (nI_ge (b := 11) hk (by decide)) (cd_xap_a i2 (fun x' a b c => ?_))
    rw [nI_1]
    refine K x' ⟨a 10 i1, b, ?_⟩
    refine cd_fix (C := fun x => cd_Rc (fun i => !bt x i) R) b.2 a (fun z i hi => ?_) (fun z a' b' ha' hb' h1 h2 => ?_) i3
    · have := b.1 (fun i => !bt x i) (by rw [i1]; rfl) z i (b.2 i hi) hi
      try dsimp only at this
      cases e : bt x i
      · rw [e] at this
        exact nomatch this
      · rfl
    · try dsimp only at h1 h2
      apply Classical.byContradiction
      intro hR
      have q1 : bt x b' = true := by
        cases e : bt x b'
        · rw [e] at h2
          exact nomatch h2
        · rfl
      have q2 := z a' (c a' b' ha' hb' q1 hR)
      rw [q2] at h1
      exact nomatch h1
def cd_Stay (R : Nat → Int32) (s o : Int32) : Prop := ∀ a b, a < 9 → b < 9 → bt s a = true → bt o b = true → bt s b = false → (R (a * 11 + b)).toInt ≤ 0
theorem cd_xst_b {post : Int32 → Prop} {J : Int32 → Prop} {s o : Int32} {a : Nat} (ha : a < 9) (h0 : ¬ cd_Stay R s o → post 0)
    (h : (∀ b, b < 9 → bt s a = true → bt o b = true → bt s b = false → (R (a * 11 + b)).toInt ≤ 0) → J (nI (a + 1))) : ∃ n, wX_stays_11 post J s o (nI a) P f W N A R F L n 0 := by
  refine loop_0 (σ := Unit) (fun n j _ => wX_stays_11 post J s o (nI a) P f W N A R F L n (nI j)) (fun j _ => ∀ b, b < j → bt s a = true → bt o b = true → bt s b = false → (R (a * 11 + b)).toInt ≤ 0) 9 () (fun b hb => absurd hb (by omega)) ?_ ?_
  · intro n _ hI
    exact br_t cd_le9 (nm_r (nI_1 a) (h hI))
  · intro n j _ hj hI K
    have nx : (bt s a = true → bt o j = true → bt s j = false → (R (a * 11 + j)).toInt ≤ 0) → wX_stays_11 post J s o (nI a) P f W N A R F L n (nI (j + 1)) := by
      intro hk
      refine K () (fun b hb => ?_)
      by_cases e : b = j
      · rw [e]
        exact hk
      · exact hI b (by omega)
    refine br_f (cd_nl9 hj) (cd_xin (by omega) (fun hb => ?_) (fun hb => br_t rfl (nm_r (nI_1 j) (nx fun q => cd_ft hb q))))
    refine br_f (by decide) (cd_xin (by omega) (fun hc => ?_) (fun hc => br_t rfl (nm_r (nI_1 j) (nx fun _ q1 q2 => ?_))))
    · refine br_f (by decide) ?_
      rw [cd_cell, nI_clamp (by omega), cd_ile]
      refine ⟨vp_in_nI (by omega) (by decide), br_c (fun z => nm_r (nI_1 j) (nx fun _ _ _ => z)) (fun z => h0 fun st => z ?_)⟩
      rw [cd_andn] at hc
      have hc := Bool.and_eq_true_iff.mp hc
      exact st a j ha hj hb hc.1 (by cases e : bt s j; rfl; rw [e] at hc; exact nomatch hc.2)
    · rw [cd_andn, q1, q2] at hc
      exact nomatch hc
theorem cd_xstays {post : Int32 → Prop} {s o : Int32} (h1 : cd_Stay R s o → post 1) (h0 : ¬ cd_Stay R s o → post 0) : wpX_stays post (P, f, W, N, A, R, F, L) s o := by
  unfold wpX_stays
  try dsimp only
  refine loop_0 (σ := Unit) (fun n j _ => wX_stays_2 post s o P f W N A R F L n (nI j)) (fun j _ => ∀ a b, a < j → b < 9 → bt s a = true → bt o b = true → bt s b = false → (R (a * 11 + b)).toInt ≤ 0) 9 () (fun a b ha => absurd ha (by omega)) ?_ ?_
  · intro n _ hI
    exact br_t cd_le9 (h1 hI)
  · intro n j _ hj hI K
    refine br_f (cd_nl9 hj) (cd_xst_b hj h0 (fun hk => K () (fun a b ha hb => ?_)))
    by_cases e : a = j
    · rw [e]
      exact hk b hb
    · exact hI a b (by omega) hb
theorem cd_xcount {post : Int32 → SX → Prop} {o : Int32} {p : Nat} (hp : p < 512) (h : ∀ c : Nat, (c : Int) = cd_su (fun t => cd_b01 (cd_Sub (nI t) o ∧ cd_Stay R (nI t) o)) (p + 1) → post (nI c) (nI p, f, W, N, A, R, F, L)) :
    ∃ n, wX_choices_25 post o (nI p) f W N A R F L n 0 0 := by
  refine loop_0 (fun n i x => wX_choices_25 post o (nI p) f W N A R F L n x (nI i)) (fun i x => ∃ c : Nat, x = nI c ∧ (c : Int) = cd_su (fun t => cd_b01 (cd_Sub (nI t) o ∧ cd_Stay R (nI t) o)) i) (p + 1) 0 ⟨0, rfl, rfl⟩ ?_ ?_
  · intro n x hI
    obtain ⟨c, rfl, e⟩ := hI
    exact br_t (nI_lt (by omega) (by omega)) (h c e)
  · intro n i x hi hI K
    obtain ⟨c, rfl, e⟩ := hI
    have es : cd_su (fun t => cd_b01 (cd_Sub (nI t) o ∧ cd_Stay R (nI t) o)) (i + 1) = cd_su (fun t => cd_b01 (cd_Sub (nI t) o ∧ cd_Stay R (nI t) o)) i + cd_b01 (cd_Sub (nI i) o ∧ cd_Stay R (nI i) o) := rfl
    have nx : ¬ (cd_Sub (nI i) o ∧ cd_Stay R (nI i) o) → wX_choices_25 post o (nI p) f W N A R F L n (nI c) (nI (i + 1)) := by
      intro hk
      refine K _ ⟨c, rfl, ?_⟩
      rw [es, cd_b0f hk, Int.add_zero]
      exact e
    refine br_f (nI_nlt (by omega) (by omega)) (br_c (fun z => ?_) (fun z => nm_r (Int32.add_zero _) (nm_r (nI_1 i) (nx fun q => z (cd_sub0.mpr q.1)))))
    refine cd_xstays (fun hs => ?_) (fun hs => br_t rfl (nm_r (Int32.add_zero _) (nm_r (nI_1 i) (nx fun q => hs q.2))))
    refine br_f (by decide) (nm_r (nI_1 c) (nm_r (nI_1 i) (K _ ⟨c + 1, rfl, ?_⟩)))
    rw [es, cd_b1t ⟨cd_sub0.mp z, hs⟩, ← e]
    rfl
end
end
section
/-! what the component answers, in plain words -/
theorem cd_fl_mx {P : Int32} {N A R : Nat → Int32} {fs r : Int32} (hSt : cd_St P N) (hA : cd_Ab A) (h : cd_Fl P N A R fs r) : cd_Mx P N A (fun _ => True) r.toInt := by
  have k := cd_res hSt hA h
  have l := cd_least hSt h.2.1 h.2.2.1 k
  have m := k.2.2.1 (fs &&& P) (fun i hi => by rw [b_and] at hi; exact (Bool.and_eq_true_iff.mp hi).2) l.1
  exact ⟨fun s hs _ => k.1 s hs, fs &&& P, m.1, trivial, m.2⟩
theorem cd_fl_be {P : Int32} {N W A R : Nat → Int32} {fs r : Int32} (hSt : cd_St P N) (hA : cd_Ab A) (e : ∀ i, i < 9 → A i = W i) (h : cd_Fl P N A R fs r) (s : Int32) : cd_Be P N W s ↔ cd_Sub s P ∧ cd_Rs s R := by
  have k := cd_res hSt hA h
  rw [cd_be_iff (cd_mx_c e (cd_fl_mx hSt hA h)), ← cd_ws_c e]
  exact ⟨fun z => ⟨z.1.1, k.2.1 s z.1 z.2⟩, fun z => k.2.2.1 s z.1 z.2⟩
theorem cd_andP {fs P : Int32} : cd_Sub (fs &&& P) P := fun i hi => by
  rw [b_and] at hi
  exact (Bool.and_eq_true_iff.mp hi).2
theorem cd_andnP {P x : Int32} : cd_Sub (P &&& (x ^^^ (-1))) P := fun i hi => by
  rw [cd_andn] at hi
  exact (Bool.and_eq_true_iff.mp hi).1
theorem cd_nst {s : Int32} {i : Nat} (h : cd_ns s i = true) : i = 9 ∨ bt s i = true := by
  by_cases e : i = 9
  · exact Or.inl e
  · rw [cd_nsn e] at h
    exact Or.inr h
theorem cd_stayR {P : Int32} {N A R : Nat → Int32} {fs r nr t : Int32} (hSt : cd_St P N) (hb : cd_Bf R fs) (h10 : bt fs 10 = false) (h : cd_Res P N A R r) (hn : cd_Nr R nr)
    (ht : cd_Sub t ((P &&& (nr ^^^ (-1))) &&& (fs ^^^ (-1)))) : cd_Stay R t ((P &&& (nr ^^^ (-1))) &&& (fs ^^^ (-1))) ↔ cd_Rs (t ||| (fs &&& P)) R := by
  have hl := cd_least hSt hb h10 h
  have hg := cd_great hSt hb h10 h hn
  have ho : ∀ i, bt ((P &&& (nr ^^^ (-1))) &&& (fs ^^^ (-1))) i = true → bt (P &&& (nr ^^^ (-1))) i = true ∧ bt fs i = false := by
    intro i hi
    rw [cd_andn] at hi
    have hi := Bool.and_eq_true_iff.mp hi
    refine ⟨hi.1, ?_⟩
    cases e : bt fs i
    · rfl
    · rw [e] at hi
      exact nomatch hi.2
  constructor
  · intro hs a b ha hb' hSa hSb
    apply Classical.byContradiction
    intro hR
    have b9 : b ≠ 9 := by
      intro z
      rw [z, cd_ns9] at hSb
      exact nomatch hSb
    rw [cd_nsn b9, b_or, Bool.or_eq_false_iff] at hSb
    have fsb : bt fs b = true → False := by
      intro z
      rcases hl.2.2 b z with q | q
      · exact b9 q
      · have w := hSb.2
        rw [b_and, z, q] at w
        exact nomatch w
    have key : bt fs a = true → False := by
      intro z
      cases e : bt fs b
      · exact hR (hb.2.2.1 a b ha hb' z e)
      · exact fsb e
    rcases cd_nst hSa with q | q
    · rw [q] at key
      exact key hb.1
    · rw [b_or] at q
      rcases Bool.or_eq_true_iff.mp q with q | q
      · have oa := ho a (ht a q)
        have a9 : a < 9 := cd_lt9 hSt cd_andnP a oa.1
        cases e : cd_ns (P &&& (nr ^^^ (-1))) b
        · exact hR (hg.1 a b ha hb' (by rw [cd_nsn (by omega)]; exact oa.1) e)
        · rw [cd_nsn b9] at e
          have b9' : b < 9 := cd_lt9 hSt cd_andnP b e
          refine hR (hs a b a9 b9' q ?_ hSb.1)
          rw [cd_andn, e]
          cases w : bt fs b
          · rfl
          · exact absurd w fsb
      · rw [b_and] at q
        exact key (Bool.and_eq_true_iff.mp q).1
  · intro hz a b ha hb' hta hob htb
    refine hz a b (by omega) (by omega) ?_ ?_
    · rw [cd_nsn (by omega), b_or, hta]
      rfl
    · rw [cd_nsn (by omega), b_or, htb, b_and, (ho b hob).2]
      rfl
theorem cd_count {p : Nat} {N W A R : Nat → Int32} {fs r nr : Int32} (hp : p < 512) (hSt : cd_St (nI p) N) (hA : cd_Ab A) (e : ∀ i, i < 9 → A i = W i) (hF : cd_Fl (nI p) N A R fs r) (hn : cd_Nr R nr) :
    cd_su (fun t => cd_b01 (cd_Sub (nI t) ((nI p &&& (nr ^^^ (-1))) &&& (fs ^^^ (-1))) ∧ cd_Stay R (nI t) ((nI p &&& (nr ^^^ (-1))) &&& (fs ^^^ (-1))))) (p + 1) = cd_su (fun t => cd_b01 (cd_Be (nI p) N W (nI t))) 512 := by
  have hb := hF.2.1
  have h10 := hF.2.2.1
  have h := cd_res hSt hA hF
  have hl := cd_least hSt hb h10 h
  have hg := cd_great hSt hb h10 h hn
  have hbe := cd_fl_be hSt hA e hF
  have hst := fun t => cd_stayR (t := t) hSt hb h10 h hn
  have oP : cd_Sub ((nI p &&& (nr ^^^ (-1))) &&& (fs ^^^ (-1))) (nI p) := cd_st cd_andnP cd_andnP
  have ofs : ∀ i, bt ((nI p &&& (nr ^^^ (-1))) &&& (fs ^^^ (-1))) i = true → bt fs i = false := by
    intro i hi
    rw [cd_andn] at hi
    have hi := Bool.and_eq_true_iff.mp hi
    cases w : bt fs i
    · rfl
    · rw [w] at hi
      exact nomatch hi.2
  have oi : ∀ i, bt (nI p &&& (nr ^^^ (-1))) i = true → bt fs i = false → bt ((nI p &&& (nr ^^^ (-1))) &&& (fs ^^^ (-1))) i = true := by
    intro i h1 h2
    rw [cd_andn, h1, h2]
    rfl
  generalize hO : (nI p &&& (nr ^^^ (-1))) &&& (fs ^^^ (-1)) = o at oP ofs oi hst ⊢
  have e1 : cd_su (fun t => cd_b01 (cd_Sub (nI t) o ∧ cd_Stay R (nI t) o)) 512 = cd_su (fun t => cd_b01 (cd_Sub (nI t) o ∧ cd_Stay R (nI t) o)) (p + 1) := by
    rw [show 512 = (p + 1) + (512 - (p + 1)) by omega, cd_su_app]
    rw [cd_su_z (f := fun b => cd_b01 (cd_Sub (nI (p + 1 + b)) o ∧ cd_Stay R (nI (p + 1 + b)) o)) (fun b hb => cd_b0f fun z => ?_), Int.add_zero]
    have := cd_mle (s := p + 1 + b) (by omega) hp (cd_st z.1 oP)
    omega
  rw [← e1]
  refine cd_bij (r := fun t s => (cd_Sub (nI t) o ∧ cd_Stay R (nI t) o) ∧ nI s = nI t ||| (fs &&& nI p)) ?_ ?_ ?_ ?_
  · intro t ht hq
    have sp : cd_Sub (nI t ||| (fs &&& nI p)) (nI p) := by
      intro i hi
      rw [b_or] at hi
      rcases Bool.or_eq_true_iff.mp hi with hi | hi
      · exact oP i (hq.1 i hi)
      · exact cd_andP i hi
    obtain ⟨s, hs, es⟩ := cd_mkS hSt sp
    refine ⟨s, hs, ⟨hq, es.symm⟩, fun s' hs' hr => ?_⟩
    exact (nI_eq (by omega) (by omega)).mp (hr.2.trans es)
  · intro t s _ _ hr
    exact hr.1
  · intro s hs hB
    have hB := (hbe (nI s)).mp hB
    obtain ⟨t, ht, et⟩ := cd_mkS hSt (cd_st (cd_andnP (x := fs &&& nI p)) hB.1)
    have eq : nI s = nI t ||| (fs &&& nI p) := by
      apply b_ext
      intro i _
      rw [b_or, ← et, cd_andn]
      cases w : bt (fs &&& nI p) i
      · rw [Bool.not_false, Bool.and_true, Bool.or_false]
      · rw [hl.2.1 _ hB.2 i w, Bool.or_true]
    have so : cd_Sub (nI t) o := by
      intro i hi
      rw [← et, cd_andn] at hi
      have hi := Bool.and_eq_true_iff.mp hi
      refine oi i (hg.2 _ hB.1 hB.2 i hi.1) ?_
      cases w : bt fs i
      · rfl
      · have q := hi.2
        rw [b_and, w, hB.1 i hi.1] at q
        exact nomatch q
    refine ⟨t, ht, ⟨⟨so, (hst (nI t) so).mpr (by rw [← eq]; exact hB.2)⟩, eq⟩, fun t' ht' hr => ?_⟩
    apply (nI_eq (by omega) (by omega)).mp
    rw [← et]
    apply b_ext
    intro i _
    rw [cd_andn, hr.2, b_or]
    cases w : bt (nI t') i
    · cases bt (fs &&& nI p) i <;> rfl
    · rw [b_and, ofs i (hr.1.1 i w)]
      rfl
  · intro t s _ _ hr
    apply (hbe (nI s)).mpr
    rw [hr.2]
    refine ⟨fun i hi => ?_, (hst (nI t) hr.1.1).mp hr.1.2⟩
    rw [b_or] at hi
    rcases Bool.or_eq_true_iff.mp hi with hi | hi
    · exact oP i (hr.1.1 i hi)
    · exact cd_andP i hi
theorem cd_abw {W A : Nat → Int32} (hW : cd_Wb W) (e : ∀ i, i < 9 → A i = W i) : cd_Ab A ∧ cd_Side A := by
  refine ⟨fun i hi => ?_, Or.inl fun i hi => ?_⟩
  · rw [e i hi]
    have := hW i hi
    omega
  · rw [e i hi]
    exact (hW i hi).2
theorem cd_abu {W A : Nat → Int32} {u : Nat} (hW : cd_Wb W) (e : ∀ i, i < 9 → A i = W i) : cd_Ab (upd A u 1000) ∧ cd_Side (upd A u 1000) := by
  refine ⟨fun i hi => ?_, Or.inr fun i hi => ?_⟩
  · by_cases q : i = u
    · rw [q, pk_us, cd_i1000]
      decide
    · rw [pk_un q, e i hi]
      have := hW i hi
      omega
  · by_cases q : i = u
    · rw [q, pk_us, cd_i1000]
      decide
    · rw [pk_un q, e i hi]
      exact (hW i hi).1
theorem cd_abv {W A : Nat → Int32} {u : Nat} (hW : cd_Wb W) (e : ∀ i, i < 9 → A i = W i) : cd_Ab (upd A u (-1000)) ∧ cd_Side (upd A u (-1000)) := by
  refine ⟨fun i hi => ?_, Or.inl fun i hi => ?_⟩
  · by_cases q : i = u
    · rw [q, pk_us, cd_im1000]
      decide
    · rw [pk_un q, e i hi]
      have := hW i hi
      omega
  · by_cases q : i = u
    · rw [q, pk_us, cd_im1000]
      decide
    · rw [pk_un q, e i hi]
      exact (hW i hi).2
section
variable {P f : Int32} {W N A R F L : Nat → Int32}
theorem cd_xbest {post : Int32 → SX → Prop} (hSt : cd_St P N) (hW : cd_Wb W) (h : ∀ (r f' : Int32) (A' R' F' L' : Nat → Int32), cd_Mx P N W (fun _ => True) r.toInt → post r (P, f', W, N, A', R', F', L')) : wpX_best post (P, f, W, N, A, R, F, L) := by
  unfold wpX_best
  try dsimp only
  refine cd_xask (fun A' e => ?_)
  refine cd_xsolve (cd_abw hW e).1 (cd_abw hW e).2 (fun r f' R' F' L' hF => ?_)
  exact h r f' A' R' F' L' (cd_mx_c e (cd_fl_mx hSt (cd_abw hW e).1 hF))
theorem cd_xleast {post : Int32 → SX → Prop} (hSt : cd_St P N) (hW : cd_Wb W) (h : ∀ (G f' : Int32) (A' R' F' L' : Nat → Int32), cd_Be P N W G → (∀ s, cd_Be P N W s → cd_Sub G s) → post G (P, f', W, N, A', R', F', L')) : wpX_leastBest post (P, f, W, N, A, R, F, L) := by
  unfold wpX_leastBest
  try dsimp only
  refine cd_xask (fun A' e => ?_)
  refine cd_xsolve (cd_abw hW e).1 (cd_abw hW e).2 (fun r f' R' F' L' hF => ?_)
  have hbe := cd_fl_be hSt (cd_abw hW e).1 e hF
  have hl := cd_least hSt hF.2.1 hF.2.2.1 (cd_res hSt (cd_abw hW e).1 hF)
  exact h _ f' A' R' F' L' ((hbe _).mpr ⟨cd_andP, hl.1⟩) (fun s hs => hl.2.1 s ((hbe s).mp hs).2)
theorem cd_xgreatest {post : Int32 → SX → Prop} (hSt : cd_St P N) (hW : cd_Wb W) (h : ∀ (G f' : Int32) (A' R' F' L' : Nat → Int32), cd_Be P N W G → (∀ s, cd_Be P N W s → cd_Sub s G) → post G (P, f', W, N, A', R', F', L')) : wpX_greatestBest post (P, f, W, N, A, R, F, L) := by
  unfold wpX_greatestBest
  try dsimp only
  refine cd_xask (fun A' e => ?_)
  refine cd_xsolve (cd_abw hW e).1 (cd_abw hW e).2 (fun r f' R' F' L' hF => ?_)
  have hbe := cd_fl_be hSt (cd_abw hW e).1 e hF
  refine cd_xapart (fun nr hn => ?_)
  have hg := cd_great hSt hF.2.1 hF.2.2.1 (cd_res hSt (cd_abw hW e).1 hF) hn
  exact h _ f' A' R' F' L' ((hbe _).mpr ⟨cd_andnP, hg.1⟩) (fun s hs => hg.2 s ((hbe s).mp hs).1 ((hbe s).mp hs).2)
theorem cd_xchoices {post : Int32 → SX → Prop} (hSt : cd_St P N) (hW : cd_Wb W) (h : ∀ (c : Nat) (f' : Int32) (A' R' F' L' : Nat → Int32), (c : Int) = cd_su (fun t => cd_b01 (cd_Be P N W (nI t))) 512 → post (nI c) (P, f', W, N, A', R', F', L')) : wpX_choices post (P, f, W, N, A, R, F, L) := by
  unfold wpX_choices
  try dsimp only
  refine cd_xask (fun A' e => ?_)
  refine cd_xsolve (cd_abw hW e).1 (cd_abw hW e).2 (fun r f' R' F' L' hF => ?_)
  refine cd_xapart (fun nr hn => nm_e ?_)
  obtain ⟨p, hp, rfl⟩ := cd_mkS hSt (cd_sr P)
  exact cd_xcount hp (fun c hc => h c f' A' R' F' L' (hc.trans (cd_count hp hSt (cd_abw hW e).1 e hF hn)))
theorem cd_xwith {post : Int32 → SX → Prop} {u : Nat} (hSt : cd_St P N) (hW : cd_Wb W) (hu : u < 9) (hp : bt P u = true)
    (h : ∀ (r f' : Int32) (A' R' F' L' : Nat → Int32), cd_Mx P N W (fun s => bt s u = true) (r.toInt + (W u).toInt) → post r (P, f', W, N, A', R', F', L')) : wpX_worthWith post (P, f, W, N, A, R, F, L) (nI u) := by
  unfold wpX_worthWith
  try dsimp only
  refine cd_xask (fun A' e => ⟨cd_in9 hu, ?_⟩)
  rw [nI_clamp (by omega)]
  refine nm_e (cd_xsolve (cd_abu hW e).1 (cd_abu hW e).2 (fun r f' R' F' L' hF => ?_))
  have hm := cd_with hSt hW e hu hp (cd_fl_mx hSt (cd_abu hW e).1 hF)
  refine h _ f' _ R' F' L' ?_
  obtain ⟨s, _, _, hs⟩ := hm.2
  have hb := cd_wsb hW s
  have hw := hW u hu
  rw [Jvm.Kit.i32_sub (by rw [cd_i1000]; omega) (by rw [cd_i1000]; omega), cd_i1000]
  exact hm
theorem cd_xwithout {post : Int32 → SX → Prop} {u : Nat} (hSt : cd_St P N) (hW : cd_Wb W) (hu : u < 9)
    (h : ∀ (r f' : Int32) (A' R' F' L' : Nat → Int32), cd_Mx P N W (fun s => bt s u = false) r.toInt → post r (P, f', W, N, A', R', F', L')) : wpX_worthWithout post (P, f, W, N, A, R, F, L) (nI u) := by
  unfold wpX_worthWithout
  try dsimp only
  refine cd_xask (fun A' e => ⟨cd_in9 hu, ?_⟩)
  rw [nI_clamp (by omega)]
  refine nm_e (cd_xsolve (cd_abv hW e).1 (cd_abv hW e).2 (fun r f' R' F' L' hF => ?_))
  exact h r f' _ R' F' L' (cd_wout hW e hu (cd_fl_mx hSt (cd_abv hW e).1 hF))
end
end
section
/-! the methods that store: add, remove, need -/
theorem cd_first (P : Int32) : ∀ n : Nat, (∀ i, i < n → bt P i = true) ∨ ∃ j, j < n ∧ bt P j = false ∧ ∀ i, i < j → bt P i = true := by
  intro n
  induction n with
  | zero => exact Or.inl fun i hi => absurd hi (by omega)
  | succ n ih =>
    rcases ih with h | ⟨j, hj, a, b⟩
    · cases e : bt P n
      · exact Or.inr ⟨n, by omega, e, h⟩
      · refine Or.inl fun i hi => ?_
        by_cases q : i = n
        · rw [q]
          exact e
        · exact h i (by omega)
    · exact Or.inr ⟨j, by omega, a, b⟩
theorem cd_s0 : vp_nar .short 0 = 0 := by
  rw [vp_nar_short]
  decide
def cd_rm (N : Nat → Int32) (m : Int32) : Nat → Int32 := fun v => if v < 9 then N v &&& (m ^^^ (-1)) else N v
section
variable {P f : Int32} {W N A R F L T : Nat → Int32}
theorem cd_xadd_f {post : Int32 → SX → Prop} {x : Int32} (all : ∀ i, i < 9 → bt P i = true) (h : post (-2) (P, f, W, N, A, R, F, L)) : ∃ n, wX_add_11 post x P f W N A R F L n 0 := by
  refine loop_0 (σ := Unit) (fun n i _ => wX_add_11 post x P f W N A R F L n (nI i)) (fun _ _ => True) 9 () trivial (fun n _ _ => br_t cd_le9 h) ?_
  intro n i _ hi _ K
  exact br_f (cd_nl9 hi) (cd_xhas_t hi (all i hi) (br_f (by decide) (nm_r (nI_1 i) (K () trivial))))
theorem cd_yadd_f {post : Int32 → SY → Prop} {x : Int32} (hT : cd_T P T) (all : ∀ i, i < 9 → bt P i = true) (h : post (-2) (T, W, N)) : ∃ n, wY_add_12 post x T W N n 0 := by
  refine loop_0 (σ := Unit) (fun n i _ => wY_add_12 post x T W N n (nI i)) (fun _ _ => True) 9 () trivial (fun n _ _ => br_t cd_le9 h) ?_
  intro n i _ hi _ K
  refine br_f (cd_nl9 hi) ⟨cd_in9 hi, ?_⟩
  rw [nI_clamp (by omega), hT i hi, all i hi]
  exact br_f (by decide) (nm_r (nI_1 i) (K () trivial))
theorem cd_xadd_t {post : Int32 → SX → Prop} {x : Int32} {j : Nat} (h1 : -50 ≤ x.toInt) (h2 : x.toInt ≤ 50) (hj : j < 9) (hp : bt P j = false) (lo : ∀ i, i < j → bt P i = true)
    (h : post (nI j) (P ||| ((1 : Int32) <<< (nI j &&& 31)), f, upd W j x, upd N j 0, A, R, F, L)) : ∃ n, wX_add_11 post x P f W N A R F L n 0 := by
  refine loop_0 (σ := Unit) (fun n i _ => wX_add_11 post x P f W N A R F L n (nI i)) (fun _ _ => True) j () trivial ?_ ?_
  · intro n _ _
    refine br_f (cd_nl9 hj) (cd_xhas_f (cd_hasN hj hp) (br_t rfl ?_))
    rw [nI_clamp (by omega), cd_t8 (by omega) (by omega), cd_s0]
    exact nm_e ⟨cd_in9 hj, nm_e ⟨cd_in9 hj, nm_e h⟩⟩
  · intro n i _ hi _ K
    exact br_f (cd_nl9 (by omega)) (cd_xhas_t (by omega) (lo i hi) (br_f (by decide) (nm_r (nI_1 i) (K () trivial))))
theorem cd_yadd_t {post : Int32 → SY → Prop} {x : Int32} {j : Nat} (hT : cd_T P T) (hj : j < 9) (hp : bt P j = false) (lo : ∀ i, i < j → bt P i = true)
    (h : post (nI j) (upd T j 1, upd W j x, upd N j 0)) : ∃ n, wY_add_12 post x T W N n 0 := by
  refine loop_0 (σ := Unit) (fun n i _ => wY_add_12 post x T W N n (nI i)) (fun _ _ => True) j () trivial ?_ ?_
  · intro n _ _
    refine br_f (cd_nl9 hj) ⟨cd_in9 hj, ?_⟩
    rw [nI_clamp (by omega), hT j hj, hp]
    exact br_t rfl ⟨cd_in9 hj, nm_e ⟨cd_in9 hj, nm_e ⟨cd_in9 hj, nm_e h⟩⟩⟩
  · intro n i _ hi _ K
    refine br_f (cd_nl9 (by omega)) ⟨cd_in9 (by omega), ?_⟩
    rw [nI_clamp (by omega), hT i (by omega), lo i hi]
    exact br_f (by decide) (nm_r (nI_1 i) (K () trivial))
theorem cd_xremove {post : Int32 → SX → Prop} {u : Nat} (hSt : cd_St P N) (hu : u < 9) (hp : bt P u = true)
    (h : post 1 (P &&& (((1 : Int32) <<< (nI u &&& 31)) ^^^ (-1)), f, W, cd_rm N ((1 : Int32) <<< (nI u &&& 31)), A, R, F, L)) : wpX_remove post (P, f, W, N, A, R, F, L) (nI u) := by
  unfold wpX_remove
  try dsimp only
  refine cd_xhas_t hu hp (br_f (by decide) (nm_e ?_))
  refine loop_0 (fun n i N' => wX_remove_26 post (nI u) (P &&& (((1 : Int32) <<< (nI u &&& 31)) ^^^ (-1))) f n (nI i) W N' A R F L) (fun i N' => ∀ v, N' v = if v < i then N v &&& (((1 : Int32) <<< (nI u &&& 31)) ^^^ (-1)) else N v) 9 N (fun v => by rw [if_neg (by omega)]) ?_ ?_
  · intro n N' hI
    refine br_t cd_le9 ?_
    rw [show N' = cd_rm N ((1 : Int32) <<< (nI u &&& 31)) from funext hI]
    exact h
  · intro n i N' hi hI K
    refine br_f (cd_nl9 hi) ⟨cd_in9 hi, cd_in9 hi, ?_⟩
    rw [nI_clamp (by omega)]
    refine nm_r (e' := upd N' i (N' i &&& (((1 : Int32) <<< (nI u &&& 31)) ^^^ (-1)))) ?_ (nm_r (nI_1 i) (K _ fun v => ?_))
    · rw [cd_t16]
      intro j hj
      rw [cd_clr (by omega), hI i, if_neg (by omega)]
      cases e : bt (N i) j
      · rfl
      · exact cd_ft (hSt.1 j hj) (hSt.2 i hi j e)
    · by_cases e : v = i
      · rw [e, pk_us, hI i, if_neg (by omega), if_pos (by omega)]
      · rw [pk_un e, hI v]
        by_cases q : v < i
        · rw [if_pos q, if_pos (by omega)]
        · rw [if_neg q, if_neg (by omega)]
theorem cd_yremove {post : Int32 → SY → Prop} {u : Nat} (hT : cd_T P T) (hu : u < 9) (hp : bt P u = true)
    (h : post 1 (upd T u 0, W, cd_rm N ((1 : Int32) <<< (nI u &&& 31)))) : wpY_remove post (T, W, N) (nI u) := by
  unfold wpY_remove
  try dsimp only
  refine cd_yis_t hT hu hp (br_f (by decide) ⟨cd_in9 hu, ?_⟩)
  rw [nI_clamp (by omega)]
  refine nm_e ?_
  refine loop_0 (fun n i N' => wY_remove_19 post (nI u) n (nI i) (upd T u (vp_nar .boolean 0)) W N') (fun i N' => ∀ v, N' v = if v < i then N v &&& (((1 : Int32) <<< (nI u &&& 31)) ^^^ (-1)) else N v) 9 N (fun v => by rw [if_neg (by omega)]) ?_ ?_
  · intro n N' hI
    refine br_t cd_le9 ?_
    rw [show N' = cd_rm N ((1 : Int32) <<< (nI u &&& 31)) from funext hI]
    exact h
  · intro n i N' hi hI K
    refine br_f (cd_nl9 hi) ⟨cd_in9 hi, cd_in9 hi, ?_⟩
    rw [nI_clamp (by omega)]
    refine nm_e (nm_r (nI_1 i) (K _ fun v => ?_))
    by_cases e : v = i
    · rw [e, pk_us, hI i, if_neg (by omega), if_pos (by omega)]
    · rw [pk_un e, hI v]
      by_cases q : v < i
      · rw [if_pos q, if_pos (by omega)]
      · rw [if_neg q, if_neg (by omega)]
theorem cd_clrS {u : Nat} {x : Int32} (hu : u < 32) : cd_Sub (x &&& (((1 : Int32) <<< (nI u &&& 31)) ^^^ (-1))) x := fun i hi => by
  rw [cd_clr hu] at hi
  exact (Bool.and_eq_true_iff.mp hi).1
theorem cd_orS {u : Nat} {x : Int32} (hu : u < 9) (hx : cd_Sub x P) (hp : bt P u = true) : cd_Sub (x ||| ((1 : Int32) <<< (nI u &&& 31))) P := fun i hi => by
  rw [cd_orn (by omega)] at hi
  rcases Bool.or_eq_true_iff.mp hi with q | q
  · exact hx i q
  · rw [of_decide_eq_true q]
    exact hp
theorem cd_Sb {x : Int32} (hSt : cd_St P N) (h : cd_Sub x P) : ∀ i, 9 ≤ i → bt x i = false := fun i hi => cd_nt fun z => cd_ft (hSt.1 i hi) (h i z)
theorem cd_St_upd {u : Nat} {x : Int32} (hSt : cd_St P N) (h : cd_Sub x P) : cd_St P (upd N u x) := by
  refine ⟨hSt.1, fun v hv => ?_⟩
  by_cases e : v = u
  · rw [e, pk_us]
    exact h
  · rw [pk_un e]
    exact hSt.2 v hv
theorem cd_ne9 {u v : Nat} (hu : u < 9) (hv : v < 9) (h : u ≠ v) : ¬ nI u = nI v := fun z => h ((nI_eq (by omega) (by omega)).mp z)
theorem cd_xneed0 {post : Int32 → SX → Prop} {u v : Nat} (hSt : cd_St P N) (hu : u < 9) (hv : v < 9) (pu : bt P u = true) (pv : bt P v = true) (hne : u ≠ v)
    (h : post 1 (P, f, W, upd N u (N u &&& (((1 : Int32) <<< (nI v &&& 31)) ^^^ (-1))), A, R, F, L)) : wpX_need post (P, f, W, N, A, R, F, L) (nI u) (nI v) 0 := by
  unfold wpX_need
  try dsimp only
  refine cd_xhas_t hu pu (br_f (by decide) (cd_xhas_t hv pv (br_f (by decide) (br_f (cd_ne9 hu hv hne) (br_t rfl ⟨cd_in9 hu, cd_in9 hu, ?_⟩)))))
  rw [nI_clamp (by omega), cd_t16 (cd_Sb hSt (cd_st (cd_clrS (by omega)) (hSt.2 u hu)))]
  exact nm_e h
theorem cd_xneed1 {post : Int32 → SX → Prop} {u v : Nat} {x : Int32} (hx : ¬ x = 0) (hSt : cd_St P N) (hu : u < 9) (hv : v < 9) (pu : bt P u = true) (pv : bt P v = true) (hne : u ≠ v)
    (h : post 1 (P, f, W, upd N u (N u ||| ((1 : Int32) <<< (nI v &&& 31))), A, R, F, L)) : wpX_need post (P, f, W, N, A, R, F, L) (nI u) (nI v) x := by
  unfold wpX_need
  try dsimp only
  refine cd_xhas_t hu pu (br_f (by decide) (cd_xhas_t hv pv (br_f (by decide) (br_f (cd_ne9 hu hv hne) (br_f hx ⟨cd_in9 hu, cd_in9 hu, ?_⟩)))))
  rw [nI_clamp (by omega), cd_t16 (cd_Sb hSt (cd_orS hv (hSt.2 u hu) pv))]
  exact nm_e h
theorem cd_yneed0 {post : Int32 → SY → Prop} {u v : Nat} (hT : cd_T P T) (hu : u < 9) (hv : v < 9) (pu : bt P u = true) (pv : bt P v = true) (hne : u ≠ v)
    (h : post 1 (T, W, upd N u (N u &&& (((1 : Int32) <<< (nI v &&& 31)) ^^^ (-1))))) : wpY_need post (T, W, N) (nI u) (nI v) 0 := by
  unfold wpY_need
  try dsimp only
  refine br_f (cd_ne9 hu hv hne) (cd_yis_t hT hu pu (br_f (by decide) (cd_yis_t hT hv pv (br_f (by decide) (br_t rfl ⟨cd_in9 hu, cd_in9 hu, ?_⟩)))))
  rw [nI_clamp (by omega)]
  exact nm_e h
theorem cd_yneed1 {post : Int32 → SY → Prop} {u v : Nat} {x : Int32} (hx : ¬ x = 0) (hT : cd_T P T) (hu : u < 9) (hv : v < 9) (pu : bt P u = true) (pv : bt P v = true) (hne : u ≠ v)
    (h : post 1 (T, W, upd N u (N u ||| ((1 : Int32) <<< (nI v &&& 31))))) : wpY_need post (T, W, N) (nI u) (nI v) x := by
  unfold wpY_need
  try dsimp only
  refine br_f (cd_ne9 hu hv hne) (cd_yis_t hT hu pu (br_f (by decide) (cd_yis_t hT hv pv (br_f (by decide) (br_f hx ⟨cd_in9 hu, cd_in9 hu, ?_⟩)))))
  rw [nI_clamp (by omega)]
  exact nm_e h
end
end
section
/-! what the owed rows lean on -/
section
variable {P f : Int32} {W N A R F L T : Nat → Int32}
theorem cd_xneed_f {post : Int32 → SX → Prop} {a b x : Int32} (hn : ¬ (cd_Has P a ∧ cd_Has P b ∧ ¬ a = b)) (h : post 0 (P, f, W, N, A, R, F, L)) : wpX_need post (P, f, W, N, A, R, F, L) a b x := by
  unfold wpX_need
  try dsimp only
  by_cases hu : cd_Has P a
  · obtain ⟨i, hi, rfl, pi⟩ := hu
    refine cd_xhas_t hi pi (br_f (by decide) ?_)
    by_cases hv : cd_Has P b
    · obtain ⟨j, hj, rfl, pj⟩ := hv
      exact cd_xhas_t hj pj (br_f (by decide) (br_t (Classical.byContradiction fun z => hn ⟨⟨i, hi, rfl, pi⟩, ⟨j, hj, rfl, pj⟩, z⟩) h))
    · exact cd_xhas_f hv (br_t rfl h)
  · exact cd_xhas_f hu (br_t rfl h)
theorem cd_yneed_f {post : Int32 → SY → Prop} {a b x : Int32} (hT : cd_T P T) (hn : ¬ (cd_Has P a ∧ cd_Has P b ∧ ¬ a = b)) (h : post 0 (T, W, N)) : wpY_need post (T, W, N) a b x := by
  unfold wpY_need
  try dsimp only
  refine br_c (fun _ => h) (fun e => ?_)
  by_cases hu : cd_Has P a
  · obtain ⟨i, hi, rfl, pi⟩ := hu
    exact cd_yis_t hT hi pi (br_f (by decide) (cd_yis_f hT (fun hv => hn ⟨⟨i, hi, rfl, pi⟩, hv, e⟩) (br_t rfl h)))
  · exact cd_yis_f hT hu (br_t rfl h)
theorem cd_xburden_f {post : Int32 → SX → Prop} {a b : Int32} (hn : ¬ (cd_Has P a ∧ cd_Has P b ∧ ¬ a = b)) (h : post (-100000) (P, f, W, N, A, R, F, L)) : wpX_burden post (P, f, W, N, A, R, F, L) a b := by
  unfold wpX_burden
  try dsimp only
  by_cases hu : cd_Has P a
  · obtain ⟨i, hi, rfl, pi⟩ := hu
    refine cd_xhas_t hi pi (br_f (by decide) ?_)
    by_cases hv : cd_Has P b
    · obtain ⟨j, hj, rfl, pj⟩ := hv
      exact cd_xhas_t hj pj (br_f (by decide) (br_t (Classical.byContradiction fun z => hn ⟨⟨i, hi, rfl, pi⟩, ⟨j, hj, rfl, pj⟩, z⟩) h))
    · exact cd_xhas_f hv (br_t rfl h)
  · exact cd_xhas_f hu (br_t rfl h)
theorem cd_yburden_f {post : Int32 → SY → Prop} {a b : Int32} (hT : cd_T P T) (hn : ¬ (cd_Has P a ∧ cd_Has P b ∧ ¬ a = b)) (h : post (-100000) (T, W, N)) : wpY_burden post (T, W, N) a b := by
  unfold wpY_burden
  try dsimp only
  refine br_c (fun _ => h) (fun e => ?_)
  by_cases hu : cd_Has P a
  · obtain ⟨i, hi, rfl, pi⟩ := hu
    exact cd_yis_t hT hi pi (br_f (by decide) (cd_yis_f hT (fun hv => hn ⟨⟨i, hi, rfl, pi⟩, hv, e⟩) (br_t rfl h)))
  · exact cd_yis_f hT hu (br_t rfl h)
theorem cd_clrP {u v : Nat} (hSt : cd_St P N) (hu : u < 9) (hv : v < 9) : cd_St P (upd N u (N u &&& (((1 : Int32) <<< (nI v &&& 31)) ^^^ (-1)))) :=
  cd_St_upd hSt (cd_st (cd_clrS (by omega)) (hSt.2 u hu))
theorem cd_yburden_t {post : Int32 → SY → Prop} {u v : Nat} (hSt : cd_St P N) (hT : cd_T P T) (hW : cd_Wb W) (hu : u < 9) (hv : v < 9) (pu : bt P u = true) (pv : bt P v = true) (hne : u ≠ v)
    (h : ∀ r1 r2 : Int32, cd_Mx P N W (fun _ => True) r1.toInt → cd_Mx P (upd N u (N u &&& (((1 : Int32) <<< (nI v &&& 31)) ^^^ (-1)))) W (fun _ => True) r2.toInt → post (r2 - r1) (T, W, N)) : wpY_burden post (T, W, N) (nI u) (nI v) := by
  unfold wpY_burden
  try dsimp only
  refine br_f (cd_ne9 hu hv hne) (cd_yis_t hT hu pu (br_f (by decide) (cd_yis_t hT hv pv (br_f (by decide) ⟨cd_in9 hu, ?_⟩))))
  rw [nI_clamp (by omega)]
  refine nm_e (cd_ybest hSt hT hW (fun r1 h1 => ⟨cd_in9 hu, nm_e (cd_ybest (cd_clrP hSt hu hv) hT hW (fun r2 h2 => ⟨cd_in9 hu, nm_r (e' := N) (funext fun i => ?_) (h r1 r2 h1 h2)⟩))⟩))
  by_cases e : i = u
  · rw [e, pk_us]
  · rw [pk_un e, pk_un e]
theorem cd_back {u v : Nat} (hv : v < 9) (hb : bt (N u) v = true) :
    upd (upd N u (N u &&& (((1 : Int32) <<< (nI v &&& 31)) ^^^ (-1)))) u (upd N u (N u &&& (((1 : Int32) <<< (nI v &&& 31)) ^^^ (-1))) u ||| ((1 : Int32) <<< (nI v &&& 31))) = N := by
  funext i
  by_cases e : i = u
  · rw [e, pk_us, pk_us]
    apply b_ext
    intro j _
    rw [cd_orn (by omega), cd_clr (by omega)]
    by_cases q : j = v
    · rw [decide_eq_true q, Bool.or_true, q, hb]
    · rw [decide_eq_false q, Bool.or_false, Bool.not_false, Bool.and_true]
  · rw [pk_un e, pk_un e]
theorem cd_same {u v : Nat} (hv : v < 9) (hb : bt (N u) v = false) : upd N u (N u &&& (((1 : Int32) <<< (nI v &&& 31)) ^^^ (-1))) = N := by
  funext i
  by_cases e : i = u
  · rw [e, pk_us]
    apply b_ext
    intro j _
    rw [cd_clr (by omega)]
    by_cases q : j = v
    · rw [q, hb, Bool.false_and]
    · rw [decide_eq_false q, Bool.not_false, Bool.and_true]
  · rw [pk_un e]
theorem cd_addT {j : Nat} (hj : j < 9) (hT : cd_T P T) : cd_T (P ||| ((1 : Int32) <<< (nI j &&& 31))) (upd T j 1) := by
  intro i hi
  rw [cd_orn (by omega)]
  by_cases e : i = j
  · rw [e, pk_us, decide_eq_true rfl, Bool.or_true, if_pos rfl]
  · rw [pk_un e, decide_eq_false e, Bool.or_false, hT i hi]
theorem cd_addS {j : Nat} (hj : j < 9) (hSt : cd_St P N) : cd_St (P ||| ((1 : Int32) <<< (nI j &&& 31))) (upd N j 0) := by
  constructor
  · intro i hi
    rw [cd_orn (by omega), hSt.1 i hi, decide_eq_false (by omega)]
    rfl
  · intro v hv
    by_cases e : v = j
    · rw [e, pk_us]
      exact cd_sz _
    · rw [pk_un e]
      intro i hi
      rw [cd_orn (by omega), hSt.2 v hv i hi]
      rfl
theorem cd_remT {u : Nat} (hu : u < 9) (hT : cd_T P T) : cd_T (P &&& (((1 : Int32) <<< (nI u &&& 31)) ^^^ (-1))) (upd T u 0) := by
  intro i hi
  rw [cd_clr (by omega)]
  by_cases e : i = u
  · rw [e, pk_us, decide_eq_true rfl, Bool.not_true, Bool.and_false]
    rfl
  · rw [pk_un e, decide_eq_false e, Bool.not_false, Bool.and_true, hT i hi]
theorem cd_remS {u : Nat} (hu : u < 9) (hSt : cd_St P N) : cd_St (P &&& (((1 : Int32) <<< (nI u &&& 31)) ^^^ (-1))) (cd_rm N ((1 : Int32) <<< (nI u &&& 31))) := by
  constructor
  · intro i hi
    rw [cd_clr (by omega), hSt.1 i hi]
    rfl
  · intro v hv i hi
    unfold cd_rm at hi
    rw [if_pos hv, cd_clr (by omega)] at hi
    have hi := Bool.and_eq_true_iff.mp hi
    rw [cd_clr (by omega), hSt.2 v hv i hi.1, hi.2]
    rfl
end
end
section
/-- the same worths and needs; there is the bits of present; present has nine bits; needs lie within present; worths within -50 .. 50 -/
def i_Rel (k : Nat) (u : SX) (v : SY) : Prop := ∃ (P f : Int32) (W N A R F L T : Nat → Int32), u = (P, f, W, N, A, R, F, L) ∧ v = (T, W, N) ∧ cd_St P N ∧ cd_T P T ∧ cd_Wb W
theorem cd_rel {k : Nat} {P f : Int32} {W N A R F L T : Nat → Int32} (hSt : cd_St P N) (hT : cd_T P T) (hW : cd_Wb W) : i_Rel k (P, f, W, N, A, R, F, L) (T, W, N) :=
  ⟨P, f, W, N, A, R, F, L, T, rfl, rfl, hSt, hT, hW⟩
theorem i_up {k : Nat} {u : SX} {v : SY} (h : i_Rel k u v) : i_Rel (k + 4) u v := h
theorem i_vc0 : wpX_init (fun u => wpY_init (fun v => i_Rel 0 u v)) := by
  unfold wpX_init wpY_init
  refine cd_rel ⟨fun i _ => b_0 i, fun u _ => cd_sz _⟩ (fun i _ => ?_) (fun i _ => ?_)
  · rw [b_0]
    rfl
  · exact ⟨by rw [cd_i0]; decide, by rw [cd_i0]; decide⟩
theorem i_vc_add {k : Nat} {u : SX} {v : SY} (I : i_Rel k u v) (hk : k + 4 ≤ 2048) (v1 : Int32) : wpX_add (fun r u' => wpY_add (fun r' v' => r' = r ∧ i_Rel (k + 4) u' v') v v1) u v1 := by
  obtain ⟨P, f, W, N, A, R, F, L, T, rfl, rfl, hSt, hT, hW⟩ := I
  unfold wpX_add wpY_add
  try dsimp only
  by_cases hw : -50 ≤ v1.toInt ∧ v1.toInt ≤ 50
  · refine cd_xw_t hw.1 hw.2 (br_f (by decide) ?_)
    rcases cd_first P 9 with all | ⟨j, hj, hp, lo⟩
    · exact cd_xadd_f all (cd_yw_t hw.1 hw.2 (br_f (by decide) (cd_yadd_f hT all ⟨rfl, cd_rel hSt hT hW⟩)))
    · exact cd_xadd_t hw.1 hw.2 hj hp lo (cd_yw_t hw.1 hw.2 (br_f (by decide) (cd_yadd_t hT hj hp lo ⟨rfl, cd_rel (cd_addS hj hSt) (cd_addT hj hT) (cd_wb_upd hW hw.1 hw.2)⟩)))
  · exact cd_xw_f hw (br_t rfl (cd_yw_f hw (br_t rfl ⟨rfl, cd_rel hSt hT hW⟩)))
theorem i_vc_remove {k : Nat} {u : SX} {v : SY} (I : i_Rel k u v) (hk : k + 4 ≤ 2048) (v1 : Int32) : wpX_remove (fun r u' => wpY_remove (fun r' v' => r' = r ∧ i_Rel (k + 4) u' v') v v1) u v1 := by
  obtain ⟨P, f, W, N, A, R, F, L, T, rfl, rfl, hSt, hT, hW⟩ := I
  by_cases hu : cd_Has P v1
  · obtain ⟨j, hj, rfl, hp⟩ := hu
    exact cd_xremove hSt hj hp (cd_yremove hT hj hp ⟨rfl, cd_rel (cd_remS hj hSt) (cd_remT hj hT) hW⟩)
  · unfold wpX_remove wpY_remove
    try dsimp only
    exact cd_xhas_f hu (br_t rfl (cd_yis_f hT hu (br_t rfl ⟨rfl, cd_rel hSt hT hW⟩)))
theorem i_vc_rate {k : Nat} {u : SX} {v : SY} (I : i_Rel k u v) (hk : k + 4 ≤ 2048) (v1 : Int32) (v2 : Int32) : wpX_rate (fun r u' => wpY_rate (fun r' v' => r' = r ∧ i_Rel (k + 4) u' v') v v1 v2) u v1 v2 := by
  obtain ⟨P, f, W, N, A, R, F, L, T, rfl, rfl, hSt, hT, hW⟩ := I
  unfold wpX_rate wpY_rate
  try dsimp only
  by_cases hu : cd_Has P v1
  · obtain ⟨j, hj, rfl, hp⟩ := hu
    refine cd_xhas_t hj hp (br_f (by decide) ?_)
    by_cases hw : -50 ≤ v2.toInt ∧ v2.toInt ≤ 50
    · refine cd_xw_t hw.1 hw.2 (br_f (by decide) ⟨cd_in9 hj, ?_⟩)
      rw [nI_clamp (by omega), cd_t8 (by omega) (by omega)]
      exact nm_e (cd_yis_t hT hj hp (br_f (by decide) (cd_yw_t hw.1 hw.2 (br_f (by decide) ⟨cd_in9 hj, nm_e ⟨rfl, cd_rel hSt hT (cd_wb_upd hW hw.1 hw.2)⟩⟩))))
    · exact cd_xw_f hw (br_t rfl (cd_yis_t hT hj hp (br_f (by decide) (cd_yw_f hw (br_t rfl ⟨rfl, cd_rel hSt hT hW⟩)))))
  · exact cd_xhas_f hu (br_t rfl (cd_yis_f hT hu (br_t rfl ⟨rfl, cd_rel hSt hT hW⟩)))
theorem i_vc_need {k : Nat} {u : SX} {v : SY} (I : i_Rel k u v) (hk : k + 4 ≤ 2048) (v1 : Int32) (v2 : Int32) (v3 : Int32) : wpX_need (fun r u' => wpY_need (fun r' v' => r' = r ∧ i_Rel (k + 4) u' v') v v1 v2 (lw_bz v3)) u v1 v2 (lw_bz v3) := by
  obtain ⟨P, f, W, N, A, R, F, L, T, rfl, rfl, hSt, hT, hW⟩ := I
  by_cases hn : cd_Has P v1 ∧ cd_Has P v2 ∧ ¬ v1 = v2
  · obtain ⟨⟨i, hi, rfl, pi⟩, ⟨j, hj, rfl, pj⟩, hne⟩ := hn
    have hij : i ≠ j := fun z => hne (by rw [z])
    rcases lw_bz_01 v3 with e | e
    · rw [e]
      exact cd_xneed0 hSt hi hj pi pj hij (cd_yneed0 hT hi hj pi pj hij ⟨rfl, cd_rel (cd_clrP hSt hi hj) hT hW⟩)
    · rw [e]
      exact cd_xneed1 (by decide) hSt hi hj pi pj hij (cd_yneed1 (by decide) hT hi hj pi pj hij ⟨rfl, cd_rel (cd_St_upd hSt (cd_orS hj (hSt.2 i hi) pj)) hT hW⟩)
  · exact cd_xneed_f hn (cd_yneed_f hT hn ⟨rfl, cd_rel hSt hT hW⟩)
theorem i_vc_undertakings {k : Nat} {u : SX} {v : SY} (I : i_Rel k u v) (hk : k + 4 ≤ 2048) : wpX_undertakings (fun r => wpY_undertakings (fun r' => r' = r ∧ i_Rel (k + 4) u v) v) u := by
  obtain ⟨P, f, W, N, A, R, F, L, T, rfl, rfl, hSt, hT, hW⟩ := I
  unfold wpX_undertakings
  try dsimp only
  exact cd_yund hSt hT ⟨rfl, cd_rel hSt hT hW⟩
theorem i_vc_closed {k : Nat} {u : SX} {v : SY} (I : i_Rel k u v) (hk : k + 4 ≤ 2048) (v1 : Int32) : wpX_closed (fun r => wpY_closed (fun r' => r' = r ∧ i_Rel (k + 4) u v) v v1) u v1 := by
  obtain ⟨P, f, W, N, A, R, F, L, T, rfl, rfl, hSt, hT, hW⟩ := I
  exact cd_xclosed (fun hc => cd_yclosed hSt hT (fun _ => ⟨rfl, cd_rel hSt hT hW⟩) (fun z => absurd hc z)) (fun hc => cd_yclosed hSt hT (fun z => absurd z hc) (fun _ => ⟨rfl, cd_rel hSt hT hW⟩))
theorem i_vc_closure {k : Nat} {u : SX} {v : SY} (I : i_Rel k u v) (hk : k + 4 ≤ 2048) (v1 : Int32) : wpX_closure (fun r => wpY_closure (fun r' => r' = r ∧ i_Rel (k + 4) u v) v v1) u v1 := by
  obtain ⟨P, f, W, N, A, R, F, L, T, rfl, rfl, hSt, hT, hW⟩ := I
  exact cd_xclosure hSt (fun C a b c => cd_yclosure hSt hT a b c ⟨rfl, cd_rel hSt hT hW⟩)
theorem i_vc_best {k : Nat} {u : SX} {v : SY} (I : i_Rel k u v) (hk : k + 4 ≤ 2048) : wpX_best (fun r u' => wpY_best (fun r' => r' = r ∧ i_Rel (k + 4) u' v) v) u := by
  obtain ⟨P, f, W, N, A, R, F, L, T, rfl, rfl, hSt, hT, hW⟩ := I
  exact cd_xbest hSt hW (fun r f' A' R' F' L' hm => cd_ybest hSt hT hW (fun r' hr => ⟨Int32.toInt_inj.mp (cd_mx_u hr hm), cd_rel hSt hT hW⟩))
theorem i_vc_leastBest {k : Nat} {u : SX} {v : SY} (I : i_Rel k u v) (hk : k + 4 ≤ 2048) : wpX_leastBest (fun r u' => wpY_leastBest (fun r' => r' = r ∧ i_Rel (k + 4) u' v) v) u := by
  obtain ⟨P, f, W, N, A, R, F, L, T, rfl, rfl, hSt, hT, hW⟩ := I
  exact cd_xleast hSt hW (fun G f' A' R' F' L' a b => cd_yleast hSt hT hW a b ⟨rfl, cd_rel hSt hT hW⟩)
theorem i_vc_greatestBest {k : Nat} {u : SX} {v : SY} (I : i_Rel k u v) (hk : k + 4 ≤ 2048) : wpX_greatestBest (fun r u' => wpY_greatestBest (fun r' => r' = r ∧ i_Rel (k + 4) u' v) v) u := by
  obtain ⟨P, f, W, N, A, R, F, L, T, rfl, rfl, hSt, hT, hW⟩ := I
  exact cd_xgreatest hSt hW (fun G f' A' R' F' L' a b => cd_ygreatest hSt hT hW a b ⟨rfl, cd_rel hSt hT hW⟩)
theorem i_vc_bestWith {k : Nat} {u : SX} {v : SY} (I : i_Rel k u v) (hk : k + 4 ≤ 2048) (v1 : Int32) : wpX_bestWith (fun r u' => wpY_bestWith (fun r' => r' = r ∧ i_Rel (k + 4) u' v) v v1) u v1 := by
  obtain ⟨P, f, W, N, A, R, F, L, T, rfl, rfl, hSt, hT, hW⟩ := I
  unfold wpX_bestWith
  try dsimp only
  by_cases hu : cd_Has P v1
  · obtain ⟨j, hj, rfl, hp⟩ := hu
    refine cd_xhas_t hj hp (br_f (by decide) (cd_xwith hSt hW hj hp (fun w f' A' R' F' L' hm => ⟨cd_in9 hj, ?_⟩)))
    rw [nI_clamp (by omega)]
    refine cd_ybestWith hSt hT hW hj hp (fun r' hr => ⟨Int32.toInt_inj.mp ?_, cd_rel hSt hT hW⟩)
    obtain ⟨s, _, _, hs⟩ := hm.2
    have hb := cd_wsb hW s
    have ea : (w + W j).toInt = w.toInt + (W j).toInt := Jvm.Kit.i32_add (by omega) (by omega)
    exact (cd_mx_u hr hm).trans ea.symm
  · refine cd_xhas_f hu (br_t rfl ?_)
    unfold wpY_bestWith
    try dsimp only
    exact cd_yis_f hT hu (br_t rfl ⟨rfl, cd_rel hSt hT hW⟩)
theorem i_vc_bestWithout {k : Nat} {u : SX} {v : SY} (I : i_Rel k u v) (hk : k + 4 ≤ 2048) (v1 : Int32) : wpX_bestWithout (fun r u' => wpY_bestWithout (fun r' => r' = r ∧ i_Rel (k + 4) u' v) v v1) u v1 := by
  obtain ⟨P, f, W, N, A, R, F, L, T, rfl, rfl, hSt, hT, hW⟩ := I
  unfold wpX_bestWithout
  try dsimp only
  by_cases hu : cd_Has P v1
  · obtain ⟨j, hj, rfl, hp⟩ := hu
    exact cd_xhas_t hj hp (br_f (by decide) (cd_xwithout hSt hW hj (fun o f' A' R' F' L' ho => cd_ywithout_t hSt hT hW hj (fun r' hr => ⟨Int32.toInt_inj.mp (cd_mx_u hr ho), cd_rel hSt hT hW⟩))))
  · exact cd_xhas_f hu (br_t rfl (cd_xbest hSt hW (fun r f' A' R' F' L' hm => cd_ywithout_f hSt hT hW hu (fun r' hr => ⟨Int32.toInt_inj.mp (cd_mx_u hr hm), cd_rel hSt hT hW⟩))))
theorem i_vc_threshold {k : Nat} {u : SX} {v : SY} (I : i_Rel k u v) (hk : k + 4 ≤ 2048) (v1 : Int32) : wpX_threshold (fun r u' => wpY_threshold (fun r' v' => r' = r ∧ i_Rel (k + 4) u' v') v v1) u v1 := by
  obtain ⟨P, f, W, N, A, R, F, L, T, rfl, rfl, hSt, hT, hW⟩ := I
  unfold wpX_threshold
  try dsimp only
  by_cases hu : cd_Has P v1
  · obtain ⟨j, hj, rfl, hp⟩ := hu
    refine cd_xhas_t hj hp (br_f (by decide) (cd_xwithout hSt hW hj (fun o f1 A1 R1 F1 L1 ho => cd_xwith hSt hW hj hp (fun w f2 A2 R2 F2 L2 hm => ?_))))
    have hm : cd_Mx P N W (fun s => bt s j = true) (w.toInt + (W j).toInt) := hm
    obtain ⟨s, _, _, hs⟩ := hm.2
    obtain ⟨t, _, _, ht⟩ := ho.2
    have hb1 := cd_wsb hW s
    have hb2 := cd_wsb hW t
    have hw := hW j hj
    have ed : (o - w).toInt = o.toInt - w.toInt := Jvm.Kit.i32_sub (by omega) (by omega)
    have key : ∀ r : Int32, r.toInt = cd_thv (o.toInt - w.toInt) 0 → wpY_threshold (fun r' v' => r' = r ∧ i_Rel (k + 4) (P, f2, W, N, A2, R2, F2, L2) v') (T, W, N) (nI j) := by
      intro r hr
      refine cd_ythr hSt hT hW hj hp hm ho (fun r' hr' => ⟨Int32.toInt_inj.mp ?_, cd_rel hSt hT hW⟩)
      rw [hr', hr]
      congr 1
      omega
    refine nm_e (br_c (fun z1 => br_c (fun z2 => key _ ?_) (fun z2 => key _ ?_)) (fun z1 => key _ ?_))
    · rw [Int32.le_iff_toInt_le, cd_i50, ed] at z1
      rw [Int32.le_iff_toInt_le, cd_im50, ed] at z2
      rw [ed]
      unfold cd_thv
      split
      · omega
      · first | omega | (split <;> omega)
    · rw [Int32.le_iff_toInt_le, cd_im50, ed] at z2
      rw [cd_im50]
      unfold cd_thv
      split
      · omega
      · first | omega | (split <;> omega)
    · rw [Int32.le_iff_toInt_le, cd_i50, ed] at z1
      rw [show (51 : Int32).toInt = 51 by decide]
      unfold cd_thv
      split
      · omega
      · first | omega | (split <;> omega)
  · refine cd_xhas_f hu (br_t rfl ?_)
    unfold wpY_threshold
    try dsimp only
    exact cd_yis_f hT hu (br_t rfl ⟨rfl, cd_rel hSt hT hW⟩)
theorem i_vc_burden {k : Nat} {u : SX} {v : SY} (I : i_Rel k u v) (hk : k + 4 ≤ 2048) (v1 : Int32) (v2 : Int32) : wpX_burden (fun r u' => wpY_burden (fun r' v' => r' = r ∧ i_Rel (k + 4) u' v') v v1 v2) u v1 v2 := by
  obtain ⟨P, f, W, N, A, R, F, L, T, rfl, rfl, hSt, hT, hW⟩ := I
  by_cases hn : cd_Has P v1 ∧ cd_Has P v2 ∧ ¬ v1 = v2
  · obtain ⟨⟨i, hi, rfl, pi⟩, ⟨j, hj, rfl, pj⟩, hne⟩ := hn
    have hij : i ≠ j := fun z => hne (by rw [z])
    unfold wpX_burden
    try dsimp only
    refine cd_xhas_t hi pi (br_f (by decide) (cd_xhas_t hj pj (br_f (by decide) (br_f hne ⟨cd_in9 hi, ?_⟩))))
    rw [nI_clamp (by omega)]
    refine cd_xin (by omega) (fun hb => br_f (by decide) ?_) (fun hb => br_t rfl ?_)
    · refine cd_xbest hSt hW (fun r1 f1 A1 R1 F1 L1 h1 => cd_xneed0 hSt hi hj pi pj hij (cd_xbest (cd_clrP hSt hi hj) hW (fun r2 f2 A2 R2 F2 L2 h2 => cd_xneed1 (by decide) (cd_clrP hSt hi hj) hi hj pi pj hij ?_)))
      try dsimp only
      rw [cd_back hj hb]
      refine cd_yburden_t hSt hT hW hi hj pi pj hij (fun s1 s2 k1 k2 => ⟨?_, cd_rel hSt hT hW⟩)
      rw [Int32.toInt_inj.mp (cd_mx_u k1 h1), Int32.toInt_inj.mp (cd_mx_u k2 h2)]
    · refine cd_yburden_t hSt hT hW hi hj pi pj hij (fun s1 s2 k1 k2 => ⟨?_, cd_rel hSt hT hW⟩)
      rw [cd_same hj hb] at k2
      rw [Int32.toInt_inj.mp (cd_mx_u k1 k2), Int32.sub_self]
  · exact cd_xburden_f hn (cd_yburden_f hT hn ⟨rfl, cd_rel hSt hT hW⟩)
theorem i_vc_choices {k : Nat} {u : SX} {v : SY} (I : i_Rel k u v) (hk : k + 4 ≤ 2048) : wpX_choices (fun r u' => wpY_choices (fun r' => r' = r ∧ i_Rel (k + 4) u' v) v) u := by
  obtain ⟨P, f, W, N, A, R, F, L, T, rfl, rfl, hSt, hT, hW⟩ := I
  refine cd_xchoices hSt hW (fun c f' A' R' F' L' hc => cd_ychoices hSt hT hW (fun c' hc' => ⟨?_, cd_rel hSt hT hW⟩))
  exact congrArg nI (by omega)
end
