section
theorem pk_us {f : Nat → Int32} {k : Nat} {x : Int32} : upd f k x k = x := if_pos rfl
theorem pk_un {f : Nat → Int32} {k j : Nat} {x : Int32} (h : j ≠ k) : upd f k x j = f j := if_neg h
theorem pk_sub {a b : Nat} (h : b ≤ a) : nI a - nI b = nI (a - b) := by
  obtain ⟨c, rfl⟩ : ∃ c, a = c + b := ⟨a - b, by omega⟩
  rw [← nI_add, Int32.add_sub_cancel, Nat.add_sub_cancel]
theorem pk_m1 (n : Nat) : nI (n + 1) + (-1) = nI n := by
  rw [← nI_1, Int32.add_assoc, show (1 : Int32) + (-1) = 0 from rfl, Int32.add_zero]
theorem pk_sub_toInt {a b : Nat} (ha : a < 2 ^ 30) (hb : b < 2 ^ 30) : (nI a - nI b).toInt = (a : Int) - b := by
  rw [Int32.toInt_sub, nI_toInt (by omega), nI_toInt (by omega)]
  exact Int.bmod_eq_of_le (by omega) (by omega)
theorem pk_sneg {a b : Nat} (hb : b < 2 ^ 30) (h : a < b) : nI a - nI b < 0 := by
  rw [Int32.lt_iff_toInt_lt, pk_sub_toInt (by omega) hb, show (0 : Int32).toInt = 0 from by decide]
  omega
theorem pk_ix (x : Int32) {n : Nat} (hn : n < 2 ^ 31) : x < 0 ∨ nI n ≤ x ∨ ∃ j : Nat, j < n ∧ x = nI j := by
  by_cases h : x < 0
  · exact Or.inl h
  · obtain ⟨j, hj, rfl⟩ := nI_of h
    by_cases h2 : j < n
    · exact Or.inr (Or.inr ⟨j, h2, rfl⟩)
    · exact Or.inr (Or.inl (nI_le (by omega) hj))
theorem pk_le {x y : Int32} {A B : Prop} (a b : Nat) (f : a ≤ b → A) (g : b < a → B) (hx : x = nI a := by rfl) (hy : y = nI b := by rfl) (ha : a < 2 ^ 31 := by omega) (hb : b < 2 ^ 31 := by omega) : (x ≤ y → A) ∧ (¬ x ≤ y → B) := by
  subst hx hy
  rw [nI_leI ha hb]
  exact ⟨f, fun z => g (by omega)⟩
theorem pk_lt {x y : Int32} {A B : Prop} (a b : Nat) (f : a < b → A) (g : b ≤ a → B) (hx : x = nI a := by rfl) (hy : y = nI b := by rfl) (ha : a < 2 ^ 31 := by omega) (hb : b < 2 ^ 31 := by omega) : (x < y → A) ∧ (¬ x < y → B) := by
  subst hx hy
  rw [nI_ltI ha hb]
  exact ⟨f, fun z => g (by omega)⟩
theorem pk_eq {x y : Int32} {A B : Prop} (a b : Nat) (f : a = b → A) (g : a ≠ b → B) (hx : x = nI a := by rfl) (hy : y = nI b := by rfl) (ha : a < 2 ^ 31 := by omega) (hb : b < 2 ^ 31 := by omega) : (x = y → A) ∧ (¬ x = y → B) := by
  subst hx hy
  rw [nI_eq ha hb]
  exact ⟨f, g⟩
theorem pk_in {x : Int32} (n N : Nat) (h : n < N) (hx : x = nI n := by rfl) (hN : N < 2 ^ 31 := by omega) : vp_in x N := by
  subst hx
  exact vp_in_nI h hN
theorem pk_cl {x : Int32} (n : Nat) (hx : x = nI n := by rfl) (h : n < 2 ^ 31 := by omega) : x.toNatClampNeg = n := by
  subst hx
  exact nI_clamp h
theorem pk_tn {n : Nat} (h : n < 2 ^ 32) : (nI n).toBitVec.toNat = n := Nat.mod_eq_of_lt h
theorem pk_and (x : Int32) {m : Int32} (k : Nat) (hm : m.toBitVec.toNat = 2 ^ k - 1) : x &&& m = nI (x.toBitVec.toNat % 2 ^ k) := by
  apply Int32.toBitVec_inj.mp
  apply BitVec.eq_of_toNat_eq
  rw [Int32.toBitVec_and, BitVec.toNat_and, hm, Nat.and_two_pow_sub_one_eq_mod]
  show _ = (BitVec.ofNat 32 _).toNat
  rw [BitVec.toNat_ofNat]
  exact (Nat.mod_eq_of_lt (Nat.lt_of_le_of_lt (Nat.mod_le _ _) x.toBitVec.isLt)).symm
theorem pk_andN {n : Nat} (h : n < 2 ^ 32) {m : Int32} (k : Nat) (hm : m.toBitVec.toNat = 2 ^ k - 1) : nI n &&& m = nI (n % 2 ^ k) := by
  rw [pk_and _ k hm, pk_tn h]
theorem pk_shl (a s : Int32) (k : Nat) (hs : (s.toBitVec.smod 32).toNat = k) : (a <<< s).toBitVec.toNat = a.toBitVec.toNat * 2 ^ k % 2 ^ 32 := by
  show (a.toBitVec <<< (s.toBitVec.smod 32).toNat).toNat = _
  rw [hs, BitVec.toNat_shiftLeft, Nat.shiftLeft_eq]
theorem pk_shlN {n : Nat} (s : Int32) (k : Nat) (hs : (s.toBitVec.smod 32).toNat = k) (h : n * 2 ^ k < 2 ^ 32) : nI n <<< s = nI (n * 2 ^ k) := by
  apply Int32.toBitVec_inj.mp
  apply BitVec.eq_of_toNat_eq
  have hn : n < 2 ^ 32 := Nat.lt_of_le_of_lt (Nat.le_mul_of_pos_right n (Nat.two_pow_pos k)) h
  rw [pk_shl _ _ k hs, pk_tn hn, pk_tn h, Nat.mod_eq_of_lt h]
theorem pk_shr (a s : Int32) (k : Nat) (hs : (s.toBitVec.smod 32).toNat = k) : (a >>> s).toInt = a.toInt >>> k := by
  show (a.toBitVec.sshiftRight (s.toBitVec.smod 32).toNat).toInt = _
  rw [hs, BitVec.toInt_sshiftRight]
  rfl
theorem pk_shrN {n : Nat} (h : n < 2 ^ 31) (s : Int32) (k : Nat) (hs : (s.toBitVec.smod 32).toNat = k) : nI n >>> s = nI (n / 2 ^ k) := by
  apply Int32.toInt_inj.mp
  have h2 : n / 2 ^ k ≤ n := Nat.div_le_self _ _
  rw [pk_shr _ _ k hs, nI_toInt h, nI_toInt (by omega), Int.shiftRight_eq_div_pow]
  rfl
theorem pk_nb (z : Int32) : narrow .byte (.int z.toInt8.toInt32) = .int z.toInt8.toInt32 := congrArg Value.int (by simp)
theorem pk_vb (z : Int32) : vp_nar .byte z.toInt8.toInt32 = z.toInt8.toInt32 := by rw [vp_nar_byte]; simp
theorem pk_loop {σ : Type} (W : Nat → Nat → σ → Prop) (I : Nat → σ → Prop) (e i0 : Nat) (s : σ) (hi : i0 ≤ e) (h0 : I i0 s) (hx : ∀ n s, I e s → W (n + 1) e s)
    (hs : ∀ n i s, i < e → I i s → (∀ s', I (i + 1) s' → W n (i + 1) s') → W (n + 1) i s) : ∃ n, W n i0 s :=
  ⟨e + 1, loop_i W I e hx hs (e + 1) i0 s hi (by omega) h0⟩
theorem pk_loopD {σ : Type} (W : Nat → Nat → σ → Prop) (I : Nat → σ → Prop) (hx : ∀ n s, I 0 s → W (n + 1) 0 s)
    (hs : ∀ n i s, I (i + 1) s → (∀ s', I i s' → W n i s') → W (n + 1) (i + 1) s) : ∀ (e : Nat) (s : σ), I e s → W (e + 1) e s := by
  intro e
  induction e with
  | zero => exact fun s h => hx 0 s h
  | succ e ih => exact fun s h => hs (e + 1) e s h (fun s' h' => ih s' h')
theorem pk_least (P : Nat → Prop) (h : ∃ k, P k) : ∃ k, P k ∧ ∀ j, j < k → ¬ P j := by
  obtain ⟨k, hk⟩ := h
  induction k using Nat.strongRecOn with
  | ind k ih =>
    by_cases e : ∃ j, j < k ∧ P j
    · obtain ⟨j, hj, pj⟩ := e
      exact ih j hj pj
    · exact ⟨k, hk, fun j hj pj => e ⟨j, hj, pj⟩⟩
theorem ek_if {c d A B : Prop} (e : c ↔ d) (f : d → A) (g : ¬ d → B) : (c → A) ∧ (¬ c → B) :=
  ⟨fun z => f (e.mp z), fun z => g (fun y => z (e.mpr y))⟩
def bt (x : Int32) (i : Nat) : Bool := x.toBitVec.getLsbD i
theorem b_ext {x y : Int32} (h : ∀ i, i < 32 → bt x i = bt y i) : x = y := Int32.toBitVec_inj.mp (BitVec.eq_of_getLsbD_eq (fun i hi => h i hi))
theorem b_or (x y : Int32) (i : Nat) : bt (x ||| y) i = (bt x i || bt y i) := by unfold bt; rw [Int32.toBitVec_or, BitVec.getLsbD_or]
theorem b_and (x y : Int32) (i : Nat) : bt (x &&& y) i = (bt x i && bt y i) := by unfold bt; rw [Int32.toBitVec_and, BitVec.getLsbD_and]
theorem b_xor (x y : Int32) (i : Nat) : bt (x ^^^ y) i = (bt x i ^^ bt y i) := by unfold bt; rw [Int32.toBitVec_xor, BitVec.getLsbD_xor]
theorem b_big {x : Int32} {i : Nat} (h : 32 ≤ i) : bt x i = false := BitVec.getLsbD_of_ge _ _ h
theorem b_m1 : ∀ i, i < 32 → bt (-1) i = true := by decide +kernel
theorem b_0 (i : Nat) : bt 0 i = false := BitVec.getLsbD_zero
theorem s_l : ∀ n, n < 32 → ((nI n &&& 31).toBitVec.smod 32).toNat = n := by decide +kernel
theorem b_shl (n : Nat) (hn : n < 32) (x : Int32) {i : Nat} (hi : i < 32) : bt (x <<< (nI n &&& 31)) i = (decide (n ≤ i) && bt x (i - n)) := by
  unfold bt
  rw [Int32.toBitVec_shiftLeft]
  show (x.toBitVec <<< ((nI n &&& 31).toBitVec.smod 32).toNat).getLsbD i = _
  rw [s_l n hn, BitVec.getLsbD_shiftLeft]
  rcases Nat.lt_or_ge i n with h | h
  · simp [h, Nat.not_le.mpr h]
  · simp [hi, h, Nat.not_lt.mpr h]
theorem b_sshr (n : Nat) (hn : n < 32) (x : Int32) {i : Nat} (hi : i < 32) : bt (x >>> (nI n &&& 31)) i = if n + i < 32 then bt x (n + i) else bt x 31 := by
  unfold bt
  rw [Int32.toBitVec_shiftRight]
  show (x.toBitVec.sshiftRight ((nI n &&& 31).toBitVec.smod 32).toNat).getLsbD i = _
  rw [s_l n hn, BitVec.getLsbD_sshiftRight, BitVec.msb_eq_getLsbD_last]
  simp [hi]
theorem nx_and (a b : Nat) : nI a &&& nI b = nI (a &&& b) := by
  apply Int32.toBitVec_inj.1
  show BitVec.ofNat 32 a &&& BitVec.ofNat 32 b = BitVec.ofNat 32 (a &&& b)
  apply BitVec.eq_of_getLsbD_eq
  intro i hi
  simp [hi]
theorem nx_xor (a b : Nat) : nI a ^^^ nI b = nI (a ^^^ b) := by
  apply Int32.toBitVec_inj.1
  show BitVec.ofNat 32 a ^^^ BitVec.ofNat 32 b = BitVec.ofNat 32 (a ^^^ b)
  apply BitVec.eq_of_getLsbD_eq
  intro i hi
  simp [hi]
end
section
/-! masks of seven bits as naturals below 128 -/
theorem tb_cl {i : Nat} (h : i < 128) : (nI i).toNatClampNeg = i := nI_clamp (by omega)
theorem tb_s (k i : Nat) (hk : k < 128) (hi : i < 7) : (nI k >>> (nI i &&& 31)) &&& 1 = nI (k / 2 ^ i % 2) := by
  rw [pk_shrN (by omega) _ i (s_l i (by omega))]
  have h : k / 2 ^ i ≤ k := Nat.div_le_self _ _
  exact pk_andN (by omega) 1 (by decide)
theorem tb_z {k i : Nat} (hk : k < 128) (hi : i < 7) : ((nI k >>> (nI i &&& 31)) &&& 1) = 0 ↔ k.testBit i = false := by
  rw [tb_s k i hk hi, Nat.testBit_eq_decide_div_mod_eq, decide_eq_false_iff_not]
  generalize k / 2 ^ i = z
  rw [← nI_0, nI_eq (by omega) (by omega)]
  omega
theorem tb_o {k i : Nat} (hk : k < 128) (hi : i < 7) : ((nI k >>> (nI i &&& 31)) &&& 1) = 1 ↔ k.testBit i = true := by
  rw [tb_s k i hk hi, Nat.testBit_eq_decide_div_mod_eq, decide_eq_true_iff]
  generalize k / 2 ^ i = z
  rw [show (1 : Int32) = nI 1 from rfl, nI_eq (by omega) (by omega)]
theorem tb_1 : ∀ i, i < 7 → (1 : Int32) <<< (nI i &&& 31) = nI (2 ^ i) := by decide +kernel
theorem tb_p {i : Nat} (h : i < 7) : 2 ^ i < 128 := (Nat.pow_lt_pow_right (by decide) h : 2 ^ i < 2 ^ 7)
theorem tb_bt (a : Nat) {i : Nat} (hi : i < 32) : bt (nI a) i = a.testBit i := by
  show (BitVec.ofNat 32 a).getLsbD i = _
  rw [BitVec.getLsbD_ofNat, decide_eq_true hi, Bool.true_and]
theorem tb_or (a b : Nat) : nI a ||| nI b = nI (a ||| b) := b_ext fun i hi => by
  rw [b_or, tb_bt _ hi, tb_bt _ hi, tb_bt _ hi, Nat.testBit_or]
theorem tb_hi {a i : Nat} (h : a < 128) (hi : 7 ≤ i) : a.testBit i = false :=
  Nat.testBit_lt_two_pow (Nat.lt_of_lt_of_le h (Nat.pow_le_pow_right (by decide) hi : 2 ^ 7 ≤ 2 ^ i))
theorem tb_lo {a i : Nat} (h : a < 128) (hi : a.testBit i = true) : i < 7 := by
  rcases Nat.lt_or_ge i 7 with h1 | h1
  · exact h1
  · rw [tb_hi h h1] at hi
    exact absurd hi (by decide)
/-- the mask a without the mask b -/
def tb_d (a b : Nat) : Nat := a &&& (127 ^^^ b)
theorem tb_dlt {a b : Nat} (h : a < 128) : tb_d a b < 128 := Nat.lt_of_le_of_lt Nat.and_le_left h
theorem tb_dt {a b : Nat} (h : a < 128) (i : Nat) : (tb_d a b).testBit i = (a.testBit i && !b.testBit i) := by
  unfold tb_d
  rw [Nat.testBit_and, Nat.testBit_xor]
  rcases Nat.lt_or_ge i 7 with hi | hi
  · have e : (127 : Nat).testBit i = true := by
      have e2 := Nat.testBit_two_pow_sub_one 7 i
      rw [decide_eq_true hi] at e2
      exact e2
    rw [e]
    cases a.testBit i <;> cases b.testBit i <;> rfl
  · rw [tb_hi h hi]
    rfl
theorem tb_nd {a b : Nat} (ha : a < 128) : nI a &&& (nI b ^^^ (-1)) = nI (tb_d a b) := b_ext fun i hi => by
  rw [b_and, b_xor, b_m1 i hi, tb_bt _ hi, tb_bt _ hi, tb_bt _ hi, tb_dt ha]
  cases a.testBit i <;> cases b.testBit i <;> rfl
theorem tb_ext {a b : Nat} (ha : a < 128) (hb : b < 128) (h : ∀ i, i < 7 → a.testBit i = b.testBit i) : a = b :=
  Nat.eq_of_testBit_eq fun i => by
    rcases Nat.lt_or_ge i 7 with hi | hi
    · exact h i hi
    · rw [tb_hi ha hi, tb_hi hb hi]
theorem tb_e0 {a : Nat} (ha : a < 128) (h : ∀ i, i < 7 → a.testBit i = false) : a = 0 :=
  tb_ext ha (by decide) fun i hi => by rw [h i hi, Nat.zero_testBit]
theorem tb_n0 {a : Nat} (ha : a < 128) (h : a ≠ 0) : ∃ i, i < 7 ∧ a.testBit i = true := by
  apply Classical.byContradiction
  intro hn
  apply h
  apply tb_e0 ha
  intro i hi
  cases e : a.testBit i
  · rfl
  · exact absurd ⟨i, hi, e⟩ hn
theorem tb_i0 {a : Nat} (ha : a < 128) : nI a = 0 ↔ a = 0 := by
  rw [← nI_0, nI_eq (by omega) (by omega)]
theorem tb_a0 {a b : Nat} (ha : a < 128) : nI a &&& nI b = 0 ↔ ∀ i, i < 7 → ¬ (a.testBit i = true ∧ b.testBit i = true) := by
  have hl : a &&& b < 128 := Nat.lt_of_le_of_lt Nat.and_le_left ha
  rw [nx_and, tb_i0 hl]
  constructor
  · intro h i hi hc
    have e : (a &&& b).testBit i = true := by rw [Nat.testBit_and, hc.1, hc.2]; rfl
    rw [h, Nat.zero_testBit] at e
    exact absurd e (by decide)
  · intro h
    apply tb_e0 hl
    intro i hi
    rw [Nat.testBit_and]
    have := h i hi
    cases e1 : a.testBit i <;> cases e2 : b.testBit i <;> first | rfl | exact absurd ⟨e1, e2⟩ this
theorem tb_st (a i j : Nat) : (a ||| 2 ^ i).testBit j = (a.testBit j || decide (i = j)) := by
  rw [Nat.testBit_or, Nat.testBit_two_pow]
theorem tb_slt {a i : Nat} (ha : a < 128) (hi : i < 7) : a ||| 2 ^ i < 128 :=
  (Nat.or_lt_two_pow (n := 7) ha (tb_p hi))
theorem tb_ct {a : Nat} (ha : a < 128) (i j : Nat) : (tb_d a (2 ^ i)).testBit j = (a.testBit j && !decide (i = j)) := by
  rw [tb_dt ha, Nat.testBit_two_pow]
theorem tb_2 (i j : Nat) : (2 ^ i).testBit j = decide (i = j) := Nat.testBit_two_pow
theorem tb_i8 {k : Nat} (h : k < 128) : (nI k).toInt8.toInt32 = nI k :=
  lg_i2b_small (by rw [nI_toInt (by omega)]; omega) (by rw [nI_toInt (by omega)]; omega)
theorem tb_by {k : Nat} (h : k < 128) : vp_nar .byte (nI k) = nI k := by rw [vp_nar_byte, tb_i8 h]
theorem tb_a127 {k : Nat} (h : k < 128) : nI k &&& 127 = nI k := by
  have e := pk_andN (n := k) (m := 127) (by omega) 7 (by decide)
  rw [Nat.mod_eq_of_lt (show k < 2 ^ 7 from h)] at e
  exact e
theorem tb_b0 : narrow .boolean (.int 0) = .int 0 := rfl
theorem tb_b1 : narrow .boolean (.int 1) = .int 1 := rfl
theorem tb_v0 : vp_nar .boolean 0 = 0 := rfl
theorem tb_v1 : vp_nar .boolean 1 = 1 := rfl
end
section
/-! counting below n -/
def tw_c (f : Nat → Bool) : Nat → Nat
  | 0 => 0
  | n + 1 => tw_c f n + (if f n = true then 1 else 0)
theorem tw_c_le {f g : Nat → Bool} {n : Nat} (h : ∀ i, i < n → f i = true → g i = true) : tw_c f n ≤ tw_c g n := by
  induction n with
  | zero => exact Nat.le_refl _
  | succ n ih =>
    have h1 := ih (fun i hi => h i (by omega))
    have h2 := h n (by omega)
    show tw_c f n + _ ≤ tw_c g n + _
    by_cases a : f n = true
    · rw [if_pos a, if_pos (h2 a)]; omega
    · rw [if_neg a]; omega
theorem tw_c_eq {f g : Nat → Bool} {n : Nat} (h : ∀ i, i < n → f i = g i) : tw_c f n = tw_c g n :=
  Nat.le_antisymm (tw_c_le fun i hi e => by rw [← h i hi]; exact e) (tw_c_le fun i hi e => by rw [h i hi]; exact e)
theorem tw_c_sub {f g h : Nat → Bool} {n : Nat} (k : ∀ i, i < n → h i = true → f i = true ∨ g i = true) : tw_c h n ≤ tw_c f n + tw_c g n := by
  induction n with
  | zero => exact Nat.le_refl _
  | succ n ih =>
    have h1 := ih (fun i hi => k i (by omega))
    have h2 := k n (by omega)
    show tw_c h n + _ ≤ (tw_c f n + _) + (tw_c g n + _)
    by_cases a : h n = true
    · rw [if_pos a]
      rcases h2 a with b | b
      · rw [if_pos b]; omega
      · rw [if_pos b]; omega
    · rw [if_neg a]; omega
theorem tw_c_add {f g h : Nat → Bool} {n : Nat} (hf : ∀ i, i < n → f i = true → h i = true) (hg : ∀ i, i < n → g i = true → h i = true)
    (hd : ∀ i, i < n → f i = true → g i = true → False) : tw_c f n + tw_c g n ≤ tw_c h n := by
  induction n with
  | zero => exact Nat.le_refl _
  | succ n ih =>
    have h1 := ih (fun i hi => hf i (by omega)) (fun i hi => hg i (by omega)) (fun i hi => hd i (by omega))
    show (tw_c f n + _) + (tw_c g n + _) ≤ tw_c h n + _
    by_cases a : f n = true
    · by_cases b : g n = true
      · exact absurd b (fun b => hd n (by omega) a b)
      · rw [if_pos a, if_neg b, if_pos (hf n (by omega) a)]; omega
    · by_cases b : g n = true
      · rw [if_neg a, if_pos b, if_pos (hg n (by omega) b)]; omega
      · rw [if_neg a, if_neg b]; omega
theorem tw_c_0 {f : Nat → Bool} {n : Nat} (h : ∀ i, i < n → ¬ f i = true) : tw_c f n = 0 := by
  induction n with
  | zero => rfl
  | succ n ih =>
    show tw_c f n + _ = 0
    rw [ih (fun i hi => h i (by omega)), if_neg (h n (by omega))]
theorem tw_c_n (f : Nat → Bool) (n : Nat) : tw_c f n ≤ n := by
  induction n with
  | zero => exact Nat.le_refl _
  | succ n ih =>
    show tw_c f n + _ ≤ n + 1
    by_cases a : f n = true
    · rw [if_pos a]; omega
    · rw [if_neg a]; omega
theorem tw_c_pos {f : Nat → Bool} {n i : Nat} (hi : i < n) (h : f i = true) : 1 ≤ tw_c f n := by
  induction n with
  | zero => omega
  | succ n ih =>
    show 1 ≤ tw_c f n + _
    by_cases e : i = n
    · rw [← e, if_pos h]; omega
    · have := ih (by omega); omega
theorem tw_c_ex {f : Nat → Bool} {n : Nat} (h : 1 ≤ tw_c f n) : ∃ i, i < n ∧ f i = true := by
  apply Classical.byContradiction
  intro hn
  have e : tw_c f n = 0 := tw_c_0 fun i hi e => hn ⟨i, hi, e⟩
  omega
theorem tw_c_one (a n : Nat) (h : a < n) : tw_c (fun i => decide (i = a)) n = 1 := by
  induction n with
  | zero => omega
  | succ n ih =>
    show tw_c _ n + (if decide (n = a) = true then 1 else 0) = 1
    by_cases e : n = a
    · rw [if_pos (decide_eq_true e), tw_c_0]
      intro i hi z
      have := of_decide_eq_true z
      omega
    · rw [if_neg (by rw [decide_eq_true_iff]; exact e), ih (by omega)]
theorem tw_c_two {f : Nat → Bool} {n a b : Nat} (ha : a < n) (hb : b < n) (hab : a ≠ b) (fa : f a = true) (fb : f b = true) : 2 ≤ tw_c f n := by
  have h := tw_c_add (f := fun i => decide (i = a)) (g := fun i => decide (i = b)) (h := f) (n := n)
    (fun i _ e => by rw [of_decide_eq_true e]; exact fa) (fun i _ e => by rw [of_decide_eq_true e]; exact fb)
    (fun i _ e1 e2 => hab ((of_decide_eq_true e1).symm.trans (of_decide_eq_true e2)))
  rw [tw_c_one a n ha, tw_c_one b n hb] at h
  exact h
theorem tw_c_three {f : Nat → Bool} {n a b c : Nat} (ha : a < n) (hb : b < n) (hc : c < n) (hab : a ≠ b) (hac : a ≠ c) (hbc : b ≠ c)
    (fa : f a = true) (fb : f b = true) (fc : f c = true) : 3 ≤ tw_c f n := by
  have h := tw_c_add (f := fun i => decide (i = a)) (g := fun i => f i && !decide (i = a)) (h := f) (n := n)
    (fun i _ e => by rw [of_decide_eq_true e]; exact fa) (fun i _ e => by
      rw [Bool.and_eq_true] at e; exact e.1)
    (fun i _ e1 e2 => by
      have e1 : decide (i = a) = true := e1
      rw [Bool.and_eq_true, e1] at e2
      exact absurd e2.2 (by decide))
  have h2 : 2 ≤ tw_c (fun i => f i && !decide (i = a)) n := tw_c_two hb hc hbc
    (by show (f b && !decide (b = a)) = true; rw [fb, decide_eq_false (fun z => hab z.symm)]; rfl)
    (by show (f c && !decide (c = a)) = true; rw [fc, decide_eq_false (fun z => hac z.symm)]; rfl)
  rw [tw_c_one a n ha] at h
  omega
theorem tw_c_uni {f : Nat → Bool} {n a b : Nat} (h : tw_c f n ≤ 1) (ha : a < n) (hb : b < n) (fa : f a = true) (fb : f b = true) : a = b := by
  apply Classical.byContradiction
  intro hab
  have := tw_c_two ha hb hab fa fb
  omega
theorem tw_c_two_ex {f : Nat → Bool} {n : Nat} (h : 2 ≤ tw_c f n) : ∃ a b, a < b ∧ b < n ∧ f a = true ∧ f b = true := by
  induction n with
  | zero => exact absurd h (by show ¬ 2 ≤ 0; omega)
  | succ n ih =>
    have h : 2 ≤ tw_c f n + (if f n = true then 1 else 0) := h
    by_cases e : f n = true
    · rw [if_pos e] at h
      obtain ⟨i, hi, fi⟩ := tw_c_ex (f := f) (n := n) (by omega)
      exact ⟨i, n, hi, by omega, fi, e⟩
    · rw [if_neg e] at h
      obtain ⟨a, b, h1, h2, h3⟩ := ih h
      exact ⟨a, b, h1, by omega, h3⟩
/-- at most w in each place, so at most w * b in b places -/
theorem tw_c_rng {g : Nat → Bool} {s : Nat → Nat} {w n : Nat} (cap : ∀ t, tw_c (fun i => g i && decide (s i = t)) n ≤ w) (a b : Nat) :
    tw_c (fun i => g i && (decide (a ≤ s i) && decide (s i < a + b))) n ≤ w * b := by
  induction b with
  | zero =>
    rw [tw_c_0]
    · exact Nat.zero_le _
    · intro i _ e
      rw [Bool.and_eq_true, Bool.and_eq_true, decide_eq_true_iff, decide_eq_true_iff] at e
      omega
  | succ b ih =>
    have h := tw_c_sub (f := fun i => g i && (decide (a ≤ s i) && decide (s i < a + b))) (g := fun i => g i && decide (s i = a + b))
      (h := fun i => g i && (decide (a ≤ s i) && decide (s i < a + (b + 1)))) (n := n) (fun i _ e => by
        rw [Bool.and_eq_true, Bool.and_eq_true, decide_eq_true_iff, decide_eq_true_iff] at e
        rw [Bool.and_eq_true, Bool.and_eq_true, decide_eq_true_iff, decide_eq_true_iff, Bool.and_eq_true, decide_eq_true_iff]
        by_cases z : s i = a + b
        · exact Or.inr ⟨e.1, z⟩
        · exact Or.inl ⟨e.1, e.2.1, by omega⟩)
    have h2 := cap (a + b)
    rw [Nat.mul_succ]
    omega
theorem tw_c_rngG {g : Nat → Bool} {s : Nat → Nat} {w n : Nat} (a b : Nat) (full : ∀ t, a ≤ t → t < a + b → w ≤ tw_c (fun i => g i && decide (s i = t)) n) :
    w * b ≤ tw_c (fun i => g i && (decide (a ≤ s i) && decide (s i < a + b))) n := by
  induction b with
  | zero => exact Nat.zero_le _
  | succ b ih =>
    have h0 := ih (fun t h1 h2 => full t h1 (by omega))
    have h := tw_c_add (f := fun i => g i && (decide (a ≤ s i) && decide (s i < a + b))) (g := fun i => g i && decide (s i = a + b))
      (h := fun i => g i && (decide (a ≤ s i) && decide (s i < a + (b + 1)))) (n := n)
      (fun i _ e => by
        rw [Bool.and_eq_true, Bool.and_eq_true, decide_eq_true_iff, decide_eq_true_iff] at e ⊢
        exact ⟨e.1, e.2.1, by omega⟩)
      (fun i _ e => by
        rw [Bool.and_eq_true, decide_eq_true_iff] at e
        rw [Bool.and_eq_true, Bool.and_eq_true, decide_eq_true_iff, decide_eq_true_iff]
        exact ⟨e.1, by omega, by omega⟩)
      (fun i _ e1 e2 => by
        rw [Bool.and_eq_true, Bool.and_eq_true, decide_eq_true_iff, decide_eq_true_iff] at e1
        rw [Bool.and_eq_true, decide_eq_true_iff] at e2
        omega)
    have h2 := full (a + b) (by omega) (by omega)
    rw [Nat.mul_succ]
    omega
theorem tw_last (P : Nat → Prop) (n : Nat) : (∀ t, t < n → P t) ∨ ∃ s, s < n ∧ ¬ P s ∧ ∀ t, s < t → t < n → P t := by
  induction n with
  | zero => exact Or.inl (fun t h => by omega)
  | succ n ih =>
    by_cases e : P n
    · rcases ih with h | ⟨s, h1, h2, h3⟩
      · exact Or.inl (fun t ht => by
          by_cases z : t = n
          · rw [z]; exact e
          · exact h t (by omega))
      · exact Or.inr ⟨s, by omega, h2, fun t h4 h5 => by
          by_cases z : t = n
          · rw [z]; exact e
          · exact h3 t h4 (by omega)⟩
    · exact Or.inr ⟨n, by omega, e, fun t h4 h5 => by omega⟩
end
section
/-! timetables; the draw-in of deadlines and the dispatch by drawn deadlines (Garey and Johnson) -/
/-- s is a timetable: every held task i within L i .. U i - 1, links upward, at most w tasks a slot -/
def tw_TT (w : Nat) (H : Nat → Bool) (E : Nat → Nat → Bool) (L U : Nat → Nat) (s : Nat → Nat) : Prop :=
  (∀ i, i < 7 → H i = true → L i ≤ s i ∧ s i < U i) ∧
  (∀ i j, i < 7 → j < 7 → H i = true → H j = true → E i j = true → s i < s j) ∧
  (∀ t, tw_c (fun i => H i && decide (s i = t)) 7 ≤ w)
/-- tasks that B leads to from a and whose drawn deadline is at most d -/
def tw_f (B : Nat → Nat → Bool) (dr : Nat → Nat) (a d : Nat) : Nat := tw_c (fun k => B a k && decide (dr k ≤ d)) 7
theorem tw_fail {w : Nat} (hw : w ≤ 2) {H : Nat → Bool} {E B : Nat → Nat → Bool} {dr σ τ : Nat → Nat} {slot : Nat}
    (hEB : ∀ i j, i < 7 → j < 7 → E i j = true → B i j = true)
    (hBt : ∀ i j k, i < 7 → j < 7 → k < 7 → B i j = true → B j k = true → B i k = true)
    (hd : ∀ a, a < 7 → H a = true → ∀ d, 1 ≤ d → d ≤ 8 → 0 < tw_f B dr a d → tw_f B dr a d ≤ w * (d - dr a))
    (hdp : ∀ i, i < 7 → H i = true → 1 ≤ dr i ∧ dr i ≤ 8)
    (hs : ∀ i, i < 7 → H i = true → σ i < dr i)
    (hcap : ∀ t, tw_c (fun i => H i && decide (σ i = t)) 7 ≤ w)
    (i2 : ∀ i, i < 7 → H i = true → τ i < slot → τ i < dr i)
    (i5 : ∀ s, s < slot → ∀ x, x < 7 → H x = true → s < τ x → (∀ p, p < 7 → H p = true → E p x = true → τ p < s) →
      w ≤ tw_c (fun i => (H i && decide (dr i ≤ dr x)) && decide (τ i = s)) 7)
    {x : Nat} (hx : x < 7) (Hx : H x = true) (x1 : slot ≤ τ x) (x2 : dr x ≤ slot) : False := by
  rcases tw_last (fun s => w ≤ tw_c (fun i => (H i && decide (dr i ≤ dr x)) && decide (τ i = s)) 7) slot with hf | ⟨s, s1, s2, s3⟩
  · -- every slot is full: more tasks with deadlines up to dr x than places
    have h1 := tw_c_rngG (g := fun i => H i && decide (dr i ≤ dr x)) (s := τ) (w := w) (n := 7) 0 slot (fun t _ ht => hf t (by omega))
    have h2 := tw_c_rng (g := H) (s := σ) hcap 0 (dr x)
    have h3 := tw_c_add (f := fun i => (H i && decide (dr i ≤ dr x)) && (decide (0 ≤ τ i) && decide (τ i < 0 + slot))) (g := fun i => decide (i = x))
      (h := fun i => H i && (decide (0 ≤ σ i) && decide (σ i < 0 + dr x))) (n := 7)
      (fun i hi e => by
        simp only [Bool.and_eq_true, decide_eq_true_eq] at e ⊢
        have := hs i hi e.1.1
        exact ⟨e.1.1, by omega, by omega⟩)
      (fun i hi e => by
        simp only [Bool.and_eq_true, decide_eq_true_eq] at e ⊢
        subst e
        exact ⟨Hx, by omega, by have := hs i hi Hx; omega⟩)
      (fun i hi e e2 => by
        simp only [Bool.and_eq_true, decide_eq_true_eq] at e e2
        subst e2
        omega)
    rw [tw_c_one x 7 hx] at h3
    have h4 : w * dr x ≤ w * slot := Nat.mul_le_mul_left w x2
    omega
  · -- s is the last slot that is not full
    have hlt : ∀ p y, p < 7 → y < 7 → H p = true → H y = true → B p y = true → dr p < dr y := by
      intro p y hp hy Hp Hy hb
      have h1 : 0 < tw_f B dr p (dr y) := tw_c_pos (i := y) hy (by simp only [Bool.and_eq_true, decide_eq_true_eq]; exact ⟨hb, by omega⟩)
      have h2 := hd p hp Hp (dr y) (hdp y hy Hy).1 (hdp y hy Hy).2 h1
      apply Classical.byContradiction
      intro hn
      rw [show dr y - dr p = 0 from by omega, Nat.mul_zero] at h2
      omega
    have key : ∀ m y, dr y ≤ m → y < 7 → H y = true → dr y ≤ dr x → s < τ y → ∃ a, a < 7 ∧ H a = true ∧ τ a = s ∧ dr a ≤ dr x ∧ B a y = true := by
      intro m
      induction m with
      | zero => intro y h1 hy Hy; have := hdp y hy Hy; omega
      | succ m ih =>
        intro y h1 hy Hy h2 h3
        have hnr : ¬ ∀ p, p < 7 → H p = true → E p y = true → τ p < s := by
          intro hr
          apply s2
          refine Nat.le_trans (i5 s s1 y hy Hy h3 hr) (tw_c_le fun i hi e => ?_)
          simp only [Bool.and_eq_true, decide_eq_true_eq] at e ⊢
          exact ⟨⟨e.1.1, by omega⟩, e.2⟩
        obtain ⟨p, hp⟩ := Classical.not_forall.mp hnr
        have hp7 : p < 7 := Classical.byContradiction fun z => hp (fun z2 => absurd z2 z)
        have Hp : H p = true := Classical.byContradiction fun z => hp (fun _ z2 => absurd z2 z)
        have Ep : E p y = true := Classical.byContradiction fun z => hp (fun _ _ z2 => absurd z2 z)
        have tp : ¬ τ p < s := fun z => hp (fun _ _ _ => z)
        have Bp := hEB p y hp7 hy Ep
        have hl := hlt p y hp7 hy Hp Hy Bp
        by_cases z : τ p = s
        · exact ⟨p, hp7, Hp, z, by omega, Bp⟩
        · obtain ⟨a, ha, Ha, ta, da, ba⟩ := ih p (by omega) hp7 Hp (by omega) (by omega)
          exact ⟨a, ha, Ha, ta, da, hBt a p y ha hp7 hy ba Bp⟩
    obtain ⟨a, ha, Ha, ta, da, ba⟩ := key _ x (Nat.le_refl _) hx Hx (Nat.le_refl _) (by omega)
    have s2' : tw_c (fun i => (H i && decide (dr i ≤ dr x)) && decide (τ i = s)) 7 ≤ 1 := by
      have s2 : ¬ w ≤ tw_c (fun i => (H i && decide (dr i ≤ dr x)) && decide (τ i = s)) 7 := s2
      omega
    have hall : ∀ y, y < 7 → H y = true → dr y ≤ dr x → s < τ y → B a y = true := by
      intro y hy Hy h1 h2
      obtain ⟨a', ha', Ha', ta', da', ba'⟩ := key _ y (Nat.le_refl _) hy Hy h1 h2
      have e : a = a' := tw_c_uni s2' ha ha' (by simp only [Bool.and_eq_true, decide_eq_true_eq]; exact ⟨⟨Ha, da⟩, ta⟩)
        (by simp only [Bool.and_eq_true, decide_eq_true_eq]; exact ⟨⟨Ha', da'⟩, ta'⟩)
      rw [e]; exact ba'
    have h1 := tw_c_rngG (g := fun i => H i && decide (dr i ≤ dr x)) (s := τ) (w := w) (n := 7) (s + 1) (slot - 1 - s)
      (fun t h4 h5 => s3 t (by omega) (by omega))
    have h3 := tw_c_add (f := fun i => (H i && decide (dr i ≤ dr x)) && (decide (s + 1 ≤ τ i) && decide (τ i < s + 1 + (slot - 1 - s)))) (g := fun i => decide (i = x))
      (h := fun k => B a k && decide (dr k ≤ dr x)) (n := 7)
      (fun i hi e => by
        simp only [Bool.and_eq_true, decide_eq_true_eq] at e ⊢
        exact ⟨hall i hi e.1.1 e.1.2 (by omega), e.1.2⟩)
      (fun i hi e => by
        simp only [Bool.and_eq_true, decide_eq_true_eq] at e ⊢
        subst e
        exact ⟨ba, Nat.le_refl _⟩)
      (fun i hi e e2 => by
        simp only [Bool.and_eq_true, decide_eq_true_eq] at e e2
        subst e2
        omega)
    rw [tw_c_one x 7 hx] at h3
    have h4 := hd a ha Ha (dr x) (hdp x hx Hx).1 (hdp x hx Hx).2
    have h5 := i2 a ha Ha (by omega)
    have h6 : w * (dr x - dr a) ≤ w * (slot - 1 - s) := Nat.mul_le_mul_left w (by omega)
    unfold tw_f at h4
    have h7 := h4 (by omega)
    omega
/-- what a timetable needs: a's followers with deadlines up to d fit between a and d -/
theorem tw_need {w : Nat} {H : Nat → Bool} {B : Nat → Nat → Bool} {dr σ : Nat → Nat} {a d : Nat}
    (hcap : ∀ t, tw_c (fun i => H i && decide (σ i = t)) 7 ≤ w)
    (hB : ∀ k, k < 7 → B a k = true → H k = true ∧ σ a < σ k ∧ σ k < dr k) (h0 : 0 < tw_f B dr a d) :
    σ a + 1 ≤ d ∧ tw_f B dr a d ≤ w * (d - 1 - σ a) := by
  obtain ⟨k, hk, e⟩ := tw_c_ex h0
  simp only [Bool.and_eq_true, decide_eq_true_eq] at e
  have hk2 := hB k hk e.1
  refine ⟨by omega, Nat.le_trans ?_ (tw_c_rng hcap (σ a + 1) (d - 1 - σ a))⟩
  refine tw_c_le fun i hi e => ?_
  simp only [Bool.and_eq_true, decide_eq_true_eq] at e ⊢
  have h := hB i hi e.1
  exact ⟨h.1, by omega, by omega⟩
/-! the invariant of the draw-in: O the tasks that are not drawn yet -/
def tw_Z (w : Nat) (H : Nat → Bool) (E B : Nat → Nat → Bool) (U : Nat → Nat) (O : Nat → Bool) (dr : Nat → Nat) : Prop :=
  ∀ i, i < 7 → H i = true → O i = false →
    (∀ j, j < 7 → B i j = true → O j = false) ∧ 1 ≤ dr i ∧ dr i ≤ U i ∧
    (∀ d, 1 ≤ d → d ≤ 8 → 0 < tw_f B dr i d → tw_f B dr i d ≤ w * (d - dr i)) ∧
    (∀ σ, tw_TT w H E (fun _ => 0) U σ → σ i < dr i)
/-- the invariant of the dispatch at the head of a slot: W the waiting tasks -/
def tw_D (w : Nat) (H : Nat → Bool) (E : Nat → Nat → Bool) (dr : Nat → Nat) (slot : Nat) (W : Nat → Bool) (τ : Nat → Nat) : Prop :=
  (∀ i, i < 7 → (W i = true ↔ H i = true ∧ slot ≤ τ i)) ∧
  (∀ i, i < 7 → H i = true → τ i < slot → τ i < dr i) ∧
  (∀ i j, i < 7 → j < 7 → H i = true → H j = true → E i j = true → τ j < slot → τ i < τ j) ∧
  (∀ s, s < slot → tw_c (fun i => H i && decide (τ i = s)) 7 ≤ w) ∧
  (∀ s, s < slot → ∀ x, x < 7 → H x = true → s < τ x → (∀ p, p < 7 → H p = true → E p x = true → τ p < s) →
      w ≤ tw_c (fun i => (H i && decide (dr i ≤ dr x)) && decide (τ i = s)) 7)
theorem tw_D0 {w : Nat} {H : Nat → Bool} {E : Nat → Nat → Bool} {dr : Nat → Nat} : tw_D w H E dr 0 H (fun _ => 0) :=
  ⟨fun i _ => ⟨fun h => ⟨h, Nat.zero_le _⟩, fun h => h.1⟩, fun i _ _ h => by omega, fun i j _ _ _ _ _ h => by omega, fun s h => by omega, fun s h => by omega⟩
/-- one slot: X the tasks taken -/
theorem tw_Ds {w : Nat} {H : Nat → Bool} {E : Nat → Nat → Bool} {dr : Nat → Nat} {slot : Nat} {W : Nat → Bool} {τ : Nat → Nat} {X W' : Nat → Bool} {m : Nat}
    (h : tw_D w H E dr slot W τ)
    (hX : ∀ i, i < 7 → X i = true → W i = true ∧ slot < dr i ∧ ∀ p, p < 7 → W p = true → ¬ E p i = true)
    (hW : ∀ i, i < 7 → W' i = (W i && !X i))
    (hm : tw_c X 7 = m) (hmw : m ≤ w)
    (hg : ∀ y, y < 7 → W y = true → X y = false → (∀ p, p < 7 → W p = true → ¬ E p y = true) → m = w ∧ ∀ i, i < 7 → X i = true → dr i ≤ dr y) :
    tw_D w H E dr (slot + 1) W' (fun i => if X i = true then slot else if W i = true then slot + 1 else τ i) := by
  obtain ⟨h1, h2, h3, h4, h5⟩ := h
  have v1 : ∀ i, X i = true → (if X i = true then slot else if W i = true then slot + 1 else τ i) = slot := fun i e => if_pos e
  have v2 : ∀ i, X i = false → W i = true → (if X i = true then slot else if W i = true then slot + 1 else τ i) = slot + 1 := fun i e e2 => by
    rw [if_neg (by rw [e]; decide), if_pos e2]
  have v3 : ∀ i, i < 7 → W i = false → (if X i = true then slot else if W i = true then slot + 1 else τ i) = τ i := fun i hi e => by
    have hn : ¬ X i = true := fun z => by
      have := (hX i hi z).1
      rw [e] at this
      exact absurd this (by decide)
    rw [if_neg hn, if_neg (by rw [e]; decide)]
  have hWf : ∀ i, i < 7 → H i = true → W i = false → τ i < slot := fun i hi Hi e => by
    apply Classical.byContradiction
    intro hn
    have := (h1 i hi).mpr ⟨Hi, by omega⟩
    rw [e] at this
    exact absurd this (by decide)
  -- the slots before stay as they are
  have old : ∀ i, i < 7 → H i = true → ∀ s, s < slot → ((if X i = true then slot else if W i = true then slot + 1 else τ i) = s ↔ τ i = s) := fun i hi Hi s hs => by
    cases ew : W i with
    | false => have e3 := v3 i hi ew; rw [ew] at e3; rw [e3]
    | true =>
      have ht := ((h1 i hi).mp ew).2
      cases ex : X i with
      | true => rw [if_pos rfl]; omega
      | false => rw [if_neg (by decide), if_pos rfl]; omega
  refine ⟨fun i hi => ?_, fun i hi Hi => ?_, fun i j hi hj Hi Hj e => ?_, fun s hs => ?_, fun s hs x hx Hx hsx hp => ?_⟩
  · dsimp only
    rw [hW i hi]
    cases ew : W i with
    | false =>
      rw [show (if X i = true then slot else if false = true then slot + 1 else τ i) = τ i from by have := v3 i hi ew; rw [ew] at this; exact this]
      constructor
      · intro z; exact absurd z (by simp)
      · intro z; have := hWf i hi z.1 ew; omega
    | true =>
      have Hi := ((h1 i hi).mp ew).1
      cases ex : X i with
      | true => rw [if_pos rfl]; simp
      | false => rw [if_neg (by decide), if_pos rfl]; simp [Hi]
  · dsimp only
    intro hlt
    cases ew : W i with
    | false =>
      have e3 := v3 i hi ew
      rw [ew] at e3
      rw [e3]
      exact h2 i hi Hi (hWf i hi Hi ew)
    | true =>
      cases ex : X i with
      | true => rw [if_pos rfl]; exact (hX i hi ex).2.1
      | false => rw [v2 i ex ew] at hlt; omega
  · dsimp only
    intro hlt
    cases ej : W j with
    | false =>
      have e3 := v3 j hj ej
      rw [ej] at e3
      rw [e3]
      have := h3 i j hi hj Hi Hj e (hWf j hj Hj ej)
      have hts := hWf j hj Hj ej
      have ei : W i = false := by
        cases ei : W i with
        | false => rfl
        | true => have := ((h1 i hi).mp ei).2; omega
      rw [v3 i hi ei]
      exact this
    | true =>
      cases ex : X j with
      | false => rw [v2 j ex ej] at hlt; omega
      | true =>
        rw [if_pos rfl]
        have ei : W i = false := by
          cases ei : W i with
          | false => rfl
          | true => exact absurd e ((hX j hj ex).2.2 i hi ei)
        rw [v3 i hi ei]
        exact hWf i hi Hi ei
  · dsimp only
    by_cases z : s = slot
    · subst z
      refine Nat.le_trans (Nat.le_trans (tw_c_le (g := X) fun i hi e => ?_) (Nat.le_of_eq hm)) hmw
      simp only [Bool.and_eq_true, decide_eq_true_eq] at e
      cases ex : X i with
      | true => rfl
      | false =>
        cases ew : W i with
        | true => rw [v2 i ex ew] at e; omega
        | false =>
          rw [v3 i hi ew] at e
          have := hWf i hi e.1 ew
          omega
    · refine Nat.le_trans (tw_c_le fun i hi e => ?_) (h4 s (by omega))
      simp only [Bool.and_eq_true, decide_eq_true_eq] at e ⊢
      exact ⟨e.1, (old i hi e.1 s (by omega)).mp e.2⟩
  · dsimp only at *
    by_cases z : s = slot
    · subst z
      have ew : W x = true := by
        cases ew : W x with
        | true => rfl
        | false => rw [v3 x hx ew] at hsx; have := hWf x hx Hx ew; omega
      have ex : X x = false := by
        cases ex : X x with
        | false => rfl
        | true => rw [v1 x ex] at hsx; omega
      have hr : ∀ p, p < 7 → W p = true → ¬ E p x = true := fun p hp7 Wp Ep => by
        have Hp := ((h1 p hp7).mp Wp).1
        have := hp p hp7 Hp Ep
        cases exp : X p with
        | true => rw [v1 p exp] at this; omega
        | false => rw [v2 p exp Wp] at this; omega
      obtain ⟨e1, e2⟩ := hg x hx ew ex hr
      rw [← e1, ← hm]
      refine tw_c_le fun i hi e => ?_
      simp only [Bool.and_eq_true, decide_eq_true_eq]
      exact ⟨⟨((h1 i hi).mp (hX i hi e).1).1, e2 i hi e⟩, v1 i e⟩
    · have hs' : s < slot := by omega
      have hsx' : s < τ x := by
        apply Classical.byContradiction
        intro hn
        cases ew : W x with
        | true => have := ((h1 x hx).mp ew).2; omega
        | false => rw [v3 x hx ew] at hsx; omega
      refine Nat.le_trans (h5 s hs' x hx Hx hsx' fun p hp7 Hp Ep => ?_) (tw_c_le fun i hi e => ?_)
      · have hq := hp p hp7 Hp Ep
        cases ew : W p with
        | false => rw [v3 p hp7 ew] at hq; exact hq
        | true =>
          cases ex : X p with
          | true => rw [v1 p ex] at hq; omega
          | false => rw [v2 p ex ew] at hq; omega
      · simp only [Bool.and_eq_true, decide_eq_true_eq] at e ⊢
        exact ⟨e.1, (old i hi e.1.1 s hs').mpr e.2⟩
/-- all taken: the dispatch is a timetable -/
theorem tw_Dtt {w : Nat} {H : Nat → Bool} {E : Nat → Nat → Bool} {dr U : Nat → Nat} {slot : Nat} {W : Nat → Bool} {τ : Nat → Nat}
    (h : tw_D w H E dr slot W τ) (hU : ∀ i, i < 7 → H i = true → dr i ≤ U i) (h0 : ∀ i, i < 7 → W i = false) : tw_TT w H E (fun _ => 0) U τ := by
  obtain ⟨h1, h2, h3, h4, h5⟩ := h
  have hl : ∀ i, i < 7 → H i = true → τ i < slot := fun i hi Hi => by
    apply Classical.byContradiction
    intro hn
    have := (h1 i hi).mpr ⟨Hi, by omega⟩
    rw [h0 i hi] at this
    exact absurd this (by decide)
  refine ⟨fun i hi Hi => ⟨Nat.zero_le _, ?_⟩, fun i j hi hj Hi Hj e => h3 i j hi hj Hi Hj e (hl j hj Hj), fun t => ?_⟩
  · have := h2 i hi Hi (hl i hi Hi)
    have := hU i hi Hi
    omega
  · by_cases z : t < slot
    · exact h4 t z
    · rw [tw_c_0]
      · exact Nat.zero_le _
      · intro i hi e
        simp only [Bool.and_eq_true, decide_eq_true_eq] at e
        have := hl i hi e.1
        omega
/-- a waiting task at or past its drawn deadline: there is no timetable -/
theorem tw_Dno {w : Nat} (hw : w ≤ 2) {H : Nat → Bool} {E B : Nat → Nat → Bool} {dr U : Nat → Nat} {slot : Nat} {W : Nat → Bool} {τ : Nat → Nat}
    (hEB : ∀ i j, i < 7 → j < 7 → E i j = true → B i j = true)
    (hBt : ∀ i j k, i < 7 → j < 7 → k < 7 → B i j = true → B j k = true → B i k = true)
    (hU : ∀ i, i < 7 → H i = true → U i ≤ 8)
    {O : Nat → Bool} (hO : ∀ i, i < 7 → O i = false) (hz : tw_Z w H E B U O dr) (h : tw_D w H E dr slot W τ) {x : Nat} (hx : x < 7) (Wx : W x = true) (hl : dr x ≤ slot)
    (σ : Nat → Nat) (hσ : tw_TT w H E (fun _ => 0) U σ) : False := by
  obtain ⟨h1, h2, h3, h4, h5⟩ := h
  have hx2 := (h1 x hx).mp Wx
  refine tw_fail hw (H := H) (E := E) (B := B) (dr := dr) (σ := σ) (τ := τ) (slot := slot) hEB hBt
    (fun a ha Ha => (hz a ha Ha (hO a ha)).2.2.2.1) (fun i hi Hi => ⟨(hz i hi Hi (hO i hi)).2.1, Nat.le_trans (hz i hi Hi (hO i hi)).2.2.1 (hU i hi Hi)⟩)
    (fun i hi Hi => (hz i hi Hi (hO i hi)).2.2.2.2 σ hσ) hσ.2.2 h2 h5 hx hx2.1 hx2.2 hl
end
section
/-! what links lead to (Warshall's stages) -/
def tw_w (E : Nat → Nat → Bool) : Nat → Nat → Nat → Bool
  | 0 => E
  | k + 1 => fun i j => tw_w E k i j || (tw_w E k i k && tw_w E k k j)
theorem tw_w_s {E : Nat → Nat → Bool} {k i j : Nat} : tw_w E (k + 1) i j = true ↔ tw_w E k i j = true ∨ (tw_w E k i k = true ∧ tw_w E k k j = true) := by
  show (tw_w E k i j || (tw_w E k i k && tw_w E k k j)) = true ↔ _
  rw [Bool.or_eq_true, Bool.and_eq_true]
theorem tw_w_b {E : Nat → Nat → Bool} {i j : Nat} (h : E i j = true) : ∀ k, tw_w E k i j = true := by
  intro k
  induction k with
  | zero => exact h
  | succ k ih => exact tw_w_s.mpr (Or.inl ih)
theorem tw_w_t {E : Nat → Nat → Bool} : ∀ k i m j, m < k → tw_w E k i m = true → tw_w E k m j = true → tw_w E k i j = true := by
  intro k
  induction k with
  | zero => intro i m j h; omega
  | succ k ih =>
    intro i m j hm h1 h2
    rw [tw_w_s] at h1 h2 ⊢
    by_cases e : m = k
    · subst e
      have a1 : tw_w E m i m = true := by rcases h1 with a | a; exact a; exact a.1
      have a2 : tw_w E m m j = true := by rcases h2 with a | a; exact a; exact a.2
      exact Or.inr ⟨a1, a2⟩
    · have hk : m < k := by omega
      rcases h1 with a | a
      · rcases h2 with b | b
        · exact Or.inl (ih i m j hk a b)
        · exact Or.inr ⟨ih i m k hk a b.1, b.2⟩
      · rcases h2 with b | b
        · exact Or.inr ⟨a.1, ih k m j hk a.2 b⟩
        · exact Or.inr ⟨a.1, b.2⟩
theorem tw_w_m {E : Nat → Nat → Bool} {R : Nat → Nat → Prop} (h : ∀ i j, i < 7 → j < 7 → E i j = true → R i j)
    (ht : ∀ i j k, i < 7 → j < 7 → k < 7 → R i j → R j k → R i k) : ∀ k i j, k ≤ 7 → i < 7 → j < 7 → tw_w E k i j = true → R i j := by
  intro k
  induction k with
  | zero => intro i j _ hi hj e; exact h i j hi hj e
  | succ k ih =>
    intro i j hk hi hj e
    rw [tw_w_s] at e
    rcases e with e | e
    · exact ih i j (by omega) hi hj e
    · exact ht i k j hi (by omega) hj (ih i k (by omega) hi (by omega) e.1) (ih k j (by omega) (by omega) hj e.2)
theorem tw_w_EB {E : Nat → Nat → Bool} : ∀ i j, i < 7 → j < 7 → E i j = true → tw_w E 7 i j = true := fun _ _ _ _ h => tw_w_b h 7
theorem tw_w_Bt {E : Nat → Nat → Bool} : ∀ i j k, i < 7 → j < 7 → k < 7 → tw_w E 7 i j = true → tw_w E 7 j k = true → tw_w E 7 i k = true :=
  fun i j k _ hj _ a b => tw_w_t 7 i j k hj a b
/-- links between held tasks alone -/
def tw_lh (H : Nat → Bool) (E : Nat → Nat → Bool) : Prop := ∀ i j, i < 7 → j < 7 → E i j = true → H i = true ∧ H j = true
theorem tw_w_H {H : Nat → Bool} {E : Nat → Nat → Bool} (hl : tw_lh H E) {i j : Nat} (hi : i < 7) (hj : j < 7) (h : tw_w E 7 i j = true) : H i = true ∧ H j = true :=
  tw_w_m (R := fun i j => H i = true ∧ H j = true) hl (fun _ _ _ _ _ _ a b => ⟨a.1, b.2⟩) 7 i j (Nat.le_refl _) hi hj h
theorem tw_w_tt {w : Nat} {H : Nat → Bool} {E : Nat → Nat → Bool} {L U s : Nat → Nat} (hl : tw_lh H E) (h : tw_TT w H E L U s) {i j : Nat} (hi : i < 7) (hj : j < 7)
    (hb : tw_w E 7 i j = true) : s i < s j :=
  tw_w_m (R := fun i j => s i < s j) (fun i j hi hj e => h.2.1 i j hi hj (hl i j hi hj e).1 (hl i j hi hj e).2 e)
    (fun _ _ _ _ _ _ a b => Nat.lt_trans a b) 7 i j (Nat.le_refl _) hi hj hb
/-- no task leads to itself -/
def tw_acy (E : Nat → Nat → Bool) : Prop := ∀ i, i < 7 → ¬ tw_w E 7 i i = true
theorem tw_acy_tt {w : Nat} {H : Nat → Bool} {E : Nat → Nat → Bool} {L U s : Nat → Nat} (hl : tw_lh H E) (h : tw_TT w H E L U s) : tw_acy E :=
  fun i hi e => Nat.lt_irrefl _ (tw_w_tt hl h hi hi e)
theorem tw_acy_add {E E' : Nat → Nat → Bool} {a b : Nat} (ha : a < 7) (hb : b < 7) (hab : a ≠ b) (h : ∀ i j, i < 7 → j < 7 → E' i j = true → E i j = true ∨ (i = a ∧ j = b))
    (hac : tw_acy E) (hno : ¬ tw_w E 7 b a = true) : tw_acy E' := by
  have key := tw_w_m (E := E') (R := fun x y => tw_w E 7 x y = true ∨ ((x = a ∨ tw_w E 7 x a = true) ∧ (y = b ∨ tw_w E 7 b y = true)))
    (fun i j hi hj e => by
      rcases h i j hi hj e with e | e
      · exact Or.inl (tw_w_EB i j hi hj e)
      · exact Or.inr ⟨Or.inl e.1, Or.inl e.2⟩)
    (fun i j k hi hj hk r1 r2 => by
      rcases r1 with r1 | ⟨r1, r1'⟩
      · rcases r2 with r2 | ⟨r2, r2'⟩
        · exact Or.inl (tw_w_Bt i j k hi hj hk r1 r2)
        · refine Or.inr ⟨Or.inr ?_, r2'⟩
          rcases r2 with r2 | r2
          · rw [← r2]; exact r1
          · exact tw_w_Bt i j a hi hj ha r1 r2
      · rcases r2 with r2 | ⟨r2, r2'⟩
        · refine Or.inr ⟨r1, Or.inr ?_⟩
          rcases r1' with r1' | r1'
          · rw [← r1']; exact r2
          · exact tw_w_Bt b j k hb hj hk r1' r2
        · exfalso
          rcases r1' with r1' | r1'
          · rcases r2 with r2 | r2
            · exact hab (r2.symm.trans r1')
            · rw [r1'] at r2; exact hno r2
          · rcases r2 with r2 | r2
            · rw [r2] at r1'; exact hno r1'
            · exact hno (tw_w_Bt b j a hb hj ha r1' r2))
  intro i hi e
  rcases key 7 i i (Nat.le_refl _) hi hi e with r | ⟨r1, r2⟩
  · exact hac i hi r
  · rcases r1 with r1 | r1
    · rcases r2 with r2 | r2
      · exact hab (r1.symm.trans r2)
      · rw [r1] at r2; exact hno r2
    · rcases r2 with r2 | r2
      · rw [r2] at r1; exact hno r1
      · exact hno (tw_w_Bt b i a hb hi ha r2 r1)
/-- some task of O has no followers in O -/
theorem tw_min {B : Nat → Nat → Bool} {O : Nat → Bool} (hBt : ∀ i j k, i < 7 → j < 7 → k < 7 → B i j = true → B j k = true → B i k = true)
    (hBi : ∀ i, i < 7 → ¬ B i i = true) : ∀ m i, tw_c (fun j => B i j && O j) 7 ≤ m → i < 7 → O i = true →
    ∃ i, i < 7 ∧ O i = true ∧ ∀ j, j < 7 → ¬ (B i j = true ∧ O j = true) := by
  intro m
  induction m with
  | zero =>
    intro i hc hi Oi
    refine ⟨i, hi, Oi, fun j hj hb => ?_⟩
    have := tw_c_pos (f := fun j => B i j && O j) hj (by simp only [Bool.and_eq_true]; exact hb)
    omega
  | succ m ih =>
    intro i hc hi Oi
    by_cases hn : ∃ j, j < 7 ∧ B i j = true ∧ O j = true
    · obtain ⟨j, hj, hb, oj⟩ := hn
      refine ih j ?_ hj oj
      have := tw_c_add (f := fun k => B j k && O k) (g := fun k => decide (k = j)) (h := fun k => B i k && O k) (n := 7)
        (fun k hk e => by simp only [Bool.and_eq_true] at e ⊢; exact ⟨hBt i j k hi hj hk hb e.1, e.2⟩)
        (fun k hk e => by simp only [Bool.and_eq_true, decide_eq_true_eq] at e ⊢; subst e; exact ⟨hb, oj⟩)
        (fun k hk e e2 => by simp only [Bool.and_eq_true, decide_eq_true_eq] at e e2; subst e2; exact hBi k hk e.1)
      rw [tw_c_one j 7 hj] at this
      omega
    · exact ⟨i, hi, Oi, fun j hj hb => hn ⟨j, hj, hb⟩⟩
end
section
/-! the reference's sets: those that can be done within t slots -/
def tw_can (w : Nat) (H : Nat → Bool) (E : Nat → Nat → Bool) (L U : Nat → Nat) (t k : Nat) : Prop :=
  k < 128 ∧ ∃ s : Nat → Nat, (∀ i, i < 7 → k.testBit i = true → H i = true ∧ L i ≤ s i ∧ s i < U i ∧ s i < t) ∧
    (∀ i j, i < 7 → j < 7 → k.testBit j = true → E i j = true → k.testBit i = true ∧ s i < s j) ∧
    (∀ t', tw_c (fun i => k.testBit i && decide (s i = t')) 7 ≤ w)
def tw_rdy (H : Nat → Bool) (E : Nat → Nat → Bool) (L U : Nat → Nat) (k a t : Nat) : Prop :=
  H a = true ∧ k.testBit a = false ∧ L a ≤ t ∧ t < U a ∧ ∀ i, i < 7 → E i a = true → k.testBit i = true
def tw_fil (w : Nat) (H : Nat → Bool) (E : Nat → Nat → Bool) (L U : Nat → Nat) (k t k' : Nat) : Prop :=
  ∃ a, a < 7 ∧ tw_rdy H E L U k a t ∧ (k' = k ||| 2 ^ a ∨ (w = 2 ∧ ∃ b, a < b ∧ b < 7 ∧ tw_rdy H E L U k b t ∧ k' = (k ||| 2 ^ a) ||| 2 ^ b))
theorem tw_can_ext {w : Nat} {H : Nat → Bool} {E : Nat → Nat → Bool} {L U : Nat → Nat} {t k k' : Nat} {X : Nat → Bool}
    (h : tw_can w H E L U t k) (hk : k' < 128) (hb : ∀ i, i < 7 → k'.testBit i = (k.testBit i || X i))
    (hX : ∀ i, i < 7 → X i = true → tw_rdy H E L U k i t) (hc : tw_c X 7 ≤ w) : tw_can w H E L U (t + 1) k' := by
  obtain ⟨_, s, h1, h2, h3⟩ := h
  have nx : ∀ i, i < 7 → k.testBit i = true → X i = false := fun i hi e => by
    cases ex : X i with
    | false => rfl
    | true => have := (hX i hi ex).2.1; rw [e] at this; exact absurd this (by decide)
  refine ⟨hk, fun i => if X i = true then t else s i, fun i hi e => ?_, fun i j hi hj e hE => ?_, fun t' => ?_⟩
  · dsimp only
    rw [hb i hi, Bool.or_eq_true] at e
    cases ex : X i with
    | true => rw [if_pos rfl]; have := hX i hi ex; exact ⟨this.1, this.2.2.1, this.2.2.2.1, by omega⟩
    | false =>
      rw [if_neg (by decide)]
      rcases e with e | e
      · have := h1 i hi e; exact ⟨this.1, this.2.1, this.2.2.1, by omega⟩
      · rw [ex] at e; exact absurd e (by decide)
  · dsimp only
    rw [hb j hj, Bool.or_eq_true] at e
    cases ex : X j with
    | true =>
      have hi2 := (hX j hj ex).2.2.2.2 i hi hE
      rw [if_pos rfl, nx i hi hi2, if_neg (by decide), hb i hi, hi2]
      exact ⟨rfl, (h1 i hi hi2).2.2.2⟩
    | false =>
      rcases e with e | e
      · have h := h2 i j hi hj e hE
        rw [nx i hi h.1, if_neg (by decide), if_neg (by decide), hb i hi, h.1]
        exact ⟨rfl, h.2⟩
      · rw [ex] at e; exact absurd e (by decide)
  · by_cases z : t' = t
    · subst z
      refine Nat.le_trans (tw_c_le fun i hi e => ?_) hc
      simp only [Bool.and_eq_true, decide_eq_true_eq] at e
      cases ex : X i with
      | true => rfl
      | false =>
        rw [hb i hi, ex, if_neg (by decide), Bool.or_false] at e
        have := h1 i hi e.1
        omega
    · refine Nat.le_trans (tw_c_le fun i hi e => ?_) (h3 t')
      simp only [Bool.and_eq_true, decide_eq_true_eq] at e ⊢
      cases ex : X i with
      | true => rw [ex, if_pos rfl] at e; exact absurd e.2.symm z
      | false => rw [hb i hi, ex, if_neg (by decide), Bool.or_false] at e; exact e
theorem tw_fil_lt {w : Nat} {H : Nat → Bool} {E : Nat → Nat → Bool} {L U : Nat → Nat} {t k k' : Nat} (hk : k < 128) (h : tw_fil w H E L U k t k') : k < k' ∧ k' < 128 := by
  obtain ⟨a, ha, r, e⟩ := h
  have h1 : k < k ||| 2 ^ a := by
    have h0 : k ≤ k ||| 2 ^ a := Nat.left_le_or
    have hn : k ≠ k ||| 2 ^ a := fun e => by
      have e2 : k.testBit a = (k ||| 2 ^ a).testBit a := by rw [← e]
      rw [tb_st, r.2.1, decide_eq_true rfl] at e2
      exact absurd e2 (by decide)
    omega
  have h2 := tb_slt hk ha
  rcases e with e | ⟨_, b, _, hb, _, e⟩
  · rw [e]; exact ⟨h1, h2⟩
  · rw [e]
    have h0 : k ||| 2 ^ a ≤ (k ||| 2 ^ a) ||| 2 ^ b := Nat.left_le_or
    exact ⟨by omega, tb_slt h2 hb⟩
theorem tw_can_s {w : Nat} {H : Nat → Bool} {E : Nat → Nat → Bool} {L U : Nat → Nat} {t k' : Nat} (hw1 : 1 ≤ w) (hw2 : w ≤ 2) :
    tw_can w H E L U (t + 1) k' ↔ tw_can w H E L U t k' ∨ ∃ k, tw_can w H E L U t k ∧ tw_fil w H E L U k t k' := by
  constructor
  · intro h
    obtain ⟨hk, s, h1, h2, h3⟩ := h
    -- what is left without the tasks of slot t
    have red : ∀ k, k < 128 → (∀ i, i < 7 → k.testBit i = (k'.testBit i && !decide (s i = t))) → tw_can w H E L U t k := by
      intro k hk2 hb
      refine ⟨hk2, s, fun i hi e => ?_, fun i j hi hj e hE => ?_, fun t' => ?_⟩
      · rw [hb i hi] at e
        simp only [Bool.and_eq_true, Bool.not_eq_true', decide_eq_false_iff_not] at e
        have := h1 i hi e.1
        exact ⟨this.1, this.2.1, this.2.2.1, by omega⟩
      · rw [hb j hj] at e
        simp only [Bool.and_eq_true, Bool.not_eq_true', decide_eq_false_iff_not] at e
        have h := h2 i j hi hj e.1 hE
        have hj2 := h1 j hj e.1
        rw [hb i hi, h.1, decide_eq_false (by omega)]
        exact ⟨rfl, h.2⟩
      · refine Nat.le_trans (tw_c_le fun i hi e => ?_) (h3 t')
        rw [hb i hi] at e
        simp only [Bool.and_eq_true] at e ⊢
        exact ⟨e.1.1, e.2⟩
    have rdy : ∀ k a, a < 7 → (∀ i, i < 7 → k.testBit i = (k'.testBit i && !decide (s i = t))) → k'.testBit a = true → s a = t → tw_rdy H E L U k a t := by
      intro k a ha hb ka sa
      have h := h1 a ha ka
      refine ⟨h.1, ?_, by omega, by omega, fun i hi hE => ?_⟩
      · rw [hb a ha, ka, sa, decide_eq_true rfl]; rfl
      · have h := h2 i a hi ha ka hE
        rw [hb i hi, h.1, decide_eq_false (by omega)]; rfl
    have hcap := h3 t
    by_cases c0 : ∃ a, a < 7 ∧ k'.testBit a = true ∧ s a = t
    · obtain ⟨a0, ha0, ka0, sa0⟩ := c0
      by_cases c1 : ∃ b, b < 7 ∧ k'.testBit b = true ∧ s b = t ∧ b ≠ a0
      · obtain ⟨b0, hb0, kb0, sb0, ne0⟩ := c1
        -- in order
        have ex : ∃ a b, a < b ∧ b < 7 ∧ k'.testBit a = true ∧ s a = t ∧ k'.testBit b = true ∧ s b = t := by
          rcases Nat.lt_or_ge a0 b0 with z | z
          · exact ⟨a0, b0, z, hb0, ka0, sa0, kb0, sb0⟩
          · exact ⟨b0, a0, by omega, ha0, kb0, sb0, ka0, sa0⟩
        obtain ⟨a, b, hab, hb7, ka, sa, kb, sb⟩ := ex
        have ha : a < 7 := by omega
        have w2 : w = 2 := by
          have := tw_c_two (f := fun i => k'.testBit i && decide (s i = t)) ha hb7 (by omega) (by simp only [Bool.and_eq_true, decide_eq_true_eq]; exact ⟨ka, sa⟩) (by simp only [Bool.and_eq_true, decide_eq_true_eq]; exact ⟨kb, sb⟩)
          omega
        have hd1 : tb_d k' (2 ^ a) < 128 := tb_dlt hk
        have hd2 : tb_d (tb_d k' (2 ^ a)) (2 ^ b) < 128 := tb_dlt hd1
        have hbits : ∀ i, i < 7 → (tb_d (tb_d k' (2 ^ a)) (2 ^ b)).testBit i = (k'.testBit i && !decide (s i = t)) := by
          intro i hi
          rw [tb_ct hd1, tb_ct hk]
          cases ei : k'.testBit i with
          | false => rfl
          | true =>
            by_cases z : s i = t
            · rw [decide_eq_true z]
              have : i = a ∨ i = b := by
                apply Classical.byContradiction
                intro hn
                have := tw_c_three (f := fun i => k'.testBit i && decide (s i = t)) ha hb7 hi (by omega) (by omega) (by omega)
                  (by simp only [Bool.and_eq_true, decide_eq_true_eq]; exact ⟨ka, sa⟩) (by simp only [Bool.and_eq_true, decide_eq_true_eq]; exact ⟨kb, sb⟩) (by simp only [Bool.and_eq_true, decide_eq_true_eq]; exact ⟨ei, z⟩)
                omega
              rcases this with e | e
              · rw [decide_eq_true (show a = i from e.symm)]; rfl
              · rw [decide_eq_true (show b = i from e.symm)]; simp
            · rw [decide_eq_false z, decide_eq_false (show ¬ a = i from fun e => z (e ▸ sa)), decide_eq_false (show ¬ b = i from fun e => z (e ▸ sb))]; rfl
        refine Or.inr ⟨tb_d (tb_d k' (2 ^ a)) (2 ^ b), red _ hd2 hbits, a, ha, rdy _ a ha hbits ka sa, Or.inr ⟨w2, b, hab, hb7, rdy _ b hb7 hbits kb sb, ?_⟩⟩
        refine tb_ext hk (tb_slt (tb_slt hd2 ha) hb7) fun i hi => ?_
        rw [tb_st, tb_st, tb_ct hd1, tb_ct hk]
        by_cases z1 : a = i
        · rw [← z1, ka, decide_eq_true rfl]; simp
        · by_cases z2 : b = i
          · rw [← z2, kb, decide_eq_true rfl]; simp
          · rw [decide_eq_false z1, decide_eq_false z2]; simp
      · have hd1 : tb_d k' (2 ^ a0) < 128 := tb_dlt hk
        have hbits : ∀ i, i < 7 → (tb_d k' (2 ^ a0)).testBit i = (k'.testBit i && !decide (s i = t)) := by
          intro i hi
          rw [tb_ct hk]
          cases ei : k'.testBit i with
          | false => rfl
          | true =>
            by_cases z : a0 = i
            · rw [decide_eq_true z, ← z, sa0, decide_eq_true rfl]
            · have : ¬ s i = t := fun e => c1 ⟨i, hi, ei, e, fun e2 => z e2.symm⟩
              rw [decide_eq_false z, decide_eq_false this]
        refine Or.inr ⟨tb_d k' (2 ^ a0), red _ hd1 hbits, a0, ha0, rdy _ a0 ha0 hbits ka0 sa0, Or.inl ?_⟩
        refine tb_ext hk (tb_slt hd1 ha0) fun i hi => ?_
        rw [tb_st, tb_ct hk]
        by_cases z1 : a0 = i
        · rw [← z1, ka0, decide_eq_true rfl]; simp
        · rw [decide_eq_false z1]; simp
    · refine Or.inl (red k' hk fun i hi => ?_)
      cases ei : k'.testBit i with
      | false => rfl
      | true => rw [decide_eq_false (fun e => c0 ⟨i, hi, ei, e⟩)]; rfl
  · intro h
    rcases h with ⟨hk, s, h1, h2, h3⟩ | ⟨k, hc, hf⟩
    · exact ⟨hk, s, fun i hi e => ⟨(h1 i hi e).1, (h1 i hi e).2.1, (h1 i hi e).2.2.1, by have := (h1 i hi e).2.2.2; omega⟩, h2, h3⟩
    · have hl := tw_fil_lt hc.1 hf
      obtain ⟨a, ha, r, e⟩ := hf
      rcases e with e | ⟨w2, b, hab, hb, rb, e⟩
      · refine tw_can_ext (X := fun i => decide (i = a)) hc hl.2 (fun i hi => ?_) (fun i hi e => ?_) (by rw [tw_c_one a 7 ha]; exact hw1)
        · rw [e, tb_st]
          congr 1
          exact decide_eq_decide.mpr ⟨fun z => z.symm, fun z => z.symm⟩
        · have e : decide (i = a) = true := e
          rw [of_decide_eq_true e]; exact r
      · refine tw_can_ext (X := fun i => decide (i = a) || decide (i = b)) hc hl.2 (fun i hi => ?_) (fun i hi e => ?_) ?_
        · rw [e, tb_st, tb_st, Bool.or_assoc]
          congr 2
          · exact decide_eq_decide.mpr ⟨fun z => z.symm, fun z => z.symm⟩
          · exact decide_eq_decide.mpr ⟨fun z => z.symm, fun z => z.symm⟩
        · simp only [Bool.or_eq_true, decide_eq_true_eq] at e
          rcases e with e | e
          · rw [e]; exact r
          · rw [e]; exact rb
        · have := tw_c_sub (f := fun i => decide (i = a)) (g := fun i => decide (i = b)) (h := fun i => decide (i = a) || decide (i = b)) (n := 7)
            (fun i hi e => by simp only [Bool.or_eq_true] at e; exact e)
          rw [tw_c_one a 7 ha, tw_c_one b 7 hb] at this
          omega
theorem tw_can_0 {w : Nat} {H : Nat → Bool} {E : Nat → Nat → Bool} {L U : Nat → Nat} {k : Nat} : tw_can w H E L U 0 k ↔ k = 0 := by
  constructor
  · intro h
    obtain ⟨hk, s, h1, _⟩ := h
    refine tb_e0 hk fun i hi => ?_
    cases e : k.testBit i with
    | false => rfl
    | true => have := h1 i hi e; omega
  · intro h
    subst h
    refine ⟨by decide, fun _ => 0, fun i hi e => ?_, fun i j hi hj e => ?_, fun t' => ?_⟩
    · rw [Nat.zero_testBit] at e; exact absurd e (by decide)
    · rw [Nat.zero_testBit] at e; exact absurd e (by decide)
    · rw [tw_c_0]
      · exact Nat.zero_le _
      · intro i hi e; simp at e
theorem tw_can_all {w p : Nat} {E : Nat → Nat → Bool} {L U : Nat → Nat} {t : Nat} (hp : p < 128) (hl : tw_lh (Nat.testBit p) E) :
    tw_can w (Nat.testBit p) E L U t p ↔ ∃ s, tw_TT w (Nat.testBit p) E L U s ∧ ∀ i, i < 7 → p.testBit i = true → s i < t := by
  constructor
  · intro h
    obtain ⟨hk, s, h1, h2, h3⟩ := h
    exact ⟨s, ⟨fun i hi e => ⟨(h1 i hi e).2.1, (h1 i hi e).2.2.1⟩, fun i j hi hj _ ej e => (h2 i j hi hj ej e).2, h3⟩, fun i hi e => (h1 i hi e).2.2.2⟩
  · intro h
    obtain ⟨s, ⟨h1, h2, h3⟩, h4⟩ := h
    exact ⟨hp, s, fun i hi e => ⟨e, (h1 i hi e).1, (h1 i hi e).2, h4 i hi e⟩, fun i j hi hj ej e => ⟨(hl i j hi hj e).1, h2 i j hi hj (hl i j hi hj e).1 ej e⟩, h3⟩
theorem tw_can_sub {w p : Nat} {E : Nat → Nat → Bool} {L U : Nat → Nat} {t k : Nat} (hp : p < 128) (h : tw_can w (Nat.testBit p) E L U t k) : k ≤ p := by
  obtain ⟨hk, s, h1, _⟩ := h
  have e : k = k &&& p := by
    refine tb_ext hk (Nat.lt_of_le_of_lt Nat.and_le_left hk) fun i hi => ?_
    rw [Nat.testBit_and]
    cases ek : k.testBit i with
    | false => rfl
    | true => rw [show p.testBit i = true from (h1 i hi ek).1]; rfl
  rw [e]
  exact Nat.and_le_right
end
section
/-! least slots, task after task -/
def tw_E (A : Nat → Nat) (i j : Nat) : Bool := (A i).testBit j
/-- the timetables of T that give the held tasks 0 .. j-1, one after the other, the least slot that is left -/
def tw_N (H : Nat → Bool) (T : (Nat → Nat) → Prop) : Nat → (Nat → Nat) → Prop
  | 0 => T
  | j + 1 => fun s => tw_N H T j s ∧ (H j = true → ∀ r, tw_N H T j r → s j ≤ r j)
theorem tw_least (T : (Nat → Nat) → Prop) (h : ∃ s, T s) (j : Nat) : ∃ s, T s ∧ ∀ r, T r → s j ≤ r j := by
  obtain ⟨s, hs⟩ := h
  obtain ⟨m, ⟨s, hs, e⟩, hm⟩ := pk_least (fun m => ∃ s, T s ∧ s j = m) ⟨s j, s, hs, rfl⟩
  refine ⟨s, hs, fun r hr => ?_⟩
  apply Classical.byContradiction
  intro hn
  exact hm (r j) (by omega) ⟨r, hr, rfl⟩
theorem tw_N_ex (H : Nat → Bool) (T : (Nat → Nat) → Prop) (h : ∃ s, T s) : ∀ j, ∃ s, tw_N H T j s := by
  intro j
  induction j with
  | zero => exact h
  | succ j ih =>
    obtain ⟨s, h1, h2⟩ := tw_least (tw_N H T j) ih j
    exact ⟨s, h1, fun _ => h2⟩
theorem tw_N_T {H : Nat → Bool} {T : (Nat → Nat) → Prop} {s : Nat → Nat} : ∀ {j}, tw_N H T j s → T s := by
  intro j
  induction j with
  | zero => exact fun h => h
  | succ j ih => exact fun h => ih h.1
theorem tw_N_u {H : Nat → Bool} {T : (Nat → Nat) → Prop} {s r : Nat → Nat} {j : Nat} (hj : H j = true) (h1 : tw_N H T (j + 1) s) (h2 : tw_N H T (j + 1) r) : s j = r j :=
  Nat.le_antisymm (h1.2 hj r h2.1) (h2.2 hj s h1.1)
theorem tw_N_c {H : Nat → Bool} {T T' : (Nat → Nat) → Prop} (h : ∀ s, T s ↔ T' s) : ∀ j s, tw_N H T j s ↔ tw_N H T' j s := by
  intro j
  induction j with
  | zero => exact h
  | succ j ih => exact fun s => and_congr (ih s) ⟨fun k a r hr => k a r ((ih r).mpr hr), fun k a r hr => k a r ((ih r).mp hr)⟩
/-- timetables under other bounds for one task -/
theorem tw_TT_c {w : Nat} {H : Nat → Bool} {E : Nat → Nat → Bool} {L U L' U' s : Nat → Nat} (h : ∀ i, i < 7 → H i = true → L' i = L i ∧ U' i = U i)
    (k : tw_TT w H E L U s) : tw_TT w H E L' U' s :=
  ⟨fun i hi e => by rw [(h i hi e).1, (h i hi e).2]; exact k.1 i hi e, k.2.1, k.2.2⟩
theorem tw_TT_U {w : Nat} {H : Nat → Bool} {E : Nat → Nat → Bool} {L U U' s : Nat → Nat} {j d : Nat} (hj : j < 7) (Hj : H j = true)
    (h : ∀ i, i < 7 → i ≠ j → U' i = U i) (e : U' j = d) (hd : d ≤ U j) : tw_TT w H E L U' s ↔ (tw_TT w H E L U s ∧ s j < d) := by
  constructor
  · intro k
    have kj := k.1 j hj Hj
    refine ⟨⟨fun i hi Hi => ?_, k.2.1, k.2.2⟩, by omega⟩
    have ki := k.1 i hi Hi
    by_cases z : i = j
    · subst z; exact ⟨ki.1, by omega⟩
    · rw [h i hi z] at ki; exact ki
  · rintro ⟨k, k2⟩
    refine ⟨fun i hi Hi => ?_, k.2.1, k.2.2⟩
    have ki := k.1 i hi Hi
    by_cases z : i = j
    · subst z; exact ⟨ki.1, by omega⟩
    · rw [h i hi z]; exact ki
theorem tw_TT_LU {w : Nat} {H : Nat → Bool} {E : Nat → Nat → Bool} {L U L' U' s : Nat → Nat} {j d : Nat} (hj : j < 7) (Hj : H j = true)
    (h : ∀ i, i < 7 → i ≠ j → L' i = L i ∧ U' i = U i) (e1 : L' j = d) (e2 : U' j = d + 1) (hl : L j ≤ d) (hd : d < U j) :
    tw_TT w H E L' U' s ↔ (tw_TT w H E L U s ∧ s j = d) := by
  constructor
  · intro k
    have kj := k.1 j hj Hj
    refine ⟨⟨fun i hi Hi => ?_, k.2.1, k.2.2⟩, by omega⟩
    have ki := k.1 i hi Hi
    by_cases z : i = j
    · subst z; exact ⟨by omega, by omega⟩
    · rw [(h i hi z).1, (h i hi z).2] at ki; exact ki
  · rintro ⟨k, k2⟩
    refine ⟨fun i hi Hi => ?_, k.2.1, k.2.2⟩
    have ki := k.1 i hi Hi
    by_cases z : i = j
    · subst z; exact ⟨by omega, by omega⟩
    · rw [(h i hi z).1, (h i hi z).2]; exact ki
end
section
/-! X: close -/
theorem x7_n {i : Nat} (h : i < 7) : ¬ (7 : Int32) ≤ nI i := nI_ge (b := 7) h (by decide)
theorem x7_e : (7 : Int32) ≤ nI 7 := nI_le (a := 7) (b := 7) (by decide) (by decide)
theorem x7_i {i : Nat} (h : i < 7) : vp_in (nI i) 7 := vp_in_nI h (by decide)
theorem x7_c {i : Nat} (h : i < 7) : (nI i).toNatClampNeg = i := nI_clamp (by omega)
/-- the rows of be are the rows of R -/
def xb_B (be : Nat → Int32) (R : Nat → Nat → Bool) : Prop := ∀ i, i < 7 → ∃ m, m < 128 ∧ be i = nI m ∧ ∀ j, j < 7 → m.testBit j = R i j
theorem xb_c {be : Nat → Int32} {R R' : Nat → Nat → Bool} (h : xb_B be R) (e : ∀ i j, i < 7 → j < 7 → R i j = R' i j) : xb_B be R' := fun i hi => by
  obtain ⟨m, h1, h2, h3⟩ := h i hi
  exact ⟨m, h1, h2, fun j hj => (h3 j hj).trans (e i j hi hj)⟩
section
variable {fm fc fp f1 f2 : Int32} {du af ak dw s1 s2 : Nat → Int32} {E : Nat → Nat → Bool}
theorem tw_w_k {k j : Nat} : tw_w E (k + 1) k j = tw_w E k k j := by
  show (tw_w E k k j || (tw_w E k k k && tw_w E k k j)) = _
  cases tw_w E k k j <;> cases tw_w E k k k <;> rfl
theorem xc_36 {post : SX → Prop} {J : Int32 → (Nat → Int32) → (Nat → Int32) → (Nat → Int32) → (Nat → Int32) → (Nat → Int32) → (Nat → Int32) → (Nat → Int32) → Prop} {k : Nat} (hk : k < 7)
    (hJ : ∀ be, xb_B be (tw_w E (k + 1)) → J (nI (k + 1)) du af be ak dw s1 s2) (be : Nat → Int32) (h : xb_B be (tw_w E k)) :
    ∃ n, wX_close_36 post J (nI k) fm fc fp f1 f2 n 0 du af be ak dw s1 s2 := by
  refine pk_loop (fun n i be => wX_close_36 post J (nI k) fm fc fp f1 f2 n (nI i) du af be ak dw s1 s2)
    (fun i be => xb_B be (fun a b => if a < i then tw_w E (k + 1) a b else tw_w E k a b)) 7 0 be (by omega) (xb_c h fun i j _ _ => (if_neg (by omega)).symm) ?_ ?_
  · intro n be hI
    simp only [wX_close_36, forall_eq, nI_1]
    exact br_t x7_e (hJ be (xb_c hI fun i j hi _ => if_pos hi))
  · intro n i be hi hI hn
    obtain ⟨mi, hmi, ei, bi⟩ := hI i hi
    obtain ⟨mk, hmk, ek, bk⟩ := hI k hk
    simp only [wX_close_36, forall_eq, nI_1, x7_c hi, x7_c hk, ei, ek, tb_z hmi hk, tb_or]
    have bi' : ∀ j, j < 7 → mi.testBit j = tw_w E k i j := fun j hj => (bi j hj).trans (if_neg (by omega))
    have bk' : ∀ j, j < 7 → mk.testBit j = tw_w E k k j := fun j hj => (bk j hj).trans (by
      dsimp only
      by_cases z : k < i
      · rw [if_pos z]; exact tw_w_k
      · rw [if_neg z])
    refine br_f (x7_n hi) ⟨x7_i hi, br_c (fun hz => hn be ?_) (fun hz => ⟨x7_i hi, x7_i hk, x7_i hi, hn _ ?_⟩)⟩
    · refine xb_c hI fun a b ha hb => ?_
      by_cases z : a = i
      · subst z
        rw [if_neg (by omega), if_pos (by omega)]
        show _ = (tw_w E k a b || (tw_w E k a k && tw_w E k k b))
        rw [← bi' k hk, hz]
        simp
      · by_cases z2 : a < i
        · rw [if_pos z2, if_pos (by omega)]
        · rw [if_neg z2, if_neg (by omega)]
    · have hz : mi.testBit k = true := by cases e : mi.testBit k; exact absurd e hz; rfl
      have hlt : mi ||| mk < 128 := Nat.or_lt_two_pow (n := 7) hmi hmk
      rw [tb_i8 hlt, tb_by hlt]
      intro a ha
      by_cases z : a = i
      · subst z
        refine ⟨mi ||| mk, hlt, pk_us, fun b hb => ?_⟩
        dsimp only
        rw [if_pos (by omega), Nat.testBit_or, bi' b hb, bk' b hb]
        show _ = (tw_w E k a b || (tw_w E k a k && tw_w E k k b))
        rw [← bi' k hk, hz]
        simp
      · obtain ⟨m, h1, h2, h3⟩ := hI a ha
        refine ⟨m, h1, by rw [pk_un z]; exact h2, fun b hb => ?_⟩
        rw [h3 b hb]
        dsimp only
        by_cases z2 : a < i
        · rw [if_pos z2, if_pos (by omega)]
        · rw [if_neg z2, if_neg (by omega)]
theorem xc_28 {post : SX → Prop} (hp : ∀ be, xb_B be (tw_w E 7) → post (fm, fc, fp, f1, f2, du, af, be, ak, dw, s1, s2)) (be : Nat → Int32) (h : xb_B be (tw_w E 0)) :
    ∃ n, wX_close_28 post fm fc fp f1 f2 n 0 du af be ak dw s1 s2 := by
  refine pk_loop (fun n k be => wX_close_28 post fm fc fp f1 f2 n (nI k) du af be ak dw s1 s2)
    (fun k be => xb_B be (tw_w E k)) 7 0 be (by omega) h ?_ ?_
  · intro n be hI
    simp only [wX_close_28]
    exact br_t x7_e (hp be hI)
  · intro n k be hk hI hn
    simp only [wX_close_28]
    exact br_f (x7_n hk) (xc_36 hk hn be hI)
theorem xc_close {post : SX → Prop} {A : Nat → Nat} (hA : ∀ i, i < 7 → af i = nI (A i) ∧ A i < 128)
    (hp : ∀ be, xb_B be (tw_w (tw_E A) 7) → post (fm, fc, fp, f1, f2, du, af, be, ak, dw, s1, s2)) (be : Nat → Int32) :
    wpX_close post (fm, fc, fp, f1, f2, du, af, be, ak, dw, s1, s2) := by
  unfold wpX_close
  refine pk_loop (fun n i be => wX_close_2 post fm fc fp f1 f2 n (nI i) du af be ak dw s1 s2)
    (fun i be => ∀ j, j < i → be j = nI (A j)) 7 0 be (by omega) (fun j hj => by omega) ?_ ?_
  · intro n be hI
    simp only [wX_close_2]
    exact br_t x7_e (xc_28 hp be fun i hi => ⟨A i, (hA i hi).2, hI i hi, fun j hj => rfl⟩)
  · intro n i be hi hI hn
    simp only [wX_close_2, forall_eq, nI_1, x7_c hi, (hA i hi).1, tb_by (hA i hi).2]
    refine br_f (x7_n hi) ⟨x7_i hi, x7_i hi, hn _ fun j hj => ?_⟩
    by_cases z : j = i
    · rw [z, pk_us]
    · rw [pk_un z]; exact hI j (by omega)
end
end
section
/-! X: withoutFollowersIn, followersBy, draw -/
section
variable {fm fc fp f1 f2 : Int32} {du af be ak dw s1 s2 : Nat → Int32} {R : Nat → Nat → Bool}
theorem xw_wf {post : Int32 → Prop} {o : Nat} (ho : o < 128) (hB : xb_B be R)
    (hex : ∃ i, i < 7 ∧ o.testBit i = true ∧ ∀ j, j < 7 → ¬ (R i j = true ∧ o.testBit j = true))
    (hp : ∀ i, i < 7 → o.testBit i = true → (∀ j, j < 7 → ¬ (R i j = true ∧ o.testBit j = true)) → post (nI i)) :
    wpX_withoutFollowersIn post (fm, fc, fp, f1, f2, du, af, be, ak, dw, s1, s2) (nI o) := by
  unfold wpX_withoutFollowersIn
  refine pk_loop (fun n i (_ : Unit) => wX_withoutFollowersIn_2 post (nI o) fm fc fp f1 f2 du af be ak dw s1 s2 n (nI i))
    (fun i _ => ∀ a, a < i → ¬ (o.testBit a = true ∧ ∀ j, j < 7 → ¬ (R a j = true ∧ o.testBit j = true))) 7 0 () (by omega) (fun a ha => by omega) ?_ ?_
  · intro n _ hI
    obtain ⟨i, hi, h1, h2⟩ := hex
    exact absurd ⟨h1, h2⟩ (hI i hi)
  · intro n i _ hi hI hn
    obtain ⟨m, hm, em, bm⟩ := hB i hi
    simp only [wX_withoutFollowersIn_2, forall_eq, nI_1, x7_c hi, em, tb_z ho hi, tb_a0 hm]
    refine br_f (x7_n hi) (br_c (fun hz => hn () fun a ha => ?_) (fun hz => ⟨x7_i hi, br_c (fun hf => ?_) (fun hf => hn () fun a ha => ?_)⟩))
    · by_cases z : a = i
      · rw [z, hz]; exact fun h => absurd h.1 (by decide)
      · exact hI a (by omega)
    · have hz : o.testBit i = true := by cases e : o.testBit i; exact absurd e hz; rfl
      exact hp i hi hz fun j hj h => hf j hj ⟨by rw [bm j hj]; exact h.1, h.2⟩
    · by_cases z : a = i
      · rw [z]
        exact fun h => hf fun j hj h2 => h.2 j hj ⟨by rw [← bm j hj]; exact h2.1, h2.2⟩
      · exact hI a (by omega)
theorem xf_fb {post : Int32 → Prop} {i d : Nat} {dr : Nat → Nat} (hi : i < 7) (hd : d < 128) (hB : xb_B be R)
    (hdw : ∀ j, j < 7 → R i j = true → dw j = nI (dr j) ∧ dr j < 128) (hp : post (nI (tw_f R dr i d))) :
    wpX_followersBy post (fm, fc, fp, f1, f2, du, af, be, ak, dw, s1, s2) (nI i) (nI d) := by
  unfold wpX_followersBy
  obtain ⟨m, hm, em, bm⟩ := hB i hi
  refine pk_loop (fun n j x3 => wX_followersBy_5 post (nI i) (nI d) fm fc fp f1 f2 du af be ak dw s1 s2 n x3 (nI j))
    (fun j x3 => x3 = nI (tw_c (fun k => R i k && decide (dr k ≤ d)) j)) 7 0 0 (by omega) rfl ?_ ?_
  · intro n x3 hI
    subst hI
    simp only [wX_followersBy_5]
    exact br_t x7_e hp
  · intro n j x3 hj hI hn
    simp only [wX_followersBy_5, forall_eq, nI_1, x7_c hi, x7_c hj, em, tb_z hm hj]
    refine br_f (x7_n hj) ⟨x7_i hi, br_c (fun hz => hn _ ?_) (fun hz => ⟨x7_i hj, ?_⟩)⟩
    · subst hI
      refine congrArg nI ?_
      show _ = tw_c _ j + _
      rw [if_neg]; rfl
      dsimp only
      rw [← bm j hj, hz]; simp
    · have hz : m.testBit j = true := by cases e : m.testBit j; exact absurd e hz; rfl
      have hR : R i j = true := by rw [← bm j hj]; exact hz
      obtain ⟨e1, e2⟩ := hdw j hj hR
      rw [e1]
      refine pk_lt d (dr j) (fun hl => hn _ ?_) (fun hl => hn _ ?_)
      · subst hI
        refine congrArg nI ?_
        show _ = tw_c _ j + _
        rw [if_neg]; rfl
        dsimp only
        rw [hR]; simp; omega
      · subst hI
        rw [nI_1]
        refine congrArg nI ?_
        show _ = tw_c _ j + _
        rw [if_pos]
        dsimp only
        rw [hR]; simp; omega
/-- the slots that c followers need on w machines -/
def xd_sl (w c : Nat) : Nat := if w = 1 then c else (c + 1) / 2
theorem xd_sl_le {w c m : Nat} (hw : w = 1 ∨ w = 2) : c ≤ w * m ↔ xd_sl w c ≤ m := by
  unfold xd_sl
  rcases hw with rfl | rfl
  · rw [if_pos rfl]; omega
  · rw [if_neg (by decide)]; omega
/-- what the drawn deadline l of task i is; F d: how many followers are due by d -/
def xd_P (w u : Nat) (F : Nat → Nat) (d : Nat) (l : Int32) : Prop :=
  -7 ≤ l.toInt ∧ l.toInt ≤ u ∧ (∀ e, 1 ≤ e → e < d → 0 < F e → l.toInt + xd_sl w (F e) ≤ e) ∧
  ∀ v : Nat, v < u → (∀ e, 1 ≤ e → e ≤ 8 → 0 < F e → v + 1 ≤ e ∧ F e ≤ w * (e - 1 - v)) → (v : Int) < l.toInt
theorem xd_P0 {w u : Nat} {F : Nat → Nat} (hu : u < 128) : xd_P w u F 1 (nI u) := by
  have e : (nI u).toInt = u := nI_toInt (by omega)
  exact ⟨by omega, by omega, fun e h1 h2 => by omega, fun v hv _ => by omega⟩
theorem xd_42 {post : SX → Prop} {J : Int32 → Int32 → Prop} {w u i d : Nat} {F : Nat → Nat} {l : Int32} (hw : w = 1 ∨ w = 2) (hd1 : 1 ≤ d) (hd : d ≤ 8) (hF : F d ≤ 7)
    (hl : xd_P w u F d l) (hJ : ∀ l, xd_P w u F (d + 1) l → J l (nI (d + 1))) :
    wX_draw_42 post J (nI i) l (nI d) (nI (F d)) (nI (xd_sl w (F d))) fm fc fp f1 f2 du af be ak dw s1 s2 := by
  obtain ⟨h1, h2, h3, h4⟩ := hl
  have hs : xd_sl w (F d) ≤ 7 := by
    unfold xd_sl
    split <;> omega
  have et : (nI d - nI (xd_sl w (F d))).toInt = (d : Int) - xd_sl w (F d) := pk_sub_toInt (by omega) (by omega)
  simp only [wX_draw_42, forall_eq, nI_1]
  refine pk_le (F d) 0 (fun hz => hJ l ⟨h1, h2, fun e e1 e2 e3 => ?_, h4⟩) (fun hz => br_c (fun hc => hJ l ⟨h1, h2, fun e e1 e2 e3 => ?_, h4⟩) (fun hc => hJ _ ⟨?_, ?_, fun e e1 e2 e3 => ?_, fun v hv hN => ?_⟩))
  · by_cases z : e = d
    · subst z; omega
    · exact h3 e e1 (by omega) e3
  · rw [Int32.le_iff_toInt_le, et] at hc
    by_cases z : e = d
    · subst z; omega
    · exact h3 e e1 (by omega) e3
  · rw [et]; omega
  · rw [Int32.le_iff_toInt_le, et] at hc
    rw [et]; omega
  · rw [Int32.le_iff_toInt_le, et] at hc
    rw [et]
    by_cases z : e = d
    · subst z; omega
    · have := h3 e e1 (by omega) e3
      omega
  · rw [et]
    have hv2 := hN d hd1 hd hz
    have hv3 := (xd_sl_le hw).mp hv2.2
    omega
theorem xd_draw {post : SX → Prop} {w u i : Nat} {dr : Nat → Nat} (hw : w = 1 ∨ w = 2) (hi : i < 7) (hu : u ≤ 8) (ha : ak i = nI u) (hB : xb_B be R)
    (hdw : ∀ j, j < 7 → R i j = true → dw j = nI (dr j) ∧ dr j < 128)
    (hp : ∀ l, xd_P w u (tw_f R dr i) 9 l → post (nI w, fc, fp, f1, f2, du, af, be, ak, upd dw i l, s1, s2)) :
    wpX_draw post (nI w, fc, fp, f1, f2, du, af, be, ak, dw, s1, s2) (nI i) := by
  simp only [wpX_draw, forall_eq, x7_c hi, ha]
  refine ⟨x7_i hi, ?_⟩
  refine pk_loop (fun n d l => wX_draw_9 post (nI i) (nI w) fc fp f1 f2 du af be ak dw s1 s2 n l (nI d))
    (fun d l => 1 ≤ d ∧ xd_P w u (tw_f R dr i) d l) 9 1 (nI u) (by omega) ⟨by omega, xd_P0 (by omega)⟩ ?_ ?_
  · intro n l hI
    obtain ⟨_, hI⟩ := hI
    have hr := hI
    obtain ⟨h1, h2, h3, h4⟩ := hI
    simp only [wX_draw_9, forall_eq, x7_c hi]
    refine br_t (nI_lt (a := 8) (b := 9) (by decide) (by decide)) ⟨x7_i hi, ?_⟩
    rw [lg_i2b_small (by omega) (by omega), vp_nar_byte, lg_i2b_small (by omega) (by omega)]
    exact hp l hr
  · intro n d l hd hI hn
    obtain ⟨h1, hI⟩ := hI
    have hF : tw_f R dr i d ≤ 7 := tw_c_n _ 7
    simp only [wX_draw_9, forall_eq]
    refine br_f (nI_nlt (a := 8) (by omega) (by decide)) (xf_fb hi (by omega) hB hdw ?_)
    rcases hw with rfl | rfl
    · refine br_t rfl ?_
      have e : xd_sl 1 (tw_f R dr i d) = tw_f R dr i d := if_pos rfl
      have k := xd_42 (fm := nI 1) (fc := fc) (fp := fp) (f1 := f1) (f2 := f2) (du := du) (af := af) (be := be) (ak := ak) (dw := dw) (s1 := s1) (s2 := s2) (post := post) (i := i) (Or.inl rfl) h1 (by omega) hF hI (fun l hl => hn l ⟨by omega, hl⟩)
      rw [e] at k
      exact k
    · refine br_f (show ¬ nI 2 = 1 from by decide) ?_
      have e : (nI (tw_f R dr i d) + 1) >>> ((1 : Int32) &&& 31) = nI (xd_sl 2 (tw_f R dr i d)) := by
        rw [nI_1, pk_shrN (by omega) _ 1 (by decide)]
        rfl
      rw [e]
      exact xd_42 (Or.inr rfl) h1 (by omega) hF hI (fun l hl => hn l ⟨by omega, hl⟩)
end
end
section
/-! X: readyIn, mostUrgent, dispatch -/
theorem tb_nf {b : Bool} (h : ¬ b = false) : b = true := by cases b; exact absurd rfl h; rfl
theorem tb_nt {b : Bool} (h : ¬ b = true) : b = false := by cases b; rfl; exact absurd rfl h
section
variable {fm fc fp f1 f2 : Int32} {du af be ak dw s1 s2 : Nat → Int32}
theorem xr_ri {post : Int32 → Prop} {A : Nat → Nat} {wm : Nat} (hA : ∀ i, i < 7 → af i = nI (A i) ∧ A i < 128) (hw : wm < 128)
    (hp : ∀ r, r < 128 → (∀ j, j < 7 → (r.testBit j = true ↔ wm.testBit j = true ∧ ∀ q, q < 7 → wm.testBit q = true → ¬ (A q).testBit j = true)) → post (nI r)) :
    wpX_readyIn post (fm, fc, fp, f1, f2, du, af, be, ak, dw, s1, s2) (nI wm) := by
  unfold wpX_readyIn
  refine pk_loop (fun n i x2 => wX_readyIn_4 post (nI wm) fm fc fp f1 f2 du af be ak dw s1 s2 n x2 (nI i))
    (fun i x2 => ∃ h, h < 128 ∧ x2 = nI h ∧ ∀ j, j < 7 → (h.testBit j = true ↔ ∃ q, q < i ∧ wm.testBit q = true ∧ (A q).testBit j = true)) 7 0 0 (by omega)
    ⟨0, by decide, rfl, fun j hj => by rw [Nat.zero_testBit]; exact ⟨fun z => absurd z (by decide), fun ⟨q, hq, _⟩ => by omega⟩⟩ ?_ ?_
  · intro n x2 hI
    obtain ⟨h, h1, rfl, h3⟩ := hI
    simp only [wX_readyIn_4, tb_nd hw]
    refine br_t x7_e (hp _ (tb_dlt hw) fun j hj => ?_)
    rw [tb_dt hw, Bool.and_eq_true, Bool.not_eq_true']
    constructor
    · rintro ⟨a, b⟩
      refine ⟨a, fun q hq wq aq => ?_⟩
      have := (h3 j hj).mpr ⟨q, hq, wq, aq⟩
      rw [b] at this
      exact absurd this (by decide)
    · rintro ⟨a, b⟩
      refine ⟨a, tb_nt fun z => ?_⟩
      obtain ⟨q, hq, wq, aq⟩ := (h3 j hj).mp z
      exact b q hq wq aq
  · intro n i x2 hi hI hn
    obtain ⟨h, h1, rfl, h3⟩ := hI
    simp only [wX_readyIn_4, forall_eq, nI_1, x7_c hi, (hA i hi).1, tb_z hw hi, tb_or]
    refine br_f (x7_n hi) (br_c (fun hz => hn _ ⟨h, h1, rfl, fun j hj => ?_⟩) (fun hz => ⟨x7_i hi, hn _ ⟨_, Nat.or_lt_two_pow (n := 7) h1 (hA i hi).2, rfl, fun j hj => ?_⟩⟩))
    · rw [h3 j hj]
      constructor
      · rintro ⟨q, hq, r⟩; exact ⟨q, by omega, r⟩
      · rintro ⟨q, hq, r⟩
        refine ⟨q, ?_, r⟩
        have : q ≠ i := fun e => by rw [e, hz] at r; exact absurd r.1 (by decide)
        omega
    · rw [Nat.testBit_or, Bool.or_eq_true, h3 j hj]
      constructor
      · rintro (⟨q, hq, r⟩ | r)
        · exact ⟨q, by omega, r⟩
        · exact ⟨i, by omega, tb_nf hz, r⟩
      · rintro ⟨q, hq, r⟩
        by_cases e : q = i
        · rw [e] at r; exact Or.inr r.2
        · exact Or.inl ⟨q, by omega, r⟩
theorem xm_mu {post : Int32 → Prop} {dr : Nat → Nat} {r : Nat} (hr : r < 128) (hr0 : r ≠ 0)
    (hd : ∀ j, j < 7 → r.testBit j = true → dw j = nI (dr j) ∧ dr j < 128)
    (hp : ∀ b, b < 7 → r.testBit b = true → (∀ y, y < 7 → r.testBit y = true → dr b ≤ dr y) → post (nI b)) :
    wpX_mostUrgent post (fm, fc, fp, f1, f2, du, af, be, ak, dw, s1, s2) (nI r) := by
  unfold wpX_mostUrgent
  refine pk_loop (fun n i x2 => wX_mostUrgent_4 post (nI r) fm fc fp f1 f2 du af be ak dw s1 s2 n x2 (nI i))
    (fun i x2 => (x2 = -1 ∧ ∀ y, y < i → ¬ r.testBit y = true) ∨ ∃ b, b < i ∧ x2 = nI b ∧ r.testBit b = true ∧ ∀ y, y < i → r.testBit y = true → dr b ≤ dr y) 7 0 (-1) (by omega)
    (Or.inl ⟨rfl, fun y hy => by omega⟩) ?_ ?_
  · intro n x2 hI
    simp only [wX_mostUrgent_4]
    refine br_t x7_e ?_
    rcases hI with ⟨_, h⟩ | ⟨b, hb, rfl, h1, h2⟩
    · obtain ⟨i, hi, e⟩ := tb_n0 hr hr0
      exact absurd e (h i hi)
    · exact hp b hb h1 h2
  · intro n i x2 hi hI hn
    simp only [wX_mostUrgent_4, forall_eq, nI_1, x7_c hi, tb_z hr hi]
    refine br_f (x7_n hi) (br_c (fun hz => hn _ ?_) (fun hz => ?_))
    · rcases hI with ⟨e, h⟩ | ⟨b, hb, e, h1, h2⟩
      · refine Or.inl ⟨e, fun y hy => ?_⟩
        by_cases z : y = i
        · rw [z, hz]; decide
        · exact h y (by omega)
      · refine Or.inr ⟨b, by omega, e, h1, fun y hy ry => ?_⟩
        by_cases z : y = i
        · rw [z, hz] at ry; exact absurd ry (by decide)
        · exact h2 y (by omega) ry
    · have hz := tb_nf hz
      rcases hI with ⟨e, h⟩ | ⟨b, hb, e, h1, h2⟩
      · refine br_t (by rw [e]; decide) (hn _ (Or.inr ⟨i, by omega, rfl, hz, fun y hy ry => ?_⟩))
        by_cases z : y = i
        · rw [z]; exact Nat.le_refl _
        · exact absurd ry (h y (by omega))
      · subst e
        have hb7 : b < 7 := by omega
        refine br_f (nI_pos (by omega)) ⟨x7_i hi, x7_i hb7, ?_⟩
        rw [x7_c hb7, (hd b hb7 h1).1, (hd i hi hz).1]
        have l1 := (hd b hb7 h1).2
        have l2 := (hd i hi hz).2
        refine pk_le (dr b) (dr i) (fun hl => hn _ (Or.inr ⟨b, by omega, rfl, h1, fun y hy ry => ?_⟩)) (fun hl => hn _ (Or.inr ⟨i, by omega, rfl, hz, fun y hy ry => ?_⟩))
        · by_cases z : y = i
          · rw [z]; exact hl
          · exact h2 y (by omega) ry
        · by_cases z : y = i
          · rw [z]; exact Nat.le_refl _
          · have := h2 y (by omega) ry
            omega
theorem xs_26 {post : Int32 → Prop} {J : Int32 → Int32 → Prop} {w p : Nat} {A : Nat → Nat} {dr τ : Nat → Nat} {slot wm rm : Nat} {F : Prop} (hw : w = 1 ∨ w = 2)
    (hd : ∀ j, j < 7 → p.testBit j = true → dw j = nI (dr j) ∧ dr j < 128)
    (hno : ∀ x, x < 7 → wm.testBit x = true → dr x ≤ slot → ¬ F) (h0 : ¬ F → post 0)
    (hs : slot < 8) (hwm : wm < 128) (hrm : rm < 128) (hD : tw_D w p.testBit (tw_E A) dr slot wm.testBit τ)
    (hr : ∀ j, j < 7 → (rm.testBit j = true ↔ wm.testBit j = true ∧ ∀ q, q < 7 → wm.testBit q = true → ¬ (A q).testBit j = true))
    (hJ : ∀ wm' τ', wm' < 128 → tw_D w p.testBit (tw_E A) dr (slot + 1) wm'.testBit τ' → J (nI wm') (nI (slot + 1))) :
    ∃ n, wX_dispatch_26 post J (nI slot) (nI w) fc fp f1 f2 du af be ak dw s1 s2 n (nI wm) (nI rm) 0 := by
  refine pk_loop (fun n m (s : Int32 × Int32) => wX_dispatch_26 post J (nI slot) (nI w) fc fp f1 f2 du af be ak dw s1 s2 n s.1 s.2 (nI m))
    (fun m s => ∃ (X : Nat → Bool) (wm' rm' : Nat), s = (nI wm', nI rm') ∧ wm' < 128 ∧ rm' < 128 ∧ (∀ j, j < 7 → wm'.testBit j = (wm.testBit j && !X j)) ∧
      (∀ j, j < 7 → rm'.testBit j = (rm.testBit j && !X j)) ∧ (∀ j, j < 7 → X j = true → rm.testBit j = true ∧ slot < dr j) ∧ tw_c X 7 = m ∧
      ∀ i, i < 7 → X i = true → ∀ y, y < 7 → rm'.testBit y = true → dr i ≤ dr y) w 0 (nI wm, nI rm) (by omega)
    ⟨fun _ => false, wm, rm, rfl, hwm, hrm, fun j _ => by simp, fun j _ => by simp, fun j _ z => absurd z Bool.false_ne_true, tw_c_0 (fun i _ z => absurd z Bool.false_ne_true), fun i _ z => absurd z Bool.false_ne_true⟩ ?_ ?_
  · rintro n s ⟨X, wm', rm', rfl, h1, h2, h3, h4, h5, h6, h7⟩
    simp only [wX_dispatch_26, forall_eq, nI_1]
    refine br_t (nI_le (Nat.le_refl _) (by omega)) (hJ wm' _ h1 (tw_Ds (X := X) (m := w) hD (fun i hi Xi => ?_) h3 h6 (Nat.le_refl _) (fun y hy Wy Xy hy2 => ⟨rfl, fun i hi Xi => ?_⟩)))
    · have := h5 i hi Xi
      have h8 := (hr i hi).mp this.1
      exact ⟨h8.1, this.2, h8.2⟩
    · refine h7 i hi Xi y hy ?_
      rw [h4 y hy, Xy, (hr y hy).mpr ⟨Wy, hy2⟩]; rfl
  · rintro n m s hm ⟨X, wm', rm', rfl, h1, h2, h3, h4, h5, h6, h7⟩ hn
    simp only [wX_dispatch_26, forall_eq, nI_1]
    refine br_f (nI_ge hm (by omega)) (br_c (fun hz => ?_) (fun hz => ?_))
    · rw [tb_i0 h2] at hz
      refine hJ wm' _ h1 (tw_Ds (X := X) (m := m) hD (fun i hi Xi => ?_) h3 h6 (by omega) (fun y hy Wy Xy hy2 => ?_))
      · have := h5 i hi Xi
        have h8 := (hr i hi).mp this.1
        exact ⟨h8.1, this.2, h8.2⟩
      · have := h4 y hy
        rw [Xy, (hr y hy).mpr ⟨Wy, hy2⟩, hz, Nat.zero_testBit] at this
        exact absurd this (by decide)
    · rw [tb_i0 h2] at hz
      have hsub : ∀ j, j < 7 → rm'.testBit j = true → wm.testBit j = true := fun j hj e => by
        rw [h4 j hj, Bool.and_eq_true] at e
        exact ((hr j hj).mp e.1).1
      have hheld : ∀ j, j < 7 → wm.testBit j = true → p.testBit j = true := fun j hj e => ((hD.1 j hj).mp e).1
      refine xm_mu h2 hz (fun j hj e => hd j hj (hheld j hj (hsub j hj e))) fun b hb rb hmin => ?_
      have hbd := hd b hb (hheld b hb (hsub b hb rb))
      refine ⟨x7_i hb, ?_⟩
      rw [x7_c hb, hbd.1, tb_1 b hb, tb_nd h1, tb_nd h2]
      have hl := hbd.2
      refine pk_lt slot (dr b) (fun hlt => hn _ ⟨fun j => X j || decide (b = j), _, _, rfl, tb_dlt h1, tb_dlt h2, fun j hj => ?_, fun j hj => ?_, fun j hj Xj => ?_, ?_, fun i hi Xi y hy ry => ?_⟩) (fun hle => h0 (hno b hb (hsub b hb rb) hle))
      · dsimp only
        rw [tb_ct h1, h3 j hj]
        cases wm.testBit j <;> cases X j <;> cases decide (b = j) <;> rfl
      · dsimp only
        rw [tb_ct h2, h4 j hj]
        cases rm.testBit j <;> cases X j <;> cases decide (b = j) <;> rfl
      · simp only [Bool.or_eq_true, decide_eq_true_eq] at Xj
        rcases Xj with e | e
        · exact h5 j hj e
        · subst e
          refine ⟨?_, hlt⟩
          rw [h4 b hb, Bool.and_eq_true] at rb
          exact rb.1
      · have Xb : X b = false := by
          rw [h4 b hb, Bool.and_eq_true, Bool.not_eq_true'] at rb
          exact rb.2
        have a1 := tw_c_sub (f := X) (g := fun j => decide (j = b)) (h := fun j => X j || decide (b = j)) (n := 7) (fun i _ e => by
          simp only [Bool.or_eq_true, decide_eq_true_eq] at e ⊢
          rcases e with e | e
          · exact Or.inl e
          · exact Or.inr e.symm)
        have a2 := tw_c_add (f := X) (g := fun j => decide (j = b)) (h := fun j => X j || decide (b = j)) (n := 7) (fun i _ e => by
          simp only [Bool.or_eq_true]; exact Or.inl e) (fun i _ e => by
          simp only [Bool.or_eq_true, decide_eq_true_eq] at e ⊢; exact Or.inr e.symm) (fun i _ e e2 => by
          simp only [decide_eq_true_eq] at e2; rw [e2, Xb] at e; exact absurd e (by decide))
        rw [tw_c_one b 7 hb] at a1 a2
        omega
      · rw [tb_ct h2, Bool.and_eq_true] at ry
        simp only [Bool.or_eq_true, decide_eq_true_eq] at Xi
        rcases Xi with e | e
        · exact h7 i hi e y hy ry.1
        · subst e
          exact hmin y hy ry.1
theorem xs_dispatch {post : Int32 → Prop} {w p : Nat} {A : Nat → Nat} {dr : Nat → Nat} {F : Prop} (hw : w = 1 ∨ w = 2) (hp : p < 128)
    (hA : ∀ i, i < 7 → af i = nI (A i) ∧ A i < 128)
    (hd : ∀ j, j < 7 → p.testBit j = true → dw j = nI (dr j) ∧ dr j ≤ 8)
    (hno : ∀ slot W τ x, tw_D w p.testBit (tw_E A) dr slot W τ → x < 7 → W x = true → dr x ≤ slot → ¬ F)
    (htt : ∀ slot W τ, tw_D w p.testBit (tw_E A) dr slot W τ → (∀ i, i < 7 → W i = false) → F)
    (h1 : F → post 1) (h0 : ¬ F → post 0) :
    wpX_dispatch post (nI w, fc, nI p, f1, f2, du, af, be, ak, dw, s1, s2) := by
  unfold wpX_dispatch
  refine pk_loop (fun n slot x1 => wX_dispatch_7 post (nI w) fc (nI p) f1 f2 du af be ak dw s1 s2 n x1 (nI slot))
    (fun slot x1 => ∃ wm τ, wm < 128 ∧ x1 = nI wm ∧ tw_D w p.testBit (tw_E A) dr slot wm.testBit τ) 8 0 (nI p) (by omega) ⟨p, _, hp, rfl, tw_D0⟩ ?_ ?_
  · rintro n x1 ⟨wm, τ, hwm, rfl, hD⟩
    simp only [wX_dispatch_7, wX_dispatch_89]
    refine br_t (nI_le (a := 8) (b := 8) (by decide) (by decide)) (br_c (fun hz => ?_) (fun hz => ?_))
    · rw [tb_i0 hwm] at hz
      exact h1 (htt _ _ _ hD fun i _ => by rw [hz, Nat.zero_testBit])
    · rw [tb_i0 hwm] at hz
      obtain ⟨x, hx, e⟩ := tb_n0 hwm hz
      exact h0 (hno _ _ _ x hD hx e (hd x hx ((hD.1 x hx).mp e).1).2)
  · rintro n slot x1 hslot ⟨wm, τ, hwm, rfl, hD⟩ hn
    simp only [wX_dispatch_7, wX_dispatch_89]
    refine br_f (nI_ge (b := 8) hslot (by decide)) (br_c (fun hz => ?_) (fun hz => ?_))
    · refine br_t hz ?_
      rw [tb_i0 hwm] at hz
      exact h1 (htt _ _ _ hD fun i _ => by rw [hz, Nat.zero_testBit])
    · refine xr_ri hA hwm fun r hr hrb => ?_
      exact xs_26 hw (fun j hj e => ⟨(hd j hj e).1, by have := (hd j hj e).2; omega⟩) (fun x hx e hl => hno _ _ _ x hD hx e hl) h0 hslot hwm hr hD hrb (fun wm' τ' h2 h3 => hn _ ⟨wm', τ', h2, rfl, h3⟩)
end
end
section
/-! X: good, askOwn, feasible -/
/-- one more task drawn: i with deadline l -/
theorem tw_Zs {w : Nat} {H : Nat → Bool} {E : Nat → Nat → Bool} {U dr : Nat → Nat} {O O' : Nat → Bool} {i l : Nat} {dr' : Nat → Nat} (ei : dr' i = l) (en : ∀ j, j ≠ i → dr' j = dr j) (hw : w = 1 ∨ w = 2) (hl : tw_lh H E) (hac : tw_acy E)
    (hz : tw_Z w H E (tw_w E 7) U O dr) (hi : i < 7) (Oi : O i = true)
    (hO : ∀ j, j < 7 → O' j = (O j && !decide (i = j))) (hm : ∀ j, j < 7 → ¬ (tw_w E 7 i j = true ∧ O j = true)) (h1 : 1 ≤ l) (hu : l ≤ U i)
    (hF : ∀ e, 1 ≤ e → e < 9 → 0 < tw_f (tw_w E 7) dr i e → l + xd_sl w (tw_f (tw_w E 7) dr i e) ≤ e)
    (hv : ∀ v : Nat, v < U i → (∀ e, 1 ≤ e → e ≤ 8 → 0 < tw_f (tw_w E 7) dr i e → v + 1 ≤ e ∧ tw_f (tw_w E 7) dr i e ≤ w * (e - 1 - v)) → v < l) (Hi : H i = true) :
    tw_Z w H E (tw_w E 7) U O' dr' := by
  have fe : ∀ j d, j < 7 → (∀ k, k < 7 → tw_w E 7 j k = true → k ≠ i) → tw_f (tw_w E 7) dr' j d = tw_f (tw_w E 7) dr j d := by
    intro j d hj hk
    refine tw_c_eq fun k hk7 => ?_
    cases e : tw_w E 7 j k with
    | false => rfl
    | true => rw [en k (hk k hk7 e)]
  intro j hj Hj Oj
  by_cases z : j = i
  · subst z
    have hne : ∀ k, k < 7 → tw_w E 7 j k = true → k ≠ j := fun k hk e e2 => hac j hj (e2 ▸ e)
    refine ⟨fun k hk e => ?_, ?_, ?_, fun d d1 d2 hp => ?_, fun σ hσ => ?_⟩
    · rw [hO k hk, tb_nt (fun z => hm k hk ⟨e, z⟩)]; rfl
    · rw [ei]; exact h1
    · rw [ei]; exact hu
    · rw [ei]
      rw [fe j d hj hne] at hp ⊢
      have := hF d d1 (by omega) hp
      exact (xd_sl_le hw).mpr (by omega)
    · rw [ei]
      refine hv _ (hσ.1 j hj Hj).2 fun e e1 e2 hp => ?_
      refine tw_need hσ.2.2 (fun k hk hb => ?_) hp
      have Hk := (tw_w_H hl hj hk hb).2
      exact ⟨Hk, tw_w_tt hl hσ hj hk hb, (hz k hk Hk (tb_nt (fun z => hm k hk ⟨hb, z⟩))).2.2.2.2 σ hσ⟩
  · have Oj2 : O j = false := by
      rw [hO j hj, decide_eq_false (fun e => z e.symm)] at Oj
      cases e : O j with
      | false => rfl
      | true => rw [e] at Oj; exact absurd Oj (by decide)
    obtain ⟨k1, k2, k3, k4, k5⟩ := hz j hj Hj Oj2
    have hne : ∀ k, k < 7 → tw_w E 7 j k = true → k ≠ i := fun k hk e e2 => by
      have := k1 k hk e
      rw [e2, Oi] at this
      exact absurd this (by decide)
    refine ⟨fun k hk e => ?_, ?_, ?_, fun d d1 d2 hp => ?_, fun σ hσ => ?_⟩
    · rw [hO k hk, k1 k hk e]; rfl
    · rw [en j z]; exact k2
    · rw [en j z]; exact k3
    · rw [en j z]
      rw [fe j d hj hne] at hp ⊢
      exact k4 d d1 d2 hp
    · rw [en j z]; exact k5 σ hσ
section
variable {fc f1 f2 : Int32} {du af ak s1 s2 : Nat → Int32} {w p : Nat} {A U : Nat → Nat} {post : Int32 → SX → Prop}
theorem xg_79 {be dw : Nat → Int32} {dr : Nat → Nat} {o : Nat} (hw : w = 1 ∨ w = 2) (hp : p < 128) (hA : ∀ i, i < 7 → af i = nI (A i) ∧ A i < 128)
    (hU : ∀ i, i < 7 → p.testBit i = true → U i ≤ 8) (ho : ∀ i, i < 7 → o.testBit i = false)
    (hz : tw_Z w p.testBit (tw_E A) (tw_w (tw_E A) 7) U o.testBit dr) (hd : ∀ j, j < 7 → p.testBit j = true → dw j = nI (dr j))
    (h1 : (∃ σ, tw_TT w p.testBit (tw_E A) (fun _ => 0) U σ) → post 1 (nI w, fc, nI p, f1, f2, du, af, be, ak, dw, s1, s2))
    (h0 : (¬ ∃ σ, tw_TT w p.testBit (tw_E A) (fun _ => 0) U σ) → post 0 (nI w, fc, nI p, f1, f2, du, af, be, ak, dw, s1, s2)) :
    wX_good_79 post (nI w) fc (nI p) f1 f2 du af be ak dw s1 s2 := by
  unfold wX_good_79
  refine xs_dispatch (dr := dr) (F := ∃ σ, tw_TT w p.testBit (tw_E A) (fun _ => 0) U σ) hw hp hA (fun j hj e => ⟨hd j hj e, ?_⟩) (fun slot W τ x hD hx Wx hl => ?_) (fun slot W τ hD h => ⟨τ, ?_⟩)
    (fun h => ⟨rfl, h1 h⟩) (fun h => ⟨rfl, h0 h⟩)
  · exact Nat.le_trans (hz j hj e (ho j hj)).2.2.1 (hU j hj e)
  · rintro ⟨σ, hσ⟩
    exact tw_Dno (by omega) tw_w_EB tw_w_Bt hU ho hz hD hx Wx hl σ hσ
  · exact tw_Dtt hD (fun i hi e => (hz i hi e (ho i hi)).2.2.1) h
theorem xg_32 {be : Nat → Int32} (hw : w = 1 ∨ w = 2) (hp : p < 128) (hA : ∀ i, i < 7 → af i = nI (A i) ∧ A i < 128) (hl : tw_lh p.testBit (tw_E A)) (hac : tw_acy (tw_E A))
    (hU : ∀ i, i < 7 → p.testBit i = true → ak i = nI (U i) ∧ U i ≤ 8) (hB : xb_B be (tw_w (tw_E A) 7))
    (h1 : (∃ σ, tw_TT w p.testBit (tw_E A) (fun _ => 0) U σ) → ∀ dw, post 1 (nI w, fc, nI p, f1, f2, du, af, be, ak, dw, s1, s2))
    (h0 : (¬ ∃ σ, tw_TT w p.testBit (tw_E A) (fun _ => 0) U σ) → ∀ dw, post 0 (nI w, fc, nI p, f1, f2, du, af, be, ak, dw, s1, s2)) (dw : Nat → Int32) :
    ∃ n, wX_good_32 post n (nI p) 0 (nI w) fc (nI p) f1 f2 du af be ak dw s1 s2 := by
  refine pk_loop (fun n k (s : Int32 × (Nat → Int32)) => wX_good_32 post n s.1 (nI k) (nI w) fc (nI p) f1 f2 du af be ak s.2 s1 s2)
    (fun k s => ∃ (o : Nat) (dr : Nat → Nat), s.1 = nI o ∧ o < 128 ∧ (∀ j, j < 7 → o.testBit j = true → p.testBit j = true) ∧ tw_c o.testBit 7 + k ≤ 7 ∧
      tw_Z w p.testBit (tw_E A) (tw_w (tw_E A) 7) U o.testBit dr ∧ ∀ j, j < 7 → p.testBit j = true → o.testBit j = false → s.2 j = nI (dr j)) 7 0 (nI p, dw) (by omega)
    ⟨p, fun _ => 0, rfl, hp, fun _ _ h => h, tw_c_n _ 7, fun i hi e e2 => (by rw [e] at e2; exact absurd e2 (by decide)), fun i hi e e2 => (by rw [e] at e2; exact absurd e2 (by decide))⟩ ?_ ?_
  · rintro n ⟨x1, dw⟩ ⟨o, dr, e, ho, hop, hc, hz, hd⟩
    have h7 : ∀ i, i < 7 → o.testBit i = false := fun i hi => tb_nt fun z => by
      have := tw_c_pos (f := o.testBit) hi z
      omega
    simp only [wX_good_32]
    exact br_t x7_e (xg_79 hw hp hA (fun i hi e => (hU i hi e).2) h7 hz (fun j hj e => hd j hj e (h7 j hj)) (fun h => h1 h _) (fun h => h0 h _))
  · rintro n k ⟨x1, dw⟩ hk ⟨o, dr, e, ho, hop, hc, hz, hd⟩ hn
    dsimp only at e hd ⊢
    subst e
    simp only [wX_good_32, forall_eq, nI_1]
    refine br_f (x7_n hk) (br_c (fun h => ?_) (fun h => ?_))
    · rw [tb_i0 ho] at h
      have h7 : ∀ i, i < 7 → o.testBit i = false := fun i hi => by rw [h, Nat.zero_testBit]
      exact xg_79 hw hp hA (fun i hi e => (hU i hi e).2) h7 hz (fun j hj e => hd j hj e (h7 j hj)) (fun h => h1 h _) (fun h => h0 h _)
    · rw [tb_i0 ho] at h
      obtain ⟨i0, hi0, oi0⟩ := tb_n0 ho h
      refine xw_wf ho hB (tw_min tw_w_Bt hac _ i0 (Nat.le_refl _) hi0 oi0) fun i hi oi hm => ?_
      have pi := hop i hi oi
      have hdw : ∀ j, j < 7 → tw_w (tw_E A) 7 i j = true → dw j = nI (dr j) ∧ dr j < 128 := fun j hj hb => by
        have Hj := (tw_w_H hl hi hj hb).2
        have Oj := tb_nt (fun z => hm j hj ⟨hb, z⟩)
        have := (hz j hj Hj Oj).2.2.1
        have := (hU j hj Hj).2
        exact ⟨hd j hj Hj Oj, by omega⟩
      refine xd_draw (dr := dr) hw hi (hU i hi pi).2 (hU i hi pi).1 hB hdw fun l hl2 => ?_
      obtain ⟨l1, l2, l3, l4⟩ := hl2
      dsimp only
      refine ⟨x7_i hi, ?_⟩
      rw [x7_c hi, pk_us, tb_1 i hi, tb_nd ho]
      refine br_c (fun hle => ?_) (fun hle => h0 ?_ _)
      · have hle : 1 ≤ l.toInt := Int32.le_iff_toInt_le.mp hle
        have el : l = nI l.toInt.toNat := Int32.toInt_inj.mp (by have := (hU i hi pi).2; rw [nI_toInt (by omega)]; omega)
        refine hn (nI (tb_d o (2 ^ i)), upd dw i l) ⟨tb_d o (2 ^ i), fun j => if j = i then l.toInt.toNat else dr j, rfl, tb_dlt ho, fun j hj e => ?_, ?_,
          tw_Zs (if_pos rfl) (fun j hj => if_neg hj) hw hl hac hz hi oi (fun j hj => tb_ct ho i j) hm (by omega) (by omega) (fun e e1 e2 hp => ?_) (fun v hv hN => ?_) pi, fun j hj pj oj => ?_⟩
        · rw [tb_ct ho, Bool.and_eq_true] at e
          exact hop j hj e.1
        · have := tw_c_add (f := (tb_d o (2 ^ i)).testBit) (g := fun j => decide (j = i)) (h := o.testBit) (n := 7)
            (fun j _ e => by rw [tb_ct ho, Bool.and_eq_true] at e; exact e.1) (fun j _ e => by simp only [decide_eq_true_eq] at e; rw [e]; exact oi)
            (fun j _ e e2 => by simp only [decide_eq_true_eq] at e2; rw [tb_ct ho, e2, decide_eq_true rfl] at e; simp at e)
          rw [tw_c_one i 7 hi] at this
          omega
        · have := l3 e e1 e2 hp
          omega
        · have := l4 v hv hN
          omega
        · dsimp only
          by_cases z : j = i
          · subst z; rw [pk_us, if_pos rfl]; exact el
          · rw [pk_un z, if_neg z]
            refine hd j hj pj ?_
            rw [tb_ct ho, decide_eq_false (fun e => z e.symm)] at oj
            cases e : o.testBit j with
            | false => rfl
            | true => rw [e] at oj; exact absurd oj (by decide)
      · rintro ⟨σ, hσ⟩
        have hle : ¬ 1 ≤ l.toInt := fun z => hle (Int32.le_iff_toInt_le.mpr z)
        have := l4 (σ i) (hσ.1 i hi pi).2 fun e e1 e2 hp => tw_need hσ.2.2 (fun k hk hb => by
          have Hk := (tw_w_H hl hi hk hb).2
          exact ⟨Hk, tw_w_tt hl hσ hi hk hb, (hz k hk Hk (tb_nt (fun z => hm k hk ⟨hb, z⟩))).2.2.2.2 σ hσ⟩) hp
        omega
theorem xg_good (hw : w = 1 ∨ w = 2) (hp : p < 128) (hA : ∀ i, i < 7 → af i = nI (A i) ∧ A i < 128) (hl : tw_lh p.testBit (tw_E A)) (hac : tw_acy (tw_E A))
    (hU : ∀ i, i < 7 → p.testBit i = true → ak i = nI (U i) ∧ U i ≤ 8)
    (h1 : (∃ σ, tw_TT w p.testBit (tw_E A) (fun _ => 0) U σ) → ∀ be dw, post 1 (nI w, fc, nI p, f1, f2, du, af, be, ak, dw, s1, s2))
    (h0 : (¬ ∃ σ, tw_TT w p.testBit (tw_E A) (fun _ => 0) U σ) → ∀ be dw, post 0 (nI w, fc, nI p, f1, f2, du, af, be, ak, dw, s1, s2)) (be dw : Nat → Int32) :
    wpX_good post (nI w, fc, nI p, f1, f2, du, af, be, ak, dw, s1, s2) := by
  unfold wpX_good
  refine xc_close hA (fun be hB => ?_) be
  dsimp only
  refine pk_loop (fun n i dw => wX_good_6 post (nI w) fc (nI p) f1 f2 n (nI i) du af be ak dw s1 s2) (fun _ _ => True) 7 0 dw (by omega) trivial ?_ ?_
  · intro n dw _
    simp only [wX_good_6]
    exact br_t x7_e (xg_32 hw hp hA hl hac hU hB (fun h => h1 h be) (fun h => h0 h be) dw)
  · intro n i dw hi _ hn
    simp only [wX_good_6, forall_eq, nI_1]
    exact br_f (x7_n hi) ⟨x7_i hi, hn _ trivial⟩
theorem xk_ask {fm fc fp f1 f2 : Int32} {du af be dw s1 s2 : Nat → Int32} {post : SX → Prop} {p : Nat} {D : Nat → Nat} {t : Nat} (ht : t ≤ 8) (hD : ∀ i, i < 7 → p.testBit i = true → du i = nI (D i) ∧ D i ≤ 8)
    (hp : ∀ ak, (∀ i, i < 7 → p.testBit i = true → ak i = nI (min (D i) t)) → post (fm, fc, fp, f1, f2, du, af, be, ak, dw, s1, s2)) (ak : Nat → Int32) :
    wpX_askOwn post (fm, fc, fp, f1, f2, du, af, be, ak, dw, s1, s2) (nI t) := by
  unfold wpX_askOwn
  refine pk_loop (fun n i ak => wX_askOwn_2 post (nI t) fm fc fp f1 f2 n (nI i) du af be ak dw s1 s2) (fun i ak => ∀ j, j < i → p.testBit j = true → ak j = nI (min (D j) t)) 7 0 ak (by omega) (fun j hj => by omega) ?_ ?_
  · intro n ak hI
    simp only [wX_askOwn_2]
    exact br_t x7_e (hp ak hI)
  · intro n i ak hi hI hn
    simp only [wX_askOwn_2, forall_eq, nI_1, x7_c hi]
    refine br_f (x7_n hi) ⟨x7_i hi, br_c (fun h => ⟨x7_i hi, hn _ fun j hj pj => ?_⟩) (fun h => ⟨x7_i hi, x7_i hi, hn _ fun j hj pj => ?_⟩)⟩
    · by_cases z : j = i
      · subst z
        obtain ⟨e1, e2⟩ := hD j hi pj
        rw [e1, nI_leI (by omega) (by omega)] at h
        rw [pk_us, tb_i8 (by omega), tb_by (by omega), Nat.min_eq_right h]
      · rw [pk_un z]; exact hI j (by omega) pj
    · by_cases z : j = i
      · subst z
        obtain ⟨e1, e2⟩ := hD j hi pj
        rw [e1, nI_leI (by omega) (by omega)] at h
        rw [pk_us, e1, tb_by (by omega), Nat.min_eq_left (by omega)]
      · rw [pk_un z]; exact hI j (by omega) pj
theorem xg_feas {be dw : Nat → Int32} {D : Nat → Nat} (hw : w = 1 ∨ w = 2) (hp : p < 128) (hA : ∀ i, i < 7 → af i = nI (A i) ∧ A i < 128) (hl : tw_lh p.testBit (tw_E A)) (hac : tw_acy (tw_E A))
    (hD : ∀ i, i < 7 → p.testBit i = true → du i = nI (D i) ∧ D i ≤ 8)
    (h1 : (∃ σ, tw_TT w p.testBit (tw_E A) (fun _ => 0) D σ) → ∀ be ak dw, post 1 (nI w, fc, nI p, f1, f2, du, af, be, ak, dw, s1, s2))
    (h0 : (¬ ∃ σ, tw_TT w p.testBit (tw_E A) (fun _ => 0) D σ) → ∀ be ak dw, post 0 (nI w, fc, nI p, f1, f2, du, af, be, ak, dw, s1, s2)) (ak : Nat → Int32) :
    wpX_feasible post (nI w, fc, nI p, f1, f2, du, af, be, ak, dw, s1, s2) := by
  unfold wpX_feasible
  refine xk_ask (t := 8) (by omega) hD (fun ak hak => ?_) ak
  dsimp only
  refine xg_good hw hp hA hl hac (U := D) (fun i hi e => ⟨?_, (hD i hi e).2⟩) (fun h be dw => ⟨rfl, h1 h be ak dw⟩) (fun h be dw => ⟨rfl, h0 h be ak dw⟩) be dw
  rw [hak i hi e, Nat.min_eq_left (hD i hi e).2]
end
end
section
/-! Y: tasks, ask, ready -/
/-- he holds the mask p -/
def yh_H (he : Nat → Int32) (p : Nat) : Prop := ∀ i, i < 7 → (he i = 0 ↔ p.testBit i = false)
/-- pr holds, for the held tasks, the links by their ends -/
def yp_P (pr : Nat → Int32) (p : Nat) (E : Nat → Nat → Bool) : Prop :=
  ∀ j, j < 7 → ∃ q, q < 128 ∧ pr j = nI q ∧ (p.testBit j = true → ∀ i, i < 7 → q.testBit i = E i j)
/-- lo and hi hold, for the held tasks, the bounds L .. U - 1 -/
def yl_L (lo hi : Nat → Int32) (p : Nat) (L U : Nat → Nat) : Prop :=
  ∀ i, i < 7 → p.testBit i = true → lo i = nI (L i) ∧ hi i = nI (U i - 1) ∧ 1 ≤ U i ∧ U i ≤ 8 ∧ L i ≤ 8
section
variable {gw gm gf : Int32} {he de pr lo hi ca : Nat → Int32} {p : Nat} {E : Nat → Nat → Bool} {L U : Nat → Nat}
theorem yt_tasks {post : Int32 → Prop} (hp : p < 128) (hH : yh_H he p) (h : post (nI p)) : wpY_tasks post (gw, gm, gf, he, de, pr, lo, hi, ca) := by
  unfold wpY_tasks
  refine pk_loop (fun n i x1 => wY_tasks_4 post gw gm gf he de pr lo hi ca n x1 (nI i))
    (fun i x1 => ∃ a, a < 128 ∧ x1 = nI a ∧ ∀ j, j < 7 → a.testBit j = (decide (j < i) && p.testBit j)) 7 0 0 (by omega)
    ⟨0, by decide, rfl, fun j hj => by rw [Nat.zero_testBit]; simp⟩ ?_ ?_
  · rintro n x1 ⟨a, ha, rfl, hb⟩
    simp only [wY_tasks_4]
    have e : a = p := tb_ext ha hp fun j hj => by rw [hb j hj, decide_eq_true hj]; rfl
    rw [e]
    exact br_t x7_e h
  · rintro n i x1 hi ⟨a, ha, rfl, hb⟩ hn
    simp only [wY_tasks_4, forall_eq, nI_1, x7_c hi, hH i hi, tb_1 i hi, tb_or, Int32.or_zero]
    refine br_f (x7_n hi) ⟨x7_i hi, br_c (fun hz => hn _ ⟨a, ha, rfl, fun j hj => ?_⟩) (fun hz => hn _ ⟨_, tb_slt ha hi, rfl, fun j hj => ?_⟩)⟩
    · rw [hb j hj]
      by_cases z : j = i
      · rw [z, hz]; simp
      · congr 1
        exact decide_eq_decide.mpr (by omega)
    · rw [tb_st, hb j hj]
      by_cases z : i = j
      · subst z
        rw [decide_eq_true rfl, tb_nf hz]; simp
      · rw [decide_eq_false z, Bool.or_false]
        congr 1
        exact decide_eq_decide.mpr (by omega)
theorem ya_ask {post : SY → Prop} {D : Nat → Nat} {t : Nat} (ht : t ≤ 8) (ht1 : p ≠ 0 → 1 ≤ t) (hD : ∀ i, i < 7 → p.testBit i = true → de i = nI (D i) ∧ 1 ≤ D i ∧ D i ≤ 8)
    (h : ∀ lo hi, yl_L lo hi p (fun _ => 0) (fun i => min (D i) t) → post (gw, gm, gf, he, de, pr, lo, hi, ca)) (lo hi : Nat → Int32) :
    wpY_ask post (gw, gm, gf, he, de, pr, lo, hi, ca) (nI t) := by
  unfold wpY_ask
  refine pk_loop (fun n i (s : (Nat → Int32) × (Nat → Int32)) => wY_ask_2 post (nI t) gw gm gf n (nI i) he de pr s.1 s.2 ca)
    (fun i s => ∀ j, j < i → p.testBit j = true → s.1 j = nI 0 ∧ s.2 j = nI (min (D j) t - 1)) 7 0 (lo, hi) (by omega) (fun j hj => by omega) ?_ ?_
  · rintro n ⟨lo, hi⟩ hI
    simp only [wY_ask_2]
    refine br_t x7_e (h lo hi fun i hi7 e => ?_)
    have hd := hD i hi7 e
    have hp0 : p ≠ 0 := fun z => by rw [z, Nat.zero_testBit] at e; exact absurd e (by decide)
    have := ht1 hp0
    exact ⟨(hI i hi7 e).1, (hI i hi7 e).2, (by dsimp only; omega), (by dsimp only; omega), Nat.zero_le _⟩
  · rintro n i ⟨lo, hi⟩ hi7 hI hn
    simp only [wY_ask_2, forall_eq, nI_1, x7_c hi7]
    refine br_f (x7_n hi7) ⟨x7_i hi7, x7_i hi7, br_c (fun hz => ⟨x7_i hi7, hn (upd lo i 0, upd hi i (nI t - 1)) fun j hj e => ?_⟩) (fun hz => ⟨x7_i hi7, x7_i hi7, hn (upd lo i 0, upd hi i (de i - 1)) fun j hj e => ?_⟩)⟩
    · dsimp only
      by_cases z : j = i
      · subst z
        obtain ⟨e1, e2, e3⟩ := hD j hi7 e
        have hp0 : p ≠ 0 := fun z => by rw [z, Nat.zero_testBit] at e; exact absurd e (by decide)
        have := ht1 hp0
        rw [e1, nI_leI (by omega) (by omega)] at hz
        rw [pk_us, pk_us, Nat.min_eq_right hz]
        exact ⟨rfl, pk_sub (b := 1) (by omega)⟩
      · rw [pk_un z, pk_un z]; exact hI j (by omega) e
    · dsimp only
      by_cases z : j = i
      · subst z
        obtain ⟨e1, e2, e3⟩ := hD j hi7 e
        rw [e1, nI_leI (by omega) (by omega)] at hz
        rw [pk_us, pk_us, Nat.min_eq_left (by omega), e1]
        exact ⟨rfl, pk_sub (b := 1) (by omega)⟩
      · rw [pk_un z, pk_un z]; exact hI j (by omega) e
theorem yr_ready {post : Int32 → Prop} {k a t : Nat} (hk : k < 128) (ha : a < 7) (ht : t ≤ 8) (hH : yh_H he p) (hP : yp_P pr p E) (hL : yl_L lo hi p L U)
    (h1 : tw_rdy p.testBit E L U k a t → post 1) (h0 : ¬ tw_rdy p.testBit E L U k a t → post 0) :
    wpY_ready post (gw, gm, gf, he, de, pr, lo, hi, ca) (nI k) (nI a) (nI t) := by
  simp only [wpY_ready, x7_c ha, hH a ha, tb_o hk ha]
  refine ⟨x7_i ha, br_c (fun z => h0 fun r => ?_) (fun z => br_c (fun z2 => h0 fun r => ?_) (fun z2 => ⟨x7_i ha, ?_⟩))⟩
  · have := r.1; rw [z] at this; exact absurd this (by decide)
  · have := r.2.1; rw [z2] at this; exact absurd this (by decide)
  have pa := tb_nf z
  obtain ⟨e1, e2, e3, e4, e5⟩ := hL a ha pa
  rw [e1, e2]
  refine pk_lt t (L a) (fun hl => h0 fun r => ?_) (fun hl => ⟨x7_i ha, pk_le t (U a - 1) (fun hu => ?_) (fun hu => h0 fun r => ?_)⟩)
  · have := r.2.2.1; omega
  · obtain ⟨q, hq, eq, bq⟩ := hP a ha
    have bq := bq pa
    refine pk_loop (fun n j x4 => wY_ready_46 post (nI k) (nI a) gw gm gf he de pr lo hi ca n x4 (nI j))
      (fun j x4 => (x4 = 1 ∧ ∀ i, i < j → E i a = true → k.testBit i = true) ∨ (x4 = 0 ∧ ∃ i, i < 7 ∧ E i a = true ∧ k.testBit i = false)) 7 0 1 (by omega)
      (Or.inl ⟨rfl, fun i hi => by omega⟩) ?_ ?_
    · intro n x4 hI
      simp only [wY_ready_46]
      refine br_t x7_e ?_
      rcases hI with ⟨rfl, h⟩ | ⟨rfl, i, hi, h, h2⟩
      · exact ⟨rfl, h1 ⟨pa, tb_nt z2, hl, by omega, h⟩⟩
      · refine ⟨rfl, h0 fun r => ?_⟩
        have := r.2.2.2.2 i hi h
        rw [h2] at this
        exact absurd this (by decide)
    · intro n j x4 hj hI hn
      simp only [wY_ready_46, forall_eq, nI_1, x7_c ha, eq, tb_o hq hj, tb_z hk hj]
      refine br_f (x7_n hj) ⟨x7_i ha, br_c (fun y1 => br_c (fun y2 => hn _ (Or.inr ⟨rfl, j, hj, by rw [← bq j hj]; exact y1, y2⟩)) (fun y2 => hn _ ?_)) (fun y1 => hn _ ?_)⟩
      · rcases hI with ⟨rfl, h⟩ | h
        · refine Or.inl ⟨rfl, fun i hi e => ?_⟩
          by_cases z : i = j
          · rw [z]; exact tb_nf y2
          · exact h i (by omega) e
        · exact Or.inr h
      · rcases hI with ⟨rfl, h⟩ | h
        · refine Or.inl ⟨rfl, fun i hi e => ?_⟩
          by_cases z : i = j
          · rw [z, ← bq j hj] at e; exact absurd e y1
          · exact h i (by omega) e
        · exact Or.inr h
  · have := r.2.2.2.1; omega
end
end
section
/-! Y: fill, fits -/
/-- ca holds the sets of Q -/
def yc_C (ca : Nat → Int32) (Q : Nat → Prop) : Prop := ∀ k, k < 128 → (Q k → ca k = 1) ∧ (¬ Q k → ca k = 0)
theorem yc_c {ca : Nat → Int32} {Q Q' : Nat → Prop} (h : yc_C ca Q) (e : ∀ k, k < 128 → (Q' k ↔ Q k)) : yc_C ca Q' := fun k hk =>
  ⟨fun q => (h k hk).1 ((e k hk).mp q), fun q => (h k hk).2 fun z => q ((e k hk).mpr z)⟩
theorem yc_u {ca : Nat → Int32} {Q : Nat → Prop} {m : Nat} (h : yc_C ca Q) : yc_C (upd ca m 1) (fun k => Q k ∨ k = m) := fun k hk => by
  by_cases z : k = m
  · rw [z, pk_us]
    exact ⟨fun _ => rfl, fun q => absurd (Or.inr rfl) q⟩
  · rw [pk_un z]
    refine ⟨fun q => ?_, fun q => (h k hk).2 fun z2 => q (Or.inl z2)⟩
    rcases q with q | q
    · exact (h k hk).1 q
    · exact absurd q z
theorem yc_z {ca : Nat → Int32} {Q : Nat → Prop} (h : yc_C ca Q) {k : Nat} (hk : k < 128) : ca k = 0 ↔ ¬ Q k := by
  constructor
  · intro e q
    rw [(h k hk).1 q] at e
    exact absurd e (by decide)
  · exact (h k hk).2
/-- the sets that the tasks below n add to k -/
def tw_flt (w : Nat) (H : Nat → Bool) (E : Nat → Nat → Bool) (L U : Nat → Nat) (k t n k' : Nat) : Prop :=
  ∃ a, a < n ∧ tw_rdy H E L U k a t ∧ (k' = k ||| 2 ^ a ∨ (w = 2 ∧ ∃ b, a < b ∧ b < 7 ∧ tw_rdy H E L U k b t ∧ k' = (k ||| 2 ^ a) ||| 2 ^ b))
section
variable {gm gf : Int32} {he de pr lo hi : Nat → Int32} {w p : Nat} {E : Nat → Nat → Bool} {L U : Nat → Nat}
theorem yf_37 {post : SY → Prop} {J : Int32 → (Nat → Int32) → (Nat → Int32) → (Nat → Int32) → (Nat → Int32) → (Nat → Int32) → (Nat → Int32) → Prop} {k a t : Nat} {Q : Nat → Prop} {ca : Nat → Int32}
    (hw : w = 1 ∨ w = 2) (hk : k < 128) (ha : a < 7) (ht : t ≤ 8) (hH : yh_H he p) (hP : yp_P pr p E) (hL : yl_L lo hi p L U) (hC : yc_C ca Q)
    (hJ : ∀ ca, yc_C ca (fun k' => Q k' ∨ (w = 2 ∧ ∃ b, a < b ∧ b < 7 ∧ tw_rdy p.testBit E L U k b t ∧ k' = (k ||| 2 ^ a) ||| 2 ^ b)) → J (nI (a + 1)) he de pr lo hi ca) :
    ∃ n, wY_fill_37 post J (nI k) (nI t) (nI a) (nI w) gm gf n (nI (a + 1)) he de pr lo hi ca := by
  refine pk_loop (fun n b ca => wY_fill_37 post J (nI k) (nI t) (nI a) (nI w) gm gf n (nI b) he de pr lo hi ca)
    (fun c ca => a < c ∧ yc_C ca (fun k' => Q k' ∨ (w = 2 ∧ ∃ b, a < b ∧ b < c ∧ tw_rdy p.testBit E L U k b t ∧ k' = (k ||| 2 ^ a) ||| 2 ^ b))) 7 (a + 1) ca (by omega)
    ⟨by omega, yc_c hC fun k' _ => ⟨fun h => by
      rcases h with h | ⟨_, b, h1, h2, _⟩
      · exact h
      · omega, Or.inl⟩⟩ ?_ ?_
  · rintro n ca ⟨_, hI⟩
    simp only [wY_fill_37, forall_eq, nI_1]
    exact br_t x7_e (hJ ca hI)
  · rintro n b ca hb ⟨hab, hI⟩ hn
    simp only [wY_fill_37, forall_eq, nI_1, tb_1 a ha, tb_1 b hb, tb_or]
    refine br_f (x7_n hb) ?_
    rcases hw with rfl | rfl
    · refine br_f (show ¬ nI 1 = 2 from by decide) (hJ ca (yc_c hI fun k' _ => ?_))
      exact ⟨fun h => by rcases h with h | ⟨h, _⟩; exact Or.inl h; exact absurd h (by decide), fun h => by rcases h with h | ⟨h, _⟩; exact Or.inl h; exact absurd h (by decide)⟩
    · refine br_t rfl (yr_ready hk hb ht hH hP hL (fun hr => br_f (show ¬ (1 : Int32) = 0 from by decide) ?_) (fun hr => br_t rfl (hn _ ⟨by omega, yc_c hI fun k' _ => ?_⟩)))
      · have hl := tb_slt (tb_slt hk ha) hb
        rw [tb_a127 hl, tb_cl hl, tb_v1]
        refine ⟨vp_in_nI hl (by decide), hn _ ⟨by omega, yc_c (yc_u hI) fun k' _ => ?_⟩⟩
        constructor
        · rintro (h | ⟨_, c, h1, h2, h3, h4⟩)
          · exact Or.inl (Or.inl h)
          · by_cases z : c = b
            · subst z; exact Or.inr h4
            · exact Or.inl (Or.inr ⟨rfl, c, h1, by omega, h3, h4⟩)
        · rintro ((h | ⟨_, c, h1, h2, h3, h4⟩) | h)
          · exact Or.inl h
          · exact Or.inr ⟨rfl, c, h1, by omega, h3, h4⟩
          · exact Or.inr ⟨rfl, b, hab, by omega, hr, h⟩
      · constructor
        · rintro (h | ⟨_, c, h1, h2, h3, h4⟩)
          · exact Or.inl h
          · by_cases z : c = b
            · subst z; exact absurd h3 hr
            · exact Or.inr ⟨rfl, c, h1, by omega, h3, h4⟩
        · rintro (h | ⟨_, c, h1, h2, h3, h4⟩)
          · exact Or.inl h
          · exact Or.inr ⟨rfl, c, h1, by omega, h3, h4⟩
theorem yf_fill {post : SY → Prop} {k t : Nat} {Q : Nat → Prop} {ca : Nat → Int32}
    (hw : w = 1 ∨ w = 2) (hk : k < 128) (ht : t ≤ 8) (hH : yh_H he p) (hP : yp_P pr p E) (hL : yl_L lo hi p L U) (hC : yc_C ca Q)
    (hp : ∀ ca, yc_C ca (fun k' => Q k' ∨ tw_fil w p.testBit E L U k t k') → post (nI w, gm, gf, he, de, pr, lo, hi, ca)) :
    wpY_fill post (nI w, gm, gf, he, de, pr, lo, hi, ca) (nI k) (nI t) := by
  unfold wpY_fill
  refine pk_loop (fun n a ca => wY_fill_2 post (nI k) (nI t) (nI w) gm gf n (nI a) he de pr lo hi ca)
    (fun c ca => yc_C ca (fun k' => Q k' ∨ tw_flt w p.testBit E L U k t c k')) 7 0 ca (by omega)
    (yc_c hC fun k' _ => ⟨fun h => by
      rcases h with h | ⟨a, h1, _⟩
      · exact h
      · omega, Or.inl⟩) ?_ ?_
  · intro n ca hI
    simp only [wY_fill_2]
    exact br_t x7_e (hp ca hI)
  · intro n a ca ha hI hn
    simp only [wY_fill_2, forall_eq, nI_1, tb_1 a ha, tb_or]
    refine br_f (x7_n ha) (yr_ready hk ha ht hH hP hL (fun hr => br_f (show ¬ (1 : Int32) = 0 from by decide) ?_) (fun hr => br_t rfl (hn _ (yc_c hI fun k' _ => ?_))))
    · have hl := tb_slt hk ha
      rw [tb_a127 hl, tb_cl hl, tb_v1]
      refine ⟨vp_in_nI hl (by decide), yf_37 hw hk ha ht hH hP hL (yc_u hI) fun ca hC2 => hn ca (yc_c hC2 fun k' _ => ?_)⟩
      constructor
      · rintro (h | ⟨c, h1, h2, h3⟩)
        · exact Or.inl (Or.inl (Or.inl h))
        · by_cases z : c = a
          · subst z
            rcases h3 with h3 | h3
            · exact Or.inl (Or.inr h3)
            · exact Or.inr h3
          · exact Or.inl (Or.inl (Or.inr ⟨c, by omega, h2, h3⟩))
      · rintro (((h | ⟨c, h1, h2, h3⟩) | h) | h)
        · exact Or.inl h
        · exact Or.inr ⟨c, by omega, h2, h3⟩
        · exact Or.inr ⟨a, by omega, hr, Or.inl h⟩
        · exact Or.inr ⟨a, by omega, hr, Or.inr h⟩
    · constructor
      · rintro (h | ⟨c, h1, h2, h3⟩)
        · exact Or.inl h
        · by_cases z : c = a
          · subst z; exact absurd h2 hr
          · exact Or.inr ⟨c, by omega, h2, h3⟩
      · rintro (h | ⟨c, h1, h2, h3⟩)
        · exact Or.inl h
        · exact Or.inr ⟨c, by omega, h2, h3⟩
end
end
section
/-! Y: fits -/
def yf_x : Nat → Int32
  | 0 => -1
  | i + 1 => nI i
theorem yf_x1 (i : Nat) : nI i + (-1) = yf_x i := by
  cases i with
  | zero => rfl
  | succ i => exact pk_m1 i
/-- gf: after how many slots, up to t, the set p is first done -/
def yg_G (w p : Nat) (E : Nat → Nat → Bool) (L U : Nat → Nat) (t : Nat) (gf : Int32) : Prop :=
  (∃ t0, t0 ≤ t ∧ tw_can w p.testBit E L U t0 p ∧ (∀ t1, t1 < t0 → ¬ tw_can w p.testBit E L U t1 p) ∧ gf = nI t0) ∨
  ((∀ t1, t1 ≤ t → ¬ tw_can w p.testBit E L U t1 p) ∧ gf = -1)
section
variable {gm : Int32} {he de pr lo hi : Nat → Int32} {w p : Nat} {E : Nat → Nat → Bool} {L U : Nat → Nat} {post : Int32 → SY → Prop}
theorem yf_61 {J : Int32 → Int32 → Int32 → Int32 → (Nat → Int32) → (Nat → Int32) → (Nat → Int32) → (Nat → Int32) → (Nat → Int32) → (Nat → Int32) → Prop} {t : Nat} {gf : Int32} {ca : Nat → Int32}
    (hw : w = 1 ∨ w = 2) (hp : p < 128) (ht : t < 8) (hH : yh_H he p) (hP : yp_P pr p E) (hL : yl_L lo hi p L U)
    (hC : yc_C ca (tw_can w p.testBit E L U t)) (hG : yg_G w p E L U t gf)
    (hJ : ∀ gf ca, yc_C ca (tw_can w p.testBit E L U (t + 1)) → yg_G w p E L U (t + 1) gf → J (nI (t + 1)) (nI w) gm gf he de pr lo hi ca) :
    ∃ n, wY_fits_61 post J (nI p) (nI t) n (nI p) (nI w) gm gf he de pr lo hi ca := by
  refine ⟨_, pk_loopD (fun n i ca => wY_fits_61 post J (nI p) (nI t) n (yf_x i) (nI w) gm gf he de pr lo hi ca)
    (fun i ca => i ≤ p + 1 ∧ yc_C ca (fun k' => tw_can w p.testBit E L U t k' ∨ ∃ k, i ≤ k ∧ tw_can w p.testBit E L U t k ∧ tw_fil w p.testBit E L U k t k')) ?_ ?_ (p + 1) ca ⟨Nat.le_refl _, yc_c hC fun k' _ => ?_⟩⟩
  · rintro n ca ⟨_, hI⟩
    have hC' : yc_C ca (tw_can w p.testBit E L U (t + 1)) := yc_c hI fun k' _ => by
      rw [tw_can_s (by omega) (by omega)]
      exact or_congr Iff.rfl ⟨fun ⟨k, h⟩ => ⟨k, Nat.zero_le _, h⟩, fun ⟨k, _, h⟩ => ⟨k, h⟩⟩
    simp only [wY_fits_61, yf_x, forall_eq, nI_1, tb_a127 hp, tb_cl hp]
    refine br_t (by decide) ?_
    rcases hG with ⟨t0, h1, h2, h3, rfl⟩ | ⟨h1, rfl⟩
    · exact br_t (nI_pos' (by omega)) (hJ _ ca hC' (Or.inl ⟨t0, by omega, h2, h3, rfl⟩))
    · refine br_f (by decide) ⟨vp_in_nI hp (by decide), br_c (fun z => hJ _ ca hC' (Or.inr ⟨fun t1 h4 => ?_, rfl⟩)) (fun z => hJ _ ca hC' (Or.inl ⟨t + 1, Nat.le_refl _, ?_, fun t1 h4 => h1 t1 (by omega), rfl⟩))⟩
      · by_cases e : t1 = t + 1
        · rw [e]; exact (yc_z hC' hp).mp z
        · exact h1 t1 (by omega)
      · exact Classical.byContradiction fun e => z ((yc_z hC' hp).mpr e)
  · rintro n i ca ⟨hi7, hI⟩ hn
    have hi128 : i < 128 := by omega
    have hz : ca i = 0 ↔ ¬ tw_can w p.testBit E L U t i := by
      rw [yc_z hI hi128]
      refine not_congr ⟨fun h => ?_, Or.inl⟩
      rcases h with h | ⟨k, h1, h2, h3⟩
      · exact h
      · have := (tw_fil_lt h2.1 h3).1
        omega
    simp only [wY_fits_61, yf_x, forall_eq, tb_cl hi128, yf_x1]
    refine br_f (nI_pos (by omega)) ⟨vp_in_nI hi128 (by decide), br_c (fun z => hn _ ⟨by omega, yc_c hI fun k' _ => ?_⟩) (fun z => ?_)⟩
    · rw [hz] at z
      refine or_congr Iff.rfl ⟨fun ⟨k, h1, h2⟩ => ⟨k, ?_, h2⟩, fun ⟨k, h1, h2⟩ => ⟨k, by omega, h2⟩⟩
      have : k ≠ i := fun e => z (e ▸ h2.1)
      omega
    · refine yf_fill hw hi128 (by omega) hH hP hL hI fun ca hC2 => hn _ ⟨by omega, yc_c hC2 fun k' _ => ?_⟩
      have hci : tw_can w p.testBit E L U t i := Classical.byContradiction fun e => z (hz.mpr e)
      constructor
      · rintro (h | ⟨k, h1, h2, h3⟩)
        · exact Or.inl (Or.inl h)
        · by_cases e : k = i
          · subst e; exact Or.inr h3
          · exact Or.inl (Or.inr ⟨k, by omega, h2, h3⟩)
      · rintro ((h | ⟨k, h1, h2, h3⟩) | h)
        · exact Or.inl h
        · exact Or.inr ⟨k, by omega, h2, h3⟩
        · exact Or.inr ⟨i, Nat.le_refl _, hci, h⟩
  · refine ⟨fun h => ?_, Or.inl⟩
    rcases h with h | ⟨k, h1, h2, _⟩
    · exact h
    · have := tw_can_sub hp h2
      omega
theorem yf_fits (hw : w = 1 ∨ w = 2) (hp : p < 128) (hl : tw_lh p.testBit E) (hH : yh_H he p) (hP : yp_P pr p E) (hL : yl_L lo hi p L U)
    (h1 : (∃ σ, tw_TT w p.testBit E L U σ) → ∀ gf ca, yg_G w p E L U 8 gf → post 1 (nI w, gm, gf, he, de, pr, lo, hi, ca))
    (h0 : (¬ ∃ σ, tw_TT w p.testBit E L U σ) → ∀ gf ca, yg_G w p E L U 8 gf → post 0 (nI w, gm, gf, he, de, pr, lo, hi, ca)) (gf : Int32) (ca : Nat → Int32) :
    wpY_fits post (nI w, gm, gf, he, de, pr, lo, hi, ca) := by
  unfold wpY_fits
  refine yt_tasks hp hH ?_
  -- the slots
  have k50 : ∀ gf ca, yc_C ca (tw_can w p.testBit E L U 0) → yg_G w p E L U 0 gf → ∃ n, wY_fits_50 post (nI p) n 0 (nI w) gm gf he de pr lo hi ca := by
    intro gf ca hC hG
    refine pk_loop (fun n t (s : Int32 × (Nat → Int32)) => wY_fits_50 post (nI p) n (nI t) (nI w) gm s.1 he de pr lo hi s.2)
      (fun t s => yc_C s.2 (tw_can w p.testBit E L U t) ∧ yg_G w p E L U t s.1) 8 0 (gf, ca) (by omega) ⟨hC, hG⟩ ?_ ?_
    · rintro n ⟨gf, ca⟩ ⟨hC, hG⟩
      dsimp only at hC hG
      simp only [wY_fits_50, tb_a127 hp, tb_cl hp]
      refine br_t (nI_le (a := 8) (b := 8) (by decide) (by decide)) ⟨vp_in_nI hp (by decide), ?_⟩
      have e : tw_can w p.testBit E L U 8 p ↔ ∃ σ, tw_TT w p.testBit E L U σ := by
        rw [tw_can_all hp hl]
        refine ⟨fun ⟨s, h, _⟩ => ⟨s, h⟩, fun ⟨s, h⟩ => ⟨s, h, fun i hi e => ?_⟩⟩
        have a := (h.1 i hi e).2
        have b := (hL i hi e).2.2.2.1
        omega
      by_cases z : tw_can w p.testBit E L U 8 p
      · rw [(hC p hp).1 z]
        exact ⟨rfl, h1 (e.mp z) gf ca hG⟩
      · rw [(hC p hp).2 z]
        exact ⟨rfl, h0 (fun y => z (e.mpr y)) gf ca hG⟩
    · rintro n t ⟨gf, ca⟩ ht ⟨hC, hG⟩ hn
      simp only [wY_fits_50, forall_eq, tb_a127 hp]
      exact br_f (nI_ge (b := 8) ht (by decide)) (yf_61 hw hp ht hH hP hL hC hG fun gf ca h2 h3 => hn (gf, ca) ⟨h2, h3⟩)
  refine pk_loop (fun n i ca => wY_fits_7 post (nI p) (nI w) gm gf n (nI i) he de pr lo hi ca) (fun i ca => ∀ k, k < i → ca k = if k = 0 then 1 else 0) 128 0 ca (by omega) (fun k hk => by omega) ?_ ?_
  · intro n ca hI
    have hC : yc_C ca (tw_can w p.testBit E L U 0) := fun k hk => by
      rw [tw_can_0, hI k hk]
      exact ⟨fun z => if_pos z, fun z => if_neg z⟩
    simp only [wY_fits_7]
    refine br_t (nI_le (a := 128) (b := 128) (by decide) (by decide)) (br_c (fun z => k50 _ ca hC (Or.inl ⟨0, Nat.le_refl _, ?_, fun t1 h => by omega, rfl⟩)) (fun z => k50 _ ca hC (Or.inr ⟨fun t1 h => ?_, rfl⟩)))
    · rw [tb_i0 hp] at z
      exact tw_can_0.mpr z
    · rw [tb_i0 hp] at z
      rw [show t1 = 0 from by omega]
      exact fun y => z (tw_can_0.mp y)
  · intro n i ca hi hI hn
    simp only [wY_fits_7, forall_eq, nI_1, tb_cl hi, tb_v0, tb_v1]
    refine br_f (nI_ge (b := 128) hi (by decide)) (br_c (fun z => ⟨vp_in_nI hi (by decide), hn _ fun k hk => ?_⟩) (fun z => ⟨vp_in_nI hi (by decide), hn _ fun k hk => ?_⟩))
    · rw [tb_i0 hi] at z
      by_cases e : k = i
      · rw [e, pk_us, if_pos z]
      · rw [pk_un e]; exact hI k (by omega)
    · rw [tb_i0 hi] at z
      by_cases e : k = i
      · rw [e, pk_us, if_neg z]
      · rw [pk_un e]; exact hI k (by omega)
theorem yf_good {D : Nat → Nat} (hw : w = 1 ∨ w = 2) (hp : p < 128) (hl : tw_lh p.testBit E) (hH : yh_H he p) (hP : yp_P pr p E)
    (hD : ∀ i, i < 7 → p.testBit i = true → de i = nI (D i) ∧ 1 ≤ D i ∧ D i ≤ 8)
    (h1 : (∃ σ, tw_TT w p.testBit E (fun _ => 0) D σ) → ∀ gf lo hi ca, yg_G w p E (fun _ => 0) (fun i => min (D i) 8) 8 gf → post 1 (nI w, gm, gf, he, de, pr, lo, hi, ca))
    (h0 : (¬ ∃ σ, tw_TT w p.testBit E (fun _ => 0) D σ) → ∀ gf lo hi ca, yg_G w p E (fun _ => 0) (fun i => min (D i) 8) 8 gf → post 0 (nI w, gm, gf, he, de, pr, lo, hi, ca)) (gf : Int32) (lo hi ca : Nat → Int32) :
    wpY_good post (nI w, gm, gf, he, de, pr, lo, hi, ca) := by
  unfold wpY_good
  refine ya_ask (t := 8) (by omega) (fun _ => by omega) hD (fun lo hi hL => ?_) lo hi
  dsimp only
  have e : (∃ σ, tw_TT w p.testBit E (fun _ => 0) (fun i => min (D i) 8) σ) ↔ ∃ σ, tw_TT w p.testBit E (fun _ => 0) D σ :=
    ⟨fun ⟨s, h⟩ => ⟨s, tw_TT_c (fun i hi e => ⟨rfl, by have := hD i hi e; omega⟩) h⟩, fun ⟨s, h⟩ => ⟨s, tw_TT_c (fun i hi e => ⟨rfl, by have := hD i hi e; omega⟩) h⟩⟩
  exact yf_fits hw hp hl hH hP hL (fun h gf ca hG => ⟨rfl, h1 (e.mp h) gf lo hi ca hG⟩) (fun h gf ca hG => ⟨rfl, h0 (fun y => h (e.mpr y)) gf lo hi ca hG⟩) gf ca
end
end
section
/-! the relation; holds and there, linked -/
/-- x is the number of a held task -/
def rl_h (p : Nat) (x : Int32) : Prop := ∃ j, j < 7 ∧ x = nI j ∧ p.testBit j = true
def rl_T (w p : Nat) (D A : Nat → Nat) (s : Nat → Nat) : Prop := tw_TT w p.testBit (tw_E A) (fun _ => 0) D s
/-- what the abstract state keeps: machines w, capacity cap, held tasks p, deadlines D, links A; there is a timetable -/
def rl_ok (w cap p : Nat) (D A : Nat → Nat) : Prop :=
  (w = 1 ∨ w = 2) ∧ (1 ≤ cap ∧ cap ≤ 7) ∧ p < 128 ∧ (∀ i, i < 7 → p.testBit i = true → i < cap ∧ 1 ≤ D i ∧ D i ≤ 8) ∧
  (∀ i, i < 7 → A i < 128) ∧ tw_lh p.testBit (tw_E A) ∧ ∃ s, rl_T w p D A s
/-- slots kept by the component -/
def rl_S (p : Nat) (T : (Nat → Nat) → Prop) (sl : Nat → Int32) : Prop := ∀ i, i < 7 → p.testBit i = true → ∃ s, tw_N p.testBit T (i + 1) s ∧ sl i = nI (s i)
/-- m slots suffice, and fewer don't -/
def rl_span (w p : Nat) (D A : Nat → Nat) (m : Nat) : Prop :=
  (∃ s, rl_T w p D A s ∧ ∀ i, i < 7 → p.testBit i = true → s i < m) ∧ ∀ l, l < m → ¬ ∃ s, rl_T w p D A s ∧ ∀ i, i < 7 → p.testBit i = true → s i < l
def rl_X (w cap p : Nat) (D A : Nat → Nat) (u : SX) : Prop := match u with
  | (fm, fc, fp, f1, f2, du, af, _, _, _, s1, s2) => fm = nI w ∧ fc = nI cap ∧ fp = nI p ∧ (∀ i, i < 7 → p.testBit i = true → du i = nI (D i)) ∧ (∀ i, i < 7 → af i = nI (A i)) ∧
    (f1 = 0 ∨ rl_S p (rl_T w p D A) s1) ∧ (f2 = 0 ∨ ∃ m, rl_span w p D A m ∧ rl_S p (rl_T w p (fun i => min (D i) m) A) s2)
def rl_Y (w cap p : Nat) (D A : Nat → Nat) (v : SY) : Prop := match v with
  | (gw, gm, _, he, de, pr, _, _, _) => gw = nI w ∧ gm = nI cap ∧ yh_H he p ∧ (∀ i, i < 7 → p.testBit i = true → de i = nI (D i)) ∧ yp_P pr p (tw_E A)
/-- the relation at the head of a turn -/
def i_Rel (_ : Nat) (u : SX) (v : SY) : Prop := ∃ (w cap p : Nat) (D A : Nat → Nat), rl_ok w cap p D A ∧ rl_X w cap p D A u ∧ rl_Y w cap p D A v
theorem i_up {k : Nat} {u : SX} {v : SY} (h : i_Rel k u v) : i_Rel (k + 3) u v := h
theorem rl_el {P : SX → SY → Prop}
    (h : ∀ (w cap p : Nat) (D A : Nat → Nat) (f1 f2 : Int32) (du af be ak dw s1 s2 : Nat → Int32) (gf : Int32) (he de pr lo hi ca : Nat → Int32), rl_ok w cap p D A →
      (∀ i, i < 7 → p.testBit i = true → du i = nI (D i)) → (∀ i, i < 7 → af i = nI (A i)) →
      (f1 = 0 ∨ rl_S p (rl_T w p D A) s1) → (f2 = 0 ∨ ∃ m, rl_span w p D A m ∧ rl_S p (rl_T w p (fun i => min (D i) m) A) s2) →
      yh_H he p → (∀ i, i < 7 → p.testBit i = true → de i = nI (D i)) → yp_P pr p (tw_E A) →
      P (nI w, nI cap, nI p, f1, f2, du, af, be, ak, dw, s1, s2) (nI w, nI cap, gf, he, de, pr, lo, hi, ca))
    {k : Nat} {u : SX} {v : SY} (I : i_Rel k u v) : P u v := by
  obtain ⟨w, cap, p, D, A, ho, hX, hY⟩ := I
  obtain ⟨fm, fc, fp, f1, f2, du, af, be, ak, dw, s1, s2⟩ := u
  obtain ⟨gw, gm, gf, he, de, pr, lo, hi, ca⟩ := v
  obtain ⟨rfl, rfl, rfl, h4, h5, h6, h7⟩ := hX
  obtain ⟨rfl, rfl, g3, g4, g5⟩ := hY
  exact h w cap p D A f1 f2 du af be ak dw s1 s2 gf he de pr lo hi ca ho h4 h5 h6 h7 g3 g4 g5
section
variable {fm f1 f2 : Int32} {du af be ak dw s1 s2 : Nat → Int32} {cap p : Nat} {post : Int32 → Prop}
theorem xh_t {j : Nat} (hc : cap ≤ 7) (hp : p < 128) (hj : j < 7) (pj : p.testBit j = true) (hcp : ∀ i, i < 7 → p.testBit i = true → i < cap) (h : post 1) :
    wpX_holds post (fm, nI cap, nI p, f1, f2, du, af, be, ak, dw, s1, s2) (nI j) := by
  simp only [wpX_holds, tb_z hp hj]
  exact br_f (nI_pos (by omega)) (br_f (nI_ge (hcp j hj pj) (by omega)) (br_f (by rw [pj]; decide) h))
theorem xh_f {x : Int32} (hc : cap ≤ 7) (hp : p < 128) (hn : ¬ rl_h p x) (h : post 0) :
    wpX_holds post (fm, nI cap, nI p, f1, f2, du, af, be, ak, dw, s1, s2) x := by
  simp only [wpX_holds]
  refine br_c (fun _ => h) (fun z => ?_)
  obtain ⟨j, hj, rfl⟩ := nI_of z
  refine pk_le cap j (fun _ => h) (fun hl => ?_)
  rw [tb_z hp (by omega)]
  exact br_t (tb_nt fun e => hn ⟨j, by omega, rfl, e⟩) h
theorem xl_f {A : Nat → Nat} {x y : Int32} (hc : cap ≤ 7) (hp : p < 128) (hcp : ∀ i, i < 7 → p.testBit i = true → i < cap) (hn : ¬ (rl_h p x ∧ rl_h p y)) (h : post 0) :
    wpX_linked post (fm, nI cap, nI p, f1, f2, du, af, be, ak, dw, s1, s2) x y := by
  simp only [wpX_linked]
  by_cases hx : rl_h p x
  · obtain ⟨i, hi, rfl, pi⟩ := hx
    refine xh_t hc hp hi pi hcp (br_f (by decide) (xh_f hc hp (fun hy => hn ⟨⟨i, hi, rfl, pi⟩, hy⟩) (br_t rfl h)))
  · exact xh_f hc hp hx (br_t rfl h)
theorem xl_h {A : Nat → Nat} {i j : Nat} (hc : cap ≤ 7) (hp : p < 128) (hcp : ∀ i, i < 7 → p.testBit i = true → i < cap) (hi : i < 7) (hj : j < 7) (pi : p.testBit i = true) (pj : p.testBit j = true)
    (hA : ∀ i, i < 7 → af i = nI (A i) ∧ A i < 128) (h1 : tw_E A i j = true → post 1) (h0 : tw_E A i j = false → post 0) :
    wpX_linked post (fm, nI cap, nI p, f1, f2, du, af, be, ak, dw, s1, s2) (nI i) (nI j) := by
  simp only [wpX_linked]
  refine xh_t hc hp hi pi hcp (br_f (by decide) (xh_t hc hp hj pj hcp (br_f (by decide) ⟨x7_i hi, ?_⟩)))
  rw [x7_c hi, (hA i hi).1, tb_z (hA i hi).2 hj]
  exact br_c h0 (fun z => h1 (tb_nf z))
end
section
variable {gw gm gf : Int32} {he de pr lo hi ca : Nat → Int32} {p : Nat} {post : Int32 → Prop}
theorem yh_t {j : Nat} (hH : yh_H he p) (hj : j < 7) (pj : p.testBit j = true) (h : post 1) : wpY_there post (gw, gm, gf, he, de, pr, lo, hi, ca) (nI j) := by
  simp only [wpY_there, x7_c hj, hH j hj]
  exact br_f (nI_pos (by omega)) (br_f (x7_n hj) ⟨x7_i hj, br_f (by rw [pj]; decide) h⟩)
theorem yh_f {x : Int32} (hH : yh_H he p) (hn : ¬ rl_h p x) (h : post 0) : wpY_there post (gw, gm, gf, he, de, pr, lo, hi, ca) x := by
  simp only [wpY_there]
  refine br_c (fun _ => h) (fun z => ?_)
  obtain ⟨j, hj, rfl⟩ := nI_of z
  refine pk_le 7 j (fun _ => h) (fun hl => ⟨x7_i hl, ?_⟩)
  rw [x7_c hl, hH j hl]
  exact br_t (tb_nt fun e => hn ⟨j, by omega, rfl, e⟩) h
theorem yl_f {x y : Int32} (hH : yh_H he p) (hn : ¬ (rl_h p x ∧ rl_h p y)) (h : post 0) : wpY_linked post (gw, gm, gf, he, de, pr, lo, hi, ca) x y := by
  simp only [wpY_linked]
  by_cases hx : rl_h p x
  · obtain ⟨i, hi, rfl, pi⟩ := hx
    refine yh_t hH hi pi (br_f (by decide) (yh_f hH (fun hy => hn ⟨⟨i, hi, rfl, pi⟩, hy⟩) (br_t rfl h)))
  · exact yh_f hH hx (br_t rfl h)
theorem yl_h {E : Nat → Nat → Bool} {i j : Nat} (hH : yh_H he p) (hi7 : i < 7) (hj : j < 7) (pi : p.testBit i = true) (pj : p.testBit j = true)
    (hP : yp_P pr p E) (h1 : E i j = true → post 1) (h0 : E i j = false → post 0) :
    wpY_linked post (gw, gm, gf, he, de, pr, lo, hi, ca) (nI i) (nI j) := by
  obtain ⟨q, hq, e, b⟩ := hP j hj
  simp only [wpY_linked]
  refine yh_t hH hi7 pi (br_f (by decide) (yh_t hH hj pj (br_f (by decide) ⟨x7_i hj, ?_⟩)))
  rw [x7_c hj, e, tb_o hq hi7, b pj i hi7]
  exact br_c h1 (fun z => h0 (tb_nt z))
end
end
section
/-! the constructors; tasks, deadline, linked, unlink, remove -/
theorem ii_rel {w cap : Nat} (hw : w = 1 ∨ w = 2) (h1 : 1 ≤ cap) (h7 : cap ≤ 7) :
    i_Rel 2 (nI w, nI cap, 0, 0, 0, (fun _ => 0), (fun _ => 0), (fun _ => 0), (fun _ => 0), (fun _ => 0), (fun _ => 0), (fun _ => 0))
      (nI w, nI cap, 0, (fun _ => 0), (fun _ => 0), (fun _ => 0), (fun _ => 0), (fun _ => 0), (fun _ => 0)) := by
  have z : ∀ {P : Prop} {i : Nat}, (0 : Nat).testBit i = true → P := fun h => by rw [Nat.zero_testBit] at h; exact absurd h (by decide)
  refine ⟨w, cap, 0, fun _ => 0, fun _ => 0, ⟨hw, ⟨h1, h7⟩, by decide, fun i _ h => z h, fun i _ => (by decide : 0 < 128), fun i j _ _ h => z h, fun _ => 0, fun i _ h => z h, fun i j _ _ h => z h, fun t => ?_⟩,
    ⟨rfl, rfl, rfl, fun i _ h => z h, fun i _ => rfl, Or.inl rfl, Or.inl rfl⟩, rfl, rfl, fun i _ => ⟨fun _ => Nat.zero_testBit i, fun _ => rfl⟩, fun i _ h => z h, fun j _ => ⟨0, by decide, rfl, fun h => z h⟩⟩
  rw [tw_c_0]
  · exact Nat.zero_le _
  · intro i _ h
    rw [Bool.and_eq_true] at h
    exact z h.1
theorem ii_c (x : Int32) : ∃ cap, 1 ≤ cap ∧ cap ≤ 7 ∧
    (∀ (post : SX → Prop) (z0 fm fc fp f1 f2 : Int32) (a1 a2 a3 a4 a5 a6 a7 : Nat → Int32), post (z0, nI cap, fp, f1, f2, a1, a2, a3, a4, a5, a6, a7) → wX_init_80 post x z0 fm fc fp f1 f2 a1 a2 a3 a4 a5 a6 a7) ∧
    (∀ (post : SY → Prop) (z0 gw gm gf : Int32) (a1 a2 a3 a4 a5 a6 : Nat → Int32), post (z0, nI cap, gf, a1, a2, a3, a4, a5, a6) → wY_init_73 post x z0 gw gm gf a1 a2 a3 a4 a5 a6) := by
  by_cases h1 : 1 ≤ x
  · by_cases h7 : x ≤ 7
    · obtain ⟨j, hj, rfl⟩ := nI_of2 (M := 7) (n := 7) (by decide) (show ¬ x < 0 from fun h => by
        rw [Int32.le_iff_toInt_le] at h1
        rw [Int32.lt_iff_toInt_lt] at h
        have e1 : (1 : Int32).toInt = 1 := by decide
        have e0 : (0 : Int32).toInt = 0 := by decide
        omega) h7
      have hj1 : 1 ≤ j := (nI_leI (a := 1) (b := j) (by decide) (by omega)).mp h1
      exact ⟨j, hj1, hj, fun post _ _ _ _ _ _ _ _ _ _ _ _ _ h => br_t h1 (br_t h7 h), fun post _ _ _ _ _ _ _ _ _ _ h => br_t h1 (br_t h7 h)⟩
    · exact ⟨7, by decide, by decide, fun post _ _ _ _ _ _ _ _ _ _ _ _ _ h => br_t h1 (br_f h7 h), fun post _ _ _ _ _ _ _ _ _ _ h => br_t h1 (br_f h7 h)⟩
  · exact ⟨1, by decide, by decide, fun post _ _ _ _ _ _ _ _ _ _ _ _ _ h => br_f h1 h, fun post _ _ _ _ _ _ _ _ _ _ h => br_f h1 h⟩
theorem i_vc0 (k0 : Int32) (k1 : Int32) : wpX_init (fun u => wpY_init (fun v => i_Rel 2 u v) k0 k1) k0 k1 := by
  obtain ⟨cap, c1, c7, cX, cY⟩ := ii_c k1
  unfold wpX_init
  refine br_c (fun h1 => br_c (fun h2 => ?_) (fun h2 => ?_)) (fun h1 => ?_)
  · obtain ⟨j, hj, rfl⟩ := nI_of2 (M := 2) (n := 2) (by decide) (show ¬ k0 < 0 from fun h => by
        rw [Int32.le_iff_toInt_le] at h1
        rw [Int32.lt_iff_toInt_lt] at h
        have e1 : (1 : Int32).toInt = 1 := by decide
        have e0 : (0 : Int32).toInt = 0 := by decide
        omega) h2
    have hj1 : 1 ≤ j := (nI_leI (a := 1) (b := j) (by decide) (by omega)).mp h1
    refine cX _ _ _ _ _ _ _ _ _ _ _ _ _ _ ?_
    unfold wpY_init
    exact br_t h1 (br_t h2 (cY _ _ _ _ _ _ _ _ _ _ _ (ii_rel (by omega) c1 c7)))
  · refine cX _ _ _ _ _ _ _ _ _ _ _ _ _ _ ?_
    unfold wpY_init
    exact br_t h1 (br_f h2 (cY _ _ _ _ _ _ _ _ _ _ _ (ii_rel (w := 2) (by omega) c1 c7)))
  · refine cX _ _ _ _ _ _ _ _ _ _ _ _ _ _ ?_
    unfold wpY_init
    exact br_f h1 (cY _ _ _ _ _ _ _ _ _ _ _ (ii_rel (w := 1) (by omega) c1 c7))
theorem rl_in {k w cap p : Nat} {D A : Nat → Nat} {f1 f2 : Int32} {du af be ak dw s1 s2 : Nat → Int32} {gf : Int32} {he de pr lo hi ca : Nat → Int32} (ho : rl_ok w cap p D A)
    (hdu : ∀ i, i < 7 → p.testBit i = true → du i = nI (D i)) (haf : ∀ i, i < 7 → af i = nI (A i))
    (hf1 : f1 = 0 ∨ rl_S p (rl_T w p D A) s1) (hf2 : f2 = 0 ∨ ∃ m, rl_span w p D A m ∧ rl_S p (rl_T w p (fun i => min (D i) m) A) s2)
    (hH : yh_H he p) (hde : ∀ i, i < 7 → p.testBit i = true → de i = nI (D i)) (hP : yp_P pr p (tw_E A)) :
    i_Rel k (nI w, nI cap, nI p, f1, f2, du, af, be, ak, dw, s1, s2) (nI w, nI cap, gf, he, de, pr, lo, hi, ca) :=
  ⟨w, cap, p, D, A, ho, ⟨rfl, rfl, rfl, hdu, haf, hf1, hf2⟩, rfl, rfl, hH, hde, hP⟩
theorem i_vc_tasks {k : Nat} {u : SX} {v : SY} (I : i_Rel k u v) (hk : k + 3 ≤ 1538) : wpX_tasks (fun r => wpY_tasks (fun r' => r' = r ∧ i_Rel (k + 3) u v) v) u := by
  have I2 := I
  revert I2
  refine rl_el (P := fun u v => i_Rel k u v → wpX_tasks (fun r => wpY_tasks (fun r' => r' = r ∧ i_Rel (k + 3) u v) v) u) ?_ I
  intro w cap p D A f1 f2 du af be ak dw s1 s2 gf he de pr lo hi ca ho hdu haf hf1 hf2 hH hde hP I
  unfold wpX_tasks
  exact yt_tasks ho.2.2.1 hH ⟨rfl, I⟩
theorem i_vc_deadline {k : Nat} {u : SX} {v : SY} (I : i_Rel k u v) (hk : k + 3 ≤ 1538) (v1 : Int32) : wpX_deadline (fun r => wpY_deadline (fun r' => r' = r ∧ i_Rel (k + 3) u v) v v1) u v1 := by
  have I2 := I
  revert I2
  refine rl_el (P := fun u v => i_Rel k u v → wpX_deadline (fun r => wpY_deadline (fun r' => r' = r ∧ i_Rel (k + 3) u v) v v1) u v1) ?_ I
  intro w cap p D A f1 f2 du af be ak dw s1 s2 gf he de pr lo hi ca ho hdu haf hf1 hf2 hH hde hP I
  obtain ⟨hw, hc, hp, hi7, hA, hl, ht⟩ := ho
  simp only [wpX_deadline, wpY_deadline]
  by_cases hx : rl_h p v1
  · obtain ⟨i, hi, rfl, pi⟩ := hx
    refine xh_t hc.2 hp hi pi (fun i hi e => (hi7 i hi e).1) (br_f (by decide) ⟨x7_i hi, yh_t hH hi pi (br_f (by decide) ⟨x7_i hi, ?_, I⟩)⟩)
    rw [x7_c hi, hdu i hi pi, hde i hi pi]
  · exact xh_f hc.2 hp hx (br_t rfl (yh_f hH hx (br_t rfl ⟨by trivial, I⟩)))
theorem i_vc_linked {k : Nat} {u : SX} {v : SY} (I : i_Rel k u v) (hk : k + 3 ≤ 1538) (v1 : Int32) (v2 : Int32) : wpX_linked (fun r => wpY_linked (fun r' => r' = r ∧ i_Rel (k + 3) u v) v v1 v2) u v1 v2 := by
  have I2 := I
  revert I2
  refine rl_el (P := fun u v => i_Rel k u v → wpX_linked (fun r => wpY_linked (fun r' => r' = r ∧ i_Rel (k + 3) u v) v v1 v2) u v1 v2) ?_ I
  intro w cap p D A f1 f2 du af be ak dw s1 s2 gf he de pr lo hi ca ho hdu haf hf1 hf2 hH hde hP I
  obtain ⟨hw, hc, hp, hi7, hA, hl, ht⟩ := ho
  have hcp : ∀ i, i < 7 → p.testBit i = true → i < cap := fun i hi e => (hi7 i hi e).1
  by_cases hx : rl_h p v1 ∧ rl_h p v2
  · obtain ⟨⟨i, hi, rfl, pi⟩, ⟨j, hj, rfl, pj⟩⟩ := hx
    refine xl_h hc.2 hp hcp hi hj pi pj (fun i hi => ⟨haf i hi, hA i hi⟩) (fun e => ?_) (fun e => ?_)
    · exact yl_h hH hi hj pi pj hP (fun _ => ⟨rfl, I⟩) (fun e2 => absurd (e.symm.trans e2) (by decide))
    · exact yl_h hH hi hj pi pj hP (fun e2 => absurd (e.symm.trans e2) (by decide)) (fun _ => ⟨rfl, I⟩)
  · exact xl_f (A := A) hc.2 hp hcp hx (yl_f hH hx ⟨rfl, I⟩)
/-- A with m at i -/
def tw_u (A : Nat → Nat) (i m : Nat) : Nat → Nat := fun l => if l = i then m else A l
theorem tw_us {A : Nat → Nat} {i m : Nat} : tw_u A i m i = m := if_pos rfl
theorem tw_un {A : Nat → Nat} {i m l : Nat} (h : l ≠ i) : tw_u A i m l = A l := if_neg h
theorem tw_Es {A : Nat → Nat} {i m b : Nat} : tw_E (tw_u A i m) i b = m.testBit b := by unfold tw_E; rw [tw_us]
theorem tw_En {A : Nat → Nat} {i m a b : Nat} (h : a ≠ i) : tw_E (tw_u A i m) a b = tw_E A a b := by unfold tw_E; rw [tw_un h]
theorem tw_ua {A : Nat → Nat} {i m : Nat} (h : ∀ l, l < 7 → A l < 128) (hm : m < 128) : ∀ l, l < 7 → tw_u A i m l < 128 := fun l hl => by
  by_cases z : l = i
  · rw [z, tw_us]; exact hm
  · rw [tw_un z]; exact h l hl
theorem tw_uI {a : Nat → Int32} {A : Nat → Nat} {i m : Nat} {Q : Nat → Prop} (h : ∀ l, l < 7 → Q l → l ≠ i → a l = nI (A l)) : ∀ l, l < 7 → Q l → upd a i (nI m) l = nI (tw_u A i m l) := fun l hl q => by
  by_cases z : l = i
  · rw [z, tw_us, pk_us]
  · rw [tw_un z, pk_un z]; exact h l hl q z
/-- fewer tasks, fewer links, later deadlines -/
theorem tw_mono {w : Nat} {H H' : Nat → Bool} {E E' : Nat → Nat → Bool} {L U U' s : Nat → Nat} (hH : ∀ i, i < 7 → H' i = true → H i = true)
    (hE : ∀ i j, i < 7 → j < 7 → H' i = true → H' j = true → E' i j = true → E i j = true) (hU : ∀ i, i < 7 → H' i = true → U i ≤ U' i) (h : tw_TT w H E L U s) : tw_TT w H' E' L U' s :=
  ⟨fun i hi e => ⟨(h.1 i hi (hH i hi e)).1, Nat.lt_of_lt_of_le (h.1 i hi (hH i hi e)).2 (hU i hi e)⟩,
   fun i j hi hj ei ej e => h.2.1 i j hi hj (hH i hi ei) (hH j hj ej) (hE i j hi hj ei ej e),
   fun t => Nat.le_trans (tw_c_le fun i hi e => by rw [Bool.and_eq_true] at e ⊢; exact ⟨hH i hi e.1, e.2⟩) (h.2.2 t)⟩
theorem yp_u {pr : Nat → Int32} {p p' j q : Nat} {E E' : Nat → Nat → Bool} (h : yp_P pr p E) (hq : q < 128) (hb : p'.testBit j = true → ∀ i, i < 7 → q.testBit i = E' i j)
    (ho : ∀ l, l < 7 → l ≠ j → p'.testBit l = true → p.testBit l = true ∧ ∀ i, i < 7 → E' i l = E i l) : yp_P (upd pr j (nI q)) p' E' := by
  intro l hl
  by_cases z : l = j
  · subst z; exact ⟨q, hq, pk_us, hb⟩
  · obtain ⟨r, h1, h2, h3⟩ := h l hl
    refine ⟨r, h1, by rw [pk_un z]; exact h2, fun e i hi => ?_⟩
    rw [h3 (ho l hl z e).1 i hi, (ho l hl z e).2 i hi]
theorem i_vc_unlink {k : Nat} {u : SX} {v : SY} (I : i_Rel k u v) (hk : k + 3 ≤ 1538) (v1 : Int32) (v2 : Int32) : wpX_unlink (fun r u' => wpY_unlink (fun r' v' => r' = r ∧ i_Rel (k + 3) u' v') v v1 v2) u v1 v2 := by
  have I2 := I
  revert I2
  refine rl_el (P := fun u v => i_Rel k u v → wpX_unlink (fun r u' => wpY_unlink (fun r' v' => r' = r ∧ i_Rel (k + 3) u' v') v v1 v2) u v1 v2) ?_ I
  intro w cap p D A f1 f2 du af be ak dw s1 s2 gf he de pr lo hi ca ho hdu haf hf1 hf2 hH hde hP I
  obtain ⟨hw, hc, hp, hi7, hA, hl, ht⟩ := ho
  have hcp : ∀ i, i < 7 → p.testBit i = true → i < cap := fun i hi e => (hi7 i hi e).1
  unfold wpX_unlink
  by_cases hx : rl_h p v1 ∧ rl_h p v2
  · obtain ⟨⟨i, hi, rfl, pi⟩, ⟨j, hj, rfl, pj⟩⟩ := hx
    refine xl_h hc.2 hp hcp hi hj pi pj (fun i hi => ⟨haf i hi, hA i hi⟩) (fun e => br_f (by decide) ⟨x7_i hi, x7_i hi, ?_⟩) (fun e => br_t rfl ?_)
    · rw [x7_c hi, haf i hi, tb_1 j hj, tb_nd (hA i hi), tb_i8 (tb_dlt (hA i hi)), tb_by (tb_dlt (hA i hi))]
      refine nm_e ?_
      unfold wpX_changed wpY_unlink
      dsimp only
      refine yl_h hH hi hj pi pj hP (fun _ => br_f (by decide) ⟨x7_i hj, x7_i hj, ?_⟩) (fun e2 => absurd (e.symm.trans e2) (by decide))
      obtain ⟨q, hq, eq, bq⟩ := hP j hj
      rw [x7_c hj, eq, tb_1 i hi, tb_nd hq]
      refine nm_e ⟨rfl, ?_⟩
      have hE : ∀ a b, a < 7 → b < 7 → tw_E (tw_u A i (tb_d (A i) (2 ^ j))) a b = (tw_E A a b && !(decide (i = a) && decide (j = b))) := by
        intro a b _ _
        by_cases z : a = i
        · subst z
          rw [tw_Es, tb_ct (hA a hi), decide_eq_true (rfl : a = a)]; rfl
        · rw [tw_En z, decide_eq_false (fun e => z e.symm)]; simp
      have hE2 : ∀ a b, a < 7 → b < 7 → tw_E (tw_u A i (tb_d (A i) (2 ^ j))) a b = true → tw_E A a b = true := fun a b ha hb h => by
        rw [hE a b ha hb, Bool.and_eq_true] at h; exact h.1
      refine rl_in (D := D) (A := tw_u A i (tb_d (A i) (2 ^ j))) ⟨hw, hc, hp, hi7, tw_ua hA (tb_dlt (hA i hi)), fun a b ha hb h => hl a b ha hb (hE2 a b ha hb h), ?_⟩ hdu (fun l hl => tw_uI (Q := fun _ => True) (fun l hl _ _ => haf l hl) l hl trivial) (Or.inl rfl) (Or.inl rfl) hH hde
        (yp_u hP (tb_dlt hq) (fun _ a ha => ?_) (fun b hb z e2 => ⟨e2, fun a ha => ?_⟩))
      · obtain ⟨s, hs⟩ := ht
        exact ⟨s, tw_mono (fun _ _ h => h) (fun a b ha hb _ _ h => hE2 a b ha hb h) (fun _ _ _ => Nat.le_refl _) hs⟩
      · rw [hE a j ha hj, tb_ct hq, bq pj a ha, decide_eq_true (rfl : j = j)]; simp
      · rw [hE a b ha hb, decide_eq_false (show ¬ j = b from fun e => z e.symm)]; simp
    · unfold wpY_unlink
      exact yl_h hH hi hj pi pj hP (fun e2 => absurd (e.symm.trans e2) (by decide)) (fun _ => br_t rfl ⟨rfl, I⟩)
  · refine xl_f (A := A) hc.2 hp hcp hx (br_t rfl ?_)
    unfold wpY_unlink
    exact yl_f hH hx (br_t rfl ⟨rfl, I⟩)
end
section
/-! remove -/
theorem yp_c {pr : Nat → Int32} {p : Nat} {E E' : Nat → Nat → Bool} (h : yp_P pr p E) (e : ∀ i j, i < 7 → j < 7 → p.testBit j = true → E' i j = E i j) : yp_P pr p E' := fun j hj => by
  obtain ⟨q, h1, h2, h3⟩ := h j hj
  exact ⟨q, h1, h2, fun pj i hi => by rw [h3 pj i hi, e i j hi hj pj]⟩
theorem yh_u0 {he : Nat → Int32} {p i : Nat} (hp : p < 128) (h : yh_H he p) : yh_H (upd he i 0) (tb_d p (2 ^ i)) := fun l hl => by
  rw [tb_ct hp]
  by_cases z : l = i
  · subst z; rw [pk_us, decide_eq_true (rfl : l = l)]; simp
  · rw [pk_un z, h l hl, decide_eq_false (fun e => z e.symm)]; simp
theorem yh_u1 {he : Nat → Int32} {p i : Nat} (h : yh_H he p) : yh_H (upd he i 1) (p ||| 2 ^ i) := fun l hl => by
  rw [tb_st]
  by_cases z : l = i
  · subst z; rw [pk_us, decide_eq_true (rfl : l = l)]; simp
  · rw [pk_un z, h l hl, decide_eq_false (fun e => z e.symm)]; simp
/-- the links without task i -/
def tw_rm (A : Nat → Nat) (i : Nat) : Nat → Nat := fun l => tb_d (tw_u A i 0 l) (2 ^ i)
theorem tw_rm_E {A : Nat → Nat} {i a b : Nat} (hA : ∀ l, l < 7 → A l < 128) (ha : a < 7) : tw_E (tw_rm A i) a b = (tw_E A a b && (!decide (i = a) && !decide (i = b))) := by
  show (tb_d (tw_u A i 0 a) (2 ^ i)).testBit b = _
  rw [tb_ct (tw_ua hA (by decide) a ha)]
  by_cases z : a = i
  · subst z; rw [tw_us, Nat.zero_testBit, decide_eq_true (rfl : a = a)]; simp
  · rw [tw_un z, decide_eq_false (show ¬ i = a from fun e => z e.symm)]; simp [tw_E]
theorem xv_remove {post : Int32 → SX → Prop} {fm f1 f2 : Int32} {du af be ak dw s1 s2 : Nat → Int32} {cap p i : Nat} {A : Nat → Nat} (hc : cap ≤ 7) (hp : p < 128) (hcp : ∀ i, i < 7 → p.testBit i = true → i < cap)
    (hi : i < 7) (pi : p.testBit i = true) (hA : ∀ i, i < 7 → af i = nI (A i) ∧ A i < 128)
    (h : ∀ af, (∀ l, l < 7 → af l = nI (tw_rm A i l)) → post 1 (fm, nI cap, nI (tb_d p (2 ^ i)), 0, 0, du, af, be, ak, dw, s1, s2)) :
    wpX_remove post (fm, nI cap, nI p, f1, f2, du, af, be, ak, dw, s1, s2) (nI i) := by
  simp only [wpX_remove, forall_eq, x7_c hi, tb_1 i hi, tb_nd hp]
  refine xh_t hc hp hi pi hcp (br_f (by decide) ⟨x7_i hi, ?_⟩)
  refine pk_loop (fun n l af => wX_remove_33 post (nI i) fm (nI cap) (nI (tb_d p (2 ^ i))) f1 f2 n (nI l) du af be ak dw s1 s2)
    (fun c af => ∀ l, l < 7 → af l = nI (if l < c then tw_rm A i l else tw_u A i 0 l)) 7 0 _ (by omega) (fun l hl => ?_) ?_ ?_
  · rw [if_neg (by omega)]
    exact tw_uI (m := 0) (Q := fun _ => True) (fun l hl _ _ => (hA l hl).1) l hl trivial
  · intro n af hI
    simp only [wX_remove_33]
    refine br_t x7_e ?_
    unfold wpX_changed
    exact h af fun l hl => by rw [hI l hl, if_pos hl]
  · intro n l af hl hI hn
    have e := hI l hl
    rw [if_neg (by omega)] at e
    have hlt := tw_ua (i := i) (m := 0) (fun l hl => (hA l hl).2) (by decide) l hl
    have hlt2 : tb_d (tw_u A i 0 l) (2 ^ i) < 128 := tb_dlt hlt
    simp only [wX_remove_33, forall_eq, nI_1, x7_c hl, e, tb_1 i hi, tb_nd hlt, tb_i8 hlt2, tb_by hlt2]
    refine br_f (x7_n hl) ⟨x7_i hl, x7_i hl, hn _ fun m hm => ?_⟩
    by_cases z : m = l
    · subst z; rw [pk_us, if_pos (by omega)]; rfl
    · rw [pk_un z, hI m hm]
      by_cases z2 : m < l
      · rw [if_pos z2, if_pos (by omega)]
      · rw [if_neg z2, if_neg (by omega)]
theorem yv_remove {post : Int32 → SY → Prop} {gw gm gf : Int32} {he de pr lo hi ca : Nat → Int32} {p i : Nat} {E E' : Nat → Nat → Bool} (hp : p < 128) (hi7 : i < 7) (pi : p.testBit i = true) (hH : yh_H he p) (hP : yp_P pr p E)
    (hE : ∀ a b, a < 7 → b < 7 → p.testBit b = true → i ≠ b → E' a b = (E a b && !decide (i = a)))
    (h : ∀ pr, yp_P pr (tb_d p (2 ^ i)) E' → post 1 (gw, gm, gf, upd he i 0, de, pr, lo, hi, ca)) :
    wpY_remove post (gw, gm, gf, he, de, pr, lo, hi, ca) (nI i) := by
  simp only [wpY_remove, forall_eq, x7_c hi7, tb_v0]
  refine yh_t hH hi7 pi (br_f (by decide) ⟨x7_i hi7, ?_⟩)
  refine pk_loop (fun n l pr => wY_remove_19 post (nI i) gw gm gf n (nI l) (upd he i 0) de pr lo hi ca)
    (fun c pr => yp_P pr p (fun a b => E a b && !(decide (b < c) && decide (i = a)))) 7 0 pr (by omega) (yp_c hP fun a b _ _ _ => by simp) ?_ ?_
  · intro n pr hI
    simp only [wY_remove_19]
    refine br_t x7_e (h pr fun j hj => ?_)
    obtain ⟨q, h1, h2, h3⟩ := hI j hj
    refine ⟨q, h1, h2, fun pj a ha => ?_⟩
    rw [tb_ct hp, Bool.and_eq_true, Bool.not_eq_true', decide_eq_false_iff_not] at pj
    rw [h3 pj.1 a ha, hE a j ha hj pj.1 pj.2]
    dsimp only
    rw [decide_eq_true hj]
    rfl
  · intro n l pr hl hI hn
    obtain ⟨q, h1, h2, h3⟩ := hI l hl
    simp only [wY_remove_19, forall_eq, nI_1, x7_c hl, h2, tb_1 i hi7, tb_nd h1]
    refine br_f (x7_n hl) ⟨x7_i hl, x7_i hl, hn _ (yp_u hI (tb_dlt h1) (fun pl a ha => ?_) (fun b hb z e => ⟨e, fun a ha => ?_⟩))⟩
    · rw [tb_ct h1, h3 pl a ha]
      dsimp only
      rw [decide_eq_false (show ¬ l < l from by omega), decide_eq_true (show l < l + 1 from by omega)]
      simp
    · have : decide (b < l + 1) = decide (b < l) := decide_eq_decide.mpr (by omega)
      rw [this]
theorem i_vc_remove {k : Nat} {u : SX} {v : SY} (I : i_Rel k u v) (hk : k + 3 ≤ 1538) (v1 : Int32) : wpX_remove (fun r u' => wpY_remove (fun r' v' => r' = r ∧ i_Rel (k + 3) u' v') v v1) u v1 := by
  have I2 := I
  revert I2
  refine rl_el (P := fun u v => i_Rel k u v → wpX_remove (fun r u' => wpY_remove (fun r' v' => r' = r ∧ i_Rel (k + 3) u' v') v v1) u v1) ?_ I
  intro w cap p D A f1 f2 du af be ak dw s1 s2 gf he de pr lo hi ca ho hdu haf hf1 hf2 hH hde hP I
  obtain ⟨hw, hc, hp, hi7, hA, hl, ht⟩ := ho
  have hcp : ∀ i, i < 7 → p.testBit i = true → i < cap := fun i hi e => (hi7 i hi e).1
  by_cases hx : rl_h p v1
  · obtain ⟨i, hi, rfl, pi⟩ := hx
    have hpp : ∀ l, l < 7 → (tb_d p (2 ^ i)).testBit l = true → p.testBit l = true ∧ l ≠ i := fun l _ e => by
      rw [tb_ct hp, Bool.and_eq_true, Bool.not_eq_true', decide_eq_false_iff_not] at e
      exact ⟨e.1, fun z => e.2 z.symm⟩
    refine xv_remove hc.2 hp hcp hi pi (fun i hi => ⟨haf i hi, hA i hi⟩) fun af haf => ?_
    refine yv_remove (E' := tw_E (tw_rm A i)) hp hi pi hH hP (fun a b ha hb _ z => ?_) fun pr hP => ⟨rfl, ?_⟩
    · rw [tw_rm_E hA ha, decide_eq_false z]; simp
    · refine rl_in (D := D) (A := tw_rm A i) ⟨hw, hc, tb_dlt hp, fun l hl e => hi7 l hl (hpp l hl e).1, fun l hl => tb_dlt (tw_ua hA (by decide) l hl), fun a b ha hb e => ?_, ?_⟩
        (fun l hl e => hdu l hl (hpp l hl e).1) haf (Or.inl rfl) (Or.inl rfl) (yh_u0 hp hH) (fun l hl e => hde l hl (hpp l hl e).1) hP
      · rw [tw_rm_E hA ha, Bool.and_eq_true, Bool.and_eq_true] at e
        have := hl a b ha hb e.1
        rw [tb_ct hp, tb_ct hp, this.1, this.2, e.2.1, e.2.2]
        exact ⟨rfl, rfl⟩
      · obtain ⟨s, hs⟩ := ht
        refine ⟨s, tw_mono (fun l hl e => (hpp l hl e).1) (fun a b ha hb _ _ e => ?_) (fun _ _ _ => Nat.le_refl _) hs⟩
        rw [tw_rm_E hA ha, Bool.and_eq_true] at e
        exact e.1
  · unfold wpX_remove
    refine xh_f hc.2 hp hx (br_t rfl ?_)
    unfold wpY_remove
    exact yh_f hH hx (br_t rfl ⟨rfl, I⟩)
end
section
/-! setDeadline -/
theorem rl_d (x : Int32) : x < 1 ∨ (¬ x < 1 ∧ ¬ x ≤ 8) ∨ ∃ e, 1 ≤ e ∧ e ≤ 8 ∧ x = nI e := by
  by_cases h : x < 1
  · exact Or.inl h
  · by_cases h8 : x ≤ 8
    · obtain ⟨j, hj, rfl⟩ := nI_of2 (M := 8) (n := 8) (by decide) (show ¬ x < 0 from fun z => by
        rw [Int32.lt_iff_toInt_lt] at h z
        have e1 : (1 : Int32).toInt = 1 := by decide
        have e0 : (0 : Int32).toInt = 0 := by decide
        omega) h8
      refine Or.inr (Or.inr ⟨j, ?_, hj, rfl⟩)
      apply Classical.byContradiction
      intro z
      exact h (nI_lt (a := j) (b := 1) (by omega) (by decide))
    · exact Or.inr (Or.inl ⟨h, h8⟩)
theorem rl_d1 {e : Nat} (h1 : 1 ≤ e) (h8 : e ≤ 8) : ¬ nI e < 1 := nI_nlt (b := 1) h1 (by omega)
theorem rl_d8 {e : Nat} (h8 : e ≤ 8) : nI e ≤ 8 := nI_le (b := 8) h8 (by decide)
theorem rl_d8' {e : Nat} (h8 : e ≤ 8) : ¬ 8 < nI e := nI_nlt (a := 8) h8 (by decide)
section
variable {w cap p i e : Nat} {D A : Nat → Nat}
theorem xs_set {post : Int32 → SX → Prop} {f1 f2 : Int32} {du af be ak dw s1 s2 : Nat → Int32} (ho : rl_ok w cap p D A) (hi : i < 7) (pi : p.testBit i = true) (h1e : 1 ≤ e) (h8e : e ≤ 8)
    (hdu : ∀ i, i < 7 → p.testBit i = true → du i = nI (D i)) (haf : ∀ i, i < 7 → af i = nI (A i))
    (h1 : (∃ s, rl_T w p (tw_u D i e) A s) → ∀ be ak dw, post 0 (nI w, nI cap, nI p, 0, 0, upd du i (nI e), af, be, ak, dw, s1, s2))
    (h0 : (¬ ∃ s, rl_T w p (tw_u D i e) A s) → ∀ du be ak dw, (∀ i, i < 7 → p.testBit i = true → du i = nI (D i)) → post (-3) (nI w, nI cap, nI p, f1, f2, du, af, be, ak, dw, s1, s2)) :
    wpX_setDeadline post (nI w, nI cap, nI p, f1, f2, du, af, be, ak, dw, s1, s2) (nI i) (nI e) := by
  obtain ⟨hw, hc, hp, hi7, hA, hl, s0, hs0⟩ := ho
  have hb := hi7 i hi pi
  unfold wpX_setDeadline
  refine xh_t hc.2 hp hi pi (fun i hi e => (hi7 i hi e).1) (br_f (by decide) (br_f (rl_d1 h1e h8e) (br_t (rl_d8 h8e) ⟨x7_i hi, nm_e ⟨x7_i hi, ?_⟩⟩)))
  rw [x7_c hi, hdu i hi pi, tb_i8 (by omega), tb_by (by omega)]
  refine nm_e (xg_feas (A := A) (D := tw_u D i e) hw hp (fun i hi => ⟨haf i hi, hA i hi⟩) hl (tw_acy_tt hl hs0) (fun l hl pl => ⟨tw_uI (Q := fun l => p.testBit l = true) (fun l hl q _ => hdu l hl q) l hl pl, ?_⟩) (fun hF be ak dw => ?_) (fun hF be ak dw => ?_) ak)
  · by_cases z : l = i
    · rw [z, tw_us]; exact h8e
    · rw [tw_un z]; exact (hi7 l hl pl).2.2
  · dsimp only
    refine br_f (by decide) ?_
    unfold wpX_changed
    exact h1 hF be ak dw
  · dsimp only
    refine br_t rfl ⟨x7_i hi, ?_⟩
    rw [tb_i8 (by omega), tb_by (by omega)]
    refine nm_e (h0 hF _ be ak dw fun l hl pl => ?_)
    by_cases z : l = i
    · rw [z, pk_us]
    · rw [pk_un z, pk_un z]; exact hdu l hl pl
theorem ys_set {post : Int32 → SY → Prop} {gf : Int32} {he de pr lo hi ca : Nat → Int32} (ho : rl_ok w cap p D A) (hi7 : i < 7) (pi : p.testBit i = true) (h1e : 1 ≤ e) (h8e : e ≤ 8)
    (hH : yh_H he p) (hde : ∀ i, i < 7 → p.testBit i = true → de i = nI (D i)) (hP : yp_P pr p (tw_E A))
    (h1 : (∃ s, rl_T w p (tw_u D i e) A s) → ∀ gf lo hi ca, post 0 (nI w, nI cap, gf, he, upd de i (nI e), pr, lo, hi, ca))
    (h0 : (¬ ∃ s, rl_T w p (tw_u D i e) A s) → ∀ gf de lo hi ca, (∀ i, i < 7 → p.testBit i = true → de i = nI (D i)) → post (-3) (nI w, nI cap, gf, he, de, pr, lo, hi, ca)) :
    wpY_setDeadline post (nI w, nI cap, gf, he, de, pr, lo, hi, ca) (nI i) (nI e) := by
  obtain ⟨hw, hc, hp, hb7, hA, hl, s0, hs0⟩ := ho
  unfold wpY_setDeadline
  refine yh_t hH hi7 pi (br_f (by decide) (br_f (rl_d1 h1e h8e) (br_t (rl_d8 h8e) ⟨x7_i hi7, nm_e ⟨x7_i hi7, ?_⟩⟩)))
  rw [x7_c hi7, hde i hi7 pi]
  refine nm_e (yf_good (D := tw_u D i e) hw hp hl hH hP (fun l hl pl => ⟨tw_uI (Q := fun l => p.testBit l = true) (fun l hl q _ => hde l hl q) l hl pl, ?_⟩) (fun hF gf lo hi ca _ => ?_) (fun hF gf lo hi ca _ => ?_) gf lo hi ca)
  · by_cases z : l = i
    · rw [z, tw_us]; exact ⟨h1e, h8e⟩
    · rw [tw_un z]; exact (hb7 l hl pl).2
  · dsimp only
    exact br_f (by decide) (h1 hF gf lo hi ca)
  · dsimp only
    refine br_t rfl ⟨x7_i hi7, ?_⟩
    refine nm_e (h0 hF gf _ lo hi ca fun l hl pl => ?_)
    by_cases z : l = i
    · rw [z, pk_us]
    · rw [pk_un z, pk_un z]; exact hde l hl pl
end
theorem i_vc_setDeadline {k : Nat} {u : SX} {v : SY} (I : i_Rel k u v) (hk : k + 3 ≤ 1538) (v1 : Int32) (v2 : Int32) : wpX_setDeadline (fun r u' => wpY_setDeadline (fun r' v' => r' = r ∧ i_Rel (k + 3) u' v') v v1 v2) u v1 v2 := by
  have I2 := I
  revert I2
  refine rl_el (P := fun u v => i_Rel k u v → wpX_setDeadline (fun r u' => wpY_setDeadline (fun r' v' => r' = r ∧ i_Rel (k + 3) u' v') v v1 v2) u v1 v2) ?_ I
  intro w cap p D A f1 f2 du af be ak dw s1 s2 gf he de pr lo hi ca ho hdu haf hf1 hf2 hH hde hP I
  have ho2 := ho
  obtain ⟨hw, hc, hp, hi7, hA, hl, ht⟩ := ho2
  have hcp : ∀ i, i < 7 → p.testBit i = true → i < cap := fun i hi e => (hi7 i hi e).1
  by_cases hx : rl_h p v1
  · obtain ⟨i, hi, rfl, pi⟩ := hx
    rcases rl_d v2 with hd | ⟨hd1, hd2⟩ | ⟨e, h1e, h8e, rfl⟩
    · unfold wpX_setDeadline
      refine xh_t hc.2 hp hi pi hcp (br_f (by decide) (br_t hd ?_))
      unfold wpY_setDeadline
      exact yh_t hH hi pi (br_f (by decide) (br_t hd ⟨rfl, I⟩))
    · unfold wpX_setDeadline
      refine xh_t hc.2 hp hi pi hcp (br_f (by decide) (br_f hd1 (br_f hd2 ?_)))
      unfold wpY_setDeadline
      exact yh_t hH hi pi (br_f (by decide) (br_f hd1 (br_f hd2 ⟨rfl, I⟩)))
    · refine xs_set ho hi pi h1e h8e hdu haf (fun hF be ak dw => ?_) (fun hF du be ak dw hdu => ?_)
      · refine ys_set ho hi pi h1e h8e hH hde hP (fun _ gf lo hi2 ca => ⟨rfl, ?_⟩) (fun hF2 => absurd hF hF2)
        refine rl_in (D := tw_u D i e) ⟨hw, hc, hp, fun l hl pl => ?_, hA, hl, hF⟩ (tw_uI (Q := fun l => p.testBit l = true) (fun l hl q _ => hdu l hl q)) haf (Or.inl rfl) (Or.inl rfl) hH (tw_uI (Q := fun l => p.testBit l = true) (fun l hl q _ => hde l hl q)) hP
        by_cases z : l = i
        · rw [z, tw_us]; exact ⟨hcp i hi pi, h1e, h8e⟩
        · rw [tw_un z]; exact hi7 l hl pl
      · exact ys_set ho hi pi h1e h8e hH hde hP (fun hF2 => absurd hF2 hF) (fun _ gf de lo hi2 ca hde => ⟨rfl, rl_in ho hdu haf hf1 hf2 hH hde hP⟩)
  · unfold wpX_setDeadline
    refine xh_f hc.2 hp hx (br_t rfl ?_)
    unfold wpY_setDeadline
    exact yh_f hH hx (br_t rfl ⟨rfl, I⟩)
end
section
/-! a new task: freeNumber, tryNew; take -/
/-- i is the least free number -/
def rl_fr (cap p i : Nat) : Prop := i < cap ∧ p.testBit i = false ∧ ∀ j, j < i → p.testBit j = true
theorem rl_free (cap p : Nat) : (∀ i, i < cap → p.testBit i = true) ∨ ∃ i, rl_fr cap p i := by
  by_cases h : ∃ i, i < cap ∧ p.testBit i = false
  · obtain ⟨i, ⟨h1, h2⟩, h3⟩ := pk_least (fun i => i < cap ∧ p.testBit i = false) h
    exact Or.inr ⟨i, h1, h2, fun j hj => tb_nf fun z => h3 j hj ⟨by omega, z⟩⟩
  · exact Or.inl fun i hi => tb_nf fun z => h ⟨i, hi, z⟩
theorem tw_acy_mono {E E' : Nat → Nat → Bool} (h : ∀ i j, i < 7 → j < 7 → E' i j = true → E i j = true) (hac : tw_acy E) : tw_acy E' := fun i hi e =>
  hac i hi (tw_w_m (E := E') (R := fun a b => tw_w E 7 a b = true) (fun a b ha hb e => tw_w_EB a b ha hb (h a b ha hb e)) tw_w_Bt 7 i i (Nat.le_refl _) hi hi e)
section
variable {w cap p i e fl : Nat} {D A : Nat → Nat}
theorem rl_off (ho : rl_ok w cap p D A) (hf : rl_fr cap p i) : (∀ a, a < 7 → tw_E A i a = false) ∧ (∀ a, a < 7 → tw_E A a i = false) := by
  obtain ⟨hw, hc, hp, hi7, hA, hl, ht⟩ := ho
  have hi : i < 7 := by have := hf.1; omega
  refine ⟨fun a ha => tb_nt fun z => ?_, fun a ha => tb_nt fun z => ?_⟩
  · have := (hl i a hi ha z).1
    rw [hf.2.1] at this
    exact absurd this (by decide)
  · have := (hl a i ha hi z).2
    rw [hf.2.1] at this
    exact absurd this (by decide)
theorem rl_new (ho : rl_ok w cap p D A) (hf : rl_fr cap p i) (h1e : 1 ≤ e) (h8e : e ≤ 8) (hfl : fl = 0 ∨ ∃ j, j < 7 ∧ p.testBit j = true ∧ fl = 2 ^ j) :
    fl < 128 ∧ tw_lh (p ||| 2 ^ i).testBit (tw_E (tw_u A i fl)) ∧ tw_acy (tw_E (tw_u A i fl)) ∧ (∀ l, l < 7 → tw_u A i fl l < 128) ∧
    (∀ l, l < 7 → (p ||| 2 ^ i).testBit l = true → l < cap ∧ 1 ≤ tw_u D i e l ∧ tw_u D i e l ≤ 8) := by
  have off := rl_off ho hf
  obtain ⟨hw, hc, hp, hi7, hA, hl, s, hs⟩ := ho
  have hi : i < 7 := by have := hf.1; omega
  have hflt : fl < 128 := by
    rcases hfl with rfl | ⟨j, hj, _, rfl⟩
    · decide
    · exact tb_p hj
  have hac := tw_acy_tt hl hs
  refine ⟨hflt, fun a b ha hb z => ?_, ?_, tw_ua hA hflt, fun l hl pl => ?_⟩
  · rw [tb_st, tb_st]
    by_cases za : a = i
    · subst za
      rw [tw_Es] at z
      refine ⟨by simp, ?_⟩
      rcases hfl with rfl | ⟨j, hj, pj, rfl⟩
      · rw [Nat.zero_testBit] at z; exact absurd z (by decide)
      · rw [tb_2, decide_eq_true_iff] at z
        rw [← z, pj]; rfl
    · rw [tw_En za] at z
      have := hl a b ha hb z
      rw [this.1, this.2]
      exact ⟨rfl, rfl⟩
  · rcases hfl with rfl | ⟨j, hj, pj, rfl⟩
    · refine tw_acy_mono (fun a b ha hb z => ?_) hac
      by_cases za : a = i
      · rw [za, tw_Es, Nat.zero_testBit] at z; exact absurd z (by decide)
      · rw [tw_En za] at z; exact z
    · have hij : i ≠ j := fun z => by
        have := hf.2.1
        rw [z, pj] at this
        exact absurd this (by decide)
      refine tw_acy_add hi hj hij (fun a b ha hb z => ?_) hac fun z => ?_
      · by_cases za : a = i
        · subst za
          rw [tw_Es, tb_2, decide_eq_true_iff] at z
          exact Or.inr ⟨rfl, z.symm⟩
        · rw [tw_En za] at z; exact Or.inl z
      · have := (tw_w_H hl hj hi z).2
        rw [hf.2.1] at this
        exact absurd this (by decide)
  · by_cases z : l = i
    · rw [z, tw_us]; exact ⟨hf.1, h1e, h8e⟩
    · rw [tw_un z]
      rw [tb_st, decide_eq_false (fun e => z e.symm), Bool.or_false] at pl
      exact hi7 l hl pl
theorem tb_back (hp : p < 128) (hi : i < 7) (h : p.testBit i = false) : tb_d (p ||| 2 ^ i) (2 ^ i) = p :=
  tb_ext (tb_dlt (tb_slt hp hi)) hp fun l _ => by
    rw [tb_ct (tb_slt hp hi), tb_st]
    by_cases z : i = l
    · rw [← z, h]; simp
    · rw [decide_eq_false z]; simp
end
section
variable {w cap p i e fl : Nat} {D A : Nat → Nat} {f1 f2 : Int32} {du af be ak dw s1 s2 : Nat → Int32} {post : Int32 → SX → Prop}
theorem xt_full {x y : Int32} (hc : cap ≤ 7) (hp : p < 128) (hf : ∀ i, i < cap → p.testBit i = true) (h : post (-2) (nI w, nI cap, nI p, f1, f2, du, af, be, ak, dw, s1, s2)) :
    wpX_tryNew post (nI w, nI cap, nI p, f1, f2, du, af, be, ak, dw, s1, s2) x y := by
  unfold wpX_tryNew wpX_freeNumber
  refine pk_loop (fun n i (_ : Unit) => wX_freeNumber_2 _ (nI w) (nI cap) (nI p) f1 f2 du af be ak dw s1 s2 n (nI i)) (fun _ _ => True) cap 0 () (by omega) trivial ?_ ?_
  · intro n _ _
    unfold wX_freeNumber_2
    exact br_t (nI_le (Nat.le_refl _) (by omega)) (br_f (by decide) h)
  · intro n i _ hi _ hn
    unfold wX_freeNumber_2
    refine br_f (nI_ge hi (by omega)) ?_
    rw [tb_z hp (by omega)]
    exact br_f (by rw [hf i hi]; decide) (nm_r (nI_1 i) (hn () trivial))
theorem xt_new (ho : rl_ok w cap p D A) (hf : rl_fr cap p i) (h1e : 1 ≤ e) (h8e : e ≤ 8) (hfl : fl = 0 ∨ ∃ j, j < 7 ∧ p.testBit j = true ∧ fl = 2 ^ j)
    (hdu : ∀ i, i < 7 → p.testBit i = true → du i = nI (D i)) (haf : ∀ i, i < 7 → af i = nI (A i))
    (h1 : (∃ s, rl_T w (p ||| 2 ^ i) (tw_u D i e) (tw_u A i fl) s) → ∀ be ak dw, post (nI i) (nI w, nI cap, nI p, f1, f2, upd du i (nI e), upd (upd af i (nI fl)) i 0, be, ak, dw, s1, s2))
    (h0 : (¬ ∃ s, rl_T w (p ||| 2 ^ i) (tw_u D i e) (tw_u A i fl) s) → ∀ be ak dw, post (-3) (nI w, nI cap, nI p, f1, f2, upd du i (nI e), upd (upd af i (nI fl)) i 0, be, ak, dw, s1, s2)) :
    wpX_tryNew post (nI w, nI cap, nI p, f1, f2, du, af, be, ak, dw, s1, s2) (nI e) (nI fl) := by
  obtain ⟨n1, n2, n3, n4, n5⟩ := rl_new ho hf h1e h8e hfl
  obtain ⟨hw, hc, hp, hi7, hA, hl, s, hs⟩ := ho
  have hi : i < 7 := by have := hf.1; omega
  unfold wpX_tryNew wpX_freeNumber
  refine pk_loop (fun n i (_ : Unit) => wX_freeNumber_2 _ (nI w) (nI cap) (nI p) f1 f2 du af be ak dw s1 s2 n (nI i)) (fun _ _ => True) i 0 () (by omega) trivial ?_ ?_
  · intro n _ _
    unfold wX_freeNumber_2
    refine br_f (nI_ge hf.1 (by omega)) ?_
    rw [tb_z hp hi]
    refine br_t hf.2.1 (br_t (nI_pos' (by omega)) ⟨x7_i hi, ?_⟩)
    rw [x7_c hi, tb_i8 (by omega), tb_by (by omega), tb_i8 n1, tb_by n1, tb_1 i hi, tb_or]
    refine nm_e ⟨x7_i hi, nm_e (nm_e ?_)⟩
    refine xg_feas (D := tw_u D i e) (A := tw_u A i fl) hw (tb_slt hp hi) (fun l hl => ⟨tw_uI (Q := fun _ => True) (fun l hl _ _ => haf l hl) l hl trivial, n4 l hl⟩) n2 n3
      (fun l hl pl => ⟨tw_uI (Q := fun l => (p ||| 2 ^ i).testBit l = true) (fun l hl q z => ?_) l hl pl, (n5 l hl pl).2.2⟩) (fun hF be ak dw => ?_) (fun hF be ak dw => ?_) ak
    · rw [tb_st, decide_eq_false (fun e => z e.symm), Bool.or_false] at q
      exact hdu l hl q
    · dsimp only
      rw [tb_nd (tb_slt hp hi), tb_back hp hi hf.2.1]
      exact nm_e ⟨x7_i hi, nm_e (br_f (by decide) (h1 hF be ak dw))⟩
    · dsimp only
      rw [tb_nd (tb_slt hp hi), tb_back hp hi hf.2.1]
      exact nm_e ⟨x7_i hi, nm_e (br_t rfl (h0 hF be ak dw))⟩
  · intro n l _ hl _ hn
    have := hf.1
    unfold wX_freeNumber_2
    refine br_f (nI_ge (by omega) (by omega)) ?_
    rw [tb_z hp (by omega)]
    exact br_f (by rw [hf.2.2 l hl]; decide) (nm_r (nI_1 l) (hn () trivial))
end
theorem tw_c_ge {f : Nat → Bool} {m n : Nat} (h : m ≤ n) (hf : ∀ i, i < m → f i = true) : m ≤ tw_c f n := by
  induction n with
  | zero => omega
  | succ n ih =>
    show m ≤ tw_c f n + _
    by_cases z : m = n + 1
    · have : n ≤ tw_c f n := by
        have : ∀ k, k ≤ n → k ≤ tw_c f k := by
          intro k
          induction k with
          | zero => intro _; omega
          | succ k ik =>
            intro hk
            have := ik (by omega)
            show k + 1 ≤ tw_c f k + _
            rw [if_pos (hf k (by omega))]; omega
        exact this n (Nat.le_refl _)
      rw [if_pos (hf n (by omega))]; omega
    · have := ih (by omega)
      omega
theorem tw_c_lt (c n : Nat) : tw_c (fun i => decide (i < c)) n ≤ c := by
  have : tw_c (fun i => decide (i < c)) n ≤ c ∧ tw_c (fun i => decide (i < c)) n ≤ n := by
    induction n with
    | zero => exact ⟨Nat.zero_le _, Nat.le_refl _⟩
    | succ n ih =>
      show tw_c _ n + _ ≤ c ∧ tw_c _ n + _ ≤ n + 1
      by_cases z : n < c
      · rw [if_pos (by rw [decide_eq_true_iff]; exact z)]; omega
      · rw [if_neg (by rw [decide_eq_true_iff]; exact z)]; omega
  exact this.1
theorem rl_cnt {cap p i : Nat} (hc : cap ≤ 7) (hi7 : ∀ i, i < 7 → p.testBit i = true → i < cap) (hf : rl_fr cap p i) : tw_c p.testBit 7 < cap := by
  have h1 := tw_c_add (f := p.testBit) (g := fun j => decide (j = i)) (h := fun j => decide (j < cap)) (n := 7) (fun j hj e => decide_eq_true (hi7 j hj e))
    (fun j _ e => by simp only [decide_eq_true_eq] at e ⊢; rw [e]; exact hf.1) (fun j _ e e2 => by simp only [decide_eq_true_eq] at e2; rw [e2, hf.2.1] at e; exact absurd e (by decide))
  have := hf.1
  rw [tw_c_one i 7 (by omega)] at h1
  have := tw_c_lt cap 7
  omega
end
section
/-! Y: take -/
section
variable {gw gm gf : Int32} {he de pr lo hi ca : Nat → Int32} {post : Int32 → SY → Prop}
theorem yk_10 {p : Nat} {x1 x2 : Int32} (hH : yh_H he p)
    (hend : ∀ n m, ((m = 7 ∧ ∀ j, j < 7 → p.testBit j = true) ∨ (m < 7 ∧ p.testBit m = false ∧ ∀ j, j < m → p.testBit j = true)) →
      wY_take_10 post x1 x2 gw gm gf he de pr lo hi ca (n + 1) (nI (tw_c p.testBit 7)) (nI m) (-1)) :
    ∃ n, wY_take_10 post x1 x2 gw gm gf he de pr lo hi ca n 0 7 6 := by
  refine ⟨_, pk_loopD (fun n i (s : Int32 × Int32) => wY_take_10 post x1 x2 gw gm gf he de pr lo hi ca n s.1 s.2 (yf_x i))
    (fun i s => ∃ c m, s = (nI c, nI m) ∧ c + tw_c p.testBit i = tw_c p.testBit 7 ∧ i ≤ 7 ∧ ((m = 7 ∧ ∀ j, i ≤ j → j < 7 → p.testBit j = true) ∨ (i ≤ m ∧ m < 7 ∧ p.testBit m = false ∧ ∀ j, i ≤ j → j < m → p.testBit j = true)))
    ?_ ?_ 7 (nI 0, nI 7) ⟨0, 7, rfl, by omega, by omega, Or.inl ⟨rfl, fun j h1 h2 => by omega⟩⟩⟩
  · rintro n s ⟨c, m, rfl, h1, h2, h3⟩
    have e : c = tw_c p.testBit 7 := h1
    rw [e]
    refine hend n m ?_
    rcases h3 with ⟨h3, h4⟩ | ⟨_, h4, h5, h6⟩
    · exact Or.inl ⟨h3, fun j hj => h4 j (Nat.zero_le _) hj⟩
    · exact Or.inr ⟨h4, h5, fun j hj => h6 j (Nat.zero_le _) hj⟩
  · rintro n i s ⟨c, m, rfl, h1, h2, h3⟩ hn
    have hi : i < 7 := by omega
    have h1 : c + (tw_c p.testBit i + (if p.testBit i = true then 1 else 0)) = tw_c p.testBit 7 := h1
    simp only [wY_take_10, wY_take_31, yf_x, forall_eq, x7_c hi, hH i hi, yf_x1, Int32.add_zero, nI_1]
    refine br_f (nI_pos (by omega)) ⟨x7_i hi, br_c (fun z => ⟨x7_i hi, br_t z (hn (nI c, nI i) ⟨c, i, rfl, ?_, by omega, Or.inr ⟨Nat.le_refl _, hi, z, fun j a b => by omega⟩⟩)⟩) (fun z => ⟨x7_i hi, br_f z (hn (nI (c + 1), nI m) ⟨c + 1, m, rfl, ?_, by omega, ?_⟩)⟩)⟩
    · rw [if_neg (by rw [z]; decide)] at h1; omega
    · rw [if_pos (tb_nf z)] at h1; omega
    · rcases h3 with ⟨h3, h4⟩ | ⟨h3, h4, h5, h6⟩
      · refine Or.inl ⟨h3, fun j a b => ?_⟩
        by_cases e : j = i
        · rw [e]; exact tb_nf z
        · exact h4 j (by omega) b
      · refine Or.inr ⟨by omega, h4, h5, fun j a b => ?_⟩
        by_cases e : j = i
        · rw [e]; exact tb_nf z
        · exact h6 j (by omega) b
end
section
variable {w cap p i e : Nat} {D A : Nat → Nat} {gf : Int32} {he de pr lo hi ca : Nat → Int32} {post : Int32 → SY → Prop}
theorem yk_full {x y : Int32} (hc : cap ≤ 7) (hH : yh_H he p) (hf : ∀ i, i < cap → p.testBit i = true) (h : post (-2) (nI w, nI cap, gf, he, de, pr, lo, hi, ca)) :
    wpY_take post (nI w, nI cap, gf, he, de, pr, lo, hi, ca) x y := by
  unfold wpY_take
  refine yk_10 hH fun n m _ => ?_
  have h1 := tw_c_ge (f := p.testBit) hc hf
  have h2 := tw_c_n p.testBit 7
  unfold wY_take_10
  exact br_t (by decide) (br_t (nI_le h1 (by omega)) h)
theorem yk_127 {fl : Nat} {he' de' pr' : Nat → Int32} (ho : rl_ok w cap p D A) (hf : rl_fr cap p i) (h1e : 1 ≤ e) (h8e : e ≤ 8) (hfl : fl = 0 ∨ ∃ j, j < 7 ∧ p.testBit j = true ∧ fl = 2 ^ j)
    (hH : yh_H he' (p ||| 2 ^ i)) (hde : ∀ l, l < 7 → (p ||| 2 ^ i).testBit l = true → de' l = nI (tw_u D i e l)) (hP : yp_P pr' (p ||| 2 ^ i) (tw_E (tw_u A i fl)))
    (h1 : (∃ s, rl_T w (p ||| 2 ^ i) (tw_u D i e) (tw_u A i fl) s) → ∀ gf lo hi ca, post (nI i) (nI w, nI cap, gf, he', de', pr', lo, hi, ca))
    (h0 : (¬ ∃ s, rl_T w (p ||| 2 ^ i) (tw_u D i e) (tw_u A i fl) s) → ∀ gf he de pr lo hi ca, yh_H he p → (∀ l, l < 7 → p.testBit l = true → de l = nI (D l)) → yp_P pr p (tw_E A) →
      post (-3) (nI w, nI cap, gf, he, de, pr, lo, hi, ca)) :
    wY_take_127 post (nI i) (nI w) (nI cap) gf he' de' pr' lo hi ca := by
  obtain ⟨n1, n2, n3, n4, n5⟩ := rl_new ho hf h1e h8e hfl
  have off := rl_off ho hf
  obtain ⟨hw, hc, hp, hi7, hA, hl, s, hs⟩ := ho
  have hi : i < 7 := by have := hf.1; omega
  have hp' := tb_slt hp hi
  unfold wY_take_127
  refine yf_good hw hp' n2 hH hP (fun l hl pl => ⟨hde l hl pl, (n5 l hl pl).2⟩) (fun hF gf lo h2 ca _ => ?_) (fun hF gf lo h2 ca _ => ?_) gf lo _ ca
  · dsimp only
    exact br_f (by decide) (h1 hF gf lo h2 ca)
  · dsimp only
    refine br_t rfl ?_
    refine yv_remove (E' := tw_E A) hp' hi (by rw [tb_st]; simp) hH hP (fun a b ha hb _ z => ?_) fun pr hP2 => ?_
    · by_cases za : a = i
      · subst za; rw [off.1 b hb, decide_eq_true (rfl : a = a)]; simp
      · rw [tw_En za, decide_eq_false (fun e => za e.symm)]; simp
    · rw [tb_back hp hi hf.2.1] at hP2
      have hH2 := yh_u0 (i := i) hp' hH
      rw [tb_back hp hi hf.2.1] at hH2
      refine h0 hF _ _ _ _ _ _ _ hH2 (fun l hl pl => ?_) hP2
      have zl : l ≠ i := fun z => by rw [z, hf.2.1] at pl; exact absurd pl (by decide)
      dsimp only
      rw [hde l hl (by rw [tb_st, pl]; rfl), tw_un zl]
/-- take, with a link to task y or with none -/
theorem yk_take {fl : Nat} {y : Int32} (ho : rl_ok w cap p D A) (hf : rl_fr cap p i) (h1e : 1 ≤ e) (h8e : e ≤ 8) (hfl : (fl = 0 ∧ y = -1) ∨ ∃ j, j < 7 ∧ p.testBit j = true ∧ fl = 2 ^ j ∧ y = nI j)
    (hH : yh_H he p) (hde : ∀ l, l < 7 → p.testBit l = true → de l = nI (D l)) (hP : yp_P pr p (tw_E A))
    (h1 : (∃ s, rl_T w (p ||| 2 ^ i) (tw_u D i e) (tw_u A i fl) s) → ∀ gf he de pr lo hi ca, yh_H he (p ||| 2 ^ i) → (∀ l, l < 7 → (p ||| 2 ^ i).testBit l = true → de l = nI (tw_u D i e l)) →
      yp_P pr (p ||| 2 ^ i) (tw_E (tw_u A i fl)) → post (nI i) (nI w, nI cap, gf, he, de, pr, lo, hi, ca))
    (h0 : (¬ ∃ s, rl_T w (p ||| 2 ^ i) (tw_u D i e) (tw_u A i fl) s) → ∀ gf he de pr lo hi ca, yh_H he p → (∀ l, l < 7 → p.testBit l = true → de l = nI (D l)) → yp_P pr p (tw_E A) →
      post (-3) (nI w, nI cap, gf, he, de, pr, lo, hi, ca)) :
    wpY_take post (nI w, nI cap, gf, he, de, pr, lo, hi, ca) (nI e) y := by
  have off := rl_off ho hf
  have ho2 := ho
  obtain ⟨hw, hc, hp, hi7, hA, hl, s, hs⟩ := ho2
  have hi : i < 7 := by have := hf.1; omega
  have hne : ∀ l, (p ||| 2 ^ i).testBit l = true → l ≠ i → p.testBit l = true := fun l pl z => by
    rw [tb_st, decide_eq_false (fun e => z e.symm), Bool.or_false] at pl; exact pl
  unfold wpY_take
  refine yk_10 hH fun n m hm => ?_
  have em : m = i := by
    rcases hm with ⟨h3, h4⟩ | ⟨h4, h5, h6⟩
    · have := h4 i hi; rw [hf.2.1] at this; exact absurd this (by decide)
    · rcases Nat.lt_trichotomy m i with z | z | z
      · have := hf.2.2 m z; rw [h5] at this; exact absurd this (by decide)
      · exact z
      · have := h6 i z; rw [hf.2.1] at this; exact absurd this (by decide)
  subst em
  have hcnt := rl_cnt hc.2 (fun i hi e => (hi7 i hi e).1) hf
  have hH' := yh_u1 (i := m) hH
  have hde' : ∀ l, l < 7 → (p ||| 2 ^ m).testBit l = true → upd de m (nI e) l = nI (tw_u D m e l) := tw_uI (Q := fun l => (p ||| 2 ^ m).testBit l = true) (fun l hl q z => hde l hl (hne l q z))
  simp only [wY_take_10, forall_eq, x7_c hi, tb_v1, tb_1 m hi]
  refine br_t (by decide) (br_f (nI_ge hcnt (by omega)) (br_t (nI_lt (b := 7) hi (by decide)) ⟨x7_i hi, x7_i hi, x7_i hi, ?_⟩))
  rcases hfl with ⟨rfl, rfl⟩ | ⟨j, hj, pj, rfl, rfl⟩
  · refine br_t (by decide) (yk_127 ho hf h1e h8e (Or.inl rfl) hH' hde' ?_ (fun hF gf lo hi ca => h1 hF _ _ _ _ _ _ _ hH' hde' ?_) h0)
    all_goals
      refine yp_u (q := 0) hP (by decide) (fun _ a ha => ?_) (fun b hb z pb => ⟨hne b pb z, fun a ha => ?_⟩)
      · rw [Nat.zero_testBit]
        by_cases za : a = m
        · subst za; rw [tw_Es, Nat.zero_testBit]
        · rw [tw_En za, off.2 a ha]
      · by_cases za : a = m
        · subst za; rw [tw_Es, Nat.zero_testBit, off.1 b hb]
        · rw [tw_En za]
  · have hjm : j ≠ m := fun z => by rw [z, hf.2.1] at pj; exact absurd pj (by decide)
    obtain ⟨q, hq, eq, bq⟩ := hP j hj
    refine br_f (nI_pos (by omega)) (br_f (x7_n hj) ⟨x7_i hj, x7_i hj, ?_⟩)
    rw [x7_c hj, pk_un hjm, eq, tb_or]
    have hP1 : yp_P (upd pr m 0) (p ||| 2 ^ m) (tw_E (tw_u A m 0)) := by
      refine yp_u (q := 0) hP (by decide) (fun _ a ha => ?_) (fun b hb z pb => ⟨hne b pb z, fun a ha => ?_⟩)
      · rw [Nat.zero_testBit]
        by_cases za : a = m
        · subst za; rw [tw_Es, Nat.zero_testBit]
        · rw [tw_En za, off.2 a ha]
      · by_cases za : a = m
        · subst za; rw [tw_Es, Nat.zero_testBit, off.1 b hb]
        · rw [tw_En za]
    have hP2 : yp_P (upd (upd pr m 0) j (nI (q ||| 2 ^ m))) (p ||| 2 ^ m) (tw_E (tw_u A m (2 ^ j))) := by
      refine yp_u hP1 (tb_slt hq hi) (fun _ a ha => ?_) (fun b hb z pb => ⟨pb, fun a ha => ?_⟩)
      · rw [tb_st, bq pj a ha]
        by_cases za : a = m
        · subst za; rw [tw_Es, tb_2, decide_eq_true (rfl : a = a), decide_eq_true (rfl : j = j)]; simp
        · rw [tw_En za, decide_eq_false (fun e => za e.symm)]; simp
      · by_cases za : a = m
        · subst za; rw [tw_Es, tw_Es, tb_2, Nat.zero_testBit, decide_eq_false (fun e => z e.symm)]
        · rw [tw_En za, tw_En za]
    exact yk_127 ho hf h1e h8e (Or.inr ⟨j, hj, pj, rfl⟩) hH' hde' hP2 (fun hF gf lo hi ca => h1 hF _ _ _ _ _ _ _ hH' hde' hP2) h0
end
end
section
/-! add, probe, addBefore -/
section
variable {w cap p i e fl : Nat} {D A : Nat → Nat} {f1 f2 : Int32} {du af be ak dw s1 s2 : Nat → Int32} {post : SX → Prop}
theorem xe_settle (hp : p < 128) (hi : i < 7) (h8e : e ≤ 8) (h : post (nI w, nI cap, nI (p ||| 2 ^ i), 0, 0, upd du i (nI e), upd af i 0, be, ak, dw, s1, s2)) :
    wpX_settle post (nI w, nI cap, nI p, f1, f2, du, af, be, ak, dw, s1, s2) (nI i) (nI e) := by
  unfold wpX_settle
  dsimp only
  rw [x7_c hi, tb_i8 (by omega), tb_by (by omega), tb_1 i hi, tb_or]
  refine nm_e ⟨x7_i hi, nm_e ⟨x7_i hi, nm_e ?_⟩⟩
  unfold wpX_changed
  exact h
/-- what tryNew leaves is as before -/
theorem xe_old (ho : rl_ok w cap p D A) (hf : rl_fr cap p i) (hdu : ∀ i, i < 7 → p.testBit i = true → du i = nI (D i)) (haf : ∀ i, i < 7 → af i = nI (A i)) :
    (∀ l, l < 7 → p.testBit l = true → upd du i (nI e) l = nI (D l)) ∧ (∀ l, l < 7 → upd (upd af i (nI fl)) i 0 l = nI (A l)) := by
  have off := rl_off ho hf
  obtain ⟨hw, hc, hp, hi7, hA, hl, s, hs⟩ := ho
  have hi : i < 7 := by have := hf.1; omega
  refine ⟨fun l hl pl => ?_, fun l hl => ?_⟩
  · have zl : l ≠ i := fun z => by rw [z, hf.2.1] at pl; exact absurd pl (by decide)
    rw [pk_un zl]; exact hdu l hl pl
  · by_cases z : l = i
    · subst z
      rw [pk_us, tb_e0 (hA l hl) off.1]; rfl
    · rw [pk_un z, pk_un z]; exact haf l hl
/-- the new state of the component -/
theorem xe_new {af2 : Nat → Int32} (ho : rl_ok w cap p D A) (hf : rl_fr cap p i) (hdu : ∀ i, i < 7 → p.testBit i = true → du i = nI (D i)) (haf : ∀ i, i < 7 → af i = nI (A i))
    (h2 : ∀ l, l ≠ i → af2 l = af l) :
    (∀ l, l < 7 → (p ||| 2 ^ i).testBit l = true → upd (upd du i (nI e)) i (nI e) l = nI (tw_u D i e l)) ∧ (∀ l, l < 7 → upd af2 i (nI fl) l = nI (tw_u A i fl l)) := by
  obtain ⟨hw, hc, hp, hi7, hA, hl, s, hs⟩ := ho
  refine ⟨tw_uI (Q := fun l => (p ||| 2 ^ i).testBit l = true) (fun l hl q z => ?_), fun l hl => tw_uI (Q := fun _ => True) (fun l hl _ z => ?_) l hl trivial⟩
  · rw [tb_st, decide_eq_false (fun e => z e.symm), Bool.or_false] at q
    rw [pk_un z]; exact hdu l hl q
  · rw [h2 l z]; exact haf l hl
end
theorem i_vc_add {k : Nat} {u : SX} {v : SY} (I : i_Rel k u v) (hk : k + 3 ≤ 1538) (v1 : Int32) : wpX_add (fun r u' => wpY_add (fun r' v' => r' = r ∧ i_Rel (k + 3) u' v') v v1) u v1 := by
  have I2 := I
  revert I2
  refine rl_el (P := fun u v => i_Rel k u v → wpX_add (fun r u' => wpY_add (fun r' v' => r' = r ∧ i_Rel (k + 3) u' v') v v1) u v1) ?_ I
  intro w cap p D A f1 f2 du af be ak dw s1 s2 gf he de pr lo hi ca ho hdu haf hf1 hf2 hH hde hP I
  have ho2 := ho
  obtain ⟨hw, hc, hp, hi7, hA, hl, ht⟩ := ho2
  unfold wpX_add wpX_probe
  dsimp only
  rcases rl_d v1 with hd | ⟨hd1, hd2⟩ | ⟨e, h1e, h8e, rfl⟩
  · refine br_t hd (br_t (by decide) ?_)
    unfold wpY_add
    exact br_t hd ⟨rfl, I⟩
  · refine br_f hd1 (br_f hd2 (br_t (by decide) ?_))
    unfold wpY_add
    exact br_f hd1 (br_f hd2 ⟨rfl, I⟩)
  · refine br_f (rl_d1 h1e h8e) (br_t (rl_d8 h8e) ?_)
    rcases rl_free cap p with hf | ⟨i, hf⟩
    · refine xt_full hc.2 hp hf (br_t (by decide) ?_)
      unfold wpY_add
      exact br_f (rl_d1 h1e h8e) (br_t (rl_d8 h8e) (yk_full hc.2 hH hf ⟨rfl, I⟩))
    · have hi : i < 7 := by have := hf.1; omega
      refine xt_new (fl := 0) ho hf h1e h8e (Or.inl rfl) hdu haf (fun hF be ak dw => ?_) (fun hF be ak dw => ?_)
      · refine br_f (nI_pos (by omega)) (xe_settle hp hi h8e ?_)
        unfold wpY_add
        refine br_f (rl_d1 h1e h8e) (br_t (rl_d8 h8e) (yk_take (fl := 0) ho hf h1e h8e (Or.inl ⟨rfl, rfl⟩) hH hde hP (fun _ gf he de pr lo h2 ca hH hde hP => ⟨rfl, ?_⟩) (fun hF2 => absurd hF hF2)))
        obtain ⟨n1, n2, n3, n4, n5⟩ := rl_new ho hf h1e h8e (Or.inl rfl)
        obtain ⟨x1, x2⟩ := xe_new (e := e) (fl := 0) (af2 := upd (upd af i (nI 0)) i 0) ho hf hdu haf (fun l z => by rw [pk_un z, pk_un z])
        exact rl_in (D := tw_u D i e) (A := tw_u A i 0) ⟨hw, hc, tb_slt hp hi, n5, n4, n2, hF⟩ x1 x2 (Or.inl rfl) (Or.inl rfl) hH hde hP
      · refine br_t (by decide) ?_
        unfold wpY_add
        obtain ⟨x1, x2⟩ := xe_old (e := e) (fl := 0) ho hf hdu haf
        exact br_f (rl_d1 h1e h8e) (br_t (rl_d8 h8e) (yk_take (fl := 0) ho hf h1e h8e (Or.inl ⟨rfl, rfl⟩) hH hde hP (fun hF2 => absurd hF2 hF) (fun _ gf he de pr lo hi ca hH hde hP => ⟨rfl, rl_in ho x1 x2 hf1 hf2 hH hde hP⟩)))
theorem i_vc_probe {k : Nat} {u : SX} {v : SY} (I : i_Rel k u v) (hk : k + 3 ≤ 1538) (v1 : Int32) : wpX_probe (fun r u' => wpY_probe (fun r' v' => r' = r ∧ i_Rel (k + 3) u' v') v v1) u v1 := by
  have I2 := I
  revert I2
  refine rl_el (P := fun u v => i_Rel k u v → wpX_probe (fun r u' => wpY_probe (fun r' v' => r' = r ∧ i_Rel (k + 3) u' v') v v1) u v1) ?_ I
  intro w cap p D A f1 f2 du af be ak dw s1 s2 gf he de pr lo hi ca ho hdu haf hf1 hf2 hH hde hP I
  have ho2 := ho
  obtain ⟨hw, hc, hp, hi7, hA, hl, ht⟩ := ho2
  unfold wpX_probe
  rcases rl_d v1 with hd | ⟨hd1, hd2⟩ | ⟨e, h1e, h8e, rfl⟩
  · refine br_t hd ?_
    unfold wpY_probe wpY_add
    exact br_t hd (br_t (by decide) ⟨rfl, I⟩)
  · refine br_f hd1 (br_f hd2 ?_)
    unfold wpY_probe wpY_add
    exact br_f hd1 (br_f hd2 (br_t (by decide) ⟨rfl, I⟩))
  · refine br_f (rl_d1 h1e h8e) (br_t (rl_d8 h8e) ?_)
    rcases rl_free cap p with hf | ⟨i, hf⟩
    · refine xt_full hc.2 hp hf ?_
      unfold wpY_probe wpY_add
      exact br_f (rl_d1 h1e h8e) (br_t (rl_d8 h8e) (yk_full hc.2 hH hf (br_t (by decide) ⟨rfl, I⟩)))
    · have hi : i < 7 := by have := hf.1; omega
      have off := rl_off ho hf
      refine xt_new (fl := 0) ho hf h1e h8e (Or.inl rfl) hdu haf (fun hF be ak dw => ?_) (fun hF be ak dw => ?_)
      · unfold wpY_probe wpY_add
        obtain ⟨x1, x2⟩ := xe_old (e := e) (fl := 0) ho hf hdu haf
        refine br_f (rl_d1 h1e h8e) (br_t (rl_d8 h8e) (yk_take (fl := 0) ho hf h1e h8e (Or.inl ⟨rfl, rfl⟩) hH hde hP (fun _ gf he de pr lo hi2 ca hH hde hP => br_f (nI_pos (by omega)) ?_) (fun hF2 => absurd hF hF2)))
        have hp' := tb_slt hp hi
        refine yv_remove (E' := tw_E A) hp' hi (by rw [tb_st]; simp) hH hP (fun a b ha hb _ z => ?_) fun pr hP2 => ⟨rfl, ?_⟩
        · by_cases za : a = i
          · subst za; rw [off.1 b hb, decide_eq_true (rfl : a = a)]; simp
          · rw [tw_En za, decide_eq_false (fun e => za e.symm)]; simp
        · rw [tb_back hp hi hf.2.1] at hP2
          have hH2 := yh_u0 (i := i) hp' hH
          rw [tb_back hp hi hf.2.1] at hH2
          refine rl_in ho x1 x2 hf1 hf2 hH2 (fun l hl pl => ?_) hP2
          have zl : l ≠ i := fun z => by rw [z, hf.2.1] at pl; exact absurd pl (by decide)
          rw [hde l hl (by rw [tb_st, pl]; rfl), tw_un zl]
      · unfold wpY_probe wpY_add
        obtain ⟨x1, x2⟩ := xe_old (e := e) (fl := 0) ho hf hdu haf
        exact br_f (rl_d1 h1e h8e) (br_t (rl_d8 h8e) (yk_take (fl := 0) ho hf h1e h8e (Or.inl ⟨rfl, rfl⟩) hH hde hP (fun hF2 => absurd hF2 hF) (fun _ gf he de pr lo hi ca hH hde hP => br_t (by decide) ⟨rfl, rl_in ho x1 x2 hf1 hf2 hH hde hP⟩)))
theorem i_vc_addBefore {k : Nat} {u : SX} {v : SY} (I : i_Rel k u v) (hk : k + 3 ≤ 1538) (v1 : Int32) (v2 : Int32) : wpX_addBefore (fun r u' => wpY_addBefore (fun r' v' => r' = r ∧ i_Rel (k + 3) u' v') v v1 v2) u v1 v2 := by
  have I2 := I
  revert I2
  refine rl_el (P := fun u v => i_Rel k u v → wpX_addBefore (fun r u' => wpY_addBefore (fun r' v' => r' = r ∧ i_Rel (k + 3) u' v') v v1 v2) u v1 v2) ?_ I
  intro w cap p D A f1 f2 du af be ak dw s1 s2 gf he de pr lo hi ca ho hdu haf hf1 hf2 hH hde hP I
  have ho2 := ho
  obtain ⟨hw, hc, hp, hi7, hA, hl, ht⟩ := ho2
  have hcp : ∀ i, i < 7 → p.testBit i = true → i < cap := fun i hi e => (hi7 i hi e).1
  unfold wpX_addBefore
  rcases rl_d v1 with hd | ⟨hd1, hd2⟩ | ⟨e, h1e, h8e, rfl⟩
  · refine br_t hd ?_
    unfold wpY_addBefore
    exact br_t hd ⟨rfl, I⟩
  · have hd2 : 8 < v1 := Int32.not_le.mp hd2
    refine br_f hd1 (br_t hd2 ?_)
    unfold wpY_addBefore
    exact br_f hd1 (br_t hd2 ⟨rfl, I⟩)
  · refine br_f (rl_d1 h1e h8e) (br_f (rl_d8' h8e) ?_)
    by_cases hx : rl_h p v2
    · obtain ⟨j, hj, rfl, pj⟩ := hx
      refine xh_t hc.2 hp hj pj hcp (br_f (by decide) ?_)
      rcases rl_free cap p with hf | ⟨i, hf⟩
      · refine xt_full hc.2 hp hf (br_t (by decide) ?_)
        unfold wpY_addBefore
        exact br_f (rl_d1 h1e h8e) (br_f (rl_d8' h8e) (yh_t hH hj pj (br_f (by decide) (yk_full hc.2 hH hf ⟨rfl, I⟩))))
      · have hi : i < 7 := by have := hf.1; omega
        rw [tb_1 j hj]
        refine xt_new (fl := 2 ^ j) ho hf h1e h8e (Or.inr ⟨j, hj, pj, rfl⟩) hdu haf (fun hF be ak dw => ?_) (fun hF be ak dw => ?_)
        · refine br_f (nI_pos (by omega)) (xe_settle hp hi h8e ⟨x7_i hi, ?_⟩)
          rw [x7_c hi, tb_i8 (tb_p hj), tb_by (tb_p hj)]
          refine nm_e ?_
          unfold wpY_addBefore
          refine br_f (rl_d1 h1e h8e) (br_f (rl_d8' h8e) (yh_t hH hj pj (br_f (by decide) (yk_take (fl := 2 ^ j) ho hf h1e h8e (Or.inr ⟨j, hj, pj, rfl, rfl⟩) hH hde hP (fun _ gf he de pr lo h2 ca hH hde hP => ⟨rfl, ?_⟩) (fun hF2 => absurd hF hF2)))))
          obtain ⟨n1, n2, n3, n4, n5⟩ := rl_new ho hf h1e h8e (Or.inr ⟨j, hj, pj, rfl⟩)
          obtain ⟨x1, x2⟩ := xe_new (e := e) (fl := 2 ^ j) (af2 := upd (upd (upd af i (nI (2 ^ j))) i 0) i 0) ho hf hdu haf (fun l z => by rw [pk_un z, pk_un z, pk_un z])
          exact rl_in (D := tw_u D i e) (A := tw_u A i (2 ^ j)) ⟨hw, hc, tb_slt hp hi, n5, n4, n2, hF⟩ x1 x2 (Or.inl rfl) (Or.inl rfl) hH hde hP
        · refine br_t (by decide) ?_
          unfold wpY_addBefore
          obtain ⟨x1, x2⟩ := xe_old (e := e) (fl := 2 ^ j) ho hf hdu haf
          exact br_f (rl_d1 h1e h8e) (br_f (rl_d8' h8e) (yh_t hH hj pj (br_f (by decide) (yk_take (fl := 2 ^ j) ho hf h1e h8e (Or.inr ⟨j, hj, pj, rfl, rfl⟩) hH hde hP (fun hF2 => absurd hF2 hF) (fun _ gf he de pr lo hi ca hH hde hP => ⟨rfl, rl_in ho x1 x2 hf1 hf2 hH hde hP⟩)))))
    · refine xh_f hc.2 hp hx (br_t rfl ?_)
      unfold wpY_addBefore
      exact br_f (rl_d1 h1e h8e) (br_f (rl_d8' h8e) (yh_f hH hx (br_t rfl ⟨rfl, I⟩)))
end
section
/-! link, couldPrecede -/
/-- s is closed under links -/
def tw_cl (E : Nat → Nat → Bool) (s : Nat) : Prop := ∀ a b, a < 7 → b < 7 → s.testBit a = true → E a b = true → s.testBit b = true
section
variable {gw gm gf : Int32} {he de pr lo hi ca : Nat → Int32} {p i j : Nat} {E : Nat → Nat → Bool} {post : Int32 → Prop}
theorem ym_17 {J : Int32 → Int32 → Prop} {q s0 : Nat} {x2 : Int32} (hH : yh_H he p) (hP : yp_P pr p E) (hl : tw_lh p.testBit E) (hj : j < 7) (hs0 : s0 < 128) (js : s0.testBit j = true)
    (so : ∀ a, a < 7 → s0.testBit a = true → a = j ∨ tw_w E 7 j a = true)
    (hJ : ∀ s, s < 128 → s.testBit j = true → (∀ a, a < 7 → s.testBit a = true → a = j ∨ tw_w E 7 j a = true) → (∀ a, a < 7 → s0.testBit a = true → s.testBit a = true) →
      (tw_cl E s0 → ∀ a, a < 7 → s.testBit a = true → s0.testBit a = true) → (∀ a b, a < 7 → b < 7 → s0.testBit a = true → E a b = true → s.testBit b = true) → J (nI s) (nI (q + 1))) :
    ∃ n, wY_leads_17 post J x2 (nI q) gw gm gf he de pr lo hi ca n (nI s0) 0 := by
  refine pk_loop (fun n k x3 => wY_leads_17 post J x2 (nI q) gw gm gf he de pr lo hi ca n x3 (nI k))
    (fun k x3 => ∃ s, x3 = nI s ∧ s < 128 ∧ s.testBit j = true ∧ (∀ a, a < 7 → s.testBit a = true → a = j ∨ tw_w E 7 j a = true) ∧ (∀ a, a < 7 → s0.testBit a = true → s.testBit a = true) ∧
      (tw_cl E s0 → ∀ a, a < 7 → s.testBit a = true → s0.testBit a = true) ∧ (∀ a b, a < 7 → b < k → s0.testBit a = true → E a b = true → s.testBit b = true)) 7 0 (nI s0) (by omega)
    ⟨s0, rfl, hs0, js, so, fun _ _ h => h, fun _ _ _ h => h, fun a b _ hb => by omega⟩ ?_ ?_
  · rintro n x3 ⟨s, rfl, h1, h2, h3, h4, h5, h6⟩
    simp only [wY_leads_17, forall_eq, nI_1]
    exact br_t x7_e (hJ s h1 h2 h3 h4 h5 h6)
  · rintro n k x3 hk ⟨s, rfl, h1, h2, h3, h4, h5, h6⟩ hn
    obtain ⟨m, hm, em, bm⟩ := hP k hk
    simp only [wY_leads_17, forall_eq, nI_1, x7_c hk, hH k hk, em, tb_a0 hm, tb_1 k hk, tb_or]
    refine br_f (x7_n hk) ⟨x7_i hk, br_c (fun z => hn _ ⟨s, rfl, h1, h2, h3, h4, h5, fun a b ha hb sa e => ?_⟩) (fun z => ⟨x7_i hk, br_c (fun y => hn _ ⟨s, rfl, h1, h2, h3, h4, h5, fun a b ha hb sa e => ?_⟩) (fun y => ?_)⟩)⟩
    · by_cases zb : b = k
      · subst zb
        have := (hl a b ha hk e).2
        rw [z] at this
        exact absurd this (by decide)
      · exact h6 a b ha (by omega) sa e
    · by_cases zb : b = k
      · subst zb
        exact absurd ⟨by rw [bm (tb_nf z) a ha]; exact e, h4 a ha sa⟩ (y a ha)
      · exact h6 a b ha (by omega) sa e
    · -- some link leads from s to k
      have y : ∃ a, a < 7 ∧ E a k = true ∧ s.testBit a = true := by
        apply Classical.byContradiction
        intro hn2
        exact y fun a ha h => hn2 ⟨a, ha, by rw [← bm (tb_nf z) a ha]; exact h.1, h.2⟩
      obtain ⟨a0, ha0, e0, sa0⟩ := y
      have bit : ∀ a, (s ||| 2 ^ k).testBit a = true ↔ s.testBit a = true ∨ k = a := fun a => by rw [tb_st, Bool.or_eq_true, decide_eq_true_iff]
      refine hn _ ⟨s ||| 2 ^ k, rfl, tb_slt h1 hk, (bit j).mpr (Or.inl h2), fun a ha sa => ?_, fun a ha sa => (bit a).mpr (Or.inl (h4 a ha sa)), fun hc a ha sa => ?_, fun a b ha hb sa e => ?_⟩
      · rcases (bit a).mp sa with sa | rfl
        · exact h3 a ha sa
        · rcases h3 a0 ha0 sa0 with rfl | h
          · exact Or.inr (tw_w_EB a0 k ha0 hk e0)
          · exact Or.inr (tw_w_Bt j a0 k hj ha0 hk h (tw_w_EB a0 k ha0 hk e0))
      · rcases (bit a).mp sa with sa | rfl
        · exact h5 hc a ha sa
        · exact hc a0 k ha0 hk (h5 hc a0 ha0 sa0) e0
      · by_cases zb : b = k
        · exact (bit b).mpr (Or.inr zb.symm)
        · exact (bit b).mpr (Or.inl (h6 a b ha (by omega) sa e))
theorem ym_leads (hH : yh_H he p) (hP : yp_P pr p E) (hl : tw_lh p.testBit E) (hi7 : i < 7) (hj : j < 7) (hij : i ≠ j) (h1 : tw_w E 7 j i = true → post 1) (h0 : ¬ tw_w E 7 j i = true → post 0) :
    wpY_leads post (gw, gm, gf, he, de, pr, lo, hi, ca) (nI j) (nI i) := by
  simp only [wpY_leads, forall_eq, tb_1 j hj]
  refine pk_loop (fun n q x3 => wY_leads_7 post (nI i) gw gm gf he de pr lo hi ca n x3 (nI q))
    (fun q x3 => ∃ s, x3 = nI s ∧ s < 128 ∧ s.testBit j = true ∧ (∀ a, a < 7 → s.testBit a = true → a = j ∨ tw_w E 7 j a = true) ∧ (tw_cl E s ∨ q + 1 ≤ tw_c s.testBit 7)) 7 0 (nI (2 ^ j)) (by omega)
    ⟨2 ^ j, rfl, tb_p hj, by rw [tb_2]; simp, fun a ha h => by rw [tb_2, decide_eq_true_iff] at h; exact Or.inl h.symm, Or.inr (tw_c_pos hj (by rw [tb_2]; simp))⟩ ?_ ?_
  · rintro n x3 ⟨s, rfl, hs, js, so, hc⟩
    have hc : tw_cl E s := by
      rcases hc with h | h
      · exact h
      · have := tw_c_n s.testBit 7
        omega
    simp only [wY_leads_7, tb_o hs hi7]
    refine br_t x7_e (br_c (fun z => ?_) (fun z => h0 fun y => z ?_))
    · rcases so i hi7 z with h | h
      · exact absurd h hij
      · exact h1 h
    · exact tw_w_m (R := fun a b => s.testBit a = true → s.testBit b = true) (fun a b ha hb e sa => hc a b ha hb sa e) (fun _ _ _ _ _ _ f g sa => g (f sa)) 7 j i (Nat.le_refl _) hj hi7 y js
  · rintro n q x3 hq ⟨s, rfl, hs, js, so, hc⟩ hn
    simp only [wY_leads_7]
    refine br_f (x7_n hq) (ym_17 hH hP hl hj hs js so fun s' h1' h2' h3' h4' h5' h6' => hn _ ⟨s', rfl, h1', h2', h3', ?_⟩)
    by_cases z : ∀ a, a < 7 → s'.testBit a = true → s.testBit a = true
    · exact Or.inl fun a b ha hb sa e => h6' a b ha hb (z a ha sa) e
    · right
      rcases hc with hc | hc
      · exact absurd (h5' hc) z
      · have : ∃ a, a < 7 ∧ s'.testBit a = true ∧ s.testBit a = false := by
          apply Classical.byContradiction
          intro hn2
          exact z fun a ha sa => tb_nf fun z2 => hn2 ⟨a, ha, sa, z2⟩
        obtain ⟨a, ha, sa, na⟩ := this
        have := tw_c_add (f := s.testBit) (g := fun b => decide (b = a)) (h := s'.testBit) (n := 7) h4' (fun b _ e => by simp only [decide_eq_true_eq] at e; rw [e]; exact sa)
          (fun b _ e e2 => by simp only [decide_eq_true_eq] at e2; rw [e2, na] at e; exact absurd e (by decide))
        rw [tw_c_one a 7 ha] at this
        omega
end
/-- the links with one more -/
theorem rl_lnk {w cap p i j : Nat} {D A : Nat → Nat} (ho : rl_ok w cap p D A) (hi : i < 7) (hj : j < 7) (pi : p.testBit i = true) (pj : p.testBit j = true) (hij : i ≠ j) (hn : ¬ tw_w (tw_E A) 7 j i = true) :
    A i ||| 2 ^ j < 128 ∧ (∀ a b, a < 7 → b < 7 → tw_E (tw_u A i (A i ||| 2 ^ j)) a b = (tw_E A a b || (decide (i = a) && decide (j = b)))) ∧
    tw_lh p.testBit (tw_E (tw_u A i (A i ||| 2 ^ j))) ∧ tw_acy (tw_E (tw_u A i (A i ||| 2 ^ j))) ∧ ∀ l, l < 7 → tw_u A i (A i ||| 2 ^ j) l < 128 := by
  obtain ⟨hw, hc, hp, hi7, hA, hl, s, hs⟩ := ho
  have hlt := tb_slt (hA i hi) hj
  have hE : ∀ a b, a < 7 → b < 7 → tw_E (tw_u A i (A i ||| 2 ^ j)) a b = (tw_E A a b || (decide (i = a) && decide (j = b))) := fun a b ha hb => by
    by_cases z : a = i
    · subst z; rw [tw_Es, tb_st, decide_eq_true (rfl : a = a), Bool.true_and]; rfl
    · rw [tw_En z, decide_eq_false (show ¬ i = a from fun e => z e.symm), Bool.false_and, Bool.or_false]
  refine ⟨hlt, hE, fun a b ha hb e => ?_, tw_acy_add hi hj hij (fun a b ha hb e => ?_) (tw_acy_tt hl hs) hn, tw_ua hA hlt⟩
  · rw [hE a b ha hb, Bool.or_eq_true, Bool.and_eq_true, decide_eq_true_iff, decide_eq_true_iff] at e
    rcases e with e | ⟨rfl, rfl⟩
    · exact hl a b ha hb e
    · exact ⟨pi, pj⟩
  · rw [hE a b ha hb, Bool.or_eq_true, Bool.and_eq_true, decide_eq_true_iff, decide_eq_true_iff] at e
    rcases e with e | ⟨rfl, rfl⟩
    · exact Or.inl e
    · exact Or.inr ⟨rfl, rfl⟩
section
variable {w cap p i j : Nat} {D A : Nat → Nat} {f1 f2 : Int32} {du af be ak dw s1 s2 : Nat → Int32} {post : Int32 → SX → Prop}
theorem xq_f {x y : Int32} (ho : rl_ok w cap p D A) (hn : ¬ (rl_h p x ∧ rl_h p y)) (h : post (-1) (nI w, nI cap, nI p, f1, f2, du, af, be, ak, dw, s1, s2)) :
    wpX_tryLink post (nI w, nI cap, nI p, f1, f2, du, af, be, ak, dw, s1, s2) x y := by
  obtain ⟨hw, hc, hp, hi7, hA, hl, s, hs⟩ := ho
  unfold wpX_tryLink
  by_cases hx : rl_h p x
  · obtain ⟨i, hi, rfl, pi⟩ := hx
    exact xh_t hc.2 hp hi pi (fun i hi e => (hi7 i hi e).1) (br_f (by decide) (xh_f hc.2 hp (fun hy => hn ⟨⟨i, hi, rfl, pi⟩, hy⟩) (br_t rfl h)))
  · exact xh_f hc.2 hp hx (br_t rfl h)
theorem xq_same (ho : rl_ok w cap p D A) (hi : i < 7) (pi : p.testBit i = true) (h : post (-1) (nI w, nI cap, nI p, f1, f2, du, af, be, ak, dw, s1, s2)) :
    wpX_tryLink post (nI w, nI cap, nI p, f1, f2, du, af, be, ak, dw, s1, s2) (nI i) (nI i) := by
  obtain ⟨hw, hc, hp, hi7, hA, hl, s, hs⟩ := ho
  have hcp : ∀ i, i < 7 → p.testBit i = true → i < cap := fun i hi e => (hi7 i hi e).1
  unfold wpX_tryLink
  exact xh_t hc.2 hp hi pi hcp (br_f (by decide) (xh_t hc.2 hp hi pi hcp (br_f (by decide) (br_t rfl h))))
theorem xq_linked (ho : rl_ok w cap p D A) (hi : i < 7) (hj : j < 7) (pi : p.testBit i = true) (pj : p.testBit j = true) (hij : i ≠ j) (haf : ∀ i, i < 7 → af i = nI (A i)) (e : tw_E A i j = true)
    (h : post 0 (nI w, nI cap, nI p, f1, f2, du, af, be, ak, dw, s1, s2)) :
    wpX_tryLink post (nI w, nI cap, nI p, f1, f2, du, af, be, ak, dw, s1, s2) (nI i) (nI j) := by
  obtain ⟨hw, hc, hp, hi7, hA, hl, s, hs⟩ := ho
  have hcp : ∀ i, i < 7 → p.testBit i = true → i < cap := fun i hi e => (hi7 i hi e).1
  unfold wpX_tryLink
  exact xh_t hc.2 hp hi pi hcp (br_f (by decide) (xh_t hc.2 hp hj pj hcp (br_f (by decide) (br_f (fun z => hij ((nI_eq (by omega) (by omega)).mp z))
    (xl_h hc.2 hp hcp hi hj pi pj (fun i hi => ⟨haf i hi, hA i hi⟩) (fun _ => br_f (by decide) h) (fun e2 => absurd (e.symm.trans e2) (by decide)))))))
theorem xq_go (ho : rl_ok w cap p D A) (hi : i < 7) (hj : j < 7) (pi : p.testBit i = true) (pj : p.testBit j = true) (hij : i ≠ j) (hdu : ∀ i, i < 7 → p.testBit i = true → du i = nI (D i)) (haf : ∀ i, i < 7 → af i = nI (A i)) (e : tw_E A i j = false)
    (hcy : tw_w (tw_E A) 7 j i = true → ∀ be, post (-4) (nI w, nI cap, nI p, f1, f2, du, af, be, ak, dw, s1, s2))
    (h1 : ¬ tw_w (tw_E A) 7 j i = true → (∃ s, rl_T w p D (tw_u A i (A i ||| 2 ^ j)) s) → ∀ af be ak dw, (∀ i, i < 7 → af i = nI (A i)) → post 0 (nI w, nI cap, nI p, f1, f2, du, af, be, ak, dw, s1, s2))
    (h0 : ¬ tw_w (tw_E A) 7 j i = true → (¬ ∃ s, rl_T w p D (tw_u A i (A i ||| 2 ^ j)) s) → ∀ af be ak dw, (∀ i, i < 7 → af i = nI (A i)) → post (-3) (nI w, nI cap, nI p, f1, f2, du, af, be, ak, dw, s1, s2)) :
    wpX_tryLink post (nI w, nI cap, nI p, f1, f2, du, af, be, ak, dw, s1, s2) (nI i) (nI j) := by
  have ho2 := ho
  obtain ⟨hw, hc, hp, hi7, hA, hl, s, hs⟩ := ho2
  have hcp : ∀ i, i < 7 → p.testBit i = true → i < cap := fun i hi e => (hi7 i hi e).1
  have hA2 : ∀ i, i < 7 → af i = nI (A i) ∧ A i < 128 := fun i hi => ⟨haf i hi, hA i hi⟩
  unfold wpX_tryLink
  refine xh_t hc.2 hp hi pi hcp (br_f (by decide) (xh_t hc.2 hp hj pj hcp (br_f (by decide) (br_f (fun z => hij ((nI_eq (by omega) (by omega)).mp z))
    (xl_h hc.2 hp hcp hi hj pi pj hA2 (fun e2 => absurd (e2.symm.trans e) (by decide)) (fun _ => br_t rfl (xc_close hA2 (fun be hB => ?_) be)))))))
  dsimp only
  obtain ⟨m, hm, em, bm⟩ := hB j hj
  refine ⟨x7_i hj, ?_⟩
  rw [x7_c hj, em, tb_z hm hi]
  refine br_c (fun z => ⟨x7_i hi, nm_e ⟨x7_i hi, ?_⟩⟩) (fun z => hcy (by rw [← bm i hi]; exact tb_nf z) be)
  have hno : ¬ tw_w (tw_E A) 7 j i = true := by rw [← bm i hi, z]; decide
  obtain ⟨n1, n2, n3, n4, n5⟩ := rl_lnk ho hi hj pi pj hij hno
  rw [x7_c hi, haf i hi, tb_1 j hj, tb_or, tb_i8 n1, tb_by n1, tb_i8 (hA i hi), tb_by (hA i hi)]
  refine nm_e (xg_feas (D := D) (A := tw_u A i (A i ||| 2 ^ j)) hw hp (fun l hl => ⟨tw_uI (Q := fun _ => True) (fun l hl _ _ => haf l hl) l hl trivial, n5 l hl⟩) n3 n4 (fun l hl pl => ⟨hdu l hl pl, (hi7 l hl pl).2.2⟩)
    (fun hF be ak dw => ⟨x7_i hi, nm_e (br_f (by decide) (h1 hno hF _ be ak dw fun l hl => ?_))⟩) (fun hF be ak dw => ⟨x7_i hi, nm_e (br_t rfl (h0 hno hF _ be ak dw fun l hl => ?_))⟩) ak)
  all_goals
    by_cases z : l = i
    · rw [z, pk_us]
    · rw [pk_un z]; dsimp only; rw [pk_un z]; exact haf l hl
end
section
variable {w cap p i j : Nat} {D A : Nat → Nat} {gf : Int32} {he de pr lo hi ca : Nat → Int32} {post : Int32 → SY → Prop}
theorem yq_f {x y : Int32} (hH : yh_H he p) (hn : ¬ (rl_h p x ∧ rl_h p y)) (h : post (-1) (nI w, nI cap, gf, he, de, pr, lo, hi, ca)) :
    wpY_link post (nI w, nI cap, gf, he, de, pr, lo, hi, ca) x y := by
  unfold wpY_link
  by_cases hx : rl_h p x
  · obtain ⟨i, hi, rfl, pi⟩ := hx
    exact yh_t hH hi pi (br_f (by decide) (yh_f hH (fun hy => hn ⟨⟨i, hi, rfl, pi⟩, hy⟩) (br_t rfl h)))
  · exact yh_f hH hx (br_t rfl h)
theorem yq_same (hH : yh_H he p) (hi7 : i < 7) (pi : p.testBit i = true) (h : post (-1) (nI w, nI cap, gf, he, de, pr, lo, hi, ca)) :
    wpY_link post (nI w, nI cap, gf, he, de, pr, lo, hi, ca) (nI i) (nI i) := by
  unfold wpY_link
  exact yh_t hH hi7 pi (br_f (by decide) (yh_t hH hi7 pi (br_f (by decide) (br_t rfl h))))
theorem yq_linked {E : Nat → Nat → Bool} (hH : yh_H he p) (hi7 : i < 7) (hj : j < 7) (pi : p.testBit i = true) (pj : p.testBit j = true) (hij : i ≠ j) (hP : yp_P pr p E) (e : E i j = true)
    (h : post 0 (nI w, nI cap, gf, he, de, pr, lo, hi, ca)) : wpY_link post (nI w, nI cap, gf, he, de, pr, lo, hi, ca) (nI i) (nI j) := by
  unfold wpY_link
  exact yh_t hH hi7 pi (br_f (by decide) (yh_t hH hj pj (br_f (by decide) (br_f (fun z => hij ((nI_eq (by omega) (by omega)).mp z))
    (yl_h hH hi7 hj pi pj hP (fun _ => br_f (by decide) h) (fun e2 => absurd (e.symm.trans e2) (by decide)))))))
/-- the reference takes the link away again -/
theorem yq_back (ho : rl_ok w cap p D A) (hi7 : i < 7) (hj : j < 7) (pi : p.testBit i = true) (pj : p.testBit j = true) (hij : i ≠ j) (e : tw_E A i j = false) (hno : ¬ tw_w (tw_E A) 7 j i = true)
    (hP : yp_P pr p (tw_E (tw_u A i (A i ||| 2 ^ j)))) {q : Nat} (hq : q < 128) (bq : p.testBit j = true → ∀ a, a < 7 → q.testBit a = tw_E (tw_u A i (A i ||| 2 ^ j)) a j) :
    yp_P (upd pr j (nI (tb_d q (2 ^ i)))) p (tw_E A) := by
  obtain ⟨n1, n2, n3, n4, n5⟩ := rl_lnk ho hi7 hj pi pj hij hno
  refine yp_u hP (tb_dlt hq) (fun _ a ha => ?_) (fun b hb z pb => ⟨pb, fun a ha => ?_⟩)
  · rw [tb_ct hq, bq pj a ha, n2 a j ha hj]
    by_cases z : i = a
    · subst z; rw [e]; simp
    · rw [decide_eq_false z]; simp
  · rw [n2 a b ha hb, decide_eq_false (show ¬ j = b from fun e => z e.symm)]; simp
theorem yq_go (ho : rl_ok w cap p D A) (hi7 : i < 7) (hj : j < 7) (pi : p.testBit i = true) (pj : p.testBit j = true) (hij : i ≠ j) (hH : yh_H he p) (hde : ∀ i, i < 7 → p.testBit i = true → de i = nI (D i)) (hP : yp_P pr p (tw_E A)) (e : tw_E A i j = false)
    (hcy : tw_w (tw_E A) 7 j i = true → post (-4) (nI w, nI cap, gf, he, de, pr, lo, hi, ca))
    (h1 : ¬ tw_w (tw_E A) 7 j i = true → (∃ s, rl_T w p D (tw_u A i (A i ||| 2 ^ j)) s) → ∀ gf pr lo hi ca, yp_P pr p (tw_E (tw_u A i (A i ||| 2 ^ j))) → post 0 (nI w, nI cap, gf, he, de, pr, lo, hi, ca))
    (h0 : ¬ tw_w (tw_E A) 7 j i = true → (¬ ∃ s, rl_T w p D (tw_u A i (A i ||| 2 ^ j)) s) → ∀ gf pr lo hi ca, yp_P pr p (tw_E A) → post (-3) (nI w, nI cap, gf, he, de, pr, lo, hi, ca)) :
    wpY_link post (nI w, nI cap, gf, he, de, pr, lo, hi, ca) (nI i) (nI j) := by
  have ho2 := ho
  obtain ⟨hw, hc, hp, hb7, hA, hl, s, hs⟩ := ho2
  unfold wpY_link
  refine yh_t hH hi7 pi (br_f (by decide) (yh_t hH hj pj (br_f (by decide) (br_f (fun z => hij ((nI_eq (by omega) (by omega)).mp z))
    (yl_h hH hi7 hj pi pj hP (fun e2 => absurd (e2.symm.trans e) (by decide)) (fun _ => br_t rfl (ym_leads hH hP hl hi7 hj hij (fun z => br_f (by decide) (hcy z)) (fun hno => br_t rfl ⟨x7_i hj, x7_i hj, ?_⟩))))))))
  obtain ⟨n1, n2, n3, n4, n5⟩ := rl_lnk ho hi7 hj pi pj hij hno
  obtain ⟨q, hq, eq, bq⟩ := hP j hj
  have hq' := tb_slt hq hi7
  have hP' : yp_P (upd pr j (nI (q ||| 2 ^ i))) p (tw_E (tw_u A i (A i ||| 2 ^ j))) := by
    refine yp_u hP hq' (fun _ a ha => ?_) (fun b hb z pb => ⟨pb, fun a ha => ?_⟩)
    · rw [tb_st, bq pj a ha, n2 a j ha hj]; simp
    · rw [n2 a b ha hb, decide_eq_false (show ¬ j = b from fun e => z e.symm)]; simp
  rw [x7_c hj, eq, tb_1 i hi7, tb_or]
  refine nm_e (yf_good hw hp n3 hH hP' (fun l hl pl => ⟨hde l hl pl, (hb7 l hl pl).2⟩) (fun hF gf lo hi ca _ => br_f (by decide) (h1 hno hF gf _ lo hi ca hP')) (fun hF gf lo hi ca _ => br_t rfl ⟨x7_i hj, x7_i hj, ?_⟩) gf lo hi ca)
  rw [pk_us, tb_nd hq']
  refine nm_e (h0 hno hF gf _ lo hi ca (yq_back ho hi7 hj pi pj hij e hno hP' hq' fun _ a ha => ?_))
  rw [tb_st, bq pj a ha, n2 a j ha hj]; simp
end
end
section
/-! link and couldPrecede, joined -/
theorem i_vc_link {k : Nat} {u : SX} {v : SY} (I : i_Rel k u v) (hk : k + 3 ≤ 1538) (v1 : Int32) (v2 : Int32) : wpX_link (fun r u' => wpY_link (fun r' v' => r' = r ∧ i_Rel (k + 3) u' v') v v1 v2) u v1 v2 := by
  have I2 := I
  revert I2
  refine rl_el (P := fun u v => i_Rel k u v → wpX_link (fun r u' => wpY_link (fun r' v' => r' = r ∧ i_Rel (k + 3) u' v') v v1 v2) u v1 v2) ?_ I
  intro w cap p D A f1 f2 du af be ak dw s1 s2 gf he de pr lo hi ca ho hdu haf hf1 hf2 hH hde hP I
  have ho2 := ho
  obtain ⟨hw, hc, hp, hi7, hA, hl, s, hs⟩ := ho2
  have hcp : ∀ i, i < 7 → p.testBit i = true → i < cap := fun i hi e => (hi7 i hi e).1
  have hA2 : ∀ i, i < 7 → af i = nI (A i) ∧ A i < 128 := fun i hi => ⟨haf i hi, hA i hi⟩
  unfold wpX_link
  by_cases hx : rl_h p v1 ∧ rl_h p v2
  · obtain ⟨⟨i, hi, rfl, pi⟩, ⟨j, hj, rfl, pj⟩⟩ := hx
    by_cases hij : i = j
    · subst hij
      have e : tw_E A i i = false := tb_nt fun z => tw_acy_tt hl hs i hi (tw_w_EB i i hi hi z)
      exact xl_h hc.2 hp hcp hi hi pi pi hA2 (fun e2 => absurd (e2.symm.trans e) (by decide)) (fun _ => xq_same ho hi pi (br_f (by decide) (yq_same hH hi pi ⟨rfl, I⟩)))
    · refine xl_h hc.2 hp hcp hi hj pi pj hA2 (fun e => xq_linked ho hi hj pi pj hij haf e (br_t rfl (br_f (by decide) (yq_linked hH hi hj pi pj hij hP e ⟨rfl, I⟩)))) (fun e => ?_)
      refine xq_go ho hi hj pi pj hij hdu haf e (fun hcy be => br_f (by decide) ?_) (fun hno hF af2 be ak dw haf2 => br_t rfl (br_t rfl ⟨x7_i hi, x7_i hi, ?_⟩)) (fun hno hF af2 be ak dw haf2 => br_f (by decide) ?_)
      · exact yq_go ho hi hj pi pj hij hH hde hP e (fun _ => ⟨rfl, rl_in ho hdu haf hf1 hf2 hH hde hP⟩) (fun hno => absurd hcy hno) (fun hno => absurd hcy hno)
      · obtain ⟨n1, n2, n3, n4, n5⟩ := rl_lnk ho hi hj pi pj hij hno
        rw [x7_c hi, haf2 i hi, tb_1 j hj, tb_or, tb_i8 n1, tb_by n1]
        refine nm_e ?_
        unfold wpX_changed
        refine yq_go ho hi hj pi pj hij hH hde hP e (fun hcy => absurd hcy hno) (fun _ _ gf pr lo h2 ca hP => ⟨rfl, ?_⟩) (fun _ hF2 => absurd hF hF2)
        exact rl_in (D := D) (A := tw_u A i (A i ||| 2 ^ j)) ⟨hw, hc, hp, hi7, n5, n3, hF⟩ hdu (fun l hl => tw_uI (Q := fun _ => True) (fun l hl _ _ => haf2 l hl) l hl trivial) (Or.inl rfl) (Or.inl rfl) hH hde hP
      · exact yq_go ho hi hj pi pj hij hH hde hP e (fun hcy => absurd hcy hno) (fun _ hF2 => absurd hF2 hF) (fun _ _ gf pr lo h2 ca hP => ⟨rfl, rl_in ho hdu haf2 hf1 hf2 hH hde hP⟩)
  · exact xl_f (A := A) hc.2 hp hcp hx (xq_f ho hx (br_f (by decide) (yq_f hH hx ⟨rfl, I⟩)))
theorem i_vc_couldPrecede {k : Nat} {u : SX} {v : SY} (I : i_Rel k u v) (hk : k + 3 ≤ 1538) (v1 : Int32) (v2 : Int32) : wpX_couldPrecede (fun r u' => wpY_couldPrecede (fun r' v' => r' = r ∧ i_Rel (k + 3) u' v') v v1 v2) u v1 v2 := by
  have I2 := I
  revert I2
  refine rl_el (P := fun u v => i_Rel k u v → wpX_couldPrecede (fun r u' => wpY_couldPrecede (fun r' v' => r' = r ∧ i_Rel (k + 3) u' v') v v1 v2) u v1 v2) ?_ I
  intro w cap p D A f1 f2 du af be ak dw s1 s2 gf he de pr lo hi ca ho hdu haf hf1 hf2 hH hde hP I
  have ho2 := ho
  obtain ⟨hw, hc, hp, hi7, hA, hl, s, hs⟩ := ho2
  unfold wpX_couldPrecede
  by_cases hx : rl_h p v1 ∧ rl_h p v2
  · obtain ⟨⟨i, hi, rfl, pi⟩, ⟨j, hj, rfl, pj⟩⟩ := hx
    by_cases hij : i = j
    · subst hij
      have e : tw_E A i i = false := tb_nt fun z => tw_acy_tt hl hs i hi (tw_w_EB i i hi hi z)
      refine xq_same ho hi pi (br_f (by decide) ?_)
      unfold wpY_couldPrecede
      refine yl_h hH hi hi pi pi hP (fun e2 => absurd (e2.symm.trans e) (by decide)) (fun _ => yq_same hH hi pi (br_f (by decide) ?_))
      unfold wY_couldPrecede_31
      exact br_f (by decide) ⟨rfl, I⟩
    · cases e : tw_E A i j with
      | true =>
        refine xq_linked ho hi hj pi pj hij haf e (br_t rfl ?_)
        unfold wpY_couldPrecede
        refine yl_h hH hi hj pi pj hP (fun _ => yq_linked hH hi hj pi pj hij hP e (br_t rfl (br_f (by decide) ?_))) (fun e2 => absurd (e.symm.trans e2) (by decide))
        unfold wY_couldPrecede_31
        exact br_t rfl ⟨rfl, I⟩
      | false =>
        refine xq_go ho hi hj pi pj hij hdu haf e (fun hcy be => br_f (by decide) ?_) (fun hno hF af2 be ak dw haf2 => br_t rfl ?_) (fun hno hF af2 be ak dw haf2 => br_f (by decide) ?_)
        · unfold wpY_couldPrecede
          refine yl_h hH hi hj pi pj hP (fun e2 => absurd (e2.symm.trans e) (by decide)) (fun _ => yq_go ho hi hj pi pj hij hH hde hP e (fun _ => br_f (by decide) ?_) (fun hno => absurd hcy hno) (fun hno => absurd hcy hno))
          unfold wY_couldPrecede_31
          exact br_f (by decide) ⟨rfl, rl_in ho hdu haf hf1 hf2 hH hde hP⟩
        · unfold wpY_couldPrecede
          refine yl_h hH hi hj pi pj hP (fun e2 => absurd (e2.symm.trans e) (by decide)) (fun _ => yq_go ho hi hj pi pj hij hH hde hP e (fun hcy => absurd hcy hno) (fun _ _ gf pr lo h2 ca hP => br_t rfl (br_t rfl ?_)) (fun _ hF2 => absurd hF hF2))
          obtain ⟨n1, n2, n3, n4, n5⟩ := rl_lnk ho hi hj pi pj hij hno
          unfold wpY_unlink
          refine yl_h hH hi hj pi pj hP (fun _ => br_f (by decide) ⟨x7_i hj, x7_i hj, ?_⟩) (fun e2 => ?_)
          · obtain ⟨q, hq, eq, bq⟩ := hP j hj
            rw [x7_c hj, eq, tb_1 i hi, tb_nd hq]
            refine nm_e ?_
            unfold wY_couldPrecede_31
            exact br_t rfl ⟨rfl, rl_in ho hdu haf2 hf1 hf2 hH hde (yq_back ho hi hj pi pj hij e hno hP hq bq)⟩
          · rw [n2 i j hi hj] at e2
            simp at e2
        · unfold wpY_couldPrecede
          refine yl_h hH hi hj pi pj hP (fun e2 => absurd (e2.symm.trans e) (by decide)) (fun _ => yq_go ho hi hj pi pj hij hH hde hP e (fun hcy => absurd hcy hno) (fun _ hF2 => absurd hF2 hF) (fun _ _ gf pr lo h2 ca hP => br_f (by decide) ?_))
          unfold wY_couldPrecede_31
          exact br_f (by decide) ⟨rfl, rl_in ho hdu haf2 hf1 hf2 hH hde hP⟩
  · refine xq_f ho hx (br_f (by decide) ?_)
    unfold wpY_couldPrecede
    refine yl_f hH hx (yq_f hH hx (br_f (by decide) ?_))
    unfold wY_couldPrecede_31
    exact br_f (by decide) ⟨rfl, I⟩
end
section
/-! span -/
theorem tw_TT_min {w : Nat} {H : Nat → Bool} {E : Nat → Nat → Bool} {L D s : Nat → Nat} {t : Nat} : tw_TT w H E L (fun i => min (D i) t) s ↔ tw_TT w H E L D s ∧ ∀ i, i < 7 → H i = true → s i < t := by
  constructor
  · intro h
    refine ⟨⟨fun i hi e => ?_, h.2⟩, fun i hi e => ?_⟩
    · have := h.1 i hi e; dsimp only at this; omega
    · have := h.1 i hi e; dsimp only at this; omega
  · rintro ⟨h, k⟩
    refine ⟨fun i hi e => ?_, h.2⟩
    have := h.1 i hi e; have := k i hi e; dsimp only; omega
theorem rl_span_u {w p : Nat} {D A : Nat → Nat} {m n : Nat} (h1 : rl_span w p D A m) (h2 : rl_span w p D A n) : m = n := by
  rcases Nat.lt_trichotomy m n with z | z | z
  · exact absurd h1.1 (h2.2 m z)
  · exact z
  · exact absurd h2.1 (h1.2 n z)
theorem rl_span8 {w cap p : Nat} {D A : Nat → Nat} {m : Nat} (ho : rl_ok w cap p D A) (h : rl_span w p D A m) : m ≤ 8 := by
  obtain ⟨hw, hc, hp, hi7, hA, hl, s, hs⟩ := ho
  apply Classical.byContradiction
  intro z
  refine h.2 8 (by omega) ⟨s, hs, fun i hi e => ?_⟩
  have := (hs.1 i hi e).2
  have := hi7 i hi e
  omega
theorem rl_span1 {w p i : Nat} {D A : Nat → Nat} {m : Nat} (h : rl_span w p D A m) (hi : i < 7) (pi : p.testBit i = true) : 1 ≤ m := by
  obtain ⟨s, _, h2⟩ := h.1
  have := h2 i hi pi
  omega
theorem xp_span {w cap p : Nat} {D A : Nat → Nat} {f1 f2 : Int32} {du af s1 s2 : Nat → Int32} {post : Int32 → SX → Prop} (ho : rl_ok w cap p D A)
    (hdu : ∀ i, i < 7 → p.testBit i = true → du i = nI (D i)) (haf : ∀ i, i < 7 → af i = nI (A i))
    (h : ∀ m be ak dw, rl_span w p D A m → post (nI m) (nI w, nI cap, nI p, f1, f2, du, af, be, ak, dw, s1, s2)) (be ak dw : Nat → Int32) :
    wpX_span post (nI w, nI cap, nI p, f1, f2, du, af, be, ak, dw, s1, s2) := by
  obtain ⟨hw, hc, hp, hi7, hA, hl, s, hs⟩ := ho
  unfold wpX_span
  refine br_c (fun z => ?_) (fun z => ?_)
  · rw [tb_i0 hp] at z
    refine h 0 be ak dw ⟨⟨s, hs, fun i hi e => ?_⟩, fun l hl => by omega⟩
    rw [z, Nat.zero_testBit] at e
    exact absurd e (by decide)
  · rw [tb_i0 hp] at z
    obtain ⟨i0, hi0, pi0⟩ := tb_n0 hp z
    refine pk_loop (fun n l (t : (Nat → Int32) × (Nat → Int32) × (Nat → Int32)) => wX_span_11 post n (nI l) (nI w) (nI cap) (nI p) f1 f2 du af t.1 t.2.1 t.2.2 s1 s2)
      (fun l _ => 1 ≤ l ∧ ∀ l', l' < l → ¬ ∃ s, rl_T w p D A s ∧ ∀ i, i < 7 → p.testBit i = true → s i < l') 9 1 (be, ak, dw) (by omega) ⟨by omega, fun l' hl' => ?_⟩ ?_ ?_
    · rintro ⟨s, _, h2⟩
      have := h2 i0 hi0 pi0
      omega
    · rintro n ⟨be, ak, dw⟩ ⟨_, hI⟩
      refine absurd ⟨s, hs, fun i hi e => ?_⟩ (hI 8 (by omega))
      have := (hs.1 i hi e).2
      have := hi7 i hi e
      omega
    · rintro n l ⟨be, ak, dw⟩ hl9 ⟨hl1, hI⟩ hn
      simp only [wX_span_11, forall_eq, nI_1]
      refine br_f (nI_nlt (a := 8) (by omega) (by decide)) (xk_ask (p := p) (D := D) (t := l) (by omega) (fun i hi e => ⟨hdu i hi e, (hi7 i hi e).2.2⟩) (fun ak hak => ?_) ak)
      dsimp only
      have e : (∃ σ, tw_TT w p.testBit (tw_E A) (fun _ => 0) (fun i => min (D i) l) σ) ↔ ∃ s, rl_T w p D A s ∧ ∀ i, i < 7 → p.testBit i = true → s i < l :=
        ⟨fun ⟨s, h⟩ => ⟨s, tw_TT_min.mp h⟩, fun ⟨s, h⟩ => ⟨s, tw_TT_min.mpr h⟩⟩
      refine xg_good hw hp (fun i hi => ⟨haf i hi, hA i hi⟩) hl (tw_acy_tt hl hs) (U := fun i => min (D i) l) (fun i hi e => ⟨hak i hi e, ?_⟩) (fun hF be dw => br_f (by decide) (h l be ak dw ⟨e.mp hF, hI⟩)) (fun hF be dw => br_t rfl (hn (be, ak, dw) ⟨by omega, fun l' hl' => ?_⟩)) be dw
      · have := hi7 i hi e
        omega
      · by_cases z : l' = l
        · rw [z]; exact fun y => hF (e.mpr y)
        · exact hI l' (by omega)
theorem yp_span {w cap p : Nat} {D A : Nat → Nat} {gf : Int32} {he de pr lo hi ca : Nat → Int32} {post : Int32 → SY → Prop} (ho : rl_ok w cap p D A)
    (hH : yh_H he p) (hde : ∀ i, i < 7 → p.testBit i = true → de i = nI (D i)) (hP : yp_P pr p (tw_E A))
    (h : ∀ m gf lo hi ca, rl_span w p D A m → post (nI m) (nI w, nI cap, gf, he, de, pr, lo, hi, ca)) :
    wpY_span post (nI w, nI cap, gf, he, de, pr, lo, hi, ca) := by
  obtain ⟨hw, hc, hp, hi7, hA, hl, hs⟩ := ho
  have e : ∀ t, tw_can w p.testBit (tw_E A) (fun _ => 0) (fun i => min (D i) 8) t p ↔ ∃ s, rl_T w p D A s ∧ ∀ i, i < 7 → p.testBit i = true → s i < t := fun t => by
    rw [tw_can_all hp hl]
    constructor
    · rintro ⟨s, h1, h2⟩
      exact ⟨s, (tw_TT_min.mp h1).1, h2⟩
    · rintro ⟨s, h1, h2⟩
      refine ⟨s, tw_TT_min.mpr ⟨h1, fun i hi e => ?_⟩, h2⟩
      have := (h1.1 i hi e).2
      have := hi7 i hi e
      omega
  have g : ∀ gf, yg_G w p (tw_E A) (fun _ => 0) (fun i => min (D i) 8) 8 gf → ∃ m, rl_span w p D A m ∧ gf = nI m := fun gf hG => by
    rcases hG with ⟨t0, _, h2, h3, rfl⟩ | ⟨h1, _⟩
    · exact ⟨t0, ⟨(e t0).mp h2, fun l hl2 z => h3 l hl2 ((e l).mpr z)⟩, rfl⟩
    · obtain ⟨s, hs⟩ := hs
      refine absurd ((e 8).mpr ⟨s, hs, fun i hi e => ?_⟩) (h1 8 (by omega))
      have := (hs.1 i hi e).2
      have := hi7 i hi e
      omega
  unfold wpY_span
  refine yf_good hw hp hl hH hP (fun l hl pl => ⟨hde l hl pl, (hi7 l hl pl).2⟩) (fun hF gf lo hi ca hG => ?_) (fun hF gf lo hi ca hG => ?_) gf lo hi ca
  all_goals
    obtain ⟨m, h1, rfl⟩ := g gf hG
    exact h m _ lo hi ca h1
theorem i_vc_span {k : Nat} {u : SX} {v : SY} (I : i_Rel k u v) (hk : k + 3 ≤ 1538) : wpX_span (fun r u' => wpY_span (fun r' v' => r' = r ∧ i_Rel (k + 3) u' v') v) u := by
  refine rl_el (P := fun u v => wpX_span (fun r u' => wpY_span (fun r' v' => r' = r ∧ i_Rel (k + 3) u' v') v) u) ?_ I
  intro w cap p D A f1 f2 du af be ak dw s1 s2 gf he de pr lo hi ca ho hdu haf hf1 hf2 hH hde hP
  refine xp_span ho hdu haf (fun m be ak dw hm => ?_) be ak dw
  refine yp_span ho hH hde hP fun n gf lo hi ca hn => ⟨by rw [rl_span_u hm hn], rl_in ho hdu haf hf1 hf2 hH hde hP⟩
end
section
/-! X: drawIn; Y: settle -/
theorem xj_in {w p i : Nat} {A U : Nat → Nat} {fc f1 f2 : Int32} {du af s1 s2 : Nat → Int32} {post : Int32 → SX → Prop} (hw : w = 1 ∨ w = 2) (hp : p < 128) (hA : ∀ i, i < 7 → af i = nI (A i) ∧ A i < 128)
    (hl : tw_lh p.testBit (tw_E A)) (hi : i < 7) (pi : p.testBit i = true) (hT : ∃ s, tw_TT w p.testBit (tw_E A) (fun _ => 0) U s) (hU : ∀ l, l < 7 → p.testBit l = true → U l ≤ 8)
    (h : ∀ m be ak dw, (∃ s, tw_TT w p.testBit (tw_E A) (fun _ => 0) U s ∧ s i = m) → (∀ s, tw_TT w p.testBit (tw_E A) (fun _ => 0) U s → m ≤ s i) →
      (∀ l, l < 7 → p.testBit l = true → ak l = nI (tw_u U i (m + 1) l)) → post (nI m) (nI w, fc, nI p, f1, f2, du, af, be, ak, dw, s1, s2))
    (be ak dw : Nat → Int32) (hak : ∀ l, l < 7 → p.testBit l = true → ak l = nI (U l)) :
    wpX_drawIn post (nI w, fc, nI p, f1, f2, du, af, be, ak, dw, s1, s2) (nI i) := by
  obtain ⟨s0, hs0⟩ := hT
  have h0 := (hs0.1 i hi pi).2
  have h8 := hU i hi pi
  simp only [wpX_drawIn, forall_eq, x7_c hi, hak i hi pi]
  refine ⟨x7_i hi, ?_⟩
  refine pk_loop (fun n d (t : Int32 × (Nat → Int32) × (Nat → Int32) × (Nat → Int32)) => wX_drawIn_12 post (nI i) (nI (U i)) n t.1 (nI d) (nI w) fc (nI p) f1 f2 du af t.2.1 t.2.2.1 t.2.2.2 s1 s2)
    (fun d t => 1 ≤ d ∧ ((t.1 = 0 ∧ (∀ s, tw_TT w p.testBit (tw_E A) (fun _ => 0) U s → d - 1 ≤ s i) ∧ ∀ l, l < 7 → p.testBit l = true → l ≠ i → t.2.2.1 l = nI (U l)) ∨
      (t.1 = 1 ∧ 2 ≤ d ∧ (∃ s, tw_TT w p.testBit (tw_E A) (fun _ => 0) U s ∧ s i < d - 1) ∧ (∀ s, tw_TT w p.testBit (tw_E A) (fun _ => 0) U s → d - 2 ≤ s i) ∧
        ∀ l, l < 7 → p.testBit l = true → t.2.2.1 l = nI (tw_u U i (d - 1) l)))) (U i) 1 (0, be, ak, dw) (by omega)
    ⟨by omega, Or.inl ⟨rfl, fun s _ => by omega, fun l hl pl _ => hak l hl pl⟩⟩ ?_ ?_
  · -- the search has come to the old bound
    rintro n ⟨x3, be, ak, dw⟩ ⟨_, hI⟩
    dsimp only at hI ⊢
    simp only [wX_drawIn_12, wX_drawIn_42, forall_eq, x7_c hi]
    refine br_t (nI_le (Nat.le_refl _) (by omega)) ?_
    rcases hI with ⟨rfl, h1, h2⟩ | ⟨rfl, h2d, ⟨s, hs, h1⟩, h2, h3⟩
    · refine br_t rfl ⟨x7_i hi, x7_i hi, ?_⟩
      rw [pk_us, tb_i8 (by omega), tb_by (by omega)]
      have e : nI (U i) - 1 = nI (U i - 1) := pk_sub (b := 1) (by omega)
      rw [e]
      refine h (U i - 1) be _ dw ⟨s0, hs0, ?_⟩ h1 fun l hl pl => ?_
      · have := h1 s0 hs0
        omega
      · rw [show U i - 1 + 1 = U i from by omega]
        exact tw_uI (Q := fun l => p.testBit l = true) (fun l hl q z => h2 l hl q z) l hl pl
    · refine br_f (by decide) ⟨x7_i hi, ?_⟩
      rw [h3 i hi pi, tw_us]
      have e : nI (U i - 1) - 1 = nI (U i - 2) := pk_sub (b := 1) (by omega)
      rw [e]
      refine h (U i - 2) be _ dw ⟨s, hs, ?_⟩ h2 fun l hl pl => ?_
      · have := h2 s hs
        omega
      · rw [show U i - 2 + 1 = U i - 1 from by omega]
        exact h3 l hl pl
  · rintro n d ⟨x3, be, ak, dw⟩ hd ⟨hd1, hI⟩ hn
    dsimp only at hI ⊢
    simp only [wX_drawIn_12, wX_drawIn_42, forall_eq, x7_c hi, nI_1]
    refine br_f (nI_ge hd (by omega)) ?_
    rcases hI with ⟨rfl, h1, h2⟩ | ⟨rfl, h2d, ⟨s, hs, h1⟩, h2, h3⟩
    · refine br_t rfl ⟨x7_i hi, ?_⟩
      rw [tb_i8 (by omega), tb_by (by omega)]
      have e : ∀ s, tw_TT w p.testBit (tw_E A) (fun _ => 0) (tw_u U i d) s ↔ tw_TT w p.testBit (tw_E A) (fun _ => 0) U s ∧ s i < d := fun s => tw_TT_U hi pi (fun l _ z => tw_un z) tw_us (by omega)
      refine xg_good hw hp hA hl (tw_acy_tt hl hs0) (U := tw_u U i d) (fun l hl pl => ⟨tw_uI (Q := fun l => p.testBit l = true) (fun l hl q z => h2 l hl q z) l hl pl, ?_⟩) (fun hF be dw => ?_) (fun hF be dw => ?_) be dw
      · by_cases z : l = i
        · rw [z, tw_us]; omega
        · rw [tw_un z]; exact hU l hl pl
      · obtain ⟨s, hs⟩ := hF
        have hs := (e s).mp hs
        refine hn (1, be, upd ak i (nI d), dw) ⟨by omega, Or.inr ⟨rfl, by omega, ⟨s, hs.1, by omega⟩, fun s hs => ?_, ?_⟩⟩
        · have := h1 s hs
          omega
        · exact tw_uI (Q := fun l => p.testBit l = true) (fun l hl q z => h2 l hl q z)
      · refine hn (0, be, upd ak i (nI d), dw) ⟨by omega, Or.inl ⟨rfl, fun s hs => ?_, fun l hl pl z => ?_⟩⟩
        · apply Classical.byContradiction
          intro z
          exact hF ⟨s, (e s).mpr ⟨hs, by omega⟩⟩
        · show upd ak i (nI d) l = _
          rw [pk_un z]; exact h2 l hl pl z
    · refine br_f (by decide) (br_f (by decide) ⟨x7_i hi, ?_⟩)
      rw [h3 i hi pi, tw_us]
      have e : nI (d - 1) - 1 = nI (d - 2) := pk_sub (b := 1) (by omega)
      rw [e]
      refine h (d - 2) be _ dw ⟨s, hs, ?_⟩ h2 fun l hl pl => ?_
      · have := h2 s hs
        omega
      · rw [show d - 2 + 1 = d - 1 from by omega]
        exact h3 l hl pl
theorem yj_in {w p j : Nat} {E : Nat → Nat → Bool} {L U : Nat → Nat} {gm : Int32} {he de pr : Nat → Int32} {post : Int32 → SY → Prop} (hw : w = 1 ∨ w = 2) (hp : p < 128) (hl : tw_lh p.testBit E) (hH : yh_H he p) (hP : yp_P pr p E)
    (hj : j < 7) (pj : p.testBit j = true) (hL0 : L j = 0) (hT : ∃ s, tw_TT w p.testBit E L U s)
    (h : ∀ m gf lo hi ca, (∃ s, tw_TT w p.testBit E L U s ∧ s j = m) → (∀ s, tw_TT w p.testBit E L U s → m ≤ s j) → yl_L lo hi p (tw_u L j m) (tw_u U j (m + 1)) →
      post (nI m) (nI w, gm, gf, he, de, pr, lo, hi, ca))
    (gf : Int32) (lo hi ca : Nat → Int32) (hL : yl_L lo hi p L U) :
    wpY_settle post (nI w, gm, gf, he, de, pr, lo, hi, ca) (nI j) := by
  obtain ⟨s0, hs0⟩ := hT
  have h0 := (hs0.1 j hj pj).2
  have hLj := hL j hj pj
  simp only [wpY_settle, forall_eq, x7_c hj, hLj.2.1]
  refine ⟨x7_i hj, ?_⟩
  refine pk_loop (fun n m (t : Int32 × (Nat → Int32) × (Nat → Int32) × (Nat → Int32)) => wY_settle_9 post (nI j) (nI (U j - 1)) n (nI m) (nI w) gm t.1 he de pr t.2.1 t.2.2.1 t.2.2.2)
    (fun m t => (∀ s, tw_TT w p.testBit E L U s → m ≤ s j) ∧ ∀ l, l < 7 → p.testBit l = true → l ≠ j → t.2.1 l = nI (L l) ∧ t.2.2.1 l = nI (U l - 1) ∧ 1 ≤ U l ∧ U l ≤ 8 ∧ L l ≤ 8) 8 0 (gf, lo, hi, ca) (by omega)
    ⟨fun s _ => Nat.zero_le _, fun l hl pl _ => hL l hl pl⟩ ?_ ?_
  · rintro n t ⟨hI, _⟩
    have := hI s0 hs0
    omega
  · rintro n m ⟨gf, lo, hi, ca⟩ hm ⟨hI, hI2⟩ hn
    have hm2 := hI s0 hs0
    dsimp only at hI2 ⊢
    simp only [wY_settle_9, forall_eq, x7_c hj, nI_1]
    refine br_f (nI_nlt (by omega) (by omega)) (br_f (nI_ge (b := 8) hm (by decide)) ⟨x7_i hj, x7_i hj, ?_⟩)
    have e : ∀ s, tw_TT w p.testBit E (tw_u L j m) (tw_u U j (m + 1)) s ↔ tw_TT w p.testBit E L U s ∧ s j = m := fun s => tw_TT_LU hj pj (fun l _ z => ⟨tw_un z, tw_un z⟩) tw_us tw_us (by omega) (by omega)
    have hL2 : yl_L (upd lo j (nI m)) (upd hi j (nI m)) p (tw_u L j m) (tw_u U j (m + 1)) := fun l hl pl => by
      by_cases z : l = j
      · subst z
        rw [pk_us, pk_us, tw_us, tw_us]
        exact ⟨rfl, rfl, by omega, by omega, by omega⟩
      · rw [pk_un z, pk_un z, tw_un z, tw_un z]; exact hI2 l hl pl z
    refine yf_fits hw hp hl hH hP hL2 (fun hF gf ca _ => br_f (by decide) ?_) (fun hF gf ca _ => br_t rfl (hn (gf, upd lo j (nI m), upd hi j (nI m), ca) ⟨fun s hs => ?_, fun l hl pl z => ?_⟩)) gf ca
    · obtain ⟨s, hs⟩ := hF
      exact h m gf _ _ ca ⟨s, (e s).mp hs⟩ hI hL2
    · have := hI s hs
      have : s j ≠ m := fun z => hF ⟨s, (e s).mpr ⟨hs, z⟩⟩
      omega
    · show upd lo j (nI m) l = _ ∧ upd hi j (nI m) l = _ ∧ _
      rw [pk_un z, pk_un z]; exact hI2 l hl pl z
end
section
/-! earliest, tightest -/
theorem rl_T8 {w cap p : Nat} {D A : Nat → Nat} (ho : rl_ok w cap p D A) (s : Nat → Nat) : tw_TT w p.testBit (tw_E A) (fun _ => 0) (fun i => min (D i) 8) s ↔ rl_T w p D A s := by
  obtain ⟨hw, hc, hp, hi7, hA, hl, ht⟩ := ho
  rw [tw_TT_min]
  refine ⟨fun h => h.1, fun h => ⟨h, fun i hi e => ?_⟩⟩
  have := (h.1 i hi e).2
  have := hi7 i hi e
  omega
/-- m is the least slot of task i in T -/
def rl_low (T : (Nat → Nat) → Prop) (i m : Nat) : Prop := (∃ s, T s ∧ s i = m) ∧ ∀ s, T s → m ≤ s i
theorem rl_low_u {T : (Nat → Nat) → Prop} {i m n : Nat} (h1 : rl_low T i m) (h2 : rl_low T i n) : m = n := by
  obtain ⟨⟨s, hs, e⟩, k1⟩ := h1
  obtain ⟨⟨r, hr, e2⟩, k2⟩ := h2
  have := k1 r hr
  have := k2 s hs
  omega
theorem rl_low_c {T T' : (Nat → Nat) → Prop} {i m : Nat} (h : ∀ s, T s ↔ T' s) (k : rl_low T i m) : rl_low T' i m := by
  obtain ⟨⟨s, hs, e⟩, k1⟩ := k
  exact ⟨⟨s, (h s).mp hs, e⟩, fun r hr => k1 r ((h r).mpr hr)⟩
theorem xj_earl {w cap p i : Nat} {D A : Nat → Nat} {f1 f2 : Int32} {du af be ak dw s1 s2 : Nat → Int32} {post : Int32 → SX → Prop} (ho : rl_ok w cap p D A) (hi : i < 7) (pi : p.testBit i = true)
    (hdu : ∀ i, i < 7 → p.testBit i = true → du i = nI (D i)) (haf : ∀ i, i < 7 → af i = nI (A i))
    (h : ∀ m be ak dw, rl_low (rl_T w p D A) i m → post (nI m) (nI w, nI cap, nI p, f1, f2, du, af, be, ak, dw, s1, s2)) :
    wpX_earliest post (nI w, nI cap, nI p, f1, f2, du, af, be, ak, dw, s1, s2) (nI i) := by
  have ho2 := ho
  obtain ⟨hw, hc, hp, hi7, hA, hl, s, hs⟩ := ho2
  unfold wpX_earliest
  refine xh_t hc.2 hp hi pi (fun i hi e => (hi7 i hi e).1) (br_f (by decide) (xk_ask (p := p) (D := D) (t := 8) (by omega) (fun i hi e => ⟨hdu i hi e, (hi7 i hi e).2.2⟩) (fun ak hak => ?_) ak))
  exact xj_in (U := fun i => min (D i) 8) hw hp (fun i hi => ⟨haf i hi, hA i hi⟩) hl hi pi ⟨s, (rl_T8 ho s).mpr hs⟩ (fun l _ _ => by omega) (fun m be ak dw h1 h2 _ => h m be ak dw (rl_low_c (rl_T8 ho) ⟨h1, h2⟩)) be ak dw hak
theorem i_vc_earliest {k : Nat} {u : SX} {v : SY} (I : i_Rel k u v) (hk : k + 3 ≤ 1538) (v1 : Int32) : wpX_earliest (fun r u' => wpY_earliest (fun r' v' => r' = r ∧ i_Rel (k + 3) u' v') v v1) u v1 := by
  refine rl_el (P := fun u v => wpX_earliest (fun r u' => wpY_earliest (fun r' v' => r' = r ∧ i_Rel (k + 3) u' v') v v1) u v1) ?_ I
  intro w cap p D A f1 f2 du af be ak dw s1 s2 gf he de pr lo hi ca ho hdu haf hf1 hf2 hH hde hP
  have ho2 := ho
  obtain ⟨hw, hc, hp, hi7, hA, hl, s, hs⟩ := ho2
  by_cases hx : rl_h p v1
  · obtain ⟨i, hi, rfl, pi⟩ := hx
    refine xj_earl ho hi pi hdu haf fun m be ak dw hm => ?_
    unfold wpY_earliest
    refine yh_t hH hi pi (br_f (by decide) (ya_ask (p := p) (D := D) (t := 8) (by omega) (fun _ => by omega) (fun i hi e => ⟨hde i hi e, (hi7 i hi e).2⟩) (fun lo hi2 hL => ?_) _ _))
    refine yj_in hw hp hl hH hP hi pi rfl ⟨s, (rl_T8 ho s).mpr hs⟩ (fun n gf lo hi2 ca h1 h2 _ => ⟨?_, rl_in ho hdu haf hf1 hf2 hH hde hP⟩) _ _ _ _ hL
    rw [rl_low_u hm (rl_low_c (rl_T8 ho) ⟨h1, h2⟩)]
  · unfold wpX_earliest
    refine xh_f hc.2 hp hx (br_t rfl ?_)
    unfold wpY_earliest
    exact yh_f hH hx (br_t rfl ⟨rfl, rl_in ho hdu haf hf1 hf2 hH hde hP⟩)
/-- a deadline d for task i suffices just if the least slot is below d -/
theorem rl_tight {w cap p i d m : Nat} {D A : Nat → Nat} (ho : rl_ok w cap p D A) (hi : i < 7) (pi : p.testBit i = true) (hm : rl_low (rl_T w p D A) i m) : (∃ s, rl_T w p (tw_u D i d) A s) ↔ m < d := by
  obtain ⟨⟨s, hs, e⟩, k⟩ := hm
  constructor
  · rintro ⟨r, hr⟩
    have h1 := (hr.1 i hi pi).2
    rw [tw_us] at h1
    by_cases z : r i < D i
    · have : rl_T w p D A r := by
        refine ⟨fun l hl pl => ?_, hr.2⟩
        by_cases zl : l = i
        · rw [zl]; exact ⟨Nat.zero_le _, z⟩
        · have := hr.1 l hl pl
          rw [tw_un zl] at this
          exact this
      have := k r this
      omega
    · have := (hs.1 i hi pi).2
      omega
  · intro h
    refine ⟨s, fun l hl pl => ?_, hs.2⟩
    by_cases zl : l = i
    · rw [zl, tw_us]; exact ⟨Nat.zero_le _, by omega⟩
    · rw [tw_un zl]; exact hs.1 l hl pl
theorem i_vc_tightest {k : Nat} {u : SX} {v : SY} (I : i_Rel k u v) (hk : k + 3 ≤ 1538) (v1 : Int32) : wpX_tightest (fun r u' => wpY_tightest (fun r' v' => r' = r ∧ i_Rel (k + 3) u' v') v v1) u v1 := by
  refine rl_el (P := fun u v => wpX_tightest (fun r u' => wpY_tightest (fun r' v' => r' = r ∧ i_Rel (k + 3) u' v') v v1) u v1) ?_ I
  intro w cap p D A f1 f2 du af be ak dw s1 s2 gf he de pr lo h9 ca ho hdu haf hf1 hf2 hH hde hP
  have ho2 := ho
  obtain ⟨hw, hc, hp, hi7, hA, hl, s, hs⟩ := ho2
  by_cases hx : rl_h p v1
  · obtain ⟨i, hi, rfl, pi⟩ := hx
    unfold wpX_tightest
    refine xh_t hc.2 hp hi pi (fun i hi e => (hi7 i hi e).1) (br_f (by decide) (xj_earl ho hi pi hdu haf fun m be ak dw hm => ?_))
    have hm8 : m < 8 := by
      have a := hm.2 s hs
      have b := (hs.1 i hi pi).2
      have c := hi7 i hi pi
      omega
    simp only [wpY_tightest, forall_eq, x7_c hi, hde i hi pi, nI_1]
    refine yh_t hH hi pi (br_f (by decide) ⟨x7_i hi, ?_⟩)
    refine ⟨_, pk_loopD (fun n d (t : Int32 × Int32 × (Nat → Int32) × (Nat → Int32) × (Nat → Int32) × (Nat → Int32)) => wY_tightest_24 _ (nI i) (nI (D i)) n t.1 (nI d) (nI w) (nI cap) t.2.1 he t.2.2.1 pr t.2.2.2.1 t.2.2.2.2.1 t.2.2.2.2.2)
      (fun d t => d ≤ 8 ∧ t.1 = nI (min 8 (max (m + 1) (d + 1))) ∧ ∀ l, l < 7 → p.testBit l = true → l ≠ i → t.2.2.1 l = nI (D l)) ?_ ?_ 8 (nI 8, gf, de, lo, h9, ca) ⟨by omega, ?_, fun l hl pl _ => hde l hl pl⟩⟩
    · rintro n ⟨x3, gf, de, lo, hi2, ca⟩ ⟨_, h1, h2⟩
      dsimp only at h1 h2 ⊢
      simp only [wY_tightest_24, forall_eq, x7_c hi]
      refine br_t (nI_lt (a := 0) (b := 1) (by decide) (by decide)) ⟨x7_i hi, ?_, rl_in ho hdu haf hf1 hf2 hH (fun l hl pl => ?_) hP⟩
      · rw [h1]
        exact congrArg nI (by omega)
      · by_cases z : l = i
        · rw [z, pk_us]
        · rw [pk_un z]; exact h2 l hl pl z
    · rintro n d ⟨x3, gf, de, lo, hi2, ca⟩ ⟨hd8, h1, h2⟩ hn
      dsimp only at h1 h2 ⊢
      simp only [wY_tightest_24, forall_eq, x7_c hi, pk_m1]
      refine br_f (nI_nlt (b := 1) (by omega) (by omega)) ⟨x7_i hi, ?_⟩
      refine yf_good (D := tw_u D i (d + 1)) hw hp hl hH hP (fun l hl pl => ⟨tw_uI (Q := fun l => p.testBit l = true) (fun l hl q z => h2 l hl q z) l hl pl, ?_⟩) (fun hF gf lo hi2 ca _ => br_f (by decide) ?_) (fun hF gf lo hi2 ca _ => br_t rfl ?_) gf lo hi2 ca
      · by_cases z : l = i
        · rw [z, tw_us]; omega
        · rw [tw_un z]; exact (hi7 l hl pl).2
      · have hF := (rl_tight ho hi pi hm).mp hF
        refine hn (nI (d + 1), gf, upd de i (nI (d + 1)), lo, hi2, ca) ⟨by omega, congrArg nI (by omega), fun l hl pl z => ?_⟩
        show upd de i (nI (d + 1)) l = _
        rw [pk_un z]; exact h2 l hl pl z
      · have hF : ¬ m < d + 1 := fun z => hF ((rl_tight ho hi pi hm).mpr z)
        refine hn (x3, gf, upd de i (nI (d + 1)), lo, hi2, ca) ⟨by omega, ?_, fun l hl pl z => ?_⟩
        · show x3 = _
          rw [h1]
          exact congrArg nI (by omega)
        · show upd de i (nI (d + 1)) l = _
          rw [pk_un z]; exact h2 l hl pl z
    · exact congrArg nI (by omega)
  · unfold wpX_tightest
    refine xh_f hc.2 hp hx (br_t rfl ?_)
    unfold wpY_tightest
    exact yh_f hH hx (br_t rfl ⟨rfl, rl_in ho hdu haf hf1 hf2 hH hde hP⟩)
end
section
/-! slotOf, shortSlotOf: the walks -/
theorem tw_N_U {w c m : Nat} {H : Nat → Bool} {E : Nat → Nat → Bool} {U : Nat → Nat} {T : (Nat → Nat) → Prop} (hc : c < 7) (Hc : H c = true) (hN : ∀ s, tw_N H T c s ↔ tw_TT w H E (fun _ => 0) U s)
    (h1 : ∃ s, tw_TT w H E (fun _ => 0) U s ∧ s c = m) (h2 : ∀ s, tw_TT w H E (fun _ => 0) U s → m ≤ s c) :
    m < U c ∧ ∀ s, tw_N H T (c + 1) s ↔ tw_TT w H E (fun _ => 0) (tw_u U c (m + 1)) s := by
  obtain ⟨s0, hs0, e⟩ := h1
  have hm := (hs0.1 c hc Hc).2
  refine ⟨by omega, fun s => ?_⟩
  rw [tw_TT_U hc Hc (U := U) (d := m + 1) (fun l _ z => tw_un z) tw_us (by omega), ← hN s]
  constructor
  · rintro ⟨a, b⟩
    refine ⟨a, ?_⟩
    have := b Hc s0 ((hN s0).mpr hs0)
    omega
  · rintro ⟨a, b⟩
    refine ⟨a, fun _ r hr => ?_⟩
    have := h2 r ((hN r).mp hr)
    omega
theorem tw_N_LU {w c m : Nat} {H : Nat → Bool} {E : Nat → Nat → Bool} {L U : Nat → Nat} {T : (Nat → Nat) → Prop} (hc : c < 7) (Hc : H c = true) (hL : L c = 0) (hN : ∀ s, tw_N H T c s ↔ tw_TT w H E L U s)
    (h1 : ∃ s, tw_TT w H E L U s ∧ s c = m) (h2 : ∀ s, tw_TT w H E L U s → m ≤ s c) :
    ∀ s, tw_N H T (c + 1) s ↔ tw_TT w H E (tw_u L c m) (tw_u U c (m + 1)) s := by
  obtain ⟨s0, hs0, e⟩ := h1
  have hm := (hs0.1 c hc Hc).2
  intro s
  rw [tw_TT_LU hc Hc (L := L) (U := U) (d := m) (fun l _ z => ⟨tw_un z, tw_un z⟩) tw_us tw_us (by omega) (by omega), ← hN s]
  constructor
  · rintro ⟨a, b⟩
    refine ⟨a, ?_⟩
    have := b Hc s0 ((hN s0).mpr hs0)
    have := h2 s ((hN s).mp a)
    omega
  · rintro ⟨a, b⟩
    refine ⟨a, fun _ r hr => ?_⟩
    have := h2 r ((hN r).mp hr)
    omega
theorem tw_N_n {c : Nat} {H : Nat → Bool} {T : (Nat → Nat) → Prop} (Hc : ¬ H c = true) (s : Nat → Nat) : tw_N H T (c + 1) s ↔ tw_N H T c s :=
  ⟨fun h => h.1, fun h => ⟨h, fun z => absurd z Hc⟩⟩
theorem xz_30 {w cap p i : Nat} {A U : Nat → Nat} {T : (Nat → Nat) → Prop} {f1 f2 : Int32} {du af s2 : Nat → Int32} {post : Int32 → SX → Prop} (hw : w = 1 ∨ w = 2) (hc : cap ≤ 7) (hp : p < 128) (hcp : ∀ i, i < 7 → p.testBit i = true → i < cap)
    (hA : ∀ i, i < 7 → af i = nI (A i) ∧ A i < 128) (hl : tw_lh p.testBit (tw_E A)) (hi : i < 7) (hT : ∃ s, T s) (hTU : ∀ s, T s ↔ tw_TT w p.testBit (tw_E A) (fun _ => 0) U s)
    (h : ∀ be ak dw s1, rl_S p T s1 → post (s1 i) (nI w, nI cap, nI p, f1, f2, du, af, be, ak, dw, s1, s2))
    (be ak dw s1 : Nat → Int32) (hak : ∀ l, l < 7 → p.testBit l = true → ak l = nI (U l) ∧ U l ≤ 8) :
    ∃ n, wX_slotOf_30 post (nI i) n 0 (nI w) (nI cap) (nI p) f1 f2 du af be ak dw s1 s2 := by
  refine pk_loop (fun n c (t : (Nat → Int32) × (Nat → Int32) × (Nat → Int32) × (Nat → Int32)) => wX_slotOf_30 post (nI i) n (nI c) (nI w) (nI cap) (nI p) f1 f2 du af t.1 t.2.1 t.2.2.1 t.2.2.2 s2)
    (fun c t => ∃ U, (∀ s, tw_N p.testBit T c s ↔ tw_TT w p.testBit (tw_E A) (fun _ => 0) U s) ∧ (∀ l, l < 7 → p.testBit l = true → t.2.1 l = nI (U l) ∧ U l ≤ 8) ∧
      ∀ l, l < c → l < 7 → p.testBit l = true → ∃ s, tw_N p.testBit T (l + 1) s ∧ t.2.2.2 l = nI (s l)) cap 0 (be, ak, dw, s1) (by omega) ⟨U, hTU, hak, fun l hl => by omega⟩ ?_ ?_
  · rintro n ⟨be, ak, dw, s1⟩ ⟨U, h1, h2, h3⟩
    dsimp only at h2 h3 ⊢
    simp only [wX_slotOf_30, x7_c hi]
    exact br_t (nI_le (Nat.le_refl _) (by omega)) ⟨x7_i hi, h be ak dw s1 fun l hl pl => h3 l (hcp l hl pl) hl pl⟩
  · rintro n c ⟨be, ak, dw, s1⟩ hcc ⟨U, h1, h2, h3⟩ hn
    dsimp only at h2 h3 ⊢
    have hc7 : c < 7 := by omega
    simp only [wX_slotOf_30, forall_eq, x7_c hc7, nI_1]
    refine br_f (nI_ge hcc (by omega)) ?_
    by_cases pc : p.testBit c = true
    · refine xh_t hc hp hc7 pc hcp (br_f (by decide) ?_)
      obtain ⟨r, hr⟩ := tw_N_ex p.testBit T hT c
      refine xj_in hw hp hA hl hc7 pc ⟨r, (h1 r).mp hr⟩ (fun l hl pl => (h2 l hl pl).2) (fun m be ak dw k1 k2 k3 => ⟨x7_i hc7, ?_⟩) be ak dw (fun l hl pl => (h2 l hl pl).1)
      obtain ⟨hm, hN⟩ := tw_N_U hc7 pc h1 k1 k2
      have h8 := (h2 c hc7 pc).2
      rw [tb_i8 (by omega), tb_by (by omega)]
      refine hn (be, ak, dw, upd s1 c (nI m)) ⟨tw_u U c (m + 1), hN, fun l hl pl => ⟨k3 l hl pl, ?_⟩, fun l hlc hl pl => ?_⟩
      · by_cases z : l = c
        · rw [z, tw_us]; omega
        · rw [tw_un z]; exact (h2 l hl pl).2
      · show ∃ s, tw_N p.testBit T (l + 1) s ∧ upd s1 c (nI m) l = nI (s l)
        by_cases z : l = c
        · subst z
          obtain ⟨s, hs, e⟩ := k1
          refine ⟨s, (hN s).mpr ((tw_TT_U hl pl (U := U) (d := m + 1) (fun l _ z => tw_un z) tw_us (by omega)).mpr ⟨hs, by omega⟩), ?_⟩
          rw [pk_us, e]
        · rw [pk_un z]
          exact h3 l (by omega) hl pl
    · refine xh_f hc hp (fun ⟨j, hj, e, pj⟩ => ?_) (br_t rfl (hn (be, ak, dw, s1) ⟨U, fun s => (tw_N_n pc s).trans (h1 s), h2, fun l hlc hl pl => ?_⟩))
      · rw [nI_eq (by omega) (by omega)] at e
        rw [e] at pc
        exact pc pj
      · have : l ≠ c := fun z => pc (z ▸ pl)
        exact h3 l (by omega) hl pl
theorem xz_34 {w cap p i : Nat} {A U : Nat → Nat} {T : (Nat → Nat) → Prop} {f1 f2 : Int32} {du af s1 : Nat → Int32} {post : Int32 → SX → Prop} (hw : w = 1 ∨ w = 2) (hc : cap ≤ 7) (hp : p < 128) (hcp : ∀ i, i < 7 → p.testBit i = true → i < cap)
    (hA : ∀ i, i < 7 → af i = nI (A i) ∧ A i < 128) (hl : tw_lh p.testBit (tw_E A)) (hi : i < 7) (hT : ∃ s, T s) (hTU : ∀ s, T s ↔ tw_TT w p.testBit (tw_E A) (fun _ => 0) U s)
    (h : ∀ be ak dw s2, rl_S p T s2 → post (s2 i) (nI w, nI cap, nI p, f1, f2, du, af, be, ak, dw, s1, s2))
    (be ak dw s2 : Nat → Int32) (hak : ∀ l, l < 7 → p.testBit l = true → ak l = nI (U l) ∧ U l ≤ 8) :
    ∃ n, wX_shortSlotOf_34 post (nI i) n 0 (nI w) (nI cap) (nI p) f1 f2 du af be ak dw s1 s2 := by
  refine pk_loop (fun n c (t : (Nat → Int32) × (Nat → Int32) × (Nat → Int32) × (Nat → Int32)) => wX_shortSlotOf_34 post (nI i) n (nI c) (nI w) (nI cap) (nI p) f1 f2 du af t.1 t.2.1 t.2.2.1 s1 t.2.2.2)
    (fun c t => ∃ U, (∀ s, tw_N p.testBit T c s ↔ tw_TT w p.testBit (tw_E A) (fun _ => 0) U s) ∧ (∀ l, l < 7 → p.testBit l = true → t.2.1 l = nI (U l) ∧ U l ≤ 8) ∧
      ∀ l, l < c → l < 7 → p.testBit l = true → ∃ s, tw_N p.testBit T (l + 1) s ∧ t.2.2.2 l = nI (s l)) cap 0 (be, ak, dw, s2) (by omega) ⟨U, hTU, hak, fun l hl => by omega⟩ ?_ ?_
  · rintro n ⟨be, ak, dw, s2⟩ ⟨U, h1, h2, h3⟩
    dsimp only at h2 h3 ⊢
    simp only [wX_shortSlotOf_34, x7_c hi]
    exact br_t (nI_le (Nat.le_refl _) (by omega)) ⟨x7_i hi, h be ak dw s2 fun l hl pl => h3 l (hcp l hl pl) hl pl⟩
  · rintro n c ⟨be, ak, dw, s2⟩ hcc ⟨U, h1, h2, h3⟩ hn
    dsimp only at h2 h3 ⊢
    have hc7 : c < 7 := by omega
    simp only [wX_shortSlotOf_34, forall_eq, x7_c hc7, nI_1]
    refine br_f (nI_ge hcc (by omega)) ?_
    by_cases pc : p.testBit c = true
    · refine xh_t hc hp hc7 pc hcp (br_f (by decide) ?_)
      obtain ⟨r, hr⟩ := tw_N_ex p.testBit T hT c
      refine xj_in hw hp hA hl hc7 pc ⟨r, (h1 r).mp hr⟩ (fun l hl pl => (h2 l hl pl).2) (fun m be ak dw k1 k2 k3 => ⟨x7_i hc7, ?_⟩) be ak dw (fun l hl pl => (h2 l hl pl).1)
      obtain ⟨hm, hN⟩ := tw_N_U hc7 pc h1 k1 k2
      have h8 := (h2 c hc7 pc).2
      rw [tb_i8 (by omega), tb_by (by omega)]
      refine hn (be, ak, dw, upd s2 c (nI m)) ⟨tw_u U c (m + 1), hN, fun l hl pl => ⟨k3 l hl pl, ?_⟩, fun l hlc hl pl => ?_⟩
      · by_cases z : l = c
        · rw [z, tw_us]; omega
        · rw [tw_un z]; exact (h2 l hl pl).2
      · show ∃ s, tw_N p.testBit T (l + 1) s ∧ upd s2 c (nI m) l = nI (s l)
        by_cases z : l = c
        · subst z
          obtain ⟨s, hs, e⟩ := k1
          refine ⟨s, (hN s).mpr ((tw_TT_U hl pl (U := U) (d := m + 1) (fun l _ z => tw_un z) tw_us (by omega)).mpr ⟨hs, by omega⟩), ?_⟩
          rw [pk_us, e]
        · rw [pk_un z]
          exact h3 l (by omega) hl pl
    · refine xh_f hc hp (fun ⟨j, hj, e, pj⟩ => ?_) (br_t rfl (hn (be, ak, dw, s2) ⟨U, fun s => (tw_N_n pc s).trans (h1 s), h2, fun l hlc hl pl => ?_⟩))
      · rw [nI_eq (by omega) (by omega)] at e
        rw [e] at pc
        exact pc pj
      · have : l ≠ c := fun z => pc (z ▸ pl)
        exact h3 l (by omega) hl pl
theorem yz_all {w p i : Nat} {E : Nat → Nat → Bool} {L U : Nat → Nat} {T : (Nat → Nat) → Prop} {gm : Int32} {he de pr : Nat → Int32} {post : Int32 → SY → Prop} (hw : w = 1 ∨ w = 2) (hp : p < 128) (hl : tw_lh p.testBit E) (hH : yh_H he p) (hP : yp_P pr p E)
    (hi7 : i < 7) (pi : p.testBit i = true) (hT : ∃ s, T s) (hTU : ∀ s, T s ↔ tw_TT w p.testBit E L U s) (hL0 : ∀ l, L l = 0)
    (h : ∀ s gf lo hi ca, tw_N p.testBit T (i + 1) s → post (nI (s i)) (nI w, gm, gf, he, de, pr, lo, hi, ca))
    (gf : Int32) (lo hi ca : Nat → Int32) (hL : yl_L lo hi p L U) :
    wpY_settleAll post (nI w, gm, gf, he, de, pr, lo, hi, ca) (nI i) := by
  unfold wpY_settleAll
  refine pk_loop (fun n c (t : Int32 × Int32 × (Nat → Int32) × (Nat → Int32) × (Nat → Int32)) => wY_settleAll_4 post (nI i) n t.1 (nI c) (nI w) gm t.2.1 he de pr t.2.2.1 t.2.2.2.1 t.2.2.2.2)
    (fun c t => ∃ L U, (∀ s, tw_N p.testBit T c s ↔ tw_TT w p.testBit E L U s) ∧ yl_L t.2.2.1 t.2.2.2.1 p L U ∧ (∀ l, c ≤ l → L l = 0) ∧ (c = i + 1 → ∃ s, tw_N p.testBit T (i + 1) s ∧ t.1 = nI (s i))) (i + 1) 0 (-1, gf, lo, hi, ca) (by omega)
    ⟨L, U, hTU, hL, fun l _ => hL0 l, fun z => by omega⟩ ?_ ?_
  · rintro n ⟨x2, gf, lo, hi, ca⟩ ⟨L, U, h1, h2, h3, h4⟩
    dsimp only at h2 h4 ⊢
    obtain ⟨s, hs, rfl⟩ := h4 rfl
    simp only [wY_settleAll_4]
    exact br_t (nI_lt (by omega) (by omega)) (h s gf lo hi ca hs)
  · rintro n c ⟨x2, gf, lo, hi, ca⟩ hc ⟨L, U, h1, h2, h3, h4⟩ hn
    dsimp only at h2 h4 ⊢
    have hc7 : c < 7 := by omega
    simp only [wY_settleAll_4, forall_eq, x7_c hc7, hH c hc7, nI_1]
    refine br_f (nI_nlt (by omega) (by omega)) (br_f (x7_n hc7) ⟨x7_i hc7, br_c (fun z => ?_) (fun z => ?_)⟩)
    · refine hn (x2, gf, lo, hi, ca) ⟨L, U, fun s => (tw_N_n (by rw [z]; decide) s).trans (h1 s), h2, fun l hl => h3 l (by omega), fun e => ?_⟩
      have : c = i := by omega
      rw [this, pi] at z
      exact absurd z (by decide)
    · have pc := tb_nf z
      obtain ⟨r, hr⟩ := tw_N_ex p.testBit T hT c
      refine yj_in hw hp hl hH hP hc7 pc (h3 c (Nat.le_refl _)) ⟨r, (h1 r).mp hr⟩ (fun m gf lo hi ca k1 k2 k3 => ?_) gf lo hi ca h2
      have hN := tw_N_LU hc7 pc (h3 c (Nat.le_refl _)) h1 k1 k2
      refine hn (nI m, gf, lo, hi, ca) ⟨tw_u L c m, tw_u U c (m + 1), hN, k3, fun l hl => ?_, fun e => ?_⟩
      · rw [tw_un (by omega)]; exact h3 l (by omega)
      · have e : c = i := by omega
        subst e
        obtain ⟨s, hs, e⟩ := k1
        have hm := (hs.1 c hc7 pc).2
        refine ⟨s, (hN s).mpr ((tw_TT_LU hc7 pc (L := L) (U := U) (d := m) (fun l _ z => ⟨tw_un z, tw_un z⟩) tw_us tw_us (by rw [h3 c (Nat.le_refl _)]; omega) (by omega)).mpr ⟨hs, e⟩), ?_⟩
        rw [e]
end
section
/-! slotOf, shortSlotOf, joined -/
theorem rl_S_c {p : Nat} {T T' : (Nat → Nat) → Prop} {sl : Nat → Int32} (h : ∀ s, T s ↔ T' s) (k : rl_S p T sl) : rl_S p T' sl := fun i hi pi => by
  obtain ⟨s, h1, h2⟩ := k i hi pi
  exact ⟨s, (tw_N_c h (i + 1) s).mp h1, h2⟩
theorem i_vc_slotOf {k : Nat} {u : SX} {v : SY} (I : i_Rel k u v) (hk : k + 3 ≤ 1538) (v1 : Int32) : wpX_slotOf (fun r u' => wpY_slotOf (fun r' v' => r' = r ∧ i_Rel (k + 3) u' v') v v1) u v1 := by
  refine rl_el (P := fun u v => wpX_slotOf (fun r u' => wpY_slotOf (fun r' v' => r' = r ∧ i_Rel (k + 3) u' v') v v1) u v1) ?_ I
  intro w cap p D A f1 f2 du af be ak dw s1 s2 gf he de pr lo h9 ca ho hdu haf hf1 hf2 hH hde hP
  have ho2 := ho
  obtain ⟨hw, hc, hp, hi7, hA, hl, s, hs⟩ := ho2
  have hcp : ∀ i, i < 7 → p.testBit i = true → i < cap := fun i hi e => (hi7 i hi e).1
  unfold wpX_slotOf
  by_cases hx : rl_h p v1
  · obtain ⟨i, hi, rfl, pi⟩ := hx
    -- the reference
    have hY : ∀ (post : Int32 → SY → Prop), (∀ s gf lo hi ca, tw_N p.testBit (rl_T w p D A) (i + 1) s → post (nI (s i)) (nI w, nI cap, gf, he, de, pr, lo, hi, ca)) → wpY_slotOf post (nI w, nI cap, gf, he, de, pr, lo, h9, ca) (nI i) := by
      intro post h
      unfold wpY_slotOf
      refine yh_t hH hi pi (br_f (by decide) (ya_ask (p := p) (D := D) (t := 8) (by omega) (fun _ => by omega) (fun i hi e => ⟨hde i hi e, (hi7 i hi e).2⟩) (fun lo h9 hL => ?_) _ _))
      exact yz_all hw hp hl hH hP hi pi ⟨s, hs⟩ (fun s => (rl_T8 ho s).symm) (fun _ => rfl) (fun s gf lo hi ca h1 => h s gf lo hi ca h1) _ _ _ _ hL
    refine xh_t hc.2 hp hi pi hcp (br_f (by decide) (br_c (fun z => ?_) (fun z => ⟨x7_i hi, ?_⟩)))
    · refine xk_ask (p := p) (D := D) (t := 8) (by omega) (fun i hi e => ⟨hdu i hi e, (hi7 i hi e).2.2⟩) (fun ak hak => ?_) ak
      refine xz_30 (T := rl_T w p D A) hw hc.2 hp hcp (fun i hi => ⟨haf i hi, hA i hi⟩) hl hi ⟨s, hs⟩ (fun s => (rl_T8 ho s).symm) (fun be ak dw s1 hS => ?_) be ak dw s1 (fun l hl pl => ⟨hak l hl pl, by omega⟩)
      refine hY _ fun r gf lo hi2 ca hr => ⟨?_, rl_in ho hdu haf (Or.inr hS) hf2 hH hde hP⟩
      obtain ⟨q, hq, e⟩ := hS i hi pi
      rw [e, tw_N_u pi hr hq]
    · rcases hf1 with hf1 | hf1
      · exact absurd hf1 z
      · rw [x7_c hi]
        refine hY _ fun r gf lo hi2 ca hr => ⟨?_, rl_in ho hdu haf (Or.inr hf1) hf2 hH hde hP⟩
        obtain ⟨q, hq, e⟩ := hf1 i hi pi
        rw [e, tw_N_u pi hr hq]
  · refine xh_f hc.2 hp hx (br_t rfl ?_)
    unfold wpY_slotOf
    exact yh_f hH hx (br_t rfl ⟨rfl, rl_in ho hdu haf hf1 hf2 hH hde hP⟩)
theorem i_vc_shortSlotOf {k : Nat} {u : SX} {v : SY} (I : i_Rel k u v) (hk : k + 3 ≤ 1538) (v1 : Int32) : wpX_shortSlotOf (fun r u' => wpY_shortSlotOf (fun r' v' => r' = r ∧ i_Rel (k + 3) u' v') v v1) u v1 := by
  refine rl_el (P := fun u v => wpX_shortSlotOf (fun r u' => wpY_shortSlotOf (fun r' v' => r' = r ∧ i_Rel (k + 3) u' v') v v1) u v1) ?_ I
  intro w cap p D A f1 f2 du af be ak dw s1 s2 gf he de pr lo h9 ca ho hdu haf hf1 hf2 hH hde hP
  have ho2 := ho
  obtain ⟨hw, hc, hp, hi7, hA, hl, s, hs⟩ := ho2
  have hcp : ∀ i, i < 7 → p.testBit i = true → i < cap := fun i hi e => (hi7 i hi e).1
  have hex : ∀ m, rl_span w p D A m → ∃ s, rl_T w p (fun i => min (D i) m) A s := fun m hm => by
    obtain ⟨s, h1, h2⟩ := hm.1
    exact ⟨s, tw_TT_min.mpr ⟨h1, h2⟩⟩
  unfold wpX_shortSlotOf
  by_cases hx : rl_h p v1
  · obtain ⟨i, hi, rfl, pi⟩ := hx
    -- the reference
    have hY : ∀ (m : Nat) (post : Int32 → SY → Prop), rl_span w p D A m → (∀ s gf lo hi ca, tw_N p.testBit (rl_T w p (fun i => min (D i) m) A) (i + 1) s → post (nI (s i)) (nI w, nI cap, gf, he, de, pr, lo, hi, ca)) →
        wpY_shortSlotOf post (nI w, nI cap, gf, he, de, pr, lo, h9, ca) (nI i) := by
      intro m post hm h
      unfold wpY_shortSlotOf
      refine yh_t hH hi pi (br_f (by decide) (yp_span ho hH hde hP fun n gf lo h9 ca hn => ?_))
      have e := rl_span_u hn hm
      subst e
      refine ya_ask (p := p) (D := D) (t := n) (rl_span8 ho hm) (fun _ => rl_span1 hm hi pi) (fun i hi e => ⟨hde i hi e, (hi7 i hi e).2⟩) (fun lo h9 hL => ?_) _ _
      exact yz_all (T := rl_T w p (fun i => min (D i) n) A) hw hp hl hH hP hi pi (hex n hm) (fun _ => Iff.rfl) (fun _ => rfl) (fun s gf lo hi ca h1 => h s gf lo hi ca h1) _ _ _ _ hL
    refine xh_t hc.2 hp hi pi hcp (br_f (by decide) (br_c (fun z => ?_) (fun z => ⟨x7_i hi, ?_⟩)))
    · refine xp_span ho hdu haf (fun m be ak dw hm => ?_) be ak dw
      have h8 := rl_span8 ho hm
      refine xk_ask (p := p) (D := D) (t := m) h8 (fun i hi e => ⟨hdu i hi e, (hi7 i hi e).2.2⟩) (fun ak hak => ?_) ak
      refine xz_34 (T := rl_T w p (fun i => min (D i) m) A) hw hc.2 hp hcp (fun i hi => ⟨haf i hi, hA i hi⟩) hl hi (hex m hm) (fun _ => Iff.rfl) (fun be ak dw s2 hS => ?_) be ak dw s2 (fun l hl pl => ⟨hak l hl pl, by omega⟩)
      refine hY m _ hm fun r gf lo hi2 ca hr => ⟨?_, rl_in ho hdu haf hf1 (Or.inr ⟨m, hm, hS⟩) hH hde hP⟩
      obtain ⟨q, hq, e⟩ := hS i hi pi
      rw [e, tw_N_u pi hr hq]
    · rcases hf2 with hf2 | ⟨m, hm, hS⟩
      · exact absurd hf2 z
      · rw [x7_c hi]
        refine hY m _ hm fun r gf lo hi2 ca hr => ⟨?_, rl_in ho hdu haf hf1 (Or.inr ⟨m, hm, hS⟩) hH hde hP⟩
        obtain ⟨q, hq, e⟩ := hS i hi pi
        rw [e, tw_N_u pi hr hq]
  · refine xh_f hc.2 hp hx (br_t rfl ?_)
    unfold wpY_shortSlotOf
    exact yh_f hH hx (br_t rfl ⟨rfl, rl_in ho hdu haf hf1 hf2 hH hde hP⟩)
end
